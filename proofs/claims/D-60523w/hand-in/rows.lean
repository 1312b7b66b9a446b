section
-- ===== PART A: goes FIRST, ahead of the names: the tables' words, and 'selects' of the private methods out of them =====
/-- a private method of a class that the tables say can be made, by its rows of tables_1 -/
def lw_okq (q : MethodName × Nat) : Prop := (q.1.cls ≠ "java/lang/invoke/MethodHandle" ∧ q.1.cls ≠ "java/lang/invoke/VarHandle") ∧ Cond.instantiable q.1.cls q.2 ∈ tables_1 ∧ Cond.privateMethod q.1 ∈ tables_1 ∧ Cond.instanceMethod q.1 ∈ tables_1
set_option maxRecDepth 100000
theorem lw_p0 : lw_okq (⟨"SteinerNet", "isLine", "(I)Z"⟩, 12) := ⟨⟨by decide +kernel, by decide +kernel⟩, List.mem_of_getElem? (i := 4) rfl, List.mem_of_getElem? (i := 61) rfl, List.mem_of_getElem? (i := 62) rfl⟩
theorem lw_p1 : lw_okq (⟨"SteinerNet", "findBest", "()V"⟩, 12) := ⟨⟨by decide +kernel, by decide +kernel⟩, List.mem_of_getElem? (i := 4) rfl, List.mem_of_getElem? (i := 73) rfl, List.mem_of_getElem? (i := 74) rfl⟩
theorem lw_p2 : lw_okq (⟨"SteinerNet", "countAll", "()V"⟩, 12) := ⟨⟨by decide +kernel, by decide +kernel⟩, List.mem_of_getElem? (i := 4) rfl, List.mem_of_getElem? (i := 77) rfl, List.mem_of_getElem? (i := 78) rfl⟩
theorem lw_p3 : lw_okq (⟨"SteinerNet", "leastFor", "(I)I"⟩, 12) := ⟨⟨by decide +kernel, by decide +kernel⟩, List.mem_of_getElem? (i := 4) rfl, List.mem_of_getElem? (i := 82) rfl, List.mem_of_getElem? (i := 83) rfl⟩
theorem lw_p4 : lw_okq (⟨"SteinerNet", "findWays", "()V"⟩, 12) := ⟨⟨by decide +kernel, by decide +kernel⟩, List.mem_of_getElem? (i := 4) rfl, List.mem_of_getElem? (i := 86) rfl, List.mem_of_getElem? (i := 87) rfl⟩
theorem lw_p5 : lw_okq (⟨"SteinerNet", "shortenOver", "(I)V"⟩, 12) := ⟨⟨by decide +kernel, by decide +kernel⟩, List.mem_of_getElem? (i := 4) rfl, List.mem_of_getElem? (i := 90) rfl, List.mem_of_getElem? (i := 91) rfl⟩
theorem lw_p6 : lw_okq (⟨"SteinerNet", "startPart", "(I)V"⟩, 12) := ⟨⟨by decide +kernel, by decide +kernel⟩, List.mem_of_getElem? (i := 4) rfl, List.mem_of_getElem? (i := 94) rfl, List.mem_of_getElem? (i := 95) rfl⟩
theorem lw_p7 : lw_okq (⟨"SteinerNet", "joinParts", "(I)V"⟩, 12) := ⟨⟨by decide +kernel, by decide +kernel⟩, List.mem_of_getElem? (i := 4) rfl, List.mem_of_getElem? (i := 98) rfl, List.mem_of_getElem? (i := 99) rfl⟩
theorem lw_p8 : lw_okq (⟨"SteinerNet", "carryPart", "(I)V"⟩, 12) := ⟨⟨by decide +kernel, by decide +kernel⟩, List.mem_of_getElem? (i := 4) rfl, List.mem_of_getElem? (i := 102) rfl, List.mem_of_getElem? (i := 103) rfl⟩
theorem lw_p9 : lw_okq (⟨"SteinerNet", "carryTo", "(II)V"⟩, 12) := ⟨⟨by decide +kernel, by decide +kernel⟩, List.mem_of_getElem? (i := 4) rfl, List.mem_of_getElem? (i := 106) rfl, List.mem_of_getElem? (i := 107) rfl⟩
theorem lw_p10 : lw_okq (⟨"SteinerNetModel", "badLine", "(I)Z"⟩, 5) := ⟨⟨by decide +kernel, by decide +kernel⟩, List.mem_of_getElem? (i := 130) rfl, List.mem_of_getElem? (i := 164) rfl, List.mem_of_getElem? (i := 165) rfl⟩
theorem lw_p11 : lw_okq (⟨"SteinerNetModel", "marks", "()I"⟩, 5) := ⟨⟨by decide +kernel, by decide +kernel⟩, List.mem_of_getElem? (i := 130) rfl, List.mem_of_getElem? (i := 176) rfl, List.mem_of_getElem? (i := 177) rfl⟩
theorem lw_p12 : lw_okq (⟨"SteinerNetModel", "lowest", "(III)I"⟩, 5) := ⟨⟨by decide +kernel, by decide +kernel⟩, List.mem_of_getElem? (i := 130) rfl, List.mem_of_getElem? (i := 180) rfl, List.mem_of_getElem? (i := 181) rfl⟩
theorem lw_p13 : lw_okq (⟨"SteinerNetModel", "best", "(III)I"⟩, 5) := ⟨⟨by decide +kernel, by decide +kernel⟩, List.mem_of_getElem? (i := 130) rfl, List.mem_of_getElem? (i := 184) rfl, List.mem_of_getElem? (i := 185) rfl⟩
theorem lw_p14 : lw_okq (⟨"SteinerNetModel", "priceOf", "(I)I"⟩, 5) := ⟨⟨by decide +kernel, by decide +kernel⟩, List.mem_of_getElem? (i := 130) rfl, List.mem_of_getElem? (i := 188) rfl, List.mem_of_getElem? (i := 189) rfl⟩
theorem lw_p15 : lw_okq (⟨"SteinerNetModel", "joins", "(II)Z"⟩, 5) := ⟨⟨by decide +kernel, by decide +kernel⟩, List.mem_of_getElem? (i := 130) rfl, List.mem_of_getElem? (i := 192) rfl, List.mem_of_getElem? (i := 193) rfl⟩
def lw_privs_1 : List (MethodName × Nat) := [(⟨"SteinerNet", "isLine", "(I)Z"⟩, 12), (⟨"SteinerNet", "findBest", "()V"⟩, 12), (⟨"SteinerNet", "countAll", "()V"⟩, 12), (⟨"SteinerNet", "leastFor", "(I)I"⟩, 12), (⟨"SteinerNet", "findWays", "()V"⟩, 12), (⟨"SteinerNet", "shortenOver", "(I)V"⟩, 12), (⟨"SteinerNet", "startPart", "(I)V"⟩, 12), (⟨"SteinerNet", "joinParts", "(I)V"⟩, 12), (⟨"SteinerNet", "carryPart", "(I)V"⟩, 12), (⟨"SteinerNet", "carryTo", "(II)V"⟩, 12), (⟨"SteinerNetModel", "badLine", "(I)Z"⟩, 5), (⟨"SteinerNetModel", "marks", "()I"⟩, 5), (⟨"SteinerNetModel", "lowest", "(III)I"⟩, 5), (⟨"SteinerNetModel", "best", "(III)I"⟩, 5), (⟨"SteinerNetModel", "priceOf", "(I)I"⟩, 5), (⟨"SteinerNetModel", "joins", "(II)Z"⟩, 5)]
theorem lw_r1 : ∀ q ∈ lw_privs_1, lw_okq q := List.forall_mem_cons.mpr ⟨lw_p0, List.forall_mem_cons.mpr ⟨lw_p1, List.forall_mem_cons.mpr ⟨lw_p2, List.forall_mem_cons.mpr ⟨lw_p3, List.forall_mem_cons.mpr ⟨lw_p4, List.forall_mem_cons.mpr ⟨lw_p5, List.forall_mem_cons.mpr ⟨lw_p6, List.forall_mem_cons.mpr ⟨lw_p7, List.forall_mem_cons.mpr ⟨lw_p8, List.forall_mem_cons.mpr ⟨lw_p9, List.forall_mem_cons.mpr ⟨lw_p10, List.forall_mem_cons.mpr ⟨lw_p11, List.forall_mem_cons.mpr ⟨lw_p12, List.forall_mem_cons.mpr ⟨lw_p13, List.forall_mem_cons.mpr ⟨lw_p14, List.forall_mem_cons.mpr ⟨lw_p15, fun _ h => absurd h List.not_mem_nil⟩⟩⟩⟩⟩⟩⟩⟩⟩⟩⟩⟩⟩⟩⟩⟩
def lw_privs : List (MethodName × Nat) := lw_privs_1
def lw_tbl : List Cond := k2_sels lw_privs ++ tables_1
theorem lw_privs_ok : ∀ q ∈ lw_privs, lw_okq q := lw_r1
-- ===== ONE list of words for every method: the tables' words that hold all through a run =====
def lw_all : List Cond := lw_tbl.filter goodWord
/-- a word of the tables by its place: claim/WORDS.tsv -/
theorem lw_w {w : Cond} (i : Nat) (h : lw_tbl[i]? = some w) (g : goodWord w = true) : w ∈ lw_all := List.mem_filter.mpr ⟨List.mem_of_getElem? h, g⟩
theorem lw_all_tbl {w : Cond} (h : w ∈ lw_all) : w ∈ lw_tbl := (List.mem_filter.mp h).1
theorem lw_self : GoodIn lw_all lw_all := fun w h => ⟨h, good_of_word (List.mem_filter.mp h).2⟩
/-- a class's field words, by their places -/
theorem lw_in (ws : List Cond) (ps : List Nat) (hp : ws = ps.filterMap (fun i => lw_tbl[i]?)) (hg : ws.all goodWord = true) : ∀ w ∈ ws, w ∈ lw_all := by
  intro w h
  have h1 := List.all_eq_true.mp hg w h
  rw [hp] at h
  obtain ⟨i, -, hi⟩ := List.mem_filterMap.mp h
  exact lw_w i hi h1
/-- the words of a contract for the method y with code b, L locals, answer r -/
abbrev ws_ (y : MethodName) (b : ByteArray) (L : Nat) (r : Option FieldType) : List Cond := Cond.code y b L r :: lw_all
theorem lw_meth {y : MethodName} {b : ByteArray} {L : Nat} {r : Option FieldType} (h : Cond.code y b L r ∈ lw_all) : GoodIn lw_all (ws_ y b L r) := by
  intro w hw
  rcases List.mem_cons.mp hw with e | e
  · rw [e]
    exact lw_self _ h
  · exact lw_self _ e
theorem lw_app {a c : List Cond} (ha : ∀ w ∈ a, w ∈ lw_all) (hc : GoodIn lw_all c) : GoodIn lw_all (a ++ c) := by
  intro w hw
  rcases List.mem_append.mp hw with e | e
  · exact lw_self w (ha w e)
  · exact hc w e
/-- what a call through an object asks: cwV n hts (lw_V ..) -/
theorem lw_V {own : String} {idx : Nat} {C : String} {y : MethodName} {b : ByteArray} {L : Nat} {r : Option FieldType} (h1 : Cond.methodLink own idx y ∈ lw_all) (h2 : Cond.instanceMethod y ∈ lw_all) (h3 : Cond.selects C y y ∈ lw_all) (h4 : Cond.initialized C ∈ lw_all) (h5 : Cond.code y b L r ∈ lw_all) : GoodIn lw_all (wsV own idx C y (ws_ y b L r)) := by
  refine lw_app ?_ (lw_meth h5)
  intro w hw
  simp only [List.mem_cons, List.not_mem_nil, or_false] at hw
  rcases hw with e | e | e | e
  · rw [e]; exact h1
  · rw [e]; exact h2
  · rw [e]; exact h3
  · rw [e]; exact h4
/-- what a static call asks: va_cwS n hts (lw_S ..) -/
theorem lw_S {own : String} {idx : Nat} {y : MethodName} {b : ByteArray} {L : Nat} {r : Option FieldType} (h1 : Cond.methodLink own idx y ∈ lw_all) (h2 : Cond.static y ∈ lw_all) (h3 : Cond.initialized y.cls ∈ lw_all) (h4 : Cond.code y b L r ∈ lw_all) : GoodIn lw_all (va_wsS own idx y (ws_ y b L r)) := by
  refine lw_app ?_ (lw_meth h4)
  intro w hw
  simp only [List.mem_cons, List.not_mem_nil, or_false] at hw
  rcases hw with e | e | e
  · rw [e]; exact h1
  · rw [e]; exact h2
  · rw [e]; exact h3
/-- the words of a contract for a method WITH HANDLERS (hh: its table) -/
abbrev wsW_ (y : MethodName) (b : ByteArray) (L : Nat) (r : Option FieldType) (hh : List (Nat × Nat × Nat × Nat)) : List Cond := Cond.codeWith y b L r hh :: lw_all
theorem lw_methW {y : MethodName} {b : ByteArray} {L : Nat} {r : Option FieldType} {hh : List (Nat × Nat × Nat × Nat)} (h : Cond.codeWith y b L r hh ∈ lw_all) : GoodIn lw_all (wsW_ y b L r hh) := by
  intro w hw
  rcases List.mem_cons.mp hw with e | e
  · rw [e]
    exact lw_self _ h
  · exact lw_self _ e
/-- any list of words by their places (lw_in), good -/
theorem lw_good {ws : List Cond} (h : ∀ w ∈ ws, w ∈ lw_all) : GoodIn lw_all ws := fun w hw => lw_self w (h w hw)
/-- what a call of a method with handlers asks: vx_cwVW n hts (lw_VW ..), vx_cwSW n hts (lw_SW ..) -/
theorem lw_VW {own : String} {idx : Nat} {C : String} {y : MethodName} {b : ByteArray} {L : Nat} {r : Option FieldType} {hh : List (Nat × Nat × Nat × Nat)} (h1 : Cond.methodLink own idx y ∈ lw_all) (h2 : Cond.instanceMethod y ∈ lw_all) (h3 : Cond.selects C y y ∈ lw_all) (h4 : Cond.initialized C ∈ lw_all) (h5 : Cond.codeWith y b L r hh ∈ lw_all) : GoodIn lw_all (wsV own idx C y (wsW_ y b L r hh)) := by
  refine lw_app ?_ (lw_methW h5)
  intro w hw
  simp only [List.mem_cons, List.not_mem_nil, or_false] at hw
  rcases hw with e | e | e | e
  · rw [e]; exact h1
  · rw [e]; exact h2
  · rw [e]; exact h3
  · rw [e]; exact h4
theorem lw_SW {own : String} {idx : Nat} {y : MethodName} {b : ByteArray} {L : Nat} {r : Option FieldType} {hh : List (Nat × Nat × Nat × Nat)} (h1 : Cond.methodLink own idx y ∈ lw_all) (h2 : Cond.static y ∈ lw_all) (h3 : Cond.initialized y.cls ∈ lw_all) (h4 : Cond.codeWith y b L r hh ∈ lw_all) : GoodIn lw_all (va_wsS own idx y (wsW_ y b L r hh)) := by
  refine lw_app ?_ (lw_methW h4)
  intro w hw
  simp only [List.mem_cons, List.not_mem_nil, or_false] at hw
  rcases hw with e | e | e
  · rw [e]; exact h1
  · rw [e]; exact h2
  · rw [e]; exact h3
/-- a word by its place in its run of the tables -/
theorem lw_at {r : List Cond} (hr : ∀ w ∈ r, w ∈ lw_tbl) {w : Cond} (i : Nat) (h : r[i]? = some w) : w ∈ lw_tbl := hr w (List.mem_of_getElem? h)
theorem lw_g {w : Cond} (h : w ∈ lw_tbl) (g : goodWord w = true) : w ∈ lw_all := List.mem_filter.mpr ⟨h, g⟩
theorem lw_ms : ∀ w ∈ k2_sels lw_privs, w ∈ lw_tbl := fun w h => show w ∈ k2_sels lw_privs ++ tables_1 from List.mem_append_left _ h
theorem lw_m0 : ∀ w ∈ tables_1, w ∈ lw_tbl := fun w h => show w ∈ k2_sels lw_privs ++ tables_1 from List.mem_append_right (k2_sels lw_privs) h
theorem qs0 : (Cond.selects "SteinerNet" ⟨"SteinerNet", "isLine", "(I)Z"⟩ ⟨"SteinerNet", "isLine", "(I)Z"⟩) ∈ lw_all := lw_g (lw_at lw_ms 0 rfl) rfl
theorem qs1 : (Cond.selects "SteinerNet" ⟨"SteinerNet", "findBest", "()V"⟩ ⟨"SteinerNet", "findBest", "()V"⟩) ∈ lw_all := lw_g (lw_at lw_ms 1 rfl) rfl
theorem qs2 : (Cond.selects "SteinerNet" ⟨"SteinerNet", "countAll", "()V"⟩ ⟨"SteinerNet", "countAll", "()V"⟩) ∈ lw_all := lw_g (lw_at lw_ms 2 rfl) rfl
theorem qs3 : (Cond.selects "SteinerNet" ⟨"SteinerNet", "leastFor", "(I)I"⟩ ⟨"SteinerNet", "leastFor", "(I)I"⟩) ∈ lw_all := lw_g (lw_at lw_ms 3 rfl) rfl
theorem qs4 : (Cond.selects "SteinerNet" ⟨"SteinerNet", "findWays", "()V"⟩ ⟨"SteinerNet", "findWays", "()V"⟩) ∈ lw_all := lw_g (lw_at lw_ms 4 rfl) rfl
theorem qs5 : (Cond.selects "SteinerNet" ⟨"SteinerNet", "shortenOver", "(I)V"⟩ ⟨"SteinerNet", "shortenOver", "(I)V"⟩) ∈ lw_all := lw_g (lw_at lw_ms 5 rfl) rfl
theorem qs6 : (Cond.selects "SteinerNet" ⟨"SteinerNet", "startPart", "(I)V"⟩ ⟨"SteinerNet", "startPart", "(I)V"⟩) ∈ lw_all := lw_g (lw_at lw_ms 6 rfl) rfl
theorem qs7 : (Cond.selects "SteinerNet" ⟨"SteinerNet", "joinParts", "(I)V"⟩ ⟨"SteinerNet", "joinParts", "(I)V"⟩) ∈ lw_all := lw_g (lw_at lw_ms 7 rfl) rfl
theorem qs8 : (Cond.selects "SteinerNet" ⟨"SteinerNet", "carryPart", "(I)V"⟩ ⟨"SteinerNet", "carryPart", "(I)V"⟩) ∈ lw_all := lw_g (lw_at lw_ms 8 rfl) rfl
theorem qs9 : (Cond.selects "SteinerNet" ⟨"SteinerNet", "carryTo", "(II)V"⟩ ⟨"SteinerNet", "carryTo", "(II)V"⟩) ∈ lw_all := lw_g (lw_at lw_ms 9 rfl) rfl
theorem qs10 : (Cond.selects "SteinerNetModel" ⟨"SteinerNetModel", "badLine", "(I)Z"⟩ ⟨"SteinerNetModel", "badLine", "(I)Z"⟩) ∈ lw_all := lw_g (lw_at lw_ms 10 rfl) rfl
theorem qs11 : (Cond.selects "SteinerNetModel" ⟨"SteinerNetModel", "marks", "()I"⟩ ⟨"SteinerNetModel", "marks", "()I"⟩) ∈ lw_all := lw_g (lw_at lw_ms 11 rfl) rfl
theorem qs12 : (Cond.selects "SteinerNetModel" ⟨"SteinerNetModel", "lowest", "(III)I"⟩ ⟨"SteinerNetModel", "lowest", "(III)I"⟩) ∈ lw_all := lw_g (lw_at lw_ms 12 rfl) rfl
theorem qs13 : (Cond.selects "SteinerNetModel" ⟨"SteinerNetModel", "best", "(III)I"⟩ ⟨"SteinerNetModel", "best", "(III)I"⟩) ∈ lw_all := lw_g (lw_at lw_ms 13 rfl) rfl
theorem qs14 : (Cond.selects "SteinerNetModel" ⟨"SteinerNetModel", "priceOf", "(I)I"⟩ ⟨"SteinerNetModel", "priceOf", "(I)I"⟩) ∈ lw_all := lw_g (lw_at lw_ms 14 rfl) rfl
theorem qs15 : (Cond.selects "SteinerNetModel" ⟨"SteinerNetModel", "joins", "(II)Z"⟩ ⟨"SteinerNetModel", "joins", "(II)Z"⟩) ∈ lw_all := lw_g (lw_at lw_ms 15 rfl) rfl
end
section
set_option maxRecDepth 100000
/-! java/lang/Object -/
def RJ0 : String := "java/lang/Object"
abbrev cJ0_init : ByteArray := object_method_1_code
def yJ0_init : MethodName := ⟨RJ0, "<init>", "()V"⟩
theorem dJ0_init_0 : decode cJ0_init 0 = .ok (.return_, 1) := by decide +kernel
theorem q25 : (Jvm.Cond.instanceMethod ({ cls := "java/lang/Object", name := "<init>", desc := "()V" } : Jvm.MethodName)) ∈ lw_all := lw_g (lw_at lw_m0 9 rfl) rfl
theorem q26 : (Jvm.Cond.code ({ cls := "java/lang/Object", name := "<init>", desc := "()V" } : Jvm.MethodName) object_method_1_code (1 : Nat) (Option.none : Option Jvm.ClassFile.FieldType)) ∈ lw_all := lw_g (lw_at lw_m0 10 rfl) rfl
theorem q64 : (Jvm.Cond.arrayClass Jvm.ClassFile.FieldType.int) ∈ lw_all := lw_g (lw_at lw_m0 48 rfl) rfl
theorem q167 : (Jvm.Cond.arrayClass Jvm.ClassFile.FieldType.boolean) ∈ lw_all := lw_g (lw_at lw_m0 151 rfl) rfl
theorem q16 : (Jvm.Cond.initialized "SteinerNetLaw") ∈ lw_all := lw_g (lw_at lw_m0 0 rfl) rfl
theorem q19 : (Jvm.Cond.classLink "SteinerNetLaw" (7 : Nat) "SteinerNet") ∈ lw_all := lw_g (lw_at lw_m0 3 rfl) rfl
theorem q21 : (Jvm.Cond.methodLink "SteinerNetLaw" (9 : Nat) ({ cls := "SteinerNet", name := "<init>", desc := "()V" } : Jvm.MethodName)) ∈ lw_all := lw_g (lw_at lw_m0 5 rfl) rfl
theorem q65 : (Jvm.Cond.methodLink "SteinerNetLaw" (13 : Nat) ({ cls := "SteinerNet", name := "line", desc := "(IIII)I" } : Jvm.MethodName)) ∈ lw_all := lw_g (lw_at lw_m0 49 rfl) rfl
theorem q72 : (Jvm.Cond.methodLink "SteinerNetLaw" (18 : Nat) ({ cls := "SteinerNet", name := "cut", desc := "(I)I" } : Jvm.MethodName)) ∈ lw_all := lw_g (lw_at lw_m0 56 rfl) rfl
theorem q80 : (Jvm.Cond.methodLink "SteinerNetLaw" (23 : Nat) ({ cls := "SteinerNet", name := "mark", desc := "(IZ)I" } : Jvm.MethodName)) ∈ lw_all := lw_g (lw_at lw_m0 64 rfl) rfl
theorem q84 : (Jvm.Cond.methodLink "SteinerNetLaw" (28 : Nat) ({ cls := "SteinerNet", name := "least", desc := "()I" } : Jvm.MethodName)) ∈ lw_all := lw_g (lw_at lw_m0 68 rfl) rfl
theorem q125 : (Jvm.Cond.methodLink "SteinerNetLaw" (33 : Nat) ({ cls := "SteinerNet", name := "chosen", desc := "(I)I" } : Jvm.MethodName)) ∈ lw_all := lw_g (lw_at lw_m0 109 rfl) rfl
theorem q129 : (Jvm.Cond.methodLink "SteinerNetLaw" (37 : Nat) ({ cls := "SteinerNet", name := "with", desc := "(I)I" } : Jvm.MethodName)) ∈ lw_all := lw_g (lw_at lw_m0 113 rfl) rfl
theorem q133 : (Jvm.Cond.methodLink "SteinerNetLaw" (41 : Nat) ({ cls := "SteinerNet", name := "without", desc := "(I)I" } : Jvm.MethodName)) ∈ lw_all := lw_g (lw_at lw_m0 117 rfl) rfl
theorem q137 : (Jvm.Cond.methodLink "SteinerNetLaw" (45 : Nat) ({ cls := "SteinerNet", name := "including", desc := "(I)I" } : Jvm.MethodName)) ∈ lw_all := lw_g (lw_at lw_m0 121 rfl) rfl
theorem q141 : (Jvm.Cond.methodLink "SteinerNetLaw" (49 : Nat) ({ cls := "SteinerNet", name := "between", desc := "(II)I" } : Jvm.MethodName)) ∈ lw_all := lw_g (lw_at lw_m0 125 rfl) rfl
theorem q145 : (Jvm.Cond.classLink "SteinerNetLaw" (10 : Nat) "SteinerNetModel") ∈ lw_all := lw_g (lw_at lw_m0 129 rfl) rfl
theorem q147 : (Jvm.Cond.methodLink "SteinerNetLaw" (12 : Nat) ({ cls := "SteinerNetModel", name := "<init>", desc := "()V" } : Jvm.MethodName)) ∈ lw_all := lw_g (lw_at lw_m0 131 rfl) rfl
theorem q168 : (Jvm.Cond.methodLink "SteinerNetLaw" (17 : Nat) ({ cls := "SteinerNetModel", name := "line", desc := "(IIII)I" } : Jvm.MethodName)) ∈ lw_all := lw_g (lw_at lw_m0 152 rfl) rfl
theorem q175 : (Jvm.Cond.methodLink "SteinerNetLaw" (22 : Nat) ({ cls := "SteinerNetModel", name := "cut", desc := "(I)I" } : Jvm.MethodName)) ∈ lw_all := lw_g (lw_at lw_m0 159 rfl) rfl
theorem q183 : (Jvm.Cond.methodLink "SteinerNetLaw" (27 : Nat) ({ cls := "SteinerNetModel", name := "mark", desc := "(IZ)I" } : Jvm.MethodName)) ∈ lw_all := lw_g (lw_at lw_m0 167 rfl) rfl
theorem q187 : (Jvm.Cond.methodLink "SteinerNetLaw" (32 : Nat) ({ cls := "SteinerNetModel", name := "least", desc := "()I" } : Jvm.MethodName)) ∈ lw_all := lw_g (lw_at lw_m0 171 rfl) rfl
theorem q211 : (Jvm.Cond.methodLink "SteinerNetLaw" (36 : Nat) ({ cls := "SteinerNetModel", name := "chosen", desc := "(I)I" } : Jvm.MethodName)) ∈ lw_all := lw_g (lw_at lw_m0 195 rfl) rfl
theorem q215 : (Jvm.Cond.methodLink "SteinerNetLaw" (40 : Nat) ({ cls := "SteinerNetModel", name := "with", desc := "(I)I" } : Jvm.MethodName)) ∈ lw_all := lw_g (lw_at lw_m0 199 rfl) rfl
theorem q219 : (Jvm.Cond.methodLink "SteinerNetLaw" (44 : Nat) ({ cls := "SteinerNetModel", name := "without", desc := "(I)I" } : Jvm.MethodName)) ∈ lw_all := lw_g (lw_at lw_m0 203 rfl) rfl
theorem q223 : (Jvm.Cond.methodLink "SteinerNetLaw" (48 : Nat) ({ cls := "SteinerNetModel", name := "including", desc := "(I)I" } : Jvm.MethodName)) ∈ lw_all := lw_g (lw_at lw_m0 207 rfl) rfl
theorem q227 : (Jvm.Cond.methodLink "SteinerNetLaw" (53 : Nat) ({ cls := "SteinerNetModel", name := "between", desc := "(II)I" } : Jvm.MethodName)) ∈ lw_all := lw_g (lw_at lw_m0 211 rfl) rfl
end
section
/-! SteinerNet -/
set_option maxRecDepth 100000
def RX0 : String := "SteinerNet"
def TX0 : u_T := fun k => match k with
  | 0 => ("SteinerNet", "endA", "[I", true)
  | 1 => ("SteinerNet", "endB", "[I", true)
  | 2 => ("SteinerNet", "priceOf", "[I", true)
  | 3 => ("SteinerNet", "marked", "I", false)
  | 4 => ("SteinerNet", "counts", "[I", true)
  | 5 => ("SteinerNet", "way", "[I", true)
  | 6 => ("SteinerNet", "part", "[I", true)
  | 7 => ("SteinerNet", "wantedCount", "I", false)
  | 8 => ("SteinerNet", "wanted", "[I", true)
  | 9 => ("SteinerNet", "known", "Z", false)
  | 10 => ("SteinerNet", "bestPrice", "I", false)
  | _ => ("SteinerNet", "bestSet", "I", false)
def tyX0 : Nat → FieldType := fun k => match k with
  | 0 => .array .int
  | 1 => .array .int
  | 2 => .array .int
  | 3 => .int
  | 4 => .array .int
  | 5 => .array .int
  | 6 => .array .int
  | 7 => .int
  | 8 => .array .int
  | 9 => .boolean
  | 10 => .int
  | _ => .int
abbrev wsX00 : List Cond := u_ws RX0 TX0 12
theorem nmX0 : ∀ a, a < 12 → ∀ b, b < 12 → a ≠ b → (TX0 a).2.1 ≠ (TX0 b).2.1 := by decide +kernel
theorem tyX0_ok : ∀ k, k < 12 → parseFieldDescriptor (TX0 k).2.2.1 = some (tyX0 k) := by decide +kernel
abbrev cX0_init : ByteArray := prog_1_method_1_code
def yX0_init : MethodName := ⟨RX0, "<init>", "()V"⟩
abbrev cX0_line : ByteArray := prog_1_method_2_code
def yX0_line : MethodName := ⟨RX0, "line", "(IIII)I"⟩
abbrev cX0_isPoint : ByteArray := prog_1_method_11_code
def yX0_isPoint : MethodName := ⟨RX0, "isPoint", "(I)Z"⟩
abbrev cX0_cut : ByteArray := prog_1_method_3_code
def yX0_cut : MethodName := ⟨RX0, "cut", "(I)I"⟩
abbrev cX0_isLine : ByteArray := prog_1_method_12_code
def yX0_isLine : MethodName := ⟨RX0, "isLine", "(I)Z"⟩
abbrev cX0_mark : ByteArray := prog_1_method_4_code
def yX0_mark : MethodName := ⟨RX0, "mark", "(IZ)I"⟩
abbrev cX0_least : ByteArray := prog_1_method_5_code
def yX0_least : MethodName := ⟨RX0, "least", "()I"⟩
abbrev cX0_findBest : ByteArray := prog_1_method_14_code
def yX0_findBest : MethodName := ⟨RX0, "findBest", "()V"⟩
abbrev cX0_countAll : ByteArray := prog_1_method_13_code
def yX0_countAll : MethodName := ⟨RX0, "countAll", "()V"⟩
abbrev cX0_leastFor : ByteArray := prog_1_method_15_code
def yX0_leastFor : MethodName := ⟨RX0, "leastFor", "(I)I"⟩
abbrev cX0_findWays : ByteArray := prog_1_method_16_code
def yX0_findWays : MethodName := ⟨RX0, "findWays", "()V"⟩
abbrev cX0_shortenOver : ByteArray := prog_1_method_17_code
def yX0_shortenOver : MethodName := ⟨RX0, "shortenOver", "(I)V"⟩
abbrev cX0_startPart : ByteArray := prog_1_method_18_code
def yX0_startPart : MethodName := ⟨RX0, "startPart", "(I)V"⟩
abbrev cX0_joinParts : ByteArray := prog_1_method_19_code
def yX0_joinParts : MethodName := ⟨RX0, "joinParts", "(I)V"⟩
abbrev cX0_carryPart : ByteArray := prog_1_method_20_code
def yX0_carryPart : MethodName := ⟨RX0, "carryPart", "(I)V"⟩
abbrev cX0_carryTo : ByteArray := prog_1_method_21_code
def yX0_carryTo : MethodName := ⟨RX0, "carryTo", "(II)V"⟩
abbrev cX0_chosen : ByteArray := prog_1_method_6_code
def yX0_chosen : MethodName := ⟨RX0, "chosen", "(I)I"⟩
abbrev cX0_with : ByteArray := prog_1_method_7_code
def yX0_with : MethodName := ⟨RX0, "with", "(I)I"⟩
abbrev cX0_without : ByteArray := prog_1_method_8_code
def yX0_without : MethodName := ⟨RX0, "without", "(I)I"⟩
abbrev cX0_including : ByteArray := prog_1_method_9_code
def yX0_including : MethodName := ⟨RX0, "including", "(I)I"⟩
abbrev cX0_between : ByteArray := prog_1_method_10_code
def yX0_between : MethodName := ⟨RX0, "between", "(II)I"⟩
theorem q17 : (Jvm.Cond.initialized "SteinerNet") ∈ lw_all := lw_g (lw_at lw_m0 1 rfl) rfl
theorem q20 : (Jvm.Cond.instantiable "SteinerNet" (12 : Nat)) ∈ lw_all := lw_g (lw_at lw_m0 4 rfl) rfl
theorem q22 : (Jvm.Cond.instanceMethod ({ cls := "SteinerNet", name := "<init>", desc := "()V" } : Jvm.MethodName)) ∈ lw_all := lw_g (lw_at lw_m0 6 rfl) rfl
theorem q23 : (Jvm.Cond.code ({ cls := "SteinerNet", name := "<init>", desc := "()V" } : Jvm.MethodName) prog_1_method_1_code (1 : Nat) (Option.none : Option Jvm.ClassFile.FieldType)) ∈ lw_all := lw_g (lw_at lw_m0 7 rfl) rfl
theorem q24 : (Jvm.Cond.methodLink "SteinerNet" (1 : Nat) ({ cls := "java/lang/Object", name := "<init>", desc := "()V" } : Jvm.MethodName)) ∈ lw_all := lw_g (lw_at lw_m0 8 rfl) rfl
theorem q27 : (Jvm.Cond.fieldLink "SteinerNet" (7 : Nat) "SteinerNet" "endA" "[I") ∈ lw_all := lw_g (lw_at lw_m0 11 rfl) rfl
theorem q28 : (Jvm.Cond.fieldLink "SteinerNet" (13 : Nat) "SteinerNet" "endB" "[I") ∈ lw_all := lw_g (lw_at lw_m0 12 rfl) rfl
theorem q29 : (Jvm.Cond.fieldLink "SteinerNet" (16 : Nat) "SteinerNet" "priceOf" "[I") ∈ lw_all := lw_g (lw_at lw_m0 13 rfl) rfl
theorem q30 : (Jvm.Cond.fieldLink "SteinerNet" (42 : Nat) "SteinerNet" "marked" "I") ∈ lw_all := lw_g (lw_at lw_m0 14 rfl) rfl
theorem q31 : (Jvm.Cond.fieldLink "SteinerNet" (19 : Nat) "SteinerNet" "counts" "[I") ∈ lw_all := lw_g (lw_at lw_m0 15 rfl) rfl
theorem q32 : (Jvm.Cond.fieldLink "SteinerNet" (22 : Nat) "SteinerNet" "way" "[I") ∈ lw_all := lw_g (lw_at lw_m0 16 rfl) rfl
theorem q33 : (Jvm.Cond.fieldLink "SteinerNet" (25 : Nat) "SteinerNet" "part" "[I") ∈ lw_all := lw_g (lw_at lw_m0 17 rfl) rfl
theorem q34 : (Jvm.Cond.fieldLink "SteinerNet" (63 : Nat) "SteinerNet" "wantedCount" "I") ∈ lw_all := lw_g (lw_at lw_m0 18 rfl) rfl
theorem q35 : (Jvm.Cond.fieldLink "SteinerNet" (28 : Nat) "SteinerNet" "wanted" "[I") ∈ lw_all := lw_g (lw_at lw_m0 19 rfl) rfl
theorem q36 : (Jvm.Cond.fieldLink "SteinerNet" (35 : Nat) "SteinerNet" "known" "Z") ∈ lw_all := lw_g (lw_at lw_m0 20 rfl) rfl
theorem q37 : (Jvm.Cond.fieldLink "SteinerNet" (49 : Nat) "SteinerNet" "bestPrice" "I") ∈ lw_all := lw_g (lw_at lw_m0 21 rfl) rfl
theorem q38 : (Jvm.Cond.fieldLink "SteinerNet" (52 : Nat) "SteinerNet" "bestSet" "I") ∈ lw_all := lw_g (lw_at lw_m0 22 rfl) rfl
theorem q39 : (Jvm.Cond.laysFinal "SteinerNet" "SteinerNet" "endA" "[I") ∈ lw_all := lw_g (lw_at lw_m0 23 rfl) rfl
theorem q40 : (Jvm.Cond.soleField "SteinerNet" "endA") ∈ lw_all := lw_g (lw_at lw_m0 24 rfl) rfl
theorem q41 : (Jvm.Cond.laysFinal "SteinerNet" "SteinerNet" "endB" "[I") ∈ lw_all := lw_g (lw_at lw_m0 25 rfl) rfl
theorem q42 : (Jvm.Cond.soleField "SteinerNet" "endB") ∈ lw_all := lw_g (lw_at lw_m0 26 rfl) rfl
theorem q43 : (Jvm.Cond.laysFinal "SteinerNet" "SteinerNet" "priceOf" "[I") ∈ lw_all := lw_g (lw_at lw_m0 27 rfl) rfl
theorem q44 : (Jvm.Cond.soleField "SteinerNet" "priceOf") ∈ lw_all := lw_g (lw_at lw_m0 28 rfl) rfl
theorem q45 : (Jvm.Cond.lays "SteinerNet" "SteinerNet" "marked" "I") ∈ lw_all := lw_g (lw_at lw_m0 29 rfl) rfl
theorem q46 : (Jvm.Cond.soleField "SteinerNet" "marked") ∈ lw_all := lw_g (lw_at lw_m0 30 rfl) rfl
theorem q47 : (Jvm.Cond.laysFinal "SteinerNet" "SteinerNet" "counts" "[I") ∈ lw_all := lw_g (lw_at lw_m0 31 rfl) rfl
theorem q48 : (Jvm.Cond.soleField "SteinerNet" "counts") ∈ lw_all := lw_g (lw_at lw_m0 32 rfl) rfl
theorem q49 : (Jvm.Cond.laysFinal "SteinerNet" "SteinerNet" "way" "[I") ∈ lw_all := lw_g (lw_at lw_m0 33 rfl) rfl
theorem q50 : (Jvm.Cond.soleField "SteinerNet" "way") ∈ lw_all := lw_g (lw_at lw_m0 34 rfl) rfl
theorem q51 : (Jvm.Cond.laysFinal "SteinerNet" "SteinerNet" "part" "[I") ∈ lw_all := lw_g (lw_at lw_m0 35 rfl) rfl
theorem q52 : (Jvm.Cond.soleField "SteinerNet" "part") ∈ lw_all := lw_g (lw_at lw_m0 36 rfl) rfl
theorem q53 : (Jvm.Cond.lays "SteinerNet" "SteinerNet" "wantedCount" "I") ∈ lw_all := lw_g (lw_at lw_m0 37 rfl) rfl
theorem q54 : (Jvm.Cond.soleField "SteinerNet" "wantedCount") ∈ lw_all := lw_g (lw_at lw_m0 38 rfl) rfl
theorem q55 : (Jvm.Cond.laysFinal "SteinerNet" "SteinerNet" "wanted" "[I") ∈ lw_all := lw_g (lw_at lw_m0 39 rfl) rfl
theorem q56 : (Jvm.Cond.soleField "SteinerNet" "wanted") ∈ lw_all := lw_g (lw_at lw_m0 40 rfl) rfl
theorem q57 : (Jvm.Cond.lays "SteinerNet" "SteinerNet" "known" "Z") ∈ lw_all := lw_g (lw_at lw_m0 41 rfl) rfl
theorem q58 : (Jvm.Cond.soleField "SteinerNet" "known") ∈ lw_all := lw_g (lw_at lw_m0 42 rfl) rfl
theorem q59 : (Jvm.Cond.lays "SteinerNet" "SteinerNet" "bestPrice" "I") ∈ lw_all := lw_g (lw_at lw_m0 43 rfl) rfl
theorem q60 : (Jvm.Cond.soleField "SteinerNet" "bestPrice") ∈ lw_all := lw_g (lw_at lw_m0 44 rfl) rfl
theorem q61 : (Jvm.Cond.lays "SteinerNet" "SteinerNet" "bestSet" "I") ∈ lw_all := lw_g (lw_at lw_m0 45 rfl) rfl
theorem q62 : (Jvm.Cond.soleField "SteinerNet" "bestSet") ∈ lw_all := lw_g (lw_at lw_m0 46 rfl) rfl
theorem q63 : (Jvm.Cond.superclass "SteinerNet" "java/lang/Object") ∈ lw_all := lw_g (lw_at lw_m0 47 rfl) rfl
theorem q66 : (Jvm.Cond.instanceMethod ({ cls := "SteinerNet", name := "line", desc := "(IIII)I" } : Jvm.MethodName)) ∈ lw_all := lw_g (lw_at lw_m0 50 rfl) rfl
theorem q67 : (Jvm.Cond.selects "SteinerNet" ({ cls := "SteinerNet", name := "line", desc := "(IIII)I" } : Jvm.MethodName) ({ cls := "SteinerNet", name := "line", desc := "(IIII)I" } : Jvm.MethodName)) ∈ lw_all := lw_g (lw_at lw_m0 51 rfl) rfl
theorem q68 : (Jvm.Cond.code ({ cls := "SteinerNet", name := "line", desc := "(IIII)I" } : Jvm.MethodName) prog_1_method_2_code (5 : Nat) (Option.some Jvm.ClassFile.FieldType.int)) ∈ lw_all := lw_g (lw_at lw_m0 52 rfl) rfl
theorem q69 : (Jvm.Cond.methodLink "SteinerNet" (31 : Nat) ({ cls := "SteinerNet", name := "isPoint", desc := "(I)Z" } : Jvm.MethodName)) ∈ lw_all := lw_g (lw_at lw_m0 53 rfl) rfl
theorem q70 : (Jvm.Cond.static ({ cls := "SteinerNet", name := "isPoint", desc := "(I)Z" } : Jvm.MethodName)) ∈ lw_all := lw_g (lw_at lw_m0 54 rfl) rfl
theorem q71 : (Jvm.Cond.code ({ cls := "SteinerNet", name := "isPoint", desc := "(I)Z" } : Jvm.MethodName) prog_1_method_11_code (1 : Nat) (Option.some Jvm.ClassFile.FieldType.boolean)) ∈ lw_all := lw_g (lw_at lw_m0 55 rfl) rfl
theorem q73 : (Jvm.Cond.instanceMethod ({ cls := "SteinerNet", name := "cut", desc := "(I)I" } : Jvm.MethodName)) ∈ lw_all := lw_g (lw_at lw_m0 57 rfl) rfl
theorem q74 : (Jvm.Cond.selects "SteinerNet" ({ cls := "SteinerNet", name := "cut", desc := "(I)I" } : Jvm.MethodName) ({ cls := "SteinerNet", name := "cut", desc := "(I)I" } : Jvm.MethodName)) ∈ lw_all := lw_g (lw_at lw_m0 58 rfl) rfl
theorem q75 : (Jvm.Cond.code ({ cls := "SteinerNet", name := "cut", desc := "(I)I" } : Jvm.MethodName) prog_1_method_3_code (2 : Nat) (Option.some Jvm.ClassFile.FieldType.int)) ∈ lw_all := lw_g (lw_at lw_m0 59 rfl) rfl
theorem q76 : (Jvm.Cond.methodLink "SteinerNet" (39 : Nat) ({ cls := "SteinerNet", name := "isLine", desc := "(I)Z" } : Jvm.MethodName)) ∈ lw_all := lw_g (lw_at lw_m0 60 rfl) rfl
theorem q77 : (Jvm.Cond.privateMethod ({ cls := "SteinerNet", name := "isLine", desc := "(I)Z" } : Jvm.MethodName)) ∈ lw_tbl := lw_at lw_m0 61 rfl
theorem q78 : (Jvm.Cond.instanceMethod ({ cls := "SteinerNet", name := "isLine", desc := "(I)Z" } : Jvm.MethodName)) ∈ lw_all := lw_g (lw_at lw_m0 62 rfl) rfl
theorem q79 : (Jvm.Cond.code ({ cls := "SteinerNet", name := "isLine", desc := "(I)Z" } : Jvm.MethodName) prog_1_method_12_code (2 : Nat) (Option.some Jvm.ClassFile.FieldType.boolean)) ∈ lw_all := lw_g (lw_at lw_m0 63 rfl) rfl
theorem q81 : (Jvm.Cond.instanceMethod ({ cls := "SteinerNet", name := "mark", desc := "(IZ)I" } : Jvm.MethodName)) ∈ lw_all := lw_g (lw_at lw_m0 65 rfl) rfl
theorem q82 : (Jvm.Cond.selects "SteinerNet" ({ cls := "SteinerNet", name := "mark", desc := "(IZ)I" } : Jvm.MethodName) ({ cls := "SteinerNet", name := "mark", desc := "(IZ)I" } : Jvm.MethodName)) ∈ lw_all := lw_g (lw_at lw_m0 66 rfl) rfl
theorem q83 : (Jvm.Cond.code ({ cls := "SteinerNet", name := "mark", desc := "(IZ)I" } : Jvm.MethodName) prog_1_method_4_code (4 : Nat) (Option.some Jvm.ClassFile.FieldType.int)) ∈ lw_all := lw_g (lw_at lw_m0 67 rfl) rfl
theorem q85 : (Jvm.Cond.instanceMethod ({ cls := "SteinerNet", name := "least", desc := "()I" } : Jvm.MethodName)) ∈ lw_all := lw_g (lw_at lw_m0 69 rfl) rfl
theorem q86 : (Jvm.Cond.selects "SteinerNet" ({ cls := "SteinerNet", name := "least", desc := "()I" } : Jvm.MethodName) ({ cls := "SteinerNet", name := "least", desc := "()I" } : Jvm.MethodName)) ∈ lw_all := lw_g (lw_at lw_m0 70 rfl) rfl
theorem q87 : (Jvm.Cond.code ({ cls := "SteinerNet", name := "least", desc := "()I" } : Jvm.MethodName) prog_1_method_5_code (1 : Nat) (Option.some Jvm.ClassFile.FieldType.int)) ∈ lw_all := lw_g (lw_at lw_m0 71 rfl) rfl
theorem q88 : (Jvm.Cond.methodLink "SteinerNet" (46 : Nat) ({ cls := "SteinerNet", name := "findBest", desc := "()V" } : Jvm.MethodName)) ∈ lw_all := lw_g (lw_at lw_m0 72 rfl) rfl
theorem q89 : (Jvm.Cond.privateMethod ({ cls := "SteinerNet", name := "findBest", desc := "()V" } : Jvm.MethodName)) ∈ lw_tbl := lw_at lw_m0 73 rfl
theorem q90 : (Jvm.Cond.instanceMethod ({ cls := "SteinerNet", name := "findBest", desc := "()V" } : Jvm.MethodName)) ∈ lw_all := lw_g (lw_at lw_m0 74 rfl) rfl
theorem q91 : (Jvm.Cond.code ({ cls := "SteinerNet", name := "findBest", desc := "()V" } : Jvm.MethodName) prog_1_method_14_code (5 : Nat) (Option.none : Option Jvm.ClassFile.FieldType)) ∈ lw_all := lw_g (lw_at lw_m0 75 rfl) rfl
theorem q92 : (Jvm.Cond.methodLink "SteinerNet" (55 : Nat) ({ cls := "SteinerNet", name := "countAll", desc := "()V" } : Jvm.MethodName)) ∈ lw_all := lw_g (lw_at lw_m0 76 rfl) rfl
theorem q93 : (Jvm.Cond.privateMethod ({ cls := "SteinerNet", name := "countAll", desc := "()V" } : Jvm.MethodName)) ∈ lw_tbl := lw_at lw_m0 77 rfl
theorem q94 : (Jvm.Cond.instanceMethod ({ cls := "SteinerNet", name := "countAll", desc := "()V" } : Jvm.MethodName)) ∈ lw_all := lw_g (lw_at lw_m0 78 rfl) rfl
theorem q95 : (Jvm.Cond.code ({ cls := "SteinerNet", name := "countAll", desc := "()V" } : Jvm.MethodName) prog_1_method_13_code (2 : Nat) (Option.none : Option Jvm.ClassFile.FieldType)) ∈ lw_all := lw_g (lw_at lw_m0 79 rfl) rfl
theorem q96 : (Jvm.Cond.constant "SteinerNet" (62 : Nat) (100000 : Int32)) ∈ lw_all := lw_g (lw_at lw_m0 80 rfl) rfl
theorem q97 : (Jvm.Cond.methodLink "SteinerNet" (58 : Nat) ({ cls := "SteinerNet", name := "leastFor", desc := "(I)I" } : Jvm.MethodName)) ∈ lw_all := lw_g (lw_at lw_m0 81 rfl) rfl
theorem q98 : (Jvm.Cond.privateMethod ({ cls := "SteinerNet", name := "leastFor", desc := "(I)I" } : Jvm.MethodName)) ∈ lw_tbl := lw_at lw_m0 82 rfl
theorem q99 : (Jvm.Cond.instanceMethod ({ cls := "SteinerNet", name := "leastFor", desc := "(I)I" } : Jvm.MethodName)) ∈ lw_all := lw_g (lw_at lw_m0 83 rfl) rfl
theorem q100 : (Jvm.Cond.code ({ cls := "SteinerNet", name := "leastFor", desc := "(I)I" } : Jvm.MethodName) prog_1_method_15_code (4 : Nat) (Option.some Jvm.ClassFile.FieldType.int)) ∈ lw_all := lw_g (lw_at lw_m0 84 rfl) rfl
theorem q101 : (Jvm.Cond.methodLink "SteinerNet" (66 : Nat) ({ cls := "SteinerNet", name := "findWays", desc := "()V" } : Jvm.MethodName)) ∈ lw_all := lw_g (lw_at lw_m0 85 rfl) rfl
theorem q102 : (Jvm.Cond.privateMethod ({ cls := "SteinerNet", name := "findWays", desc := "()V" } : Jvm.MethodName)) ∈ lw_tbl := lw_at lw_m0 86 rfl
theorem q103 : (Jvm.Cond.instanceMethod ({ cls := "SteinerNet", name := "findWays", desc := "()V" } : Jvm.MethodName)) ∈ lw_all := lw_g (lw_at lw_m0 87 rfl) rfl
theorem q104 : (Jvm.Cond.code ({ cls := "SteinerNet", name := "findWays", desc := "()V" } : Jvm.MethodName) prog_1_method_16_code (4 : Nat) (Option.none : Option Jvm.ClassFile.FieldType)) ∈ lw_all := lw_g (lw_at lw_m0 88 rfl) rfl
theorem q105 : (Jvm.Cond.methodLink "SteinerNet" (79 : Nat) ({ cls := "SteinerNet", name := "shortenOver", desc := "(I)V" } : Jvm.MethodName)) ∈ lw_all := lw_g (lw_at lw_m0 89 rfl) rfl
theorem q106 : (Jvm.Cond.privateMethod ({ cls := "SteinerNet", name := "shortenOver", desc := "(I)V" } : Jvm.MethodName)) ∈ lw_tbl := lw_at lw_m0 90 rfl
theorem q107 : (Jvm.Cond.instanceMethod ({ cls := "SteinerNet", name := "shortenOver", desc := "(I)V" } : Jvm.MethodName)) ∈ lw_all := lw_g (lw_at lw_m0 91 rfl) rfl
theorem q108 : (Jvm.Cond.code ({ cls := "SteinerNet", name := "shortenOver", desc := "(I)V" } : Jvm.MethodName) prog_1_method_17_code (5 : Nat) (Option.none : Option Jvm.ClassFile.FieldType)) ∈ lw_all := lw_g (lw_at lw_m0 92 rfl) rfl
theorem q109 : (Jvm.Cond.methodLink "SteinerNet" (69 : Nat) ({ cls := "SteinerNet", name := "startPart", desc := "(I)V" } : Jvm.MethodName)) ∈ lw_all := lw_g (lw_at lw_m0 93 rfl) rfl
theorem q110 : (Jvm.Cond.privateMethod ({ cls := "SteinerNet", name := "startPart", desc := "(I)V" } : Jvm.MethodName)) ∈ lw_tbl := lw_at lw_m0 94 rfl
theorem q111 : (Jvm.Cond.instanceMethod ({ cls := "SteinerNet", name := "startPart", desc := "(I)V" } : Jvm.MethodName)) ∈ lw_all := lw_g (lw_at lw_m0 95 rfl) rfl
theorem q112 : (Jvm.Cond.code ({ cls := "SteinerNet", name := "startPart", desc := "(I)V" } : Jvm.MethodName) prog_1_method_18_code (3 : Nat) (Option.none : Option Jvm.ClassFile.FieldType)) ∈ lw_all := lw_g (lw_at lw_m0 96 rfl) rfl
theorem q113 : (Jvm.Cond.methodLink "SteinerNet" (73 : Nat) ({ cls := "SteinerNet", name := "joinParts", desc := "(I)V" } : Jvm.MethodName)) ∈ lw_all := lw_g (lw_at lw_m0 97 rfl) rfl
theorem q114 : (Jvm.Cond.privateMethod ({ cls := "SteinerNet", name := "joinParts", desc := "(I)V" } : Jvm.MethodName)) ∈ lw_tbl := lw_at lw_m0 98 rfl
theorem q115 : (Jvm.Cond.instanceMethod ({ cls := "SteinerNet", name := "joinParts", desc := "(I)V" } : Jvm.MethodName)) ∈ lw_all := lw_g (lw_at lw_m0 99 rfl) rfl
theorem q116 : (Jvm.Cond.code ({ cls := "SteinerNet", name := "joinParts", desc := "(I)V" } : Jvm.MethodName) prog_1_method_19_code (6 : Nat) (Option.none : Option Jvm.ClassFile.FieldType)) ∈ lw_all := lw_g (lw_at lw_m0 100 rfl) rfl
theorem q117 : (Jvm.Cond.methodLink "SteinerNet" (76 : Nat) ({ cls := "SteinerNet", name := "carryPart", desc := "(I)V" } : Jvm.MethodName)) ∈ lw_all := lw_g (lw_at lw_m0 101 rfl) rfl
theorem q118 : (Jvm.Cond.privateMethod ({ cls := "SteinerNet", name := "carryPart", desc := "(I)V" } : Jvm.MethodName)) ∈ lw_tbl := lw_at lw_m0 102 rfl
theorem q119 : (Jvm.Cond.instanceMethod ({ cls := "SteinerNet", name := "carryPart", desc := "(I)V" } : Jvm.MethodName)) ∈ lw_all := lw_g (lw_at lw_m0 103 rfl) rfl
theorem q120 : (Jvm.Cond.code ({ cls := "SteinerNet", name := "carryPart", desc := "(I)V" } : Jvm.MethodName) prog_1_method_20_code (3 : Nat) (Option.none : Option Jvm.ClassFile.FieldType)) ∈ lw_all := lw_g (lw_at lw_m0 104 rfl) rfl
theorem q121 : (Jvm.Cond.methodLink "SteinerNet" (82 : Nat) ({ cls := "SteinerNet", name := "carryTo", desc := "(II)V" } : Jvm.MethodName)) ∈ lw_all := lw_g (lw_at lw_m0 105 rfl) rfl
theorem q122 : (Jvm.Cond.privateMethod ({ cls := "SteinerNet", name := "carryTo", desc := "(II)V" } : Jvm.MethodName)) ∈ lw_tbl := lw_at lw_m0 106 rfl
theorem q123 : (Jvm.Cond.instanceMethod ({ cls := "SteinerNet", name := "carryTo", desc := "(II)V" } : Jvm.MethodName)) ∈ lw_all := lw_g (lw_at lw_m0 107 rfl) rfl
theorem q124 : (Jvm.Cond.code ({ cls := "SteinerNet", name := "carryTo", desc := "(II)V" } : Jvm.MethodName) prog_1_method_21_code (6 : Nat) (Option.none : Option Jvm.ClassFile.FieldType)) ∈ lw_all := lw_g (lw_at lw_m0 108 rfl) rfl
theorem q126 : (Jvm.Cond.instanceMethod ({ cls := "SteinerNet", name := "chosen", desc := "(I)I" } : Jvm.MethodName)) ∈ lw_all := lw_g (lw_at lw_m0 110 rfl) rfl
theorem q127 : (Jvm.Cond.selects "SteinerNet" ({ cls := "SteinerNet", name := "chosen", desc := "(I)I" } : Jvm.MethodName) ({ cls := "SteinerNet", name := "chosen", desc := "(I)I" } : Jvm.MethodName)) ∈ lw_all := lw_g (lw_at lw_m0 111 rfl) rfl
theorem q128 : (Jvm.Cond.code ({ cls := "SteinerNet", name := "chosen", desc := "(I)I" } : Jvm.MethodName) prog_1_method_6_code (2 : Nat) (Option.some Jvm.ClassFile.FieldType.int)) ∈ lw_all := lw_g (lw_at lw_m0 112 rfl) rfl
theorem q130 : (Jvm.Cond.instanceMethod ({ cls := "SteinerNet", name := "with", desc := "(I)I" } : Jvm.MethodName)) ∈ lw_all := lw_g (lw_at lw_m0 114 rfl) rfl
theorem q131 : (Jvm.Cond.selects "SteinerNet" ({ cls := "SteinerNet", name := "with", desc := "(I)I" } : Jvm.MethodName) ({ cls := "SteinerNet", name := "with", desc := "(I)I" } : Jvm.MethodName)) ∈ lw_all := lw_g (lw_at lw_m0 115 rfl) rfl
theorem q132 : (Jvm.Cond.code ({ cls := "SteinerNet", name := "with", desc := "(I)I" } : Jvm.MethodName) prog_1_method_7_code (3 : Nat) (Option.some Jvm.ClassFile.FieldType.int)) ∈ lw_all := lw_g (lw_at lw_m0 116 rfl) rfl
theorem q134 : (Jvm.Cond.instanceMethod ({ cls := "SteinerNet", name := "without", desc := "(I)I" } : Jvm.MethodName)) ∈ lw_all := lw_g (lw_at lw_m0 118 rfl) rfl
theorem q135 : (Jvm.Cond.selects "SteinerNet" ({ cls := "SteinerNet", name := "without", desc := "(I)I" } : Jvm.MethodName) ({ cls := "SteinerNet", name := "without", desc := "(I)I" } : Jvm.MethodName)) ∈ lw_all := lw_g (lw_at lw_m0 119 rfl) rfl
theorem q136 : (Jvm.Cond.code ({ cls := "SteinerNet", name := "without", desc := "(I)I" } : Jvm.MethodName) prog_1_method_8_code (3 : Nat) (Option.some Jvm.ClassFile.FieldType.int)) ∈ lw_all := lw_g (lw_at lw_m0 120 rfl) rfl
theorem q138 : (Jvm.Cond.instanceMethod ({ cls := "SteinerNet", name := "including", desc := "(I)I" } : Jvm.MethodName)) ∈ lw_all := lw_g (lw_at lw_m0 122 rfl) rfl
theorem q139 : (Jvm.Cond.selects "SteinerNet" ({ cls := "SteinerNet", name := "including", desc := "(I)I" } : Jvm.MethodName) ({ cls := "SteinerNet", name := "including", desc := "(I)I" } : Jvm.MethodName)) ∈ lw_all := lw_g (lw_at lw_m0 123 rfl) rfl
theorem q140 : (Jvm.Cond.code ({ cls := "SteinerNet", name := "including", desc := "(I)I" } : Jvm.MethodName) prog_1_method_9_code (3 : Nat) (Option.some Jvm.ClassFile.FieldType.int)) ∈ lw_all := lw_g (lw_at lw_m0 124 rfl) rfl
theorem q142 : (Jvm.Cond.instanceMethod ({ cls := "SteinerNet", name := "between", desc := "(II)I" } : Jvm.MethodName)) ∈ lw_all := lw_g (lw_at lw_m0 126 rfl) rfl
theorem q143 : (Jvm.Cond.selects "SteinerNet" ({ cls := "SteinerNet", name := "between", desc := "(II)I" } : Jvm.MethodName) ({ cls := "SteinerNet", name := "between", desc := "(II)I" } : Jvm.MethodName)) ∈ lw_all := lw_g (lw_at lw_m0 127 rfl) rfl
theorem q144 : (Jvm.Cond.code ({ cls := "SteinerNet", name := "between", desc := "(II)I" } : Jvm.MethodName) prog_1_method_10_code (4 : Nat) (Option.some Jvm.ClassFile.FieldType.int)) ∈ lw_all := lw_g (lw_at lw_m0 128 rfl) rfl
theorem in_X0 : ∀ w ∈ wsX00, w ∈ lw_all := lw_in wsX00 [39, 41, 43, 45, 47, 49, 51, 53, 55, 57, 59, 61] (by decide +kernel) (by decide +kernel)
end
section
/-! SteinerNetModel -/
set_option maxRecDepth 100000
def RX1 : String := "SteinerNetModel"
def TX1 : u_T := fun k => match k with
  | 0 => ("SteinerNetModel", "there", "[Z", true)
  | 1 => ("SteinerNetModel", "from", "[I", true)
  | 2 => ("SteinerNetModel", "to", "[I", true)
  | 3 => ("SteinerNetModel", "price", "[I", true)
  | _ => ("SteinerNetModel", "marked", "[Z", true)
def tyX1 : Nat → FieldType := fun k => match k with
  | 0 => .array .boolean
  | 1 => .array .int
  | 2 => .array .int
  | 3 => .array .int
  | _ => .array .boolean
abbrev wsX10 : List Cond := u_ws RX1 TX1 5
theorem nmX1 : ∀ a, a < 5 → ∀ b, b < 5 → a ≠ b → (TX1 a).2.1 ≠ (TX1 b).2.1 := by decide +kernel
theorem tyX1_ok : ∀ k, k < 5 → parseFieldDescriptor (TX1 k).2.2.1 = some (tyX1 k) := by decide +kernel
abbrev cX1_init : ByteArray := prog_3_method_1_code
def yX1_init : MethodName := ⟨RX1, "<init>", "()V"⟩
abbrev cX1_line : ByteArray := prog_3_method_4_code
def yX1_line : MethodName := ⟨RX1, "line", "(IIII)I"⟩
abbrev cX1_badPoint : ByteArray := prog_3_method_2_code
def yX1_badPoint : MethodName := ⟨RX1, "badPoint", "(I)Z"⟩
abbrev cX1_cut : ByteArray := prog_3_method_5_code
def yX1_cut : MethodName := ⟨RX1, "cut", "(I)I"⟩
abbrev cX1_badLine : ByteArray := prog_3_method_3_code
def yX1_badLine : MethodName := ⟨RX1, "badLine", "(I)Z"⟩
abbrev cX1_mark : ByteArray := prog_3_method_6_code
def yX1_mark : MethodName := ⟨RX1, "mark", "(IZ)I"⟩
abbrev cX1_least : ByteArray := prog_3_method_12_code
def yX1_least : MethodName := ⟨RX1, "least", "()I"⟩
abbrev cX1_marks : ByteArray := prog_3_method_7_code
def yX1_marks : MethodName := ⟨RX1, "marks", "()I"⟩
abbrev cX1_lowest : ByteArray := prog_3_method_11_code
def yX1_lowest : MethodName := ⟨RX1, "lowest", "(III)I"⟩
abbrev cX1_best : ByteArray := prog_3_method_10_code
def yX1_best : MethodName := ⟨RX1, "best", "(III)I"⟩
abbrev cX1_priceOf : ByteArray := prog_3_method_8_code
def yX1_priceOf : MethodName := ⟨RX1, "priceOf", "(I)I"⟩
abbrev cX1_joins : ByteArray := prog_3_method_9_code
def yX1_joins : MethodName := ⟨RX1, "joins", "(II)Z"⟩
abbrev cX1_chosen : ByteArray := prog_3_method_13_code
def yX1_chosen : MethodName := ⟨RX1, "chosen", "(I)I"⟩
abbrev cX1_with : ByteArray := prog_3_method_14_code
def yX1_with : MethodName := ⟨RX1, "with", "(I)I"⟩
abbrev cX1_without : ByteArray := prog_3_method_15_code
def yX1_without : MethodName := ⟨RX1, "without", "(I)I"⟩
abbrev cX1_including : ByteArray := prog_3_method_16_code
def yX1_including : MethodName := ⟨RX1, "including", "(I)I"⟩
abbrev cX1_between : ByteArray := prog_3_method_17_code
def yX1_between : MethodName := ⟨RX1, "between", "(II)I"⟩
theorem q18 : (Jvm.Cond.initialized "SteinerNetModel") ∈ lw_all := lw_g (lw_at lw_m0 2 rfl) rfl
theorem q146 : (Jvm.Cond.instantiable "SteinerNetModel" (5 : Nat)) ∈ lw_all := lw_g (lw_at lw_m0 130 rfl) rfl
theorem q148 : (Jvm.Cond.instanceMethod ({ cls := "SteinerNetModel", name := "<init>", desc := "()V" } : Jvm.MethodName)) ∈ lw_all := lw_g (lw_at lw_m0 132 rfl) rfl
theorem q149 : (Jvm.Cond.code ({ cls := "SteinerNetModel", name := "<init>", desc := "()V" } : Jvm.MethodName) prog_3_method_1_code (1 : Nat) (Option.none : Option Jvm.ClassFile.FieldType)) ∈ lw_all := lw_g (lw_at lw_m0 133 rfl) rfl
theorem q150 : (Jvm.Cond.methodLink "SteinerNetModel" (1 : Nat) ({ cls := "java/lang/Object", name := "<init>", desc := "()V" } : Jvm.MethodName)) ∈ lw_all := lw_g (lw_at lw_m0 134 rfl) rfl
theorem q151 : (Jvm.Cond.fieldLink "SteinerNetModel" (7 : Nat) "SteinerNetModel" "there" "[Z") ∈ lw_all := lw_g (lw_at lw_m0 135 rfl) rfl
theorem q152 : (Jvm.Cond.fieldLink "SteinerNetModel" (13 : Nat) "SteinerNetModel" "from" "[I") ∈ lw_all := lw_g (lw_at lw_m0 136 rfl) rfl
theorem q153 : (Jvm.Cond.fieldLink "SteinerNetModel" (17 : Nat) "SteinerNetModel" "to" "[I") ∈ lw_all := lw_g (lw_at lw_m0 137 rfl) rfl
theorem q154 : (Jvm.Cond.fieldLink "SteinerNetModel" (20 : Nat) "SteinerNetModel" "price" "[I") ∈ lw_all := lw_g (lw_at lw_m0 138 rfl) rfl
theorem q155 : (Jvm.Cond.fieldLink "SteinerNetModel" (23 : Nat) "SteinerNetModel" "marked" "[Z") ∈ lw_all := lw_g (lw_at lw_m0 139 rfl) rfl
theorem q156 : (Jvm.Cond.laysFinal "SteinerNetModel" "SteinerNetModel" "there" "[Z") ∈ lw_all := lw_g (lw_at lw_m0 140 rfl) rfl
theorem q157 : (Jvm.Cond.soleField "SteinerNetModel" "there") ∈ lw_all := lw_g (lw_at lw_m0 141 rfl) rfl
theorem q158 : (Jvm.Cond.laysFinal "SteinerNetModel" "SteinerNetModel" "from" "[I") ∈ lw_all := lw_g (lw_at lw_m0 142 rfl) rfl
theorem q159 : (Jvm.Cond.soleField "SteinerNetModel" "from") ∈ lw_all := lw_g (lw_at lw_m0 143 rfl) rfl
theorem q160 : (Jvm.Cond.laysFinal "SteinerNetModel" "SteinerNetModel" "to" "[I") ∈ lw_all := lw_g (lw_at lw_m0 144 rfl) rfl
theorem q161 : (Jvm.Cond.soleField "SteinerNetModel" "to") ∈ lw_all := lw_g (lw_at lw_m0 145 rfl) rfl
theorem q162 : (Jvm.Cond.laysFinal "SteinerNetModel" "SteinerNetModel" "price" "[I") ∈ lw_all := lw_g (lw_at lw_m0 146 rfl) rfl
theorem q163 : (Jvm.Cond.soleField "SteinerNetModel" "price") ∈ lw_all := lw_g (lw_at lw_m0 147 rfl) rfl
theorem q164 : (Jvm.Cond.laysFinal "SteinerNetModel" "SteinerNetModel" "marked" "[Z") ∈ lw_all := lw_g (lw_at lw_m0 148 rfl) rfl
theorem q165 : (Jvm.Cond.soleField "SteinerNetModel" "marked") ∈ lw_all := lw_g (lw_at lw_m0 149 rfl) rfl
theorem q166 : (Jvm.Cond.superclass "SteinerNetModel" "java/lang/Object") ∈ lw_all := lw_g (lw_at lw_m0 150 rfl) rfl
theorem q169 : (Jvm.Cond.instanceMethod ({ cls := "SteinerNetModel", name := "line", desc := "(IIII)I" } : Jvm.MethodName)) ∈ lw_all := lw_g (lw_at lw_m0 153 rfl) rfl
theorem q170 : (Jvm.Cond.selects "SteinerNetModel" ({ cls := "SteinerNetModel", name := "line", desc := "(IIII)I" } : Jvm.MethodName) ({ cls := "SteinerNetModel", name := "line", desc := "(IIII)I" } : Jvm.MethodName)) ∈ lw_all := lw_g (lw_at lw_m0 154 rfl) rfl
theorem q171 : (Jvm.Cond.code ({ cls := "SteinerNetModel", name := "line", desc := "(IIII)I" } : Jvm.MethodName) prog_3_method_4_code (5 : Nat) (Option.some Jvm.ClassFile.FieldType.int)) ∈ lw_all := lw_g (lw_at lw_m0 155 rfl) rfl
theorem q172 : (Jvm.Cond.methodLink "SteinerNetModel" (26 : Nat) ({ cls := "SteinerNetModel", name := "badPoint", desc := "(I)Z" } : Jvm.MethodName)) ∈ lw_all := lw_g (lw_at lw_m0 156 rfl) rfl
theorem q173 : (Jvm.Cond.static ({ cls := "SteinerNetModel", name := "badPoint", desc := "(I)Z" } : Jvm.MethodName)) ∈ lw_all := lw_g (lw_at lw_m0 157 rfl) rfl
theorem q174 : (Jvm.Cond.code ({ cls := "SteinerNetModel", name := "badPoint", desc := "(I)Z" } : Jvm.MethodName) prog_3_method_2_code (1 : Nat) (Option.some Jvm.ClassFile.FieldType.boolean)) ∈ lw_all := lw_g (lw_at lw_m0 158 rfl) rfl
theorem q176 : (Jvm.Cond.instanceMethod ({ cls := "SteinerNetModel", name := "cut", desc := "(I)I" } : Jvm.MethodName)) ∈ lw_all := lw_g (lw_at lw_m0 160 rfl) rfl
theorem q177 : (Jvm.Cond.selects "SteinerNetModel" ({ cls := "SteinerNetModel", name := "cut", desc := "(I)I" } : Jvm.MethodName) ({ cls := "SteinerNetModel", name := "cut", desc := "(I)I" } : Jvm.MethodName)) ∈ lw_all := lw_g (lw_at lw_m0 161 rfl) rfl
theorem q178 : (Jvm.Cond.code ({ cls := "SteinerNetModel", name := "cut", desc := "(I)I" } : Jvm.MethodName) prog_3_method_5_code (2 : Nat) (Option.some Jvm.ClassFile.FieldType.int)) ∈ lw_all := lw_g (lw_at lw_m0 162 rfl) rfl
theorem q179 : (Jvm.Cond.methodLink "SteinerNetModel" (30 : Nat) ({ cls := "SteinerNetModel", name := "badLine", desc := "(I)Z" } : Jvm.MethodName)) ∈ lw_all := lw_g (lw_at lw_m0 163 rfl) rfl
theorem q180 : (Jvm.Cond.privateMethod ({ cls := "SteinerNetModel", name := "badLine", desc := "(I)Z" } : Jvm.MethodName)) ∈ lw_tbl := lw_at lw_m0 164 rfl
theorem q181 : (Jvm.Cond.instanceMethod ({ cls := "SteinerNetModel", name := "badLine", desc := "(I)Z" } : Jvm.MethodName)) ∈ lw_all := lw_g (lw_at lw_m0 165 rfl) rfl
theorem q182 : (Jvm.Cond.code ({ cls := "SteinerNetModel", name := "badLine", desc := "(I)Z" } : Jvm.MethodName) prog_3_method_3_code (2 : Nat) (Option.some Jvm.ClassFile.FieldType.boolean)) ∈ lw_all := lw_g (lw_at lw_m0 166 rfl) rfl
theorem q184 : (Jvm.Cond.instanceMethod ({ cls := "SteinerNetModel", name := "mark", desc := "(IZ)I" } : Jvm.MethodName)) ∈ lw_all := lw_g (lw_at lw_m0 168 rfl) rfl
theorem q185 : (Jvm.Cond.selects "SteinerNetModel" ({ cls := "SteinerNetModel", name := "mark", desc := "(IZ)I" } : Jvm.MethodName) ({ cls := "SteinerNetModel", name := "mark", desc := "(IZ)I" } : Jvm.MethodName)) ∈ lw_all := lw_g (lw_at lw_m0 169 rfl) rfl
theorem q186 : (Jvm.Cond.code ({ cls := "SteinerNetModel", name := "mark", desc := "(IZ)I" } : Jvm.MethodName) prog_3_method_6_code (4 : Nat) (Option.some Jvm.ClassFile.FieldType.int)) ∈ lw_all := lw_g (lw_at lw_m0 170 rfl) rfl
theorem q188 : (Jvm.Cond.instanceMethod ({ cls := "SteinerNetModel", name := "least", desc := "()I" } : Jvm.MethodName)) ∈ lw_all := lw_g (lw_at lw_m0 172 rfl) rfl
theorem q189 : (Jvm.Cond.selects "SteinerNetModel" ({ cls := "SteinerNetModel", name := "least", desc := "()I" } : Jvm.MethodName) ({ cls := "SteinerNetModel", name := "least", desc := "()I" } : Jvm.MethodName)) ∈ lw_all := lw_g (lw_at lw_m0 173 rfl) rfl
theorem q190 : (Jvm.Cond.code ({ cls := "SteinerNetModel", name := "least", desc := "()I" } : Jvm.MethodName) prog_3_method_12_code (2 : Nat) (Option.some Jvm.ClassFile.FieldType.int)) ∈ lw_all := lw_g (lw_at lw_m0 174 rfl) rfl
theorem q191 : (Jvm.Cond.methodLink "SteinerNetModel" (45 : Nat) ({ cls := "SteinerNetModel", name := "marks", desc := "()I" } : Jvm.MethodName)) ∈ lw_all := lw_g (lw_at lw_m0 175 rfl) rfl
theorem q192 : (Jvm.Cond.privateMethod ({ cls := "SteinerNetModel", name := "marks", desc := "()I" } : Jvm.MethodName)) ∈ lw_tbl := lw_at lw_m0 176 rfl
theorem q193 : (Jvm.Cond.instanceMethod ({ cls := "SteinerNetModel", name := "marks", desc := "()I" } : Jvm.MethodName)) ∈ lw_all := lw_g (lw_at lw_m0 177 rfl) rfl
theorem q194 : (Jvm.Cond.code ({ cls := "SteinerNetModel", name := "marks", desc := "()I" } : Jvm.MethodName) prog_3_method_7_code (3 : Nat) (Option.some Jvm.ClassFile.FieldType.int)) ∈ lw_all := lw_g (lw_at lw_m0 178 rfl) rfl
theorem q195 : (Jvm.Cond.methodLink "SteinerNetModel" (49 : Nat) ({ cls := "SteinerNetModel", name := "lowest", desc := "(III)I" } : Jvm.MethodName)) ∈ lw_all := lw_g (lw_at lw_m0 179 rfl) rfl
theorem q196 : (Jvm.Cond.privateMethod ({ cls := "SteinerNetModel", name := "lowest", desc := "(III)I" } : Jvm.MethodName)) ∈ lw_tbl := lw_at lw_m0 180 rfl
theorem q197 : (Jvm.Cond.instanceMethod ({ cls := "SteinerNetModel", name := "lowest", desc := "(III)I" } : Jvm.MethodName)) ∈ lw_all := lw_g (lw_at lw_m0 181 rfl) rfl
theorem q198 : (Jvm.Cond.code ({ cls := "SteinerNetModel", name := "lowest", desc := "(III)I" } : Jvm.MethodName) prog_3_method_11_code (5 : Nat) (Option.some Jvm.ClassFile.FieldType.int)) ∈ lw_all := lw_g (lw_at lw_m0 182 rfl) rfl
theorem q199 : (Jvm.Cond.methodLink "SteinerNetModel" (41 : Nat) ({ cls := "SteinerNetModel", name := "best", desc := "(III)I" } : Jvm.MethodName)) ∈ lw_all := lw_g (lw_at lw_m0 183 rfl) rfl
theorem q200 : (Jvm.Cond.privateMethod ({ cls := "SteinerNetModel", name := "best", desc := "(III)I" } : Jvm.MethodName)) ∈ lw_tbl := lw_at lw_m0 184 rfl
theorem q201 : (Jvm.Cond.instanceMethod ({ cls := "SteinerNetModel", name := "best", desc := "(III)I" } : Jvm.MethodName)) ∈ lw_all := lw_g (lw_at lw_m0 185 rfl) rfl
theorem q202 : (Jvm.Cond.code ({ cls := "SteinerNetModel", name := "best", desc := "(III)I" } : Jvm.MethodName) prog_3_method_10_code (8 : Nat) (Option.some Jvm.ClassFile.FieldType.int)) ∈ lw_all := lw_g (lw_at lw_m0 186 rfl) rfl
theorem q203 : (Jvm.Cond.methodLink "SteinerNetModel" (33 : Nat) ({ cls := "SteinerNetModel", name := "priceOf", desc := "(I)I" } : Jvm.MethodName)) ∈ lw_all := lw_g (lw_at lw_m0 187 rfl) rfl
theorem q204 : (Jvm.Cond.privateMethod ({ cls := "SteinerNetModel", name := "priceOf", desc := "(I)I" } : Jvm.MethodName)) ∈ lw_tbl := lw_at lw_m0 188 rfl
theorem q205 : (Jvm.Cond.instanceMethod ({ cls := "SteinerNetModel", name := "priceOf", desc := "(I)I" } : Jvm.MethodName)) ∈ lw_all := lw_g (lw_at lw_m0 189 rfl) rfl
theorem q206 : (Jvm.Cond.code ({ cls := "SteinerNetModel", name := "priceOf", desc := "(I)I" } : Jvm.MethodName) prog_3_method_8_code (4 : Nat) (Option.some Jvm.ClassFile.FieldType.int)) ∈ lw_all := lw_g (lw_at lw_m0 190 rfl) rfl
theorem q207 : (Jvm.Cond.methodLink "SteinerNetModel" (37 : Nat) ({ cls := "SteinerNetModel", name := "joins", desc := "(II)Z" } : Jvm.MethodName)) ∈ lw_all := lw_g (lw_at lw_m0 191 rfl) rfl
theorem q208 : (Jvm.Cond.privateMethod ({ cls := "SteinerNetModel", name := "joins", desc := "(II)Z" } : Jvm.MethodName)) ∈ lw_tbl := lw_at lw_m0 192 rfl
theorem q209 : (Jvm.Cond.instanceMethod ({ cls := "SteinerNetModel", name := "joins", desc := "(II)Z" } : Jvm.MethodName)) ∈ lw_all := lw_g (lw_at lw_m0 193 rfl) rfl
theorem q210 : (Jvm.Cond.code ({ cls := "SteinerNetModel", name := "joins", desc := "(II)Z" } : Jvm.MethodName) prog_3_method_9_code (7 : Nat) (Option.some Jvm.ClassFile.FieldType.boolean)) ∈ lw_all := lw_g (lw_at lw_m0 194 rfl) rfl
theorem q212 : (Jvm.Cond.instanceMethod ({ cls := "SteinerNetModel", name := "chosen", desc := "(I)I" } : Jvm.MethodName)) ∈ lw_all := lw_g (lw_at lw_m0 196 rfl) rfl
theorem q213 : (Jvm.Cond.selects "SteinerNetModel" ({ cls := "SteinerNetModel", name := "chosen", desc := "(I)I" } : Jvm.MethodName) ({ cls := "SteinerNetModel", name := "chosen", desc := "(I)I" } : Jvm.MethodName)) ∈ lw_all := lw_g (lw_at lw_m0 197 rfl) rfl
theorem q214 : (Jvm.Cond.code ({ cls := "SteinerNetModel", name := "chosen", desc := "(I)I" } : Jvm.MethodName) prog_3_method_13_code (4 : Nat) (Option.some Jvm.ClassFile.FieldType.int)) ∈ lw_all := lw_g (lw_at lw_m0 198 rfl) rfl
theorem q216 : (Jvm.Cond.instanceMethod ({ cls := "SteinerNetModel", name := "with", desc := "(I)I" } : Jvm.MethodName)) ∈ lw_all := lw_g (lw_at lw_m0 200 rfl) rfl
theorem q217 : (Jvm.Cond.selects "SteinerNetModel" ({ cls := "SteinerNetModel", name := "with", desc := "(I)I" } : Jvm.MethodName) ({ cls := "SteinerNetModel", name := "with", desc := "(I)I" } : Jvm.MethodName)) ∈ lw_all := lw_g (lw_at lw_m0 201 rfl) rfl
theorem q218 : (Jvm.Cond.code ({ cls := "SteinerNetModel", name := "with", desc := "(I)I" } : Jvm.MethodName) prog_3_method_14_code (3 : Nat) (Option.some Jvm.ClassFile.FieldType.int)) ∈ lw_all := lw_g (lw_at lw_m0 202 rfl) rfl
theorem q220 : (Jvm.Cond.instanceMethod ({ cls := "SteinerNetModel", name := "without", desc := "(I)I" } : Jvm.MethodName)) ∈ lw_all := lw_g (lw_at lw_m0 204 rfl) rfl
theorem q221 : (Jvm.Cond.selects "SteinerNetModel" ({ cls := "SteinerNetModel", name := "without", desc := "(I)I" } : Jvm.MethodName) ({ cls := "SteinerNetModel", name := "without", desc := "(I)I" } : Jvm.MethodName)) ∈ lw_all := lw_g (lw_at lw_m0 205 rfl) rfl
theorem q222 : (Jvm.Cond.code ({ cls := "SteinerNetModel", name := "without", desc := "(I)I" } : Jvm.MethodName) prog_3_method_15_code (3 : Nat) (Option.some Jvm.ClassFile.FieldType.int)) ∈ lw_all := lw_g (lw_at lw_m0 206 rfl) rfl
theorem q224 : (Jvm.Cond.instanceMethod ({ cls := "SteinerNetModel", name := "including", desc := "(I)I" } : Jvm.MethodName)) ∈ lw_all := lw_g (lw_at lw_m0 208 rfl) rfl
theorem q225 : (Jvm.Cond.selects "SteinerNetModel" ({ cls := "SteinerNetModel", name := "including", desc := "(I)I" } : Jvm.MethodName) ({ cls := "SteinerNetModel", name := "including", desc := "(I)I" } : Jvm.MethodName)) ∈ lw_all := lw_g (lw_at lw_m0 209 rfl) rfl
theorem q226 : (Jvm.Cond.code ({ cls := "SteinerNetModel", name := "including", desc := "(I)I" } : Jvm.MethodName) prog_3_method_16_code (3 : Nat) (Option.some Jvm.ClassFile.FieldType.int)) ∈ lw_all := lw_g (lw_at lw_m0 210 rfl) rfl
theorem q228 : (Jvm.Cond.instanceMethod ({ cls := "SteinerNetModel", name := "between", desc := "(II)I" } : Jvm.MethodName)) ∈ lw_all := lw_g (lw_at lw_m0 212 rfl) rfl
theorem q229 : (Jvm.Cond.selects "SteinerNetModel" ({ cls := "SteinerNetModel", name := "between", desc := "(II)I" } : Jvm.MethodName) ({ cls := "SteinerNetModel", name := "between", desc := "(II)I" } : Jvm.MethodName)) ∈ lw_all := lw_g (lw_at lw_m0 213 rfl) rfl
theorem q230 : (Jvm.Cond.code ({ cls := "SteinerNetModel", name := "between", desc := "(II)I" } : Jvm.MethodName) prog_3_method_17_code (3 : Nat) (Option.some Jvm.ClassFile.FieldType.int)) ∈ lw_all := lw_g (lw_at lw_m0 214 rfl) rfl
theorem in_X1 : ∀ w ∈ wsX10, w ∈ lw_all := lw_in wsX10 [156, 158, 160, 162, 164] (by decide +kernel) (by decide +kernel)
end
section
/-! the law's own entry -/
set_option maxRecDepth 100000
abbrev cL_law : ByteArray := code
theorem dL_law_0 : decode cL_law 0 = .ok (.new 7, 3) := by decide +kernel
theorem dL_law_3 : decode cL_law 3 = .ok (.dup, 1) := by decide +kernel
theorem dL_law_4 : decode cL_law 4 = .ok (.invokespecial 9, 3) := by decide +kernel
theorem dL_law_7 : decode cL_law 7 = .ok (.astore_n 1, 1) := by decide +kernel
theorem dL_law_8 : decode cL_law 8 = .ok (.new 10, 3) := by decide +kernel
theorem dL_law_11 : decode cL_law 11 = .ok (.dup, 1) := by decide +kernel
theorem dL_law_12 : decode cL_law 12 = .ok (.invokespecial 12, 3) := by decide +kernel
theorem dL_law_15 : decode cL_law 15 = .ok (.astore_n 2, 1) := by decide +kernel
theorem dL_law_16 : decode cL_law 16 = .ok (.iconst 0, 1) := by decide +kernel
theorem dL_law_17 : decode cL_law 17 = .ok (.istore_n 3, 1) := by decide +kernel
theorem dL_law_18 : decode cL_law 18 = .ok (.iload_n 3, 1) := by decide +kernel
theorem dL_law_19 : decode cL_law 19 = .ok (.aload_n 0, 1) := by decide +kernel
theorem dL_law_20 : decode cL_law 20 = .ok (.arraylength, 1) := by decide +kernel
theorem dL_law_21 : decode cL_law 21 = .ok (.iconst 5, 1) := by decide +kernel
theorem dL_law_22 : decode cL_law 22 = .ok (.isub, 1) := by decide +kernel
theorem dL_law_23 : decode cL_law 23 = .ok (.if_icmp .gt 330, 3) := by decide +kernel
theorem dL_law_26 : decode cL_law 26 = .ok (.aload_n 0, 1) := by decide +kernel
theorem dL_law_27 : decode cL_law 27 = .ok (.iload_n 3, 1) := by decide +kernel
theorem dL_law_28 : decode cL_law 28 = .ok (.iaload, 1) := by decide +kernel
theorem dL_law_29 : decode cL_law 29 = .ok (.bipush 15, 2) := by decide +kernel
theorem dL_law_31 : decode cL_law 31 = .ok (.iand, 1) := by decide +kernel
theorem dL_law_32 : decode cL_law 32 = .ok (.tableswitch 315 0 8 #[52, 105, 128, 177, 190, 213, 236, 259, 282], 52) := by decide +kernel
theorem dL_law_84 : decode cL_law 84 = .ok (.aload_n 1, 1) := by decide +kernel
theorem dL_law_85 : decode cL_law 85 = .ok (.aload_n 0, 1) := by decide +kernel
theorem dL_law_86 : decode cL_law 86 = .ok (.iload_n 3, 1) := by decide +kernel
theorem dL_law_87 : decode cL_law 87 = .ok (.iconst 1, 1) := by decide +kernel
theorem dL_law_88 : decode cL_law 88 = .ok (.iadd, 1) := by decide +kernel
theorem dL_law_89 : decode cL_law 89 = .ok (.iaload, 1) := by decide +kernel
theorem dL_law_90 : decode cL_law 90 = .ok (.aload_n 0, 1) := by decide +kernel
theorem dL_law_91 : decode cL_law 91 = .ok (.iload_n 3, 1) := by decide +kernel
theorem dL_law_92 : decode cL_law 92 = .ok (.iconst 2, 1) := by decide +kernel
theorem dL_law_93 : decode cL_law 93 = .ok (.iadd, 1) := by decide +kernel
theorem dL_law_94 : decode cL_law 94 = .ok (.iaload, 1) := by decide +kernel
theorem dL_law_95 : decode cL_law 95 = .ok (.aload_n 0, 1) := by decide +kernel
theorem dL_law_96 : decode cL_law 96 = .ok (.iload_n 3, 1) := by decide +kernel
theorem dL_law_97 : decode cL_law 97 = .ok (.iconst 3, 1) := by decide +kernel
theorem dL_law_98 : decode cL_law 98 = .ok (.iadd, 1) := by decide +kernel
theorem dL_law_99 : decode cL_law 99 = .ok (.iaload, 1) := by decide +kernel
theorem dL_law_100 : decode cL_law 100 = .ok (.aload_n 0, 1) := by decide +kernel
theorem dL_law_101 : decode cL_law 101 = .ok (.iload_n 3, 1) := by decide +kernel
theorem dL_law_102 : decode cL_law 102 = .ok (.iconst 4, 1) := by decide +kernel
theorem dL_law_103 : decode cL_law 103 = .ok (.iadd, 1) := by decide +kernel
theorem dL_law_104 : decode cL_law 104 = .ok (.iaload, 1) := by decide +kernel
theorem dL_law_105 : decode cL_law 105 = .ok (.invokevirtual 13, 3) := by decide +kernel
theorem dL_law_108 : decode cL_law 108 = .ok (.aload_n 2, 1) := by decide +kernel
theorem dL_law_109 : decode cL_law 109 = .ok (.aload_n 0, 1) := by decide +kernel
theorem dL_law_110 : decode cL_law 110 = .ok (.iload_n 3, 1) := by decide +kernel
theorem dL_law_111 : decode cL_law 111 = .ok (.iconst 1, 1) := by decide +kernel
theorem dL_law_112 : decode cL_law 112 = .ok (.iadd, 1) := by decide +kernel
theorem dL_law_113 : decode cL_law 113 = .ok (.iaload, 1) := by decide +kernel
theorem dL_law_114 : decode cL_law 114 = .ok (.aload_n 0, 1) := by decide +kernel
theorem dL_law_115 : decode cL_law 115 = .ok (.iload_n 3, 1) := by decide +kernel
theorem dL_law_116 : decode cL_law 116 = .ok (.iconst 2, 1) := by decide +kernel
theorem dL_law_117 : decode cL_law 117 = .ok (.iadd, 1) := by decide +kernel
theorem dL_law_118 : decode cL_law 118 = .ok (.iaload, 1) := by decide +kernel
theorem dL_law_119 : decode cL_law 119 = .ok (.aload_n 0, 1) := by decide +kernel
theorem dL_law_120 : decode cL_law 120 = .ok (.iload_n 3, 1) := by decide +kernel
theorem dL_law_121 : decode cL_law 121 = .ok (.iconst 3, 1) := by decide +kernel
theorem dL_law_122 : decode cL_law 122 = .ok (.iadd, 1) := by decide +kernel
theorem dL_law_123 : decode cL_law 123 = .ok (.iaload, 1) := by decide +kernel
theorem dL_law_124 : decode cL_law 124 = .ok (.aload_n 0, 1) := by decide +kernel
theorem dL_law_125 : decode cL_law 125 = .ok (.iload_n 3, 1) := by decide +kernel
theorem dL_law_126 : decode cL_law 126 = .ok (.iconst 4, 1) := by decide +kernel
theorem dL_law_127 : decode cL_law 127 = .ok (.iadd, 1) := by decide +kernel
theorem dL_law_128 : decode cL_law 128 = .ok (.iaload, 1) := by decide +kernel
theorem dL_law_129 : decode cL_law 129 = .ok (.invokevirtual 17, 3) := by decide +kernel
theorem dL_law_132 : decode cL_law 132 = .ok (.if_icmp .eq 215, 3) := by decide +kernel
theorem dL_law_135 : decode cL_law 135 = .ok (.iconst 0, 1) := by decide +kernel
theorem dL_law_136 : decode cL_law 136 = .ok (.ireturn, 1) := by decide +kernel
theorem dL_law_137 : decode cL_law 137 = .ok (.aload_n 1, 1) := by decide +kernel
theorem dL_law_138 : decode cL_law 138 = .ok (.aload_n 0, 1) := by decide +kernel
theorem dL_law_139 : decode cL_law 139 = .ok (.iload_n 3, 1) := by decide +kernel
theorem dL_law_140 : decode cL_law 140 = .ok (.iconst 1, 1) := by decide +kernel
theorem dL_law_141 : decode cL_law 141 = .ok (.iadd, 1) := by decide +kernel
theorem dL_law_142 : decode cL_law 142 = .ok (.iaload, 1) := by decide +kernel
theorem dL_law_143 : decode cL_law 143 = .ok (.invokevirtual 18, 3) := by decide +kernel
theorem dL_law_146 : decode cL_law 146 = .ok (.aload_n 2, 1) := by decide +kernel
theorem dL_law_147 : decode cL_law 147 = .ok (.aload_n 0, 1) := by decide +kernel
theorem dL_law_148 : decode cL_law 148 = .ok (.iload_n 3, 1) := by decide +kernel
theorem dL_law_149 : decode cL_law 149 = .ok (.iconst 1, 1) := by decide +kernel
theorem dL_law_150 : decode cL_law 150 = .ok (.iadd, 1) := by decide +kernel
theorem dL_law_151 : decode cL_law 151 = .ok (.iaload, 1) := by decide +kernel
theorem dL_law_152 : decode cL_law 152 = .ok (.invokevirtual 22, 3) := by decide +kernel
theorem dL_law_155 : decode cL_law 155 = .ok (.if_icmp .eq 192, 3) := by decide +kernel
theorem dL_law_158 : decode cL_law 158 = .ok (.iconst 0, 1) := by decide +kernel
theorem dL_law_159 : decode cL_law 159 = .ok (.ireturn, 1) := by decide +kernel
theorem dL_law_160 : decode cL_law 160 = .ok (.aload_n 1, 1) := by decide +kernel
theorem dL_law_161 : decode cL_law 161 = .ok (.aload_n 0, 1) := by decide +kernel
theorem dL_law_162 : decode cL_law 162 = .ok (.iload_n 3, 1) := by decide +kernel
theorem dL_law_163 : decode cL_law 163 = .ok (.iconst 1, 1) := by decide +kernel
theorem dL_law_164 : decode cL_law 164 = .ok (.iadd, 1) := by decide +kernel
theorem dL_law_165 : decode cL_law 165 = .ok (.iaload, 1) := by decide +kernel
theorem dL_law_166 : decode cL_law 166 = .ok (.aload_n 0, 1) := by decide +kernel
theorem dL_law_167 : decode cL_law 167 = .ok (.iload_n 3, 1) := by decide +kernel
theorem dL_law_168 : decode cL_law 168 = .ok (.iconst 2, 1) := by decide +kernel
theorem dL_law_169 : decode cL_law 169 = .ok (.iadd, 1) := by decide +kernel
theorem dL_law_170 : decode cL_law 170 = .ok (.iaload, 1) := by decide +kernel
theorem dL_law_171 : decode cL_law 171 = .ok (.ifCond .eq 7, 3) := by decide +kernel
theorem dL_law_174 : decode cL_law 174 = .ok (.iconst 1, 1) := by decide +kernel
theorem dL_law_175 : decode cL_law 175 = .ok (.goto 4, 3) := by decide +kernel
theorem dL_law_178 : decode cL_law 178 = .ok (.iconst 0, 1) := by decide +kernel
theorem dL_law_179 : decode cL_law 179 = .ok (.invokevirtual 23, 3) := by decide +kernel
theorem dL_law_182 : decode cL_law 182 = .ok (.aload_n 2, 1) := by decide +kernel
theorem dL_law_183 : decode cL_law 183 = .ok (.aload_n 0, 1) := by decide +kernel
theorem dL_law_184 : decode cL_law 184 = .ok (.iload_n 3, 1) := by decide +kernel
theorem dL_law_185 : decode cL_law 185 = .ok (.iconst 1, 1) := by decide +kernel
theorem dL_law_186 : decode cL_law 186 = .ok (.iadd, 1) := by decide +kernel
theorem dL_law_187 : decode cL_law 187 = .ok (.iaload, 1) := by decide +kernel
theorem dL_law_188 : decode cL_law 188 = .ok (.aload_n 0, 1) := by decide +kernel
theorem dL_law_189 : decode cL_law 189 = .ok (.iload_n 3, 1) := by decide +kernel
theorem dL_law_190 : decode cL_law 190 = .ok (.iconst 2, 1) := by decide +kernel
theorem dL_law_191 : decode cL_law 191 = .ok (.iadd, 1) := by decide +kernel
theorem dL_law_192 : decode cL_law 192 = .ok (.iaload, 1) := by decide +kernel
theorem dL_law_193 : decode cL_law 193 = .ok (.ifCond .eq 7, 3) := by decide +kernel
theorem dL_law_196 : decode cL_law 196 = .ok (.iconst 1, 1) := by decide +kernel
theorem dL_law_197 : decode cL_law 197 = .ok (.goto 4, 3) := by decide +kernel
theorem dL_law_200 : decode cL_law 200 = .ok (.iconst 0, 1) := by decide +kernel
theorem dL_law_201 : decode cL_law 201 = .ok (.invokevirtual 27, 3) := by decide +kernel
theorem dL_law_204 : decode cL_law 204 = .ok (.if_icmp .eq 143, 3) := by decide +kernel
theorem dL_law_207 : decode cL_law 207 = .ok (.iconst 0, 1) := by decide +kernel
theorem dL_law_208 : decode cL_law 208 = .ok (.ireturn, 1) := by decide +kernel
theorem dL_law_209 : decode cL_law 209 = .ok (.aload_n 1, 1) := by decide +kernel
theorem dL_law_210 : decode cL_law 210 = .ok (.invokevirtual 28, 3) := by decide +kernel
theorem dL_law_213 : decode cL_law 213 = .ok (.aload_n 2, 1) := by decide +kernel
theorem dL_law_214 : decode cL_law 214 = .ok (.invokevirtual 32, 3) := by decide +kernel
theorem dL_law_217 : decode cL_law 217 = .ok (.if_icmp .eq 130, 3) := by decide +kernel
theorem dL_law_220 : decode cL_law 220 = .ok (.iconst 0, 1) := by decide +kernel
theorem dL_law_221 : decode cL_law 221 = .ok (.ireturn, 1) := by decide +kernel
theorem dL_law_222 : decode cL_law 222 = .ok (.aload_n 1, 1) := by decide +kernel
theorem dL_law_223 : decode cL_law 223 = .ok (.aload_n 0, 1) := by decide +kernel
theorem dL_law_224 : decode cL_law 224 = .ok (.iload_n 3, 1) := by decide +kernel
theorem dL_law_225 : decode cL_law 225 = .ok (.iconst 1, 1) := by decide +kernel
theorem dL_law_226 : decode cL_law 226 = .ok (.iadd, 1) := by decide +kernel
theorem dL_law_227 : decode cL_law 227 = .ok (.iaload, 1) := by decide +kernel
theorem dL_law_228 : decode cL_law 228 = .ok (.invokevirtual 33, 3) := by decide +kernel
theorem dL_law_231 : decode cL_law 231 = .ok (.aload_n 2, 1) := by decide +kernel
theorem dL_law_232 : decode cL_law 232 = .ok (.aload_n 0, 1) := by decide +kernel
theorem dL_law_233 : decode cL_law 233 = .ok (.iload_n 3, 1) := by decide +kernel
theorem dL_law_234 : decode cL_law 234 = .ok (.iconst 1, 1) := by decide +kernel
theorem dL_law_235 : decode cL_law 235 = .ok (.iadd, 1) := by decide +kernel
theorem dL_law_236 : decode cL_law 236 = .ok (.iaload, 1) := by decide +kernel
theorem dL_law_237 : decode cL_law 237 = .ok (.invokevirtual 36, 3) := by decide +kernel
theorem dL_law_240 : decode cL_law 240 = .ok (.if_icmp .eq 107, 3) := by decide +kernel
theorem dL_law_243 : decode cL_law 243 = .ok (.iconst 0, 1) := by decide +kernel
theorem dL_law_244 : decode cL_law 244 = .ok (.ireturn, 1) := by decide +kernel
theorem dL_law_245 : decode cL_law 245 = .ok (.aload_n 1, 1) := by decide +kernel
theorem dL_law_246 : decode cL_law 246 = .ok (.aload_n 0, 1) := by decide +kernel
theorem dL_law_247 : decode cL_law 247 = .ok (.iload_n 3, 1) := by decide +kernel
theorem dL_law_248 : decode cL_law 248 = .ok (.iconst 1, 1) := by decide +kernel
theorem dL_law_249 : decode cL_law 249 = .ok (.iadd, 1) := by decide +kernel
theorem dL_law_250 : decode cL_law 250 = .ok (.iaload, 1) := by decide +kernel
theorem dL_law_251 : decode cL_law 251 = .ok (.invokevirtual 37, 3) := by decide +kernel
theorem dL_law_254 : decode cL_law 254 = .ok (.aload_n 2, 1) := by decide +kernel
theorem dL_law_255 : decode cL_law 255 = .ok (.aload_n 0, 1) := by decide +kernel
theorem dL_law_256 : decode cL_law 256 = .ok (.iload_n 3, 1) := by decide +kernel
theorem dL_law_257 : decode cL_law 257 = .ok (.iconst 1, 1) := by decide +kernel
theorem dL_law_258 : decode cL_law 258 = .ok (.iadd, 1) := by decide +kernel
theorem dL_law_259 : decode cL_law 259 = .ok (.iaload, 1) := by decide +kernel
theorem dL_law_260 : decode cL_law 260 = .ok (.invokevirtual 40, 3) := by decide +kernel
theorem dL_law_263 : decode cL_law 263 = .ok (.if_icmp .eq 84, 3) := by decide +kernel
theorem dL_law_266 : decode cL_law 266 = .ok (.iconst 0, 1) := by decide +kernel
theorem dL_law_267 : decode cL_law 267 = .ok (.ireturn, 1) := by decide +kernel
theorem dL_law_268 : decode cL_law 268 = .ok (.aload_n 1, 1) := by decide +kernel
theorem dL_law_269 : decode cL_law 269 = .ok (.aload_n 0, 1) := by decide +kernel
theorem dL_law_270 : decode cL_law 270 = .ok (.iload_n 3, 1) := by decide +kernel
theorem dL_law_271 : decode cL_law 271 = .ok (.iconst 1, 1) := by decide +kernel
theorem dL_law_272 : decode cL_law 272 = .ok (.iadd, 1) := by decide +kernel
theorem dL_law_273 : decode cL_law 273 = .ok (.iaload, 1) := by decide +kernel
theorem dL_law_274 : decode cL_law 274 = .ok (.invokevirtual 41, 3) := by decide +kernel
theorem dL_law_277 : decode cL_law 277 = .ok (.aload_n 2, 1) := by decide +kernel
theorem dL_law_278 : decode cL_law 278 = .ok (.aload_n 0, 1) := by decide +kernel
theorem dL_law_279 : decode cL_law 279 = .ok (.iload_n 3, 1) := by decide +kernel
theorem dL_law_280 : decode cL_law 280 = .ok (.iconst 1, 1) := by decide +kernel
theorem dL_law_281 : decode cL_law 281 = .ok (.iadd, 1) := by decide +kernel
theorem dL_law_282 : decode cL_law 282 = .ok (.iaload, 1) := by decide +kernel
theorem dL_law_283 : decode cL_law 283 = .ok (.invokevirtual 44, 3) := by decide +kernel
theorem dL_law_286 : decode cL_law 286 = .ok (.if_icmp .eq 61, 3) := by decide +kernel
theorem dL_law_289 : decode cL_law 289 = .ok (.iconst 0, 1) := by decide +kernel
theorem dL_law_290 : decode cL_law 290 = .ok (.ireturn, 1) := by decide +kernel
theorem dL_law_291 : decode cL_law 291 = .ok (.aload_n 1, 1) := by decide +kernel
theorem dL_law_292 : decode cL_law 292 = .ok (.aload_n 0, 1) := by decide +kernel
theorem dL_law_293 : decode cL_law 293 = .ok (.iload_n 3, 1) := by decide +kernel
theorem dL_law_294 : decode cL_law 294 = .ok (.iconst 1, 1) := by decide +kernel
theorem dL_law_295 : decode cL_law 295 = .ok (.iadd, 1) := by decide +kernel
theorem dL_law_296 : decode cL_law 296 = .ok (.iaload, 1) := by decide +kernel
theorem dL_law_297 : decode cL_law 297 = .ok (.invokevirtual 45, 3) := by decide +kernel
theorem dL_law_300 : decode cL_law 300 = .ok (.aload_n 2, 1) := by decide +kernel
theorem dL_law_301 : decode cL_law 301 = .ok (.aload_n 0, 1) := by decide +kernel
theorem dL_law_302 : decode cL_law 302 = .ok (.iload_n 3, 1) := by decide +kernel
theorem dL_law_303 : decode cL_law 303 = .ok (.iconst 1, 1) := by decide +kernel
theorem dL_law_304 : decode cL_law 304 = .ok (.iadd, 1) := by decide +kernel
theorem dL_law_305 : decode cL_law 305 = .ok (.iaload, 1) := by decide +kernel
theorem dL_law_306 : decode cL_law 306 = .ok (.invokevirtual 48, 3) := by decide +kernel
theorem dL_law_309 : decode cL_law 309 = .ok (.if_icmp .eq 38, 3) := by decide +kernel
theorem dL_law_312 : decode cL_law 312 = .ok (.iconst 0, 1) := by decide +kernel
theorem dL_law_313 : decode cL_law 313 = .ok (.ireturn, 1) := by decide +kernel
theorem dL_law_314 : decode cL_law 314 = .ok (.aload_n 1, 1) := by decide +kernel
theorem dL_law_315 : decode cL_law 315 = .ok (.aload_n 0, 1) := by decide +kernel
theorem dL_law_316 : decode cL_law 316 = .ok (.iload_n 3, 1) := by decide +kernel
theorem dL_law_317 : decode cL_law 317 = .ok (.iconst 1, 1) := by decide +kernel
theorem dL_law_318 : decode cL_law 318 = .ok (.iadd, 1) := by decide +kernel
theorem dL_law_319 : decode cL_law 319 = .ok (.iaload, 1) := by decide +kernel
theorem dL_law_320 : decode cL_law 320 = .ok (.aload_n 0, 1) := by decide +kernel
theorem dL_law_321 : decode cL_law 321 = .ok (.iload_n 3, 1) := by decide +kernel
theorem dL_law_322 : decode cL_law 322 = .ok (.iconst 2, 1) := by decide +kernel
theorem dL_law_323 : decode cL_law 323 = .ok (.iadd, 1) := by decide +kernel
theorem dL_law_324 : decode cL_law 324 = .ok (.iaload, 1) := by decide +kernel
theorem dL_law_325 : decode cL_law 325 = .ok (.invokevirtual 49, 3) := by decide +kernel
theorem dL_law_328 : decode cL_law 328 = .ok (.aload_n 2, 1) := by decide +kernel
theorem dL_law_329 : decode cL_law 329 = .ok (.aload_n 0, 1) := by decide +kernel
theorem dL_law_330 : decode cL_law 330 = .ok (.iload_n 3, 1) := by decide +kernel
theorem dL_law_331 : decode cL_law 331 = .ok (.iconst 1, 1) := by decide +kernel
theorem dL_law_332 : decode cL_law 332 = .ok (.iadd, 1) := by decide +kernel
theorem dL_law_333 : decode cL_law 333 = .ok (.iaload, 1) := by decide +kernel
theorem dL_law_334 : decode cL_law 334 = .ok (.aload_n 0, 1) := by decide +kernel
theorem dL_law_335 : decode cL_law 335 = .ok (.iload_n 3, 1) := by decide +kernel
theorem dL_law_336 : decode cL_law 336 = .ok (.iconst 2, 1) := by decide +kernel
theorem dL_law_337 : decode cL_law 337 = .ok (.iadd, 1) := by decide +kernel
theorem dL_law_338 : decode cL_law 338 = .ok (.iaload, 1) := by decide +kernel
theorem dL_law_339 : decode cL_law 339 = .ok (.invokevirtual 53, 3) := by decide +kernel
theorem dL_law_342 : decode cL_law 342 = .ok (.if_icmp .eq 5, 3) := by decide +kernel
theorem dL_law_345 : decode cL_law 345 = .ok (.iconst 0, 1) := by decide +kernel
theorem dL_law_346 : decode cL_law 346 = .ok (.ireturn, 1) := by decide +kernel
theorem dL_law_347 : decode cL_law 347 = .ok (.iinc 3 5, 3) := by decide +kernel
theorem dL_law_350 : decode cL_law 350 = .ok (.goto (-332), 3) := by decide +kernel
theorem dL_law_353 : decode cL_law 353 = .ok (.iconst 1, 1) := by decide +kernel
theorem dL_law_354 : decode cL_law 354 = .ok (.ireturn, 1) := by decide +kernel
end
section
set_option maxRecDepth 100000
theorem dX0_init_0 : decode cX0_init 0 = .ok (.aload_n 0, 1) := by decide +kernel
theorem dX0_init_1 : decode cX0_init 1 = .ok (.invokespecial 1, 3) := by decide +kernel
theorem dX0_init_4 : decode cX0_init 4 = .ok (.aload_n 0, 1) := by decide +kernel
theorem dX0_init_5 : decode cX0_init 5 = .ok (.bipush 10, 2) := by decide +kernel
theorem dX0_init_7 : decode cX0_init 7 = .ok (.newarray .int, 2) := by decide +kernel
theorem dX0_init_9 : decode cX0_init 9 = .ok (.putfield 7, 3) := by decide +kernel
theorem dX0_init_12 : decode cX0_init 12 = .ok (.aload_n 0, 1) := by decide +kernel
theorem dX0_init_13 : decode cX0_init 13 = .ok (.bipush 10, 2) := by decide +kernel
theorem dX0_init_15 : decode cX0_init 15 = .ok (.newarray .int, 2) := by decide +kernel
theorem dX0_init_17 : decode cX0_init 17 = .ok (.putfield 13, 3) := by decide +kernel
theorem dX0_init_20 : decode cX0_init 20 = .ok (.aload_n 0, 1) := by decide +kernel
theorem dX0_init_21 : decode cX0_init 21 = .ok (.bipush 10, 2) := by decide +kernel
theorem dX0_init_23 : decode cX0_init 23 = .ok (.newarray .int, 2) := by decide +kernel
theorem dX0_init_25 : decode cX0_init 25 = .ok (.putfield 16, 3) := by decide +kernel
theorem dX0_init_28 : decode cX0_init 28 = .ok (.aload_n 0, 1) := by decide +kernel
theorem dX0_init_29 : decode cX0_init 29 = .ok (.bipush 10, 2) := by decide +kernel
theorem dX0_init_31 : decode cX0_init 31 = .ok (.newarray .int, 2) := by decide +kernel
theorem dX0_init_33 : decode cX0_init 33 = .ok (.putfield 19, 3) := by decide +kernel
theorem dX0_init_36 : decode cX0_init 36 = .ok (.aload_n 0, 1) := by decide +kernel
theorem dX0_init_37 : decode cX0_init 37 = .ok (.bipush 49, 2) := by decide +kernel
theorem dX0_init_39 : decode cX0_init 39 = .ok (.newarray .int, 2) := by decide +kernel
theorem dX0_init_41 : decode cX0_init 41 = .ok (.putfield 22, 3) := by decide +kernel
theorem dX0_init_44 : decode cX0_init 44 = .ok (.aload_n 0, 1) := by decide +kernel
theorem dX0_init_45 : decode cX0_init 45 = .ok (.sipush 448, 3) := by decide +kernel
theorem dX0_init_48 : decode cX0_init 48 = .ok (.newarray .int, 2) := by decide +kernel
theorem dX0_init_50 : decode cX0_init 50 = .ok (.putfield 25, 3) := by decide +kernel
theorem dX0_init_53 : decode cX0_init 53 = .ok (.aload_n 0, 1) := by decide +kernel
theorem dX0_init_54 : decode cX0_init 54 = .ok (.bipush 7, 2) := by decide +kernel
theorem dX0_init_56 : decode cX0_init 56 = .ok (.newarray .int, 2) := by decide +kernel
theorem dX0_init_58 : decode cX0_init 58 = .ok (.putfield 28, 3) := by decide +kernel
theorem dX0_init_61 : decode cX0_init 61 = .ok (.return_, 1) := by decide +kernel
theorem dX0_line_0 : decode cX0_line 0 = .ok (.iload_n 1, 1) := by decide +kernel
theorem dX0_line_1 : decode cX0_line 1 = .ok (.ifCond .lt 41, 3) := by decide +kernel
theorem dX0_line_4 : decode cX0_line 4 = .ok (.iload_n 1, 1) := by decide +kernel
theorem dX0_line_5 : decode cX0_line 5 = .ok (.bipush 9, 2) := by decide +kernel
theorem dX0_line_7 : decode cX0_line 7 = .ok (.if_icmp .gt 35, 3) := by decide +kernel
theorem dX0_line_10 : decode cX0_line 10 = .ok (.iload_n 2, 1) := by decide +kernel
theorem dX0_line_11 : decode cX0_line 11 = .ok (.invokestatic 31, 3) := by decide +kernel
theorem dX0_line_14 : decode cX0_line 14 = .ok (.ifCond .eq 28, 3) := by decide +kernel
theorem dX0_line_17 : decode cX0_line 17 = .ok (.iload_n 3, 1) := by decide +kernel
theorem dX0_line_18 : decode cX0_line 18 = .ok (.invokestatic 31, 3) := by decide +kernel
theorem dX0_line_21 : decode cX0_line 21 = .ok (.ifCond .eq 21, 3) := by decide +kernel
theorem dX0_line_24 : decode cX0_line 24 = .ok (.iload_n 2, 1) := by decide +kernel
theorem dX0_line_25 : decode cX0_line 25 = .ok (.iload_n 3, 1) := by decide +kernel
theorem dX0_line_26 : decode cX0_line 26 = .ok (.if_icmp .eq 16, 3) := by decide +kernel
theorem dX0_line_29 : decode cX0_line 29 = .ok (.iload 4, 2) := by decide +kernel
theorem dX0_line_31 : decode cX0_line 31 = .ok (.iconst 1, 1) := by decide +kernel
theorem dX0_line_32 : decode cX0_line 32 = .ok (.if_icmp .lt 10, 3) := by decide +kernel
theorem dX0_line_35 : decode cX0_line 35 = .ok (.iload 4, 2) := by decide +kernel
theorem dX0_line_37 : decode cX0_line 37 = .ok (.bipush 100, 2) := by decide +kernel
theorem dX0_line_39 : decode cX0_line 39 = .ok (.if_icmp .le 6, 3) := by decide +kernel
theorem dX0_line_42 : decode cX0_line 42 = .ok (.bipush (-2), 2) := by decide +kernel
theorem dX0_line_44 : decode cX0_line 44 = .ok (.ireturn, 1) := by decide +kernel
theorem dX0_line_45 : decode cX0_line 45 = .ok (.aload_n 0, 1) := by decide +kernel
theorem dX0_line_46 : decode cX0_line 46 = .ok (.getfield 7, 3) := by decide +kernel
theorem dX0_line_49 : decode cX0_line 49 = .ok (.iload_n 1, 1) := by decide +kernel
theorem dX0_line_50 : decode cX0_line 50 = .ok (.iload_n 2, 1) := by decide +kernel
theorem dX0_line_51 : decode cX0_line 51 = .ok (.iastore, 1) := by decide +kernel
theorem dX0_line_52 : decode cX0_line 52 = .ok (.aload_n 0, 1) := by decide +kernel
theorem dX0_line_53 : decode cX0_line 53 = .ok (.getfield 13, 3) := by decide +kernel
theorem dX0_line_56 : decode cX0_line 56 = .ok (.iload_n 1, 1) := by decide +kernel
theorem dX0_line_57 : decode cX0_line 57 = .ok (.iload_n 3, 1) := by decide +kernel
theorem dX0_line_58 : decode cX0_line 58 = .ok (.iastore, 1) := by decide +kernel
theorem dX0_line_59 : decode cX0_line 59 = .ok (.aload_n 0, 1) := by decide +kernel
theorem dX0_line_60 : decode cX0_line 60 = .ok (.getfield 16, 3) := by decide +kernel
theorem dX0_line_63 : decode cX0_line 63 = .ok (.iload_n 1, 1) := by decide +kernel
theorem dX0_line_64 : decode cX0_line 64 = .ok (.iload 4, 2) := by decide +kernel
theorem dX0_line_66 : decode cX0_line 66 = .ok (.iastore, 1) := by decide +kernel
theorem dX0_line_67 : decode cX0_line 67 = .ok (.aload_n 0, 1) := by decide +kernel
theorem dX0_line_68 : decode cX0_line 68 = .ok (.iconst 0, 1) := by decide +kernel
theorem dX0_line_69 : decode cX0_line 69 = .ok (.putfield 35, 3) := by decide +kernel
theorem dX0_line_72 : decode cX0_line 72 = .ok (.iconst 0, 1) := by decide +kernel
theorem dX0_line_73 : decode cX0_line 73 = .ok (.ireturn, 1) := by decide +kernel
theorem dX0_isPoint_0 : decode cX0_isPoint 0 = .ok (.iload_n 0, 1) := by decide +kernel
theorem dX0_isPoint_1 : decode cX0_isPoint 1 = .ok (.ifCond .lt 13, 3) := by decide +kernel
theorem dX0_isPoint_4 : decode cX0_isPoint 4 = .ok (.iload_n 0, 1) := by decide +kernel
theorem dX0_isPoint_5 : decode cX0_isPoint 5 = .ok (.bipush 6, 2) := by decide +kernel
theorem dX0_isPoint_7 : decode cX0_isPoint 7 = .ok (.if_icmp .gt 7, 3) := by decide +kernel
theorem dX0_isPoint_10 : decode cX0_isPoint 10 = .ok (.iconst 1, 1) := by decide +kernel
theorem dX0_isPoint_11 : decode cX0_isPoint 11 = .ok (.goto 4, 3) := by decide +kernel
theorem dX0_isPoint_14 : decode cX0_isPoint 14 = .ok (.iconst 0, 1) := by decide +kernel
theorem dX0_isPoint_15 : decode cX0_isPoint 15 = .ok (.ireturn, 1) := by decide +kernel
theorem dX0_cut_0 : decode cX0_cut 0 = .ok (.aload_n 0, 1) := by decide +kernel
theorem dX0_cut_1 : decode cX0_cut 1 = .ok (.iload_n 1, 1) := by decide +kernel
theorem dX0_cut_2 : decode cX0_cut 2 = .ok (.invokevirtual 39, 3) := by decide +kernel
theorem dX0_cut_5 : decode cX0_cut 5 = .ok (.ifCond .ne 6, 3) := by decide +kernel
theorem dX0_cut_8 : decode cX0_cut 8 = .ok (.bipush (-2), 2) := by decide +kernel
theorem dX0_cut_10 : decode cX0_cut 10 = .ok (.ireturn, 1) := by decide +kernel
theorem dX0_cut_11 : decode cX0_cut 11 = .ok (.aload_n 0, 1) := by decide +kernel
theorem dX0_cut_12 : decode cX0_cut 12 = .ok (.getfield 16, 3) := by decide +kernel
theorem dX0_cut_15 : decode cX0_cut 15 = .ok (.iload_n 1, 1) := by decide +kernel
theorem dX0_cut_16 : decode cX0_cut 16 = .ok (.iconst 0, 1) := by decide +kernel
theorem dX0_cut_17 : decode cX0_cut 17 = .ok (.iastore, 1) := by decide +kernel
theorem dX0_cut_18 : decode cX0_cut 18 = .ok (.aload_n 0, 1) := by decide +kernel
theorem dX0_cut_19 : decode cX0_cut 19 = .ok (.iconst 0, 1) := by decide +kernel
theorem dX0_cut_20 : decode cX0_cut 20 = .ok (.putfield 35, 3) := by decide +kernel
theorem dX0_cut_23 : decode cX0_cut 23 = .ok (.iconst 0, 1) := by decide +kernel
theorem dX0_cut_24 : decode cX0_cut 24 = .ok (.ireturn, 1) := by decide +kernel
theorem dX0_isLine_0 : decode cX0_isLine 0 = .ok (.iload_n 1, 1) := by decide +kernel
theorem dX0_isLine_1 : decode cX0_isLine 1 = .ok (.ifCond .lt 22, 3) := by decide +kernel
theorem dX0_isLine_4 : decode cX0_isLine 4 = .ok (.iload_n 1, 1) := by decide +kernel
theorem dX0_isLine_5 : decode cX0_isLine 5 = .ok (.bipush 9, 2) := by decide +kernel
theorem dX0_isLine_7 : decode cX0_isLine 7 = .ok (.if_icmp .gt 16, 3) := by decide +kernel
theorem dX0_isLine_10 : decode cX0_isLine 10 = .ok (.aload_n 0, 1) := by decide +kernel
theorem dX0_isLine_11 : decode cX0_isLine 11 = .ok (.getfield 16, 3) := by decide +kernel
theorem dX0_isLine_14 : decode cX0_isLine 14 = .ok (.iload_n 1, 1) := by decide +kernel
theorem dX0_isLine_15 : decode cX0_isLine 15 = .ok (.iaload, 1) := by decide +kernel
theorem dX0_isLine_16 : decode cX0_isLine 16 = .ok (.ifCond .le 7, 3) := by decide +kernel
theorem dX0_isLine_19 : decode cX0_isLine 19 = .ok (.iconst 1, 1) := by decide +kernel
theorem dX0_isLine_20 : decode cX0_isLine 20 = .ok (.goto 4, 3) := by decide +kernel
theorem dX0_isLine_23 : decode cX0_isLine 23 = .ok (.iconst 0, 1) := by decide +kernel
theorem dX0_isLine_24 : decode cX0_isLine 24 = .ok (.ireturn, 1) := by decide +kernel
theorem dX0_mark_0 : decode cX0_mark 0 = .ok (.iload_n 1, 1) := by decide +kernel
theorem dX0_mark_1 : decode cX0_mark 1 = .ok (.invokestatic 31, 3) := by decide +kernel
theorem dX0_mark_4 : decode cX0_mark 4 = .ok (.ifCond .ne 6, 3) := by decide +kernel
theorem dX0_mark_7 : decode cX0_mark 7 = .ok (.bipush (-2), 2) := by decide +kernel
theorem dX0_mark_9 : decode cX0_mark 9 = .ok (.ireturn, 1) := by decide +kernel
theorem dX0_mark_10 : decode cX0_mark 10 = .ok (.aload_n 0, 1) := by decide +kernel
theorem dX0_mark_11 : decode cX0_mark 11 = .ok (.getfield 42, 3) := by decide +kernel
theorem dX0_mark_14 : decode cX0_mark 14 = .ok (.iload_n 1, 1) := by decide +kernel
theorem dX0_mark_15 : decode cX0_mark 15 = .ok (.iushr, 1) := by decide +kernel
theorem dX0_mark_16 : decode cX0_mark 16 = .ok (.iconst 1, 1) := by decide +kernel
theorem dX0_mark_17 : decode cX0_mark 17 = .ok (.iand, 1) := by decide +kernel
theorem dX0_mark_18 : decode cX0_mark 18 = .ok (.istore_n 3, 1) := by decide +kernel
theorem dX0_mark_19 : decode cX0_mark 19 = .ok (.aload_n 0, 1) := by decide +kernel
theorem dX0_mark_20 : decode cX0_mark 20 = .ok (.iload_n 2, 1) := by decide +kernel
theorem dX0_mark_21 : decode cX0_mark 21 = .ok (.ifCond .eq 14, 3) := by decide +kernel
theorem dX0_mark_24 : decode cX0_mark 24 = .ok (.aload_n 0, 1) := by decide +kernel
theorem dX0_mark_25 : decode cX0_mark 25 = .ok (.getfield 42, 3) := by decide +kernel
theorem dX0_mark_28 : decode cX0_mark 28 = .ok (.iconst 1, 1) := by decide +kernel
theorem dX0_mark_29 : decode cX0_mark 29 = .ok (.iload_n 1, 1) := by decide +kernel
theorem dX0_mark_30 : decode cX0_mark 30 = .ok (.ishl, 1) := by decide +kernel
theorem dX0_mark_31 : decode cX0_mark 31 = .ok (.ior, 1) := by decide +kernel
theorem dX0_mark_32 : decode cX0_mark 32 = .ok (.goto 13, 3) := by decide +kernel
theorem dX0_mark_35 : decode cX0_mark 35 = .ok (.aload_n 0, 1) := by decide +kernel
theorem dX0_mark_36 : decode cX0_mark 36 = .ok (.getfield 42, 3) := by decide +kernel
theorem dX0_mark_39 : decode cX0_mark 39 = .ok (.iconst 1, 1) := by decide +kernel
theorem dX0_mark_40 : decode cX0_mark 40 = .ok (.iload_n 1, 1) := by decide +kernel
theorem dX0_mark_41 : decode cX0_mark 41 = .ok (.ishl, 1) := by decide +kernel
theorem dX0_mark_42 : decode cX0_mark 42 = .ok (.iconst (-1), 1) := by decide +kernel
theorem dX0_mark_43 : decode cX0_mark 43 = .ok (.ixor, 1) := by decide +kernel
theorem dX0_mark_44 : decode cX0_mark 44 = .ok (.iand, 1) := by decide +kernel
theorem dX0_mark_45 : decode cX0_mark 45 = .ok (.putfield 42, 3) := by decide +kernel
theorem dX0_mark_48 : decode cX0_mark 48 = .ok (.aload_n 0, 1) := by decide +kernel
theorem dX0_mark_49 : decode cX0_mark 49 = .ok (.iconst 0, 1) := by decide +kernel
theorem dX0_mark_50 : decode cX0_mark 50 = .ok (.putfield 35, 3) := by decide +kernel
theorem dX0_mark_53 : decode cX0_mark 53 = .ok (.iload_n 3, 1) := by decide +kernel
theorem dX0_mark_54 : decode cX0_mark 54 = .ok (.ireturn, 1) := by decide +kernel
theorem dX0_least_0 : decode cX0_least 0 = .ok (.aload_n 0, 1) := by decide +kernel
theorem dX0_least_1 : decode cX0_least 1 = .ok (.invokevirtual 46, 3) := by decide +kernel
theorem dX0_least_4 : decode cX0_least 4 = .ok (.aload_n 0, 1) := by decide +kernel
theorem dX0_least_5 : decode cX0_least 5 = .ok (.getfield 49, 3) := by decide +kernel
theorem dX0_least_8 : decode cX0_least 8 = .ok (.ireturn, 1) := by decide +kernel
theorem dX0_findBest_0 : decode cX0_findBest 0 = .ok (.aload_n 0, 1) := by decide +kernel
theorem dX0_findBest_1 : decode cX0_findBest 1 = .ok (.getfield 35, 3) := by decide +kernel
theorem dX0_findBest_4 : decode cX0_findBest 4 = .ok (.ifCond .eq 4, 3) := by decide +kernel
theorem dX0_findBest_7 : decode cX0_findBest 7 = .ok (.return_, 1) := by decide +kernel
theorem dX0_findBest_8 : decode cX0_findBest 8 = .ok (.aload_n 0, 1) := by decide +kernel
theorem dX0_findBest_9 : decode cX0_findBest 9 = .ok (.iconst 1, 1) := by decide +kernel
theorem dX0_findBest_10 : decode cX0_findBest 10 = .ok (.putfield 35, 3) := by decide +kernel
theorem dX0_findBest_13 : decode cX0_findBest 13 = .ok (.aload_n 0, 1) := by decide +kernel
theorem dX0_findBest_14 : decode cX0_findBest 14 = .ok (.iconst 0, 1) := by decide +kernel
theorem dX0_findBest_15 : decode cX0_findBest 15 = .ok (.putfield 52, 3) := by decide +kernel
theorem dX0_findBest_18 : decode cX0_findBest 18 = .ok (.aload_n 0, 1) := by decide +kernel
theorem dX0_findBest_19 : decode cX0_findBest 19 = .ok (.invokevirtual 55, 3) := by decide +kernel
theorem dX0_findBest_22 : decode cX0_findBest 22 = .ok (.aload_n 0, 1) := by decide +kernel
theorem dX0_findBest_23 : decode cX0_findBest 23 = .ok (.aload_n 0, 1) := by decide +kernel
theorem dX0_findBest_24 : decode cX0_findBest 24 = .ok (.getfield 42, 3) := by decide +kernel
theorem dX0_findBest_27 : decode cX0_findBest 27 = .ok (.invokevirtual 58, 3) := by decide +kernel
theorem dX0_findBest_30 : decode cX0_findBest 30 = .ok (.istore_n 1, 1) := by decide +kernel
theorem dX0_findBest_31 : decode cX0_findBest 31 = .ok (.aload_n 0, 1) := by decide +kernel
theorem dX0_findBest_32 : decode cX0_findBest 32 = .ok (.iload_n 1, 1) := by decide +kernel
theorem dX0_findBest_33 : decode cX0_findBest 33 = .ok (.ldc 62, 2) := by decide +kernel
theorem dX0_findBest_35 : decode cX0_findBest 35 = .ok (.if_icmp .lt 7, 3) := by decide +kernel
theorem dX0_findBest_38 : decode cX0_findBest 38 = .ok (.iconst (-1), 1) := by decide +kernel
theorem dX0_findBest_39 : decode cX0_findBest 39 = .ok (.goto 4, 3) := by decide +kernel
theorem dX0_findBest_42 : decode cX0_findBest 42 = .ok (.iload_n 1, 1) := by decide +kernel
theorem dX0_findBest_43 : decode cX0_findBest 43 = .ok (.putfield 49, 3) := by decide +kernel
theorem dX0_findBest_46 : decode cX0_findBest 46 = .ok (.iload_n 1, 1) := by decide +kernel
theorem dX0_findBest_47 : decode cX0_findBest 47 = .ok (.ldc 62, 2) := by decide +kernel
theorem dX0_findBest_49 : decode cX0_findBest 49 = .ok (.if_icmp .lt 4, 3) := by decide +kernel
theorem dX0_findBest_52 : decode cX0_findBest 52 = .ok (.return_, 1) := by decide +kernel
theorem dX0_findBest_53 : decode cX0_findBest 53 = .ok (.iconst 0, 1) := by decide +kernel
theorem dX0_findBest_54 : decode cX0_findBest 54 = .ok (.istore_n 2, 1) := by decide +kernel
theorem dX0_findBest_55 : decode cX0_findBest 55 = .ok (.bipush 9, 2) := by decide +kernel
theorem dX0_findBest_57 : decode cX0_findBest 57 = .ok (.istore_n 3, 1) := by decide +kernel
theorem dX0_findBest_58 : decode cX0_findBest 58 = .ok (.iload_n 3, 1) := by decide +kernel
theorem dX0_findBest_59 : decode cX0_findBest 59 = .ok (.ifCond .lt 72, 3) := by decide +kernel
theorem dX0_findBest_62 : decode cX0_findBest 62 = .ok (.aload_n 0, 1) := by decide +kernel
theorem dX0_findBest_63 : decode cX0_findBest 63 = .ok (.getfield 16, 3) := by decide +kernel
theorem dX0_findBest_66 : decode cX0_findBest 66 = .ok (.iload_n 3, 1) := by decide +kernel
theorem dX0_findBest_67 : decode cX0_findBest 67 = .ok (.iaload, 1) := by decide +kernel
theorem dX0_findBest_68 : decode cX0_findBest 68 = .ok (.ifCond .le 57, 3) := by decide +kernel
theorem dX0_findBest_71 : decode cX0_findBest 71 = .ok (.aload_n 0, 1) := by decide +kernel
theorem dX0_findBest_72 : decode cX0_findBest 72 = .ok (.getfield 19, 3) := by decide +kernel
theorem dX0_findBest_75 : decode cX0_findBest 75 = .ok (.iload_n 3, 1) := by decide +kernel
theorem dX0_findBest_76 : decode cX0_findBest 76 = .ok (.ldc 62, 2) := by decide +kernel
theorem dX0_findBest_78 : decode cX0_findBest 78 = .ok (.iastore, 1) := by decide +kernel
theorem dX0_findBest_79 : decode cX0_findBest 79 = .ok (.aload_n 0, 1) := by decide +kernel
theorem dX0_findBest_80 : decode cX0_findBest 80 = .ok (.aload_n 0, 1) := by decide +kernel
theorem dX0_findBest_81 : decode cX0_findBest 81 = .ok (.getfield 42, 3) := by decide +kernel
theorem dX0_findBest_84 : decode cX0_findBest 84 = .ok (.invokevirtual 58, 3) := by decide +kernel
theorem dX0_findBest_87 : decode cX0_findBest 87 = .ok (.istore 4, 2) := by decide +kernel
theorem dX0_findBest_89 : decode cX0_findBest 89 = .ok (.iload 4, 2) := by decide +kernel
theorem dX0_findBest_91 : decode cX0_findBest 91 = .ok (.iload_n 2, 1) := by decide +kernel
theorem dX0_findBest_92 : decode cX0_findBest 92 = .ok (.iadd, 1) := by decide +kernel
theorem dX0_findBest_93 : decode cX0_findBest 93 = .ok (.iload_n 1, 1) := by decide +kernel
theorem dX0_findBest_94 : decode cX0_findBest 94 = .ok (.if_icmp .eq 31, 3) := by decide +kernel
theorem dX0_findBest_97 : decode cX0_findBest 97 = .ok (.aload_n 0, 1) := by decide +kernel
theorem dX0_findBest_98 : decode cX0_findBest 98 = .ok (.getfield 19, 3) := by decide +kernel
theorem dX0_findBest_101 : decode cX0_findBest 101 = .ok (.iload_n 3, 1) := by decide +kernel
theorem dX0_findBest_102 : decode cX0_findBest 102 = .ok (.iconst 0, 1) := by decide +kernel
theorem dX0_findBest_103 : decode cX0_findBest 103 = .ok (.iastore, 1) := by decide +kernel
theorem dX0_findBest_104 : decode cX0_findBest 104 = .ok (.iload_n 2, 1) := by decide +kernel
theorem dX0_findBest_105 : decode cX0_findBest 105 = .ok (.aload_n 0, 1) := by decide +kernel
theorem dX0_findBest_106 : decode cX0_findBest 106 = .ok (.getfield 16, 3) := by decide +kernel
theorem dX0_findBest_109 : decode cX0_findBest 109 = .ok (.iload_n 3, 1) := by decide +kernel
theorem dX0_findBest_110 : decode cX0_findBest 110 = .ok (.iaload, 1) := by decide +kernel
theorem dX0_findBest_111 : decode cX0_findBest 111 = .ok (.iadd, 1) := by decide +kernel
theorem dX0_findBest_112 : decode cX0_findBest 112 = .ok (.istore_n 2, 1) := by decide +kernel
theorem dX0_findBest_113 : decode cX0_findBest 113 = .ok (.aload_n 0, 1) := by decide +kernel
theorem dX0_findBest_114 : decode cX0_findBest 114 = .ok (.dup, 1) := by decide +kernel
theorem dX0_findBest_115 : decode cX0_findBest 115 = .ok (.getfield 52, 3) := by decide +kernel
theorem dX0_findBest_118 : decode cX0_findBest 118 = .ok (.iconst 1, 1) := by decide +kernel
theorem dX0_findBest_119 : decode cX0_findBest 119 = .ok (.iload_n 3, 1) := by decide +kernel
theorem dX0_findBest_120 : decode cX0_findBest 120 = .ok (.ishl, 1) := by decide +kernel
theorem dX0_findBest_121 : decode cX0_findBest 121 = .ok (.ior, 1) := by decide +kernel
theorem dX0_findBest_122 : decode cX0_findBest 122 = .ok (.putfield 52, 3) := by decide +kernel
theorem dX0_findBest_125 : decode cX0_findBest 125 = .ok (.iinc 3 (-1), 3) := by decide +kernel
theorem dX0_findBest_128 : decode cX0_findBest 128 = .ok (.goto (-70), 3) := by decide +kernel
theorem dX0_findBest_131 : decode cX0_findBest 131 = .ok (.return_, 1) := by decide +kernel
theorem dX0_countAll_0 : decode cX0_countAll 0 = .ok (.iconst 0, 1) := by decide +kernel
theorem dX0_countAll_1 : decode cX0_countAll 1 = .ok (.istore_n 1, 1) := by decide +kernel
theorem dX0_countAll_2 : decode cX0_countAll 2 = .ok (.iload_n 1, 1) := by decide +kernel
theorem dX0_countAll_3 : decode cX0_countAll 3 = .ok (.bipush 10, 2) := by decide +kernel
theorem dX0_countAll_5 : decode cX0_countAll 5 = .ok (.if_icmp .ge 35, 3) := by decide +kernel
theorem dX0_countAll_8 : decode cX0_countAll 8 = .ok (.aload_n 0, 1) := by decide +kernel
theorem dX0_countAll_9 : decode cX0_countAll 9 = .ok (.getfield 19, 3) := by decide +kernel
theorem dX0_countAll_12 : decode cX0_countAll 12 = .ok (.iload_n 1, 1) := by decide +kernel
theorem dX0_countAll_13 : decode cX0_countAll 13 = .ok (.aload_n 0, 1) := by decide +kernel
theorem dX0_countAll_14 : decode cX0_countAll 14 = .ok (.getfield 16, 3) := by decide +kernel
theorem dX0_countAll_17 : decode cX0_countAll 17 = .ok (.iload_n 1, 1) := by decide +kernel
theorem dX0_countAll_18 : decode cX0_countAll 18 = .ok (.iaload, 1) := by decide +kernel
theorem dX0_countAll_19 : decode cX0_countAll 19 = .ok (.ifCond .ne 8, 3) := by decide +kernel
theorem dX0_countAll_22 : decode cX0_countAll 22 = .ok (.ldc 62, 2) := by decide +kernel
theorem dX0_countAll_24 : decode cX0_countAll 24 = .ok (.goto 9, 3) := by decide +kernel
theorem dX0_countAll_27 : decode cX0_countAll 27 = .ok (.aload_n 0, 1) := by decide +kernel
theorem dX0_countAll_28 : decode cX0_countAll 28 = .ok (.getfield 16, 3) := by decide +kernel
theorem dX0_countAll_31 : decode cX0_countAll 31 = .ok (.iload_n 1, 1) := by decide +kernel
theorem dX0_countAll_32 : decode cX0_countAll 32 = .ok (.iaload, 1) := by decide +kernel
theorem dX0_countAll_33 : decode cX0_countAll 33 = .ok (.iastore, 1) := by decide +kernel
theorem dX0_countAll_34 : decode cX0_countAll 34 = .ok (.iinc 1 1, 3) := by decide +kernel
theorem dX0_countAll_37 : decode cX0_countAll 37 = .ok (.goto (-35), 3) := by decide +kernel
theorem dX0_countAll_40 : decode cX0_countAll 40 = .ok (.return_, 1) := by decide +kernel
theorem dX0_leastFor_0 : decode cX0_leastFor 0 = .ok (.aload_n 0, 1) := by decide +kernel
theorem dX0_leastFor_1 : decode cX0_leastFor 1 = .ok (.iconst 0, 1) := by decide +kernel
theorem dX0_leastFor_2 : decode cX0_leastFor 2 = .ok (.putfield 63, 3) := by decide +kernel
theorem dX0_leastFor_5 : decode cX0_leastFor 5 = .ok (.iconst 0, 1) := by decide +kernel
theorem dX0_leastFor_6 : decode cX0_leastFor 6 = .ok (.istore_n 2, 1) := by decide +kernel
theorem dX0_leastFor_7 : decode cX0_leastFor 7 = .ok (.iload_n 2, 1) := by decide +kernel
theorem dX0_leastFor_8 : decode cX0_leastFor 8 = .ok (.bipush 7, 2) := by decide +kernel
theorem dX0_leastFor_10 : decode cX0_leastFor 10 = .ok (.if_icmp .ge 37, 3) := by decide +kernel
theorem dX0_leastFor_13 : decode cX0_leastFor 13 = .ok (.iload_n 1, 1) := by decide +kernel
theorem dX0_leastFor_14 : decode cX0_leastFor 14 = .ok (.iload_n 2, 1) := by decide +kernel
theorem dX0_leastFor_15 : decode cX0_leastFor 15 = .ok (.iushr, 1) := by decide +kernel
theorem dX0_leastFor_16 : decode cX0_leastFor 16 = .ok (.iconst 1, 1) := by decide +kernel
theorem dX0_leastFor_17 : decode cX0_leastFor 17 = .ok (.iand, 1) := by decide +kernel
theorem dX0_leastFor_18 : decode cX0_leastFor 18 = .ok (.ifCond .eq 23, 3) := by decide +kernel
theorem dX0_leastFor_21 : decode cX0_leastFor 21 = .ok (.aload_n 0, 1) := by decide +kernel
theorem dX0_leastFor_22 : decode cX0_leastFor 22 = .ok (.getfield 28, 3) := by decide +kernel
theorem dX0_leastFor_25 : decode cX0_leastFor 25 = .ok (.aload_n 0, 1) := by decide +kernel
theorem dX0_leastFor_26 : decode cX0_leastFor 26 = .ok (.getfield 63, 3) := by decide +kernel
theorem dX0_leastFor_29 : decode cX0_leastFor 29 = .ok (.iload_n 2, 1) := by decide +kernel
theorem dX0_leastFor_30 : decode cX0_leastFor 30 = .ok (.iastore, 1) := by decide +kernel
theorem dX0_leastFor_31 : decode cX0_leastFor 31 = .ok (.aload_n 0, 1) := by decide +kernel
theorem dX0_leastFor_32 : decode cX0_leastFor 32 = .ok (.dup, 1) := by decide +kernel
theorem dX0_leastFor_33 : decode cX0_leastFor 33 = .ok (.getfield 63, 3) := by decide +kernel
theorem dX0_leastFor_36 : decode cX0_leastFor 36 = .ok (.iconst 1, 1) := by decide +kernel
theorem dX0_leastFor_37 : decode cX0_leastFor 37 = .ok (.iadd, 1) := by decide +kernel
theorem dX0_leastFor_38 : decode cX0_leastFor 38 = .ok (.putfield 63, 3) := by decide +kernel
theorem dX0_leastFor_41 : decode cX0_leastFor 41 = .ok (.iinc 2 1, 3) := by decide +kernel
theorem dX0_leastFor_44 : decode cX0_leastFor 44 = .ok (.goto (-37), 3) := by decide +kernel
theorem dX0_leastFor_47 : decode cX0_leastFor 47 = .ok (.aload_n 0, 1) := by decide +kernel
theorem dX0_leastFor_48 : decode cX0_leastFor 48 = .ok (.getfield 63, 3) := by decide +kernel
theorem dX0_leastFor_51 : decode cX0_leastFor 51 = .ok (.iconst 2, 1) := by decide +kernel
theorem dX0_leastFor_52 : decode cX0_leastFor 52 = .ok (.if_icmp .ge 5, 3) := by decide +kernel
theorem dX0_leastFor_55 : decode cX0_leastFor 55 = .ok (.iconst 0, 1) := by decide +kernel
theorem dX0_leastFor_56 : decode cX0_leastFor 56 = .ok (.ireturn, 1) := by decide +kernel
theorem dX0_leastFor_57 : decode cX0_leastFor 57 = .ok (.aload_n 0, 1) := by decide +kernel
theorem dX0_leastFor_58 : decode cX0_leastFor 58 = .ok (.invokevirtual 66, 3) := by decide +kernel
theorem dX0_leastFor_61 : decode cX0_leastFor 61 = .ok (.iconst 1, 1) := by decide +kernel
theorem dX0_leastFor_62 : decode cX0_leastFor 62 = .ok (.aload_n 0, 1) := by decide +kernel
theorem dX0_leastFor_63 : decode cX0_leastFor 63 = .ok (.getfield 63, 3) := by decide +kernel
theorem dX0_leastFor_66 : decode cX0_leastFor 66 = .ok (.iconst 1, 1) := by decide +kernel
theorem dX0_leastFor_67 : decode cX0_leastFor 67 = .ok (.isub, 1) := by decide +kernel
theorem dX0_leastFor_68 : decode cX0_leastFor 68 = .ok (.ishl, 1) := by decide +kernel
theorem dX0_leastFor_69 : decode cX0_leastFor 69 = .ok (.istore_n 2, 1) := by decide +kernel
theorem dX0_leastFor_70 : decode cX0_leastFor 70 = .ok (.iconst 1, 1) := by decide +kernel
theorem dX0_leastFor_71 : decode cX0_leastFor 71 = .ok (.istore_n 3, 1) := by decide +kernel
theorem dX0_leastFor_72 : decode cX0_leastFor 72 = .ok (.iload_n 3, 1) := by decide +kernel
theorem dX0_leastFor_73 : decode cX0_leastFor 73 = .ok (.iload_n 2, 1) := by decide +kernel
theorem dX0_leastFor_74 : decode cX0_leastFor 74 = .ok (.if_icmp .ge 24, 3) := by decide +kernel
theorem dX0_leastFor_77 : decode cX0_leastFor 77 = .ok (.aload_n 0, 1) := by decide +kernel
theorem dX0_leastFor_78 : decode cX0_leastFor 78 = .ok (.iload_n 3, 1) := by decide +kernel
theorem dX0_leastFor_79 : decode cX0_leastFor 79 = .ok (.invokevirtual 69, 3) := by decide +kernel
theorem dX0_leastFor_82 : decode cX0_leastFor 82 = .ok (.aload_n 0, 1) := by decide +kernel
theorem dX0_leastFor_83 : decode cX0_leastFor 83 = .ok (.iload_n 3, 1) := by decide +kernel
theorem dX0_leastFor_84 : decode cX0_leastFor 84 = .ok (.invokevirtual 73, 3) := by decide +kernel
theorem dX0_leastFor_87 : decode cX0_leastFor 87 = .ok (.aload_n 0, 1) := by decide +kernel
theorem dX0_leastFor_88 : decode cX0_leastFor 88 = .ok (.iload_n 3, 1) := by decide +kernel
theorem dX0_leastFor_89 : decode cX0_leastFor 89 = .ok (.invokevirtual 76, 3) := by decide +kernel
theorem dX0_leastFor_92 : decode cX0_leastFor 92 = .ok (.iinc 3 1, 3) := by decide +kernel
theorem dX0_leastFor_95 : decode cX0_leastFor 95 = .ok (.goto (-23), 3) := by decide +kernel
theorem dX0_leastFor_98 : decode cX0_leastFor 98 = .ok (.aload_n 0, 1) := by decide +kernel
theorem dX0_leastFor_99 : decode cX0_leastFor 99 = .ok (.getfield 25, 3) := by decide +kernel
theorem dX0_leastFor_102 : decode cX0_leastFor 102 = .ok (.bipush 7, 2) := by decide +kernel
theorem dX0_leastFor_104 : decode cX0_leastFor 104 = .ok (.iload_n 2, 1) := by decide +kernel
theorem dX0_leastFor_105 : decode cX0_leastFor 105 = .ok (.iconst 1, 1) := by decide +kernel
theorem dX0_leastFor_106 : decode cX0_leastFor 106 = .ok (.isub, 1) := by decide +kernel
theorem dX0_leastFor_107 : decode cX0_leastFor 107 = .ok (.imul, 1) := by decide +kernel
theorem dX0_leastFor_108 : decode cX0_leastFor 108 = .ok (.aload_n 0, 1) := by decide +kernel
theorem dX0_leastFor_109 : decode cX0_leastFor 109 = .ok (.getfield 28, 3) := by decide +kernel
theorem dX0_leastFor_112 : decode cX0_leastFor 112 = .ok (.aload_n 0, 1) := by decide +kernel
theorem dX0_leastFor_113 : decode cX0_leastFor 113 = .ok (.getfield 63, 3) := by decide +kernel
theorem dX0_leastFor_116 : decode cX0_leastFor 116 = .ok (.iconst 1, 1) := by decide +kernel
theorem dX0_leastFor_117 : decode cX0_leastFor 117 = .ok (.isub, 1) := by decide +kernel
theorem dX0_leastFor_118 : decode cX0_leastFor 118 = .ok (.iaload, 1) := by decide +kernel
theorem dX0_leastFor_119 : decode cX0_leastFor 119 = .ok (.iadd, 1) := by decide +kernel
theorem dX0_leastFor_120 : decode cX0_leastFor 120 = .ok (.iaload, 1) := by decide +kernel
theorem dX0_leastFor_121 : decode cX0_leastFor 121 = .ok (.ireturn, 1) := by decide +kernel
theorem dX0_findWays_0 : decode cX0_findWays 0 = .ok (.iconst 0, 1) := by decide +kernel
theorem dX0_findWays_1 : decode cX0_findWays 1 = .ok (.istore_n 1, 1) := by decide +kernel
theorem dX0_findWays_2 : decode cX0_findWays 2 = .ok (.iload_n 1, 1) := by decide +kernel
theorem dX0_findWays_3 : decode cX0_findWays 3 = .ok (.bipush 7, 2) := by decide +kernel
theorem dX0_findWays_5 : decode cX0_findWays 5 = .ok (.if_icmp .ge 45, 3) := by decide +kernel
theorem dX0_findWays_8 : decode cX0_findWays 8 = .ok (.iconst 0, 1) := by decide +kernel
theorem dX0_findWays_9 : decode cX0_findWays 9 = .ok (.istore_n 2, 1) := by decide +kernel
theorem dX0_findWays_10 : decode cX0_findWays 10 = .ok (.iload_n 2, 1) := by decide +kernel
theorem dX0_findWays_11 : decode cX0_findWays 11 = .ok (.bipush 7, 2) := by decide +kernel
theorem dX0_findWays_13 : decode cX0_findWays 13 = .ok (.if_icmp .ge 31, 3) := by decide +kernel
theorem dX0_findWays_16 : decode cX0_findWays 16 = .ok (.aload_n 0, 1) := by decide +kernel
theorem dX0_findWays_17 : decode cX0_findWays 17 = .ok (.getfield 22, 3) := by decide +kernel
theorem dX0_findWays_20 : decode cX0_findWays 20 = .ok (.bipush 7, 2) := by decide +kernel
theorem dX0_findWays_22 : decode cX0_findWays 22 = .ok (.iload_n 1, 1) := by decide +kernel
theorem dX0_findWays_23 : decode cX0_findWays 23 = .ok (.imul, 1) := by decide +kernel
theorem dX0_findWays_24 : decode cX0_findWays 24 = .ok (.iload_n 2, 1) := by decide +kernel
theorem dX0_findWays_25 : decode cX0_findWays 25 = .ok (.iadd, 1) := by decide +kernel
theorem dX0_findWays_26 : decode cX0_findWays 26 = .ok (.iload_n 1, 1) := by decide +kernel
theorem dX0_findWays_27 : decode cX0_findWays 27 = .ok (.iload_n 2, 1) := by decide +kernel
theorem dX0_findWays_28 : decode cX0_findWays 28 = .ok (.if_icmp .ne 7, 3) := by decide +kernel
theorem dX0_findWays_31 : decode cX0_findWays 31 = .ok (.iconst 0, 1) := by decide +kernel
theorem dX0_findWays_32 : decode cX0_findWays 32 = .ok (.goto 5, 3) := by decide +kernel
theorem dX0_findWays_35 : decode cX0_findWays 35 = .ok (.ldc 62, 2) := by decide +kernel
theorem dX0_findWays_37 : decode cX0_findWays 37 = .ok (.iastore, 1) := by decide +kernel
theorem dX0_findWays_38 : decode cX0_findWays 38 = .ok (.iinc 2 1, 3) := by decide +kernel
theorem dX0_findWays_41 : decode cX0_findWays 41 = .ok (.goto (-31), 3) := by decide +kernel
theorem dX0_findWays_44 : decode cX0_findWays 44 = .ok (.iinc 1 1, 3) := by decide +kernel
theorem dX0_findWays_47 : decode cX0_findWays 47 = .ok (.goto (-45), 3) := by decide +kernel
theorem dX0_findWays_50 : decode cX0_findWays 50 = .ok (.iconst 0, 1) := by decide +kernel
theorem dX0_findWays_51 : decode cX0_findWays 51 = .ok (.istore_n 1, 1) := by decide +kernel
theorem dX0_findWays_52 : decode cX0_findWays 52 = .ok (.iload_n 1, 1) := by decide +kernel
theorem dX0_findWays_53 : decode cX0_findWays 53 = .ok (.bipush 10, 2) := by decide +kernel
theorem dX0_findWays_55 : decode cX0_findWays 55 = .ok (.if_icmp .ge 77, 3) := by decide +kernel
theorem dX0_findWays_58 : decode cX0_findWays 58 = .ok (.aload_n 0, 1) := by decide +kernel
theorem dX0_findWays_59 : decode cX0_findWays 59 = .ok (.getfield 7, 3) := by decide +kernel
theorem dX0_findWays_62 : decode cX0_findWays 62 = .ok (.iload_n 1, 1) := by decide +kernel
theorem dX0_findWays_63 : decode cX0_findWays 63 = .ok (.iaload, 1) := by decide +kernel
theorem dX0_findWays_64 : decode cX0_findWays 64 = .ok (.istore_n 2, 1) := by decide +kernel
theorem dX0_findWays_65 : decode cX0_findWays 65 = .ok (.aload_n 0, 1) := by decide +kernel
theorem dX0_findWays_66 : decode cX0_findWays 66 = .ok (.getfield 13, 3) := by decide +kernel
theorem dX0_findWays_69 : decode cX0_findWays 69 = .ok (.iload_n 1, 1) := by decide +kernel
theorem dX0_findWays_70 : decode cX0_findWays 70 = .ok (.iaload, 1) := by decide +kernel
theorem dX0_findWays_71 : decode cX0_findWays 71 = .ok (.istore_n 3, 1) := by decide +kernel
theorem dX0_findWays_72 : decode cX0_findWays 72 = .ok (.aload_n 0, 1) := by decide +kernel
theorem dX0_findWays_73 : decode cX0_findWays 73 = .ok (.getfield 19, 3) := by decide +kernel
theorem dX0_findWays_76 : decode cX0_findWays 76 = .ok (.iload_n 1, 1) := by decide +kernel
theorem dX0_findWays_77 : decode cX0_findWays 77 = .ok (.iaload, 1) := by decide +kernel
theorem dX0_findWays_78 : decode cX0_findWays 78 = .ok (.aload_n 0, 1) := by decide +kernel
theorem dX0_findWays_79 : decode cX0_findWays 79 = .ok (.getfield 22, 3) := by decide +kernel
theorem dX0_findWays_82 : decode cX0_findWays 82 = .ok (.bipush 7, 2) := by decide +kernel
theorem dX0_findWays_84 : decode cX0_findWays 84 = .ok (.iload_n 2, 1) := by decide +kernel
theorem dX0_findWays_85 : decode cX0_findWays 85 = .ok (.imul, 1) := by decide +kernel
theorem dX0_findWays_86 : decode cX0_findWays 86 = .ok (.iload_n 3, 1) := by decide +kernel
theorem dX0_findWays_87 : decode cX0_findWays 87 = .ok (.iadd, 1) := by decide +kernel
theorem dX0_findWays_88 : decode cX0_findWays 88 = .ok (.iaload, 1) := by decide +kernel
theorem dX0_findWays_89 : decode cX0_findWays 89 = .ok (.if_icmp .ge 37, 3) := by decide +kernel
theorem dX0_findWays_92 : decode cX0_findWays 92 = .ok (.aload_n 0, 1) := by decide +kernel
theorem dX0_findWays_93 : decode cX0_findWays 93 = .ok (.getfield 22, 3) := by decide +kernel
theorem dX0_findWays_96 : decode cX0_findWays 96 = .ok (.bipush 7, 2) := by decide +kernel
theorem dX0_findWays_98 : decode cX0_findWays 98 = .ok (.iload_n 2, 1) := by decide +kernel
theorem dX0_findWays_99 : decode cX0_findWays 99 = .ok (.imul, 1) := by decide +kernel
theorem dX0_findWays_100 : decode cX0_findWays 100 = .ok (.iload_n 3, 1) := by decide +kernel
theorem dX0_findWays_101 : decode cX0_findWays 101 = .ok (.iadd, 1) := by decide +kernel
theorem dX0_findWays_102 : decode cX0_findWays 102 = .ok (.aload_n 0, 1) := by decide +kernel
theorem dX0_findWays_103 : decode cX0_findWays 103 = .ok (.getfield 19, 3) := by decide +kernel
theorem dX0_findWays_106 : decode cX0_findWays 106 = .ok (.iload_n 1, 1) := by decide +kernel
theorem dX0_findWays_107 : decode cX0_findWays 107 = .ok (.iaload, 1) := by decide +kernel
theorem dX0_findWays_108 : decode cX0_findWays 108 = .ok (.iastore, 1) := by decide +kernel
theorem dX0_findWays_109 : decode cX0_findWays 109 = .ok (.aload_n 0, 1) := by decide +kernel
theorem dX0_findWays_110 : decode cX0_findWays 110 = .ok (.getfield 22, 3) := by decide +kernel
end
section
set_option maxRecDepth 100000
theorem dX0_findWays_113 : decode cX0_findWays 113 = .ok (.bipush 7, 2) := by decide +kernel
theorem dX0_findWays_115 : decode cX0_findWays 115 = .ok (.iload_n 3, 1) := by decide +kernel
theorem dX0_findWays_116 : decode cX0_findWays 116 = .ok (.imul, 1) := by decide +kernel
theorem dX0_findWays_117 : decode cX0_findWays 117 = .ok (.iload_n 2, 1) := by decide +kernel
theorem dX0_findWays_118 : decode cX0_findWays 118 = .ok (.iadd, 1) := by decide +kernel
theorem dX0_findWays_119 : decode cX0_findWays 119 = .ok (.aload_n 0, 1) := by decide +kernel
theorem dX0_findWays_120 : decode cX0_findWays 120 = .ok (.getfield 19, 3) := by decide +kernel
theorem dX0_findWays_123 : decode cX0_findWays 123 = .ok (.iload_n 1, 1) := by decide +kernel
theorem dX0_findWays_124 : decode cX0_findWays 124 = .ok (.iaload, 1) := by decide +kernel
theorem dX0_findWays_125 : decode cX0_findWays 125 = .ok (.iastore, 1) := by decide +kernel
theorem dX0_findWays_126 : decode cX0_findWays 126 = .ok (.iinc 1 1, 3) := by decide +kernel
theorem dX0_findWays_129 : decode cX0_findWays 129 = .ok (.goto (-77), 3) := by decide +kernel
theorem dX0_findWays_132 : decode cX0_findWays 132 = .ok (.iconst 0, 1) := by decide +kernel
theorem dX0_findWays_133 : decode cX0_findWays 133 = .ok (.istore_n 1, 1) := by decide +kernel
theorem dX0_findWays_134 : decode cX0_findWays 134 = .ok (.iload_n 1, 1) := by decide +kernel
theorem dX0_findWays_135 : decode cX0_findWays 135 = .ok (.bipush 7, 2) := by decide +kernel
theorem dX0_findWays_137 : decode cX0_findWays 137 = .ok (.if_icmp .ge 14, 3) := by decide +kernel
theorem dX0_findWays_140 : decode cX0_findWays 140 = .ok (.aload_n 0, 1) := by decide +kernel
theorem dX0_findWays_141 : decode cX0_findWays 141 = .ok (.iload_n 1, 1) := by decide +kernel
theorem dX0_findWays_142 : decode cX0_findWays 142 = .ok (.invokevirtual 79, 3) := by decide +kernel
theorem dX0_findWays_145 : decode cX0_findWays 145 = .ok (.iinc 1 1, 3) := by decide +kernel
theorem dX0_findWays_148 : decode cX0_findWays 148 = .ok (.goto (-14), 3) := by decide +kernel
theorem dX0_findWays_151 : decode cX0_findWays 151 = .ok (.return_, 1) := by decide +kernel
theorem dX0_shortenOver_0 : decode cX0_shortenOver 0 = .ok (.iconst 0, 1) := by decide +kernel
theorem dX0_shortenOver_1 : decode cX0_shortenOver 1 = .ok (.istore_n 2, 1) := by decide +kernel
theorem dX0_shortenOver_2 : decode cX0_shortenOver 2 = .ok (.iload_n 2, 1) := by decide +kernel
theorem dX0_shortenOver_3 : decode cX0_shortenOver 3 = .ok (.bipush 7, 2) := by decide +kernel
theorem dX0_shortenOver_5 : decode cX0_shortenOver 5 = .ok (.if_icmp .ge 77, 3) := by decide +kernel
theorem dX0_shortenOver_8 : decode cX0_shortenOver 8 = .ok (.iconst 0, 1) := by decide +kernel
theorem dX0_shortenOver_9 : decode cX0_shortenOver 9 = .ok (.istore_n 3, 1) := by decide +kernel
theorem dX0_shortenOver_10 : decode cX0_shortenOver 10 = .ok (.iload_n 3, 1) := by decide +kernel
theorem dX0_shortenOver_11 : decode cX0_shortenOver 11 = .ok (.bipush 7, 2) := by decide +kernel
theorem dX0_shortenOver_13 : decode cX0_shortenOver 13 = .ok (.if_icmp .ge 63, 3) := by decide +kernel
theorem dX0_shortenOver_16 : decode cX0_shortenOver 16 = .ok (.aload_n 0, 1) := by decide +kernel
theorem dX0_shortenOver_17 : decode cX0_shortenOver 17 = .ok (.getfield 22, 3) := by decide +kernel
theorem dX0_shortenOver_20 : decode cX0_shortenOver 20 = .ok (.bipush 7, 2) := by decide +kernel
theorem dX0_shortenOver_22 : decode cX0_shortenOver 22 = .ok (.iload_n 2, 1) := by decide +kernel
theorem dX0_shortenOver_23 : decode cX0_shortenOver 23 = .ok (.imul, 1) := by decide +kernel
theorem dX0_shortenOver_24 : decode cX0_shortenOver 24 = .ok (.iload_n 1, 1) := by decide +kernel
theorem dX0_shortenOver_25 : decode cX0_shortenOver 25 = .ok (.iadd, 1) := by decide +kernel
theorem dX0_shortenOver_26 : decode cX0_shortenOver 26 = .ok (.iaload, 1) := by decide +kernel
theorem dX0_shortenOver_27 : decode cX0_shortenOver 27 = .ok (.aload_n 0, 1) := by decide +kernel
theorem dX0_shortenOver_28 : decode cX0_shortenOver 28 = .ok (.getfield 22, 3) := by decide +kernel
theorem dX0_shortenOver_31 : decode cX0_shortenOver 31 = .ok (.bipush 7, 2) := by decide +kernel
theorem dX0_shortenOver_33 : decode cX0_shortenOver 33 = .ok (.iload_n 1, 1) := by decide +kernel
theorem dX0_shortenOver_34 : decode cX0_shortenOver 34 = .ok (.imul, 1) := by decide +kernel
theorem dX0_shortenOver_35 : decode cX0_shortenOver 35 = .ok (.iload_n 3, 1) := by decide +kernel
theorem dX0_shortenOver_36 : decode cX0_shortenOver 36 = .ok (.iadd, 1) := by decide +kernel
theorem dX0_shortenOver_37 : decode cX0_shortenOver 37 = .ok (.iaload, 1) := by decide +kernel
theorem dX0_shortenOver_38 : decode cX0_shortenOver 38 = .ok (.iadd, 1) := by decide +kernel
theorem dX0_shortenOver_39 : decode cX0_shortenOver 39 = .ok (.istore 4, 2) := by decide +kernel
theorem dX0_shortenOver_41 : decode cX0_shortenOver 41 = .ok (.iload 4, 2) := by decide +kernel
theorem dX0_shortenOver_43 : decode cX0_shortenOver 43 = .ok (.aload_n 0, 1) := by decide +kernel
theorem dX0_shortenOver_44 : decode cX0_shortenOver 44 = .ok (.getfield 22, 3) := by decide +kernel
theorem dX0_shortenOver_47 : decode cX0_shortenOver 47 = .ok (.bipush 7, 2) := by decide +kernel
theorem dX0_shortenOver_49 : decode cX0_shortenOver 49 = .ok (.iload_n 2, 1) := by decide +kernel
theorem dX0_shortenOver_50 : decode cX0_shortenOver 50 = .ok (.imul, 1) := by decide +kernel
theorem dX0_shortenOver_51 : decode cX0_shortenOver 51 = .ok (.iload_n 3, 1) := by decide +kernel
theorem dX0_shortenOver_52 : decode cX0_shortenOver 52 = .ok (.iadd, 1) := by decide +kernel
theorem dX0_shortenOver_53 : decode cX0_shortenOver 53 = .ok (.iaload, 1) := by decide +kernel
theorem dX0_shortenOver_54 : decode cX0_shortenOver 54 = .ok (.if_icmp .ge 16, 3) := by decide +kernel
theorem dX0_shortenOver_57 : decode cX0_shortenOver 57 = .ok (.aload_n 0, 1) := by decide +kernel
theorem dX0_shortenOver_58 : decode cX0_shortenOver 58 = .ok (.getfield 22, 3) := by decide +kernel
theorem dX0_shortenOver_61 : decode cX0_shortenOver 61 = .ok (.bipush 7, 2) := by decide +kernel
theorem dX0_shortenOver_63 : decode cX0_shortenOver 63 = .ok (.iload_n 2, 1) := by decide +kernel
theorem dX0_shortenOver_64 : decode cX0_shortenOver 64 = .ok (.imul, 1) := by decide +kernel
theorem dX0_shortenOver_65 : decode cX0_shortenOver 65 = .ok (.iload_n 3, 1) := by decide +kernel
theorem dX0_shortenOver_66 : decode cX0_shortenOver 66 = .ok (.iadd, 1) := by decide +kernel
theorem dX0_shortenOver_67 : decode cX0_shortenOver 67 = .ok (.iload 4, 2) := by decide +kernel
theorem dX0_shortenOver_69 : decode cX0_shortenOver 69 = .ok (.iastore, 1) := by decide +kernel
theorem dX0_shortenOver_70 : decode cX0_shortenOver 70 = .ok (.iinc 3 1, 3) := by decide +kernel
theorem dX0_shortenOver_73 : decode cX0_shortenOver 73 = .ok (.goto (-63), 3) := by decide +kernel
theorem dX0_shortenOver_76 : decode cX0_shortenOver 76 = .ok (.iinc 2 1, 3) := by decide +kernel
theorem dX0_shortenOver_79 : decode cX0_shortenOver 79 = .ok (.goto (-77), 3) := by decide +kernel
theorem dX0_shortenOver_82 : decode cX0_shortenOver 82 = .ok (.return_, 1) := by decide +kernel
theorem dX0_startPart_0 : decode cX0_startPart 0 = .ok (.iconst 0, 1) := by decide +kernel
theorem dX0_startPart_1 : decode cX0_startPart 1 = .ok (.istore_n 2, 1) := by decide +kernel
theorem dX0_startPart_2 : decode cX0_startPart 2 = .ok (.iload_n 2, 1) := by decide +kernel
theorem dX0_startPart_3 : decode cX0_startPart 3 = .ok (.bipush 7, 2) := by decide +kernel
theorem dX0_startPart_5 : decode cX0_startPart 5 = .ok (.if_icmp .ge 22, 3) := by decide +kernel
theorem dX0_startPart_8 : decode cX0_startPart 8 = .ok (.aload_n 0, 1) := by decide +kernel
theorem dX0_startPart_9 : decode cX0_startPart 9 = .ok (.getfield 25, 3) := by decide +kernel
theorem dX0_startPart_12 : decode cX0_startPart 12 = .ok (.bipush 7, 2) := by decide +kernel
theorem dX0_startPart_14 : decode cX0_startPart 14 = .ok (.iload_n 1, 1) := by decide +kernel
theorem dX0_startPart_15 : decode cX0_startPart 15 = .ok (.imul, 1) := by decide +kernel
theorem dX0_startPart_16 : decode cX0_startPart 16 = .ok (.iload_n 2, 1) := by decide +kernel
theorem dX0_startPart_17 : decode cX0_startPart 17 = .ok (.iadd, 1) := by decide +kernel
theorem dX0_startPart_18 : decode cX0_startPart 18 = .ok (.ldc 62, 2) := by decide +kernel
theorem dX0_startPart_20 : decode cX0_startPart 20 = .ok (.iastore, 1) := by decide +kernel
theorem dX0_startPart_21 : decode cX0_startPart 21 = .ok (.iinc 2 1, 3) := by decide +kernel
theorem dX0_startPart_24 : decode cX0_startPart 24 = .ok (.goto (-22), 3) := by decide +kernel
theorem dX0_startPart_27 : decode cX0_startPart 27 = .ok (.iconst 0, 1) := by decide +kernel
theorem dX0_startPart_28 : decode cX0_startPart 28 = .ok (.istore_n 2, 1) := by decide +kernel
theorem dX0_startPart_29 : decode cX0_startPart 29 = .ok (.iload_n 2, 1) := by decide +kernel
theorem dX0_startPart_30 : decode cX0_startPart 30 = .ok (.aload_n 0, 1) := by decide +kernel
theorem dX0_startPart_31 : decode cX0_startPart 31 = .ok (.getfield 63, 3) := by decide +kernel
theorem dX0_startPart_34 : decode cX0_startPart 34 = .ok (.iconst 1, 1) := by decide +kernel
theorem dX0_startPart_35 : decode cX0_startPart 35 = .ok (.isub, 1) := by decide +kernel
theorem dX0_startPart_36 : decode cX0_startPart 36 = .ok (.if_icmp .ge 33, 3) := by decide +kernel
theorem dX0_startPart_39 : decode cX0_startPart 39 = .ok (.iload_n 1, 1) := by decide +kernel
theorem dX0_startPart_40 : decode cX0_startPart 40 = .ok (.iconst 1, 1) := by decide +kernel
theorem dX0_startPart_41 : decode cX0_startPart 41 = .ok (.iload_n 2, 1) := by decide +kernel
theorem dX0_startPart_42 : decode cX0_startPart 42 = .ok (.ishl, 1) := by decide +kernel
theorem dX0_startPart_43 : decode cX0_startPart 43 = .ok (.if_icmp .ne 20, 3) := by decide +kernel
theorem dX0_startPart_46 : decode cX0_startPart 46 = .ok (.aload_n 0, 1) := by decide +kernel
theorem dX0_startPart_47 : decode cX0_startPart 47 = .ok (.getfield 25, 3) := by decide +kernel
theorem dX0_startPart_50 : decode cX0_startPart 50 = .ok (.bipush 7, 2) := by decide +kernel
theorem dX0_startPart_52 : decode cX0_startPart 52 = .ok (.iload_n 1, 1) := by decide +kernel
theorem dX0_startPart_53 : decode cX0_startPart 53 = .ok (.imul, 1) := by decide +kernel
theorem dX0_startPart_54 : decode cX0_startPart 54 = .ok (.aload_n 0, 1) := by decide +kernel
theorem dX0_startPart_55 : decode cX0_startPart 55 = .ok (.getfield 28, 3) := by decide +kernel
theorem dX0_startPart_58 : decode cX0_startPart 58 = .ok (.iload_n 2, 1) := by decide +kernel
theorem dX0_startPart_59 : decode cX0_startPart 59 = .ok (.iaload, 1) := by decide +kernel
theorem dX0_startPart_60 : decode cX0_startPart 60 = .ok (.iadd, 1) := by decide +kernel
theorem dX0_startPart_61 : decode cX0_startPart 61 = .ok (.iconst 0, 1) := by decide +kernel
theorem dX0_startPart_62 : decode cX0_startPart 62 = .ok (.iastore, 1) := by decide +kernel
theorem dX0_startPart_63 : decode cX0_startPart 63 = .ok (.iinc 2 1, 3) := by decide +kernel
theorem dX0_startPart_66 : decode cX0_startPart 66 = .ok (.goto (-37), 3) := by decide +kernel
theorem dX0_startPart_69 : decode cX0_startPart 69 = .ok (.return_, 1) := by decide +kernel
theorem dX0_joinParts_0 : decode cX0_joinParts 0 = .ok (.iconst 1, 1) := by decide +kernel
theorem dX0_joinParts_1 : decode cX0_joinParts 1 = .ok (.istore_n 2, 1) := by decide +kernel
theorem dX0_joinParts_2 : decode cX0_joinParts 2 = .ok (.iload_n 2, 1) := by decide +kernel
theorem dX0_joinParts_3 : decode cX0_joinParts 3 = .ok (.iload_n 1, 1) := by decide +kernel
theorem dX0_joinParts_4 : decode cX0_joinParts 4 = .ok (.if_icmp .ge 97, 3) := by decide +kernel
theorem dX0_joinParts_7 : decode cX0_joinParts 7 = .ok (.iload_n 2, 1) := by decide +kernel
theorem dX0_joinParts_8 : decode cX0_joinParts 8 = .ok (.iload_n 1, 1) := by decide +kernel
theorem dX0_joinParts_9 : decode cX0_joinParts 9 = .ok (.iconst (-1), 1) := by decide +kernel
theorem dX0_joinParts_10 : decode cX0_joinParts 10 = .ok (.ixor, 1) := by decide +kernel
theorem dX0_joinParts_11 : decode cX0_joinParts 11 = .ok (.iand, 1) := by decide +kernel
theorem dX0_joinParts_12 : decode cX0_joinParts 12 = .ok (.ifCond .ne 83, 3) := by decide +kernel
theorem dX0_joinParts_15 : decode cX0_joinParts 15 = .ok (.iload_n 1, 1) := by decide +kernel
theorem dX0_joinParts_16 : decode cX0_joinParts 16 = .ok (.iload_n 2, 1) := by decide +kernel
theorem dX0_joinParts_17 : decode cX0_joinParts 17 = .ok (.iconst (-1), 1) := by decide +kernel
theorem dX0_joinParts_18 : decode cX0_joinParts 18 = .ok (.ixor, 1) := by decide +kernel
theorem dX0_joinParts_19 : decode cX0_joinParts 19 = .ok (.iand, 1) := by decide +kernel
theorem dX0_joinParts_20 : decode cX0_joinParts 20 = .ok (.istore_n 3, 1) := by decide +kernel
theorem dX0_joinParts_21 : decode cX0_joinParts 21 = .ok (.iconst 0, 1) := by decide +kernel
theorem dX0_joinParts_22 : decode cX0_joinParts 22 = .ok (.istore 4, 2) := by decide +kernel
theorem dX0_joinParts_24 : decode cX0_joinParts 24 = .ok (.iload 4, 2) := by decide +kernel
theorem dX0_joinParts_26 : decode cX0_joinParts 26 = .ok (.bipush 7, 2) := by decide +kernel
theorem dX0_joinParts_28 : decode cX0_joinParts 28 = .ok (.if_icmp .ge 67, 3) := by decide +kernel
theorem dX0_joinParts_31 : decode cX0_joinParts 31 = .ok (.aload_n 0, 1) := by decide +kernel
theorem dX0_joinParts_32 : decode cX0_joinParts 32 = .ok (.getfield 25, 3) := by decide +kernel
theorem dX0_joinParts_35 : decode cX0_joinParts 35 = .ok (.bipush 7, 2) := by decide +kernel
theorem dX0_joinParts_37 : decode cX0_joinParts 37 = .ok (.iload_n 2, 1) := by decide +kernel
theorem dX0_joinParts_38 : decode cX0_joinParts 38 = .ok (.imul, 1) := by decide +kernel
theorem dX0_joinParts_39 : decode cX0_joinParts 39 = .ok (.iload 4, 2) := by decide +kernel
theorem dX0_joinParts_41 : decode cX0_joinParts 41 = .ok (.iadd, 1) := by decide +kernel
theorem dX0_joinParts_42 : decode cX0_joinParts 42 = .ok (.iaload, 1) := by decide +kernel
theorem dX0_joinParts_43 : decode cX0_joinParts 43 = .ok (.aload_n 0, 1) := by decide +kernel
theorem dX0_joinParts_44 : decode cX0_joinParts 44 = .ok (.getfield 25, 3) := by decide +kernel
theorem dX0_joinParts_47 : decode cX0_joinParts 47 = .ok (.bipush 7, 2) := by decide +kernel
theorem dX0_joinParts_49 : decode cX0_joinParts 49 = .ok (.iload_n 3, 1) := by decide +kernel
theorem dX0_joinParts_50 : decode cX0_joinParts 50 = .ok (.imul, 1) := by decide +kernel
theorem dX0_joinParts_51 : decode cX0_joinParts 51 = .ok (.iload 4, 2) := by decide +kernel
theorem dX0_joinParts_53 : decode cX0_joinParts 53 = .ok (.iadd, 1) := by decide +kernel
theorem dX0_joinParts_54 : decode cX0_joinParts 54 = .ok (.iaload, 1) := by decide +kernel
theorem dX0_joinParts_55 : decode cX0_joinParts 55 = .ok (.iadd, 1) := by decide +kernel
theorem dX0_joinParts_56 : decode cX0_joinParts 56 = .ok (.istore 5, 2) := by decide +kernel
theorem dX0_joinParts_58 : decode cX0_joinParts 58 = .ok (.iload 5, 2) := by decide +kernel
theorem dX0_joinParts_60 : decode cX0_joinParts 60 = .ok (.aload_n 0, 1) := by decide +kernel
theorem dX0_joinParts_61 : decode cX0_joinParts 61 = .ok (.getfield 25, 3) := by decide +kernel
theorem dX0_joinParts_64 : decode cX0_joinParts 64 = .ok (.bipush 7, 2) := by decide +kernel
theorem dX0_joinParts_66 : decode cX0_joinParts 66 = .ok (.iload_n 1, 1) := by decide +kernel
theorem dX0_joinParts_67 : decode cX0_joinParts 67 = .ok (.imul, 1) := by decide +kernel
theorem dX0_joinParts_68 : decode cX0_joinParts 68 = .ok (.iload 4, 2) := by decide +kernel
theorem dX0_joinParts_70 : decode cX0_joinParts 70 = .ok (.iadd, 1) := by decide +kernel
theorem dX0_joinParts_71 : decode cX0_joinParts 71 = .ok (.iaload, 1) := by decide +kernel
theorem dX0_joinParts_72 : decode cX0_joinParts 72 = .ok (.if_icmp .ge 17, 3) := by decide +kernel
theorem dX0_joinParts_75 : decode cX0_joinParts 75 = .ok (.aload_n 0, 1) := by decide +kernel
theorem dX0_joinParts_76 : decode cX0_joinParts 76 = .ok (.getfield 25, 3) := by decide +kernel
theorem dX0_joinParts_79 : decode cX0_joinParts 79 = .ok (.bipush 7, 2) := by decide +kernel
theorem dX0_joinParts_81 : decode cX0_joinParts 81 = .ok (.iload_n 1, 1) := by decide +kernel
theorem dX0_joinParts_82 : decode cX0_joinParts 82 = .ok (.imul, 1) := by decide +kernel
theorem dX0_joinParts_83 : decode cX0_joinParts 83 = .ok (.iload 4, 2) := by decide +kernel
theorem dX0_joinParts_85 : decode cX0_joinParts 85 = .ok (.iadd, 1) := by decide +kernel
theorem dX0_joinParts_86 : decode cX0_joinParts 86 = .ok (.iload 5, 2) := by decide +kernel
theorem dX0_joinParts_88 : decode cX0_joinParts 88 = .ok (.iastore, 1) := by decide +kernel
theorem dX0_joinParts_89 : decode cX0_joinParts 89 = .ok (.iinc 4 1, 3) := by decide +kernel
theorem dX0_joinParts_92 : decode cX0_joinParts 92 = .ok (.goto (-68), 3) := by decide +kernel
theorem dX0_joinParts_95 : decode cX0_joinParts 95 = .ok (.iinc 2 1, 3) := by decide +kernel
theorem dX0_joinParts_98 : decode cX0_joinParts 98 = .ok (.goto (-96), 3) := by decide +kernel
theorem dX0_joinParts_101 : decode cX0_joinParts 101 = .ok (.return_, 1) := by decide +kernel
theorem dX0_carryPart_0 : decode cX0_carryPart 0 = .ok (.iconst 0, 1) := by decide +kernel
theorem dX0_carryPart_1 : decode cX0_carryPart 1 = .ok (.istore_n 2, 1) := by decide +kernel
theorem dX0_carryPart_2 : decode cX0_carryPart 2 = .ok (.iload_n 2, 1) := by decide +kernel
theorem dX0_carryPart_3 : decode cX0_carryPart 3 = .ok (.bipush 7, 2) := by decide +kernel
theorem dX0_carryPart_5 : decode cX0_carryPart 5 = .ok (.if_icmp .ge 15, 3) := by decide +kernel
theorem dX0_carryPart_8 : decode cX0_carryPart 8 = .ok (.aload_n 0, 1) := by decide +kernel
theorem dX0_carryPart_9 : decode cX0_carryPart 9 = .ok (.iload_n 1, 1) := by decide +kernel
theorem dX0_carryPart_10 : decode cX0_carryPart 10 = .ok (.iload_n 2, 1) := by decide +kernel
theorem dX0_carryPart_11 : decode cX0_carryPart 11 = .ok (.invokevirtual 82, 3) := by decide +kernel
theorem dX0_carryPart_14 : decode cX0_carryPart 14 = .ok (.iinc 2 1, 3) := by decide +kernel
theorem dX0_carryPart_17 : decode cX0_carryPart 17 = .ok (.goto (-15), 3) := by decide +kernel
theorem dX0_carryPart_20 : decode cX0_carryPart 20 = .ok (.return_, 1) := by decide +kernel
theorem dX0_carryTo_0 : decode cX0_carryTo 0 = .ok (.aload_n 0, 1) := by decide +kernel
theorem dX0_carryTo_1 : decode cX0_carryTo 1 = .ok (.getfield 25, 3) := by decide +kernel
theorem dX0_carryTo_4 : decode cX0_carryTo 4 = .ok (.bipush 7, 2) := by decide +kernel
theorem dX0_carryTo_6 : decode cX0_carryTo 6 = .ok (.iload_n 1, 1) := by decide +kernel
theorem dX0_carryTo_7 : decode cX0_carryTo 7 = .ok (.imul, 1) := by decide +kernel
theorem dX0_carryTo_8 : decode cX0_carryTo 8 = .ok (.iload_n 2, 1) := by decide +kernel
theorem dX0_carryTo_9 : decode cX0_carryTo 9 = .ok (.iadd, 1) := by decide +kernel
theorem dX0_carryTo_10 : decode cX0_carryTo 10 = .ok (.iaload, 1) := by decide +kernel
theorem dX0_carryTo_11 : decode cX0_carryTo 11 = .ok (.istore_n 3, 1) := by decide +kernel
theorem dX0_carryTo_12 : decode cX0_carryTo 12 = .ok (.iconst 0, 1) := by decide +kernel
theorem dX0_carryTo_13 : decode cX0_carryTo 13 = .ok (.istore 4, 2) := by decide +kernel
theorem dX0_carryTo_15 : decode cX0_carryTo 15 = .ok (.iload 4, 2) := by decide +kernel
theorem dX0_carryTo_17 : decode cX0_carryTo 17 = .ok (.bipush 7, 2) := by decide +kernel
theorem dX0_carryTo_19 : decode cX0_carryTo 19 = .ok (.if_icmp .ge 45, 3) := by decide +kernel
theorem dX0_carryTo_22 : decode cX0_carryTo 22 = .ok (.aload_n 0, 1) := by decide +kernel
theorem dX0_carryTo_23 : decode cX0_carryTo 23 = .ok (.getfield 25, 3) := by decide +kernel
theorem dX0_carryTo_26 : decode cX0_carryTo 26 = .ok (.bipush 7, 2) := by decide +kernel
theorem dX0_carryTo_28 : decode cX0_carryTo 28 = .ok (.iload_n 1, 1) := by decide +kernel
theorem dX0_carryTo_29 : decode cX0_carryTo 29 = .ok (.imul, 1) := by decide +kernel
theorem dX0_carryTo_30 : decode cX0_carryTo 30 = .ok (.iload 4, 2) := by decide +kernel
theorem dX0_carryTo_32 : decode cX0_carryTo 32 = .ok (.iadd, 1) := by decide +kernel
theorem dX0_carryTo_33 : decode cX0_carryTo 33 = .ok (.iaload, 1) := by decide +kernel
theorem dX0_carryTo_34 : decode cX0_carryTo 34 = .ok (.aload_n 0, 1) := by decide +kernel
theorem dX0_carryTo_35 : decode cX0_carryTo 35 = .ok (.getfield 22, 3) := by decide +kernel
theorem dX0_carryTo_38 : decode cX0_carryTo 38 = .ok (.bipush 7, 2) := by decide +kernel
theorem dX0_carryTo_40 : decode cX0_carryTo 40 = .ok (.iload 4, 2) := by decide +kernel
theorem dX0_carryTo_42 : decode cX0_carryTo 42 = .ok (.imul, 1) := by decide +kernel
theorem dX0_carryTo_43 : decode cX0_carryTo 43 = .ok (.iload_n 2, 1) := by decide +kernel
theorem dX0_carryTo_44 : decode cX0_carryTo 44 = .ok (.iadd, 1) := by decide +kernel
theorem dX0_carryTo_45 : decode cX0_carryTo 45 = .ok (.iaload, 1) := by decide +kernel
theorem dX0_carryTo_46 : decode cX0_carryTo 46 = .ok (.iadd, 1) := by decide +kernel
theorem dX0_carryTo_47 : decode cX0_carryTo 47 = .ok (.istore 5, 2) := by decide +kernel
theorem dX0_carryTo_49 : decode cX0_carryTo 49 = .ok (.iload 5, 2) := by decide +kernel
theorem dX0_carryTo_51 : decode cX0_carryTo 51 = .ok (.iload_n 3, 1) := by decide +kernel
theorem dX0_carryTo_52 : decode cX0_carryTo 52 = .ok (.if_icmp .ge 6, 3) := by decide +kernel
theorem dX0_carryTo_55 : decode cX0_carryTo 55 = .ok (.iload 5, 2) := by decide +kernel
theorem dX0_carryTo_57 : decode cX0_carryTo 57 = .ok (.istore_n 3, 1) := by decide +kernel
theorem dX0_carryTo_58 : decode cX0_carryTo 58 = .ok (.iinc 4 1, 3) := by decide +kernel
theorem dX0_carryTo_61 : decode cX0_carryTo 61 = .ok (.goto (-46), 3) := by decide +kernel
theorem dX0_carryTo_64 : decode cX0_carryTo 64 = .ok (.aload_n 0, 1) := by decide +kernel
theorem dX0_carryTo_65 : decode cX0_carryTo 65 = .ok (.getfield 25, 3) := by decide +kernel
theorem dX0_carryTo_68 : decode cX0_carryTo 68 = .ok (.bipush 7, 2) := by decide +kernel
theorem dX0_carryTo_70 : decode cX0_carryTo 70 = .ok (.iload_n 1, 1) := by decide +kernel
theorem dX0_carryTo_71 : decode cX0_carryTo 71 = .ok (.imul, 1) := by decide +kernel
theorem dX0_carryTo_72 : decode cX0_carryTo 72 = .ok (.iload_n 2, 1) := by decide +kernel
theorem dX0_carryTo_73 : decode cX0_carryTo 73 = .ok (.iadd, 1) := by decide +kernel
theorem dX0_carryTo_74 : decode cX0_carryTo 74 = .ok (.iload_n 3, 1) := by decide +kernel
theorem dX0_carryTo_75 : decode cX0_carryTo 75 = .ok (.iastore, 1) := by decide +kernel
theorem dX0_carryTo_76 : decode cX0_carryTo 76 = .ok (.return_, 1) := by decide +kernel
theorem dX0_chosen_0 : decode cX0_chosen 0 = .ok (.aload_n 0, 1) := by decide +kernel
theorem dX0_chosen_1 : decode cX0_chosen 1 = .ok (.iload_n 1, 1) := by decide +kernel
theorem dX0_chosen_2 : decode cX0_chosen 2 = .ok (.invokevirtual 39, 3) := by decide +kernel
theorem dX0_chosen_5 : decode cX0_chosen 5 = .ok (.ifCond .ne 6, 3) := by decide +kernel
theorem dX0_chosen_8 : decode cX0_chosen 8 = .ok (.bipush (-2), 2) := by decide +kernel
theorem dX0_chosen_10 : decode cX0_chosen 10 = .ok (.ireturn, 1) := by decide +kernel
theorem dX0_chosen_11 : decode cX0_chosen 11 = .ok (.aload_n 0, 1) := by decide +kernel
theorem dX0_chosen_12 : decode cX0_chosen 12 = .ok (.invokevirtual 46, 3) := by decide +kernel
theorem dX0_chosen_15 : decode cX0_chosen 15 = .ok (.aload_n 0, 1) := by decide +kernel
theorem dX0_chosen_16 : decode cX0_chosen 16 = .ok (.getfield 49, 3) := by decide +kernel
theorem dX0_chosen_19 : decode cX0_chosen 19 = .ok (.ifCond .ge 7, 3) := by decide +kernel
theorem dX0_chosen_22 : decode cX0_chosen 22 = .ok (.iconst (-1), 1) := by decide +kernel
theorem dX0_chosen_23 : decode cX0_chosen 23 = .ok (.goto 11, 3) := by decide +kernel
theorem dX0_chosen_26 : decode cX0_chosen 26 = .ok (.aload_n 0, 1) := by decide +kernel
theorem dX0_chosen_27 : decode cX0_chosen 27 = .ok (.getfield 52, 3) := by decide +kernel
theorem dX0_chosen_30 : decode cX0_chosen 30 = .ok (.iload_n 1, 1) := by decide +kernel
theorem dX0_chosen_31 : decode cX0_chosen 31 = .ok (.iushr, 1) := by decide +kernel
theorem dX0_chosen_32 : decode cX0_chosen 32 = .ok (.iconst 1, 1) := by decide +kernel
theorem dX0_chosen_33 : decode cX0_chosen 33 = .ok (.iand, 1) := by decide +kernel
theorem dX0_chosen_34 : decode cX0_chosen 34 = .ok (.ireturn, 1) := by decide +kernel
theorem dX0_with_0 : decode cX0_with 0 = .ok (.aload_n 0, 1) := by decide +kernel
theorem dX0_with_1 : decode cX0_with 1 = .ok (.iload_n 1, 1) := by decide +kernel
theorem dX0_with_2 : decode cX0_with 2 = .ok (.invokevirtual 39, 3) := by decide +kernel
theorem dX0_with_5 : decode cX0_with 5 = .ok (.ifCond .ne 6, 3) := by decide +kernel
theorem dX0_with_8 : decode cX0_with 8 = .ok (.bipush (-2), 2) := by decide +kernel
theorem dX0_with_10 : decode cX0_with 10 = .ok (.ireturn, 1) := by decide +kernel
theorem dX0_with_11 : decode cX0_with 11 = .ok (.aload_n 0, 1) := by decide +kernel
theorem dX0_with_12 : decode cX0_with 12 = .ok (.invokevirtual 55, 3) := by decide +kernel
theorem dX0_with_15 : decode cX0_with 15 = .ok (.aload_n 0, 1) := by decide +kernel
theorem dX0_with_16 : decode cX0_with 16 = .ok (.getfield 19, 3) := by decide +kernel
theorem dX0_with_19 : decode cX0_with 19 = .ok (.iload_n 1, 1) := by decide +kernel
theorem dX0_with_20 : decode cX0_with 20 = .ok (.iconst 0, 1) := by decide +kernel
theorem dX0_with_21 : decode cX0_with 21 = .ok (.iastore, 1) := by decide +kernel
theorem dX0_with_22 : decode cX0_with 22 = .ok (.aload_n 0, 1) := by decide +kernel
theorem dX0_with_23 : decode cX0_with 23 = .ok (.aload_n 0, 1) := by decide +kernel
theorem dX0_with_24 : decode cX0_with 24 = .ok (.getfield 42, 3) := by decide +kernel
theorem dX0_with_27 : decode cX0_with 27 = .ok (.invokevirtual 58, 3) := by decide +kernel
theorem dX0_with_30 : decode cX0_with 30 = .ok (.istore_n 2, 1) := by decide +kernel
theorem dX0_with_31 : decode cX0_with 31 = .ok (.iload_n 2, 1) := by decide +kernel
theorem dX0_with_32 : decode cX0_with 32 = .ok (.ldc 62, 2) := by decide +kernel
theorem dX0_with_34 : decode cX0_with 34 = .ok (.if_icmp .lt 7, 3) := by decide +kernel
theorem dX0_with_37 : decode cX0_with 37 = .ok (.iconst (-1), 1) := by decide +kernel
theorem dX0_with_38 : decode cX0_with 38 = .ok (.goto 11, 3) := by decide +kernel
theorem dX0_with_41 : decode cX0_with 41 = .ok (.iload_n 2, 1) := by decide +kernel
theorem dX0_with_42 : decode cX0_with 42 = .ok (.aload_n 0, 1) := by decide +kernel
theorem dX0_with_43 : decode cX0_with 43 = .ok (.getfield 16, 3) := by decide +kernel
theorem dX0_with_46 : decode cX0_with 46 = .ok (.iload_n 1, 1) := by decide +kernel
theorem dX0_with_47 : decode cX0_with 47 = .ok (.iaload, 1) := by decide +kernel
theorem dX0_with_48 : decode cX0_with 48 = .ok (.iadd, 1) := by decide +kernel
theorem dX0_with_49 : decode cX0_with 49 = .ok (.ireturn, 1) := by decide +kernel
theorem dX0_without_0 : decode cX0_without 0 = .ok (.aload_n 0, 1) := by decide +kernel
theorem dX0_without_1 : decode cX0_without 1 = .ok (.iload_n 1, 1) := by decide +kernel
theorem dX0_without_2 : decode cX0_without 2 = .ok (.invokevirtual 39, 3) := by decide +kernel
theorem dX0_without_5 : decode cX0_without 5 = .ok (.ifCond .ne 6, 3) := by decide +kernel
theorem dX0_without_8 : decode cX0_without 8 = .ok (.bipush (-2), 2) := by decide +kernel
theorem dX0_without_10 : decode cX0_without 10 = .ok (.ireturn, 1) := by decide +kernel
theorem dX0_without_11 : decode cX0_without 11 = .ok (.aload_n 0, 1) := by decide +kernel
theorem dX0_without_12 : decode cX0_without 12 = .ok (.invokevirtual 55, 3) := by decide +kernel
theorem dX0_without_15 : decode cX0_without 15 = .ok (.aload_n 0, 1) := by decide +kernel
theorem dX0_without_16 : decode cX0_without 16 = .ok (.getfield 19, 3) := by decide +kernel
theorem dX0_without_19 : decode cX0_without 19 = .ok (.iload_n 1, 1) := by decide +kernel
theorem dX0_without_20 : decode cX0_without 20 = .ok (.ldc 62, 2) := by decide +kernel
theorem dX0_without_22 : decode cX0_without 22 = .ok (.iastore, 1) := by decide +kernel
theorem dX0_without_23 : decode cX0_without 23 = .ok (.aload_n 0, 1) := by decide +kernel
theorem dX0_without_24 : decode cX0_without 24 = .ok (.aload_n 0, 1) := by decide +kernel
theorem dX0_without_25 : decode cX0_without 25 = .ok (.getfield 42, 3) := by decide +kernel
theorem dX0_without_28 : decode cX0_without 28 = .ok (.invokevirtual 58, 3) := by decide +kernel
theorem dX0_without_31 : decode cX0_without 31 = .ok (.istore_n 2, 1) := by decide +kernel
theorem dX0_without_32 : decode cX0_without 32 = .ok (.iload_n 2, 1) := by decide +kernel
theorem dX0_without_33 : decode cX0_without 33 = .ok (.ldc 62, 2) := by decide +kernel
theorem dX0_without_35 : decode cX0_without 35 = .ok (.if_icmp .lt 7, 3) := by decide +kernel
theorem dX0_without_38 : decode cX0_without 38 = .ok (.iconst (-1), 1) := by decide +kernel
theorem dX0_without_39 : decode cX0_without 39 = .ok (.goto 4, 3) := by decide +kernel
theorem dX0_without_42 : decode cX0_without 42 = .ok (.iload_n 2, 1) := by decide +kernel
theorem dX0_without_43 : decode cX0_without 43 = .ok (.ireturn, 1) := by decide +kernel
theorem dX0_including_0 : decode cX0_including 0 = .ok (.iload_n 1, 1) := by decide +kernel
theorem dX0_including_1 : decode cX0_including 1 = .ok (.invokestatic 31, 3) := by decide +kernel
theorem dX0_including_4 : decode cX0_including 4 = .ok (.ifCond .ne 6, 3) := by decide +kernel
theorem dX0_including_7 : decode cX0_including 7 = .ok (.bipush (-2), 2) := by decide +kernel
theorem dX0_including_9 : decode cX0_including 9 = .ok (.ireturn, 1) := by decide +kernel
theorem dX0_including_10 : decode cX0_including 10 = .ok (.aload_n 0, 1) := by decide +kernel
theorem dX0_including_11 : decode cX0_including 11 = .ok (.invokevirtual 55, 3) := by decide +kernel
theorem dX0_including_14 : decode cX0_including 14 = .ok (.aload_n 0, 1) := by decide +kernel
theorem dX0_including_15 : decode cX0_including 15 = .ok (.aload_n 0, 1) := by decide +kernel
theorem dX0_including_16 : decode cX0_including 16 = .ok (.getfield 42, 3) := by decide +kernel
theorem dX0_including_19 : decode cX0_including 19 = .ok (.iconst 1, 1) := by decide +kernel
theorem dX0_including_20 : decode cX0_including 20 = .ok (.iload_n 1, 1) := by decide +kernel
theorem dX0_including_21 : decode cX0_including 21 = .ok (.ishl, 1) := by decide +kernel
theorem dX0_including_22 : decode cX0_including 22 = .ok (.ior, 1) := by decide +kernel
theorem dX0_including_23 : decode cX0_including 23 = .ok (.invokevirtual 58, 3) := by decide +kernel
theorem dX0_including_26 : decode cX0_including 26 = .ok (.istore_n 2, 1) := by decide +kernel
theorem dX0_including_27 : decode cX0_including 27 = .ok (.iload_n 2, 1) := by decide +kernel
theorem dX0_including_28 : decode cX0_including 28 = .ok (.ldc 62, 2) := by decide +kernel
theorem dX0_including_30 : decode cX0_including 30 = .ok (.if_icmp .lt 7, 3) := by decide +kernel
theorem dX0_including_33 : decode cX0_including 33 = .ok (.iconst (-1), 1) := by decide +kernel
theorem dX0_including_34 : decode cX0_including 34 = .ok (.goto 4, 3) := by decide +kernel
theorem dX0_including_37 : decode cX0_including 37 = .ok (.iload_n 2, 1) := by decide +kernel
theorem dX0_including_38 : decode cX0_including 38 = .ok (.ireturn, 1) := by decide +kernel
theorem dX0_between_0 : decode cX0_between 0 = .ok (.iload_n 1, 1) := by decide +kernel
theorem dX0_between_1 : decode cX0_between 1 = .ok (.invokestatic 31, 3) := by decide +kernel
theorem dX0_between_4 : decode cX0_between 4 = .ok (.ifCond .eq 10, 3) := by decide +kernel
theorem dX0_between_7 : decode cX0_between 7 = .ok (.iload_n 2, 1) := by decide +kernel
theorem dX0_between_8 : decode cX0_between 8 = .ok (.invokestatic 31, 3) := by decide +kernel
theorem dX0_between_11 : decode cX0_between 11 = .ok (.ifCond .ne 6, 3) := by decide +kernel
theorem dX0_between_14 : decode cX0_between 14 = .ok (.bipush (-2), 2) := by decide +kernel
theorem dX0_between_16 : decode cX0_between 16 = .ok (.ireturn, 1) := by decide +kernel
theorem dX0_between_17 : decode cX0_between 17 = .ok (.aload_n 0, 1) := by decide +kernel
theorem dX0_between_18 : decode cX0_between 18 = .ok (.invokevirtual 55, 3) := by decide +kernel
theorem dX0_between_21 : decode cX0_between 21 = .ok (.aload_n 0, 1) := by decide +kernel
theorem dX0_between_22 : decode cX0_between 22 = .ok (.iconst 1, 1) := by decide +kernel
theorem dX0_between_23 : decode cX0_between 23 = .ok (.iload_n 1, 1) := by decide +kernel
theorem dX0_between_24 : decode cX0_between 24 = .ok (.ishl, 1) := by decide +kernel
theorem dX0_between_25 : decode cX0_between 25 = .ok (.iconst 1, 1) := by decide +kernel
theorem dX0_between_26 : decode cX0_between 26 = .ok (.iload_n 2, 1) := by decide +kernel
theorem dX0_between_27 : decode cX0_between 27 = .ok (.ishl, 1) := by decide +kernel
theorem dX0_between_28 : decode cX0_between 28 = .ok (.ior, 1) := by decide +kernel
theorem dX0_between_29 : decode cX0_between 29 = .ok (.invokevirtual 58, 3) := by decide +kernel
theorem dX0_between_32 : decode cX0_between 32 = .ok (.istore_n 3, 1) := by decide +kernel
theorem dX0_between_33 : decode cX0_between 33 = .ok (.iload_n 3, 1) := by decide +kernel
theorem dX0_between_34 : decode cX0_between 34 = .ok (.ldc 62, 2) := by decide +kernel
theorem dX0_between_36 : decode cX0_between 36 = .ok (.if_icmp .lt 7, 3) := by decide +kernel
theorem dX0_between_39 : decode cX0_between 39 = .ok (.iconst (-1), 1) := by decide +kernel
theorem dX0_between_40 : decode cX0_between 40 = .ok (.goto 4, 3) := by decide +kernel
theorem dX0_between_43 : decode cX0_between 43 = .ok (.iload_n 3, 1) := by decide +kernel
theorem dX0_between_44 : decode cX0_between 44 = .ok (.ireturn, 1) := by decide +kernel
end
section
set_option maxRecDepth 100000
theorem dX1_init_0 : decode cX1_init 0 = .ok (.aload_n 0, 1) := by decide +kernel
theorem dX1_init_1 : decode cX1_init 1 = .ok (.invokespecial 1, 3) := by decide +kernel
theorem dX1_init_4 : decode cX1_init 4 = .ok (.aload_n 0, 1) := by decide +kernel
theorem dX1_init_5 : decode cX1_init 5 = .ok (.bipush 10, 2) := by decide +kernel
theorem dX1_init_7 : decode cX1_init 7 = .ok (.newarray .boolean, 2) := by decide +kernel
theorem dX1_init_9 : decode cX1_init 9 = .ok (.putfield 7, 3) := by decide +kernel
theorem dX1_init_12 : decode cX1_init 12 = .ok (.aload_n 0, 1) := by decide +kernel
theorem dX1_init_13 : decode cX1_init 13 = .ok (.bipush 10, 2) := by decide +kernel
theorem dX1_init_15 : decode cX1_init 15 = .ok (.newarray .int, 2) := by decide +kernel
theorem dX1_init_17 : decode cX1_init 17 = .ok (.putfield 13, 3) := by decide +kernel
theorem dX1_init_20 : decode cX1_init 20 = .ok (.aload_n 0, 1) := by decide +kernel
theorem dX1_init_21 : decode cX1_init 21 = .ok (.bipush 10, 2) := by decide +kernel
theorem dX1_init_23 : decode cX1_init 23 = .ok (.newarray .int, 2) := by decide +kernel
theorem dX1_init_25 : decode cX1_init 25 = .ok (.putfield 17, 3) := by decide +kernel
theorem dX1_init_28 : decode cX1_init 28 = .ok (.aload_n 0, 1) := by decide +kernel
theorem dX1_init_29 : decode cX1_init 29 = .ok (.bipush 10, 2) := by decide +kernel
theorem dX1_init_31 : decode cX1_init 31 = .ok (.newarray .int, 2) := by decide +kernel
theorem dX1_init_33 : decode cX1_init 33 = .ok (.putfield 20, 3) := by decide +kernel
theorem dX1_init_36 : decode cX1_init 36 = .ok (.aload_n 0, 1) := by decide +kernel
theorem dX1_init_37 : decode cX1_init 37 = .ok (.bipush 7, 2) := by decide +kernel
theorem dX1_init_39 : decode cX1_init 39 = .ok (.newarray .boolean, 2) := by decide +kernel
theorem dX1_init_41 : decode cX1_init 41 = .ok (.putfield 23, 3) := by decide +kernel
theorem dX1_init_44 : decode cX1_init 44 = .ok (.return_, 1) := by decide +kernel
theorem dX1_line_0 : decode cX1_line 0 = .ok (.iload_n 1, 1) := by decide +kernel
theorem dX1_line_1 : decode cX1_line 1 = .ok (.ifCond .lt 41, 3) := by decide +kernel
theorem dX1_line_4 : decode cX1_line 4 = .ok (.iload_n 1, 1) := by decide +kernel
theorem dX1_line_5 : decode cX1_line 5 = .ok (.bipush 9, 2) := by decide +kernel
theorem dX1_line_7 : decode cX1_line 7 = .ok (.if_icmp .gt 35, 3) := by decide +kernel
theorem dX1_line_10 : decode cX1_line 10 = .ok (.iload_n 2, 1) := by decide +kernel
theorem dX1_line_11 : decode cX1_line 11 = .ok (.invokestatic 26, 3) := by decide +kernel
theorem dX1_line_14 : decode cX1_line 14 = .ok (.ifCond .ne 28, 3) := by decide +kernel
theorem dX1_line_17 : decode cX1_line 17 = .ok (.iload_n 3, 1) := by decide +kernel
theorem dX1_line_18 : decode cX1_line 18 = .ok (.invokestatic 26, 3) := by decide +kernel
theorem dX1_line_21 : decode cX1_line 21 = .ok (.ifCond .ne 21, 3) := by decide +kernel
theorem dX1_line_24 : decode cX1_line 24 = .ok (.iload_n 2, 1) := by decide +kernel
theorem dX1_line_25 : decode cX1_line 25 = .ok (.iload_n 3, 1) := by decide +kernel
theorem dX1_line_26 : decode cX1_line 26 = .ok (.if_icmp .eq 16, 3) := by decide +kernel
theorem dX1_line_29 : decode cX1_line 29 = .ok (.iload 4, 2) := by decide +kernel
theorem dX1_line_31 : decode cX1_line 31 = .ok (.iconst 1, 1) := by decide +kernel
theorem dX1_line_32 : decode cX1_line 32 = .ok (.if_icmp .lt 10, 3) := by decide +kernel
theorem dX1_line_35 : decode cX1_line 35 = .ok (.iload 4, 2) := by decide +kernel
theorem dX1_line_37 : decode cX1_line 37 = .ok (.bipush 100, 2) := by decide +kernel
theorem dX1_line_39 : decode cX1_line 39 = .ok (.if_icmp .le 6, 3) := by decide +kernel
theorem dX1_line_42 : decode cX1_line 42 = .ok (.bipush (-2), 2) := by decide +kernel
theorem dX1_line_44 : decode cX1_line 44 = .ok (.ireturn, 1) := by decide +kernel
theorem dX1_line_45 : decode cX1_line 45 = .ok (.aload_n 0, 1) := by decide +kernel
theorem dX1_line_46 : decode cX1_line 46 = .ok (.getfield 7, 3) := by decide +kernel
theorem dX1_line_49 : decode cX1_line 49 = .ok (.iload_n 1, 1) := by decide +kernel
theorem dX1_line_50 : decode cX1_line 50 = .ok (.iconst 1, 1) := by decide +kernel
theorem dX1_line_51 : decode cX1_line 51 = .ok (.bastore, 1) := by decide +kernel
theorem dX1_line_52 : decode cX1_line 52 = .ok (.aload_n 0, 1) := by decide +kernel
theorem dX1_line_53 : decode cX1_line 53 = .ok (.getfield 13, 3) := by decide +kernel
theorem dX1_line_56 : decode cX1_line 56 = .ok (.iload_n 1, 1) := by decide +kernel
theorem dX1_line_57 : decode cX1_line 57 = .ok (.iload_n 2, 1) := by decide +kernel
theorem dX1_line_58 : decode cX1_line 58 = .ok (.iastore, 1) := by decide +kernel
theorem dX1_line_59 : decode cX1_line 59 = .ok (.aload_n 0, 1) := by decide +kernel
theorem dX1_line_60 : decode cX1_line 60 = .ok (.getfield 17, 3) := by decide +kernel
theorem dX1_line_63 : decode cX1_line 63 = .ok (.iload_n 1, 1) := by decide +kernel
theorem dX1_line_64 : decode cX1_line 64 = .ok (.iload_n 3, 1) := by decide +kernel
theorem dX1_line_65 : decode cX1_line 65 = .ok (.iastore, 1) := by decide +kernel
theorem dX1_line_66 : decode cX1_line 66 = .ok (.aload_n 0, 1) := by decide +kernel
theorem dX1_line_67 : decode cX1_line 67 = .ok (.getfield 20, 3) := by decide +kernel
theorem dX1_line_70 : decode cX1_line 70 = .ok (.iload_n 1, 1) := by decide +kernel
theorem dX1_line_71 : decode cX1_line 71 = .ok (.iload 4, 2) := by decide +kernel
theorem dX1_line_73 : decode cX1_line 73 = .ok (.iastore, 1) := by decide +kernel
theorem dX1_line_74 : decode cX1_line 74 = .ok (.iconst 0, 1) := by decide +kernel
theorem dX1_line_75 : decode cX1_line 75 = .ok (.ireturn, 1) := by decide +kernel
theorem dX1_badPoint_0 : decode cX1_badPoint 0 = .ok (.iload_n 0, 1) := by decide +kernel
theorem dX1_badPoint_1 : decode cX1_badPoint 1 = .ok (.ifCond .lt 9, 3) := by decide +kernel
theorem dX1_badPoint_4 : decode cX1_badPoint 4 = .ok (.iload_n 0, 1) := by decide +kernel
theorem dX1_badPoint_5 : decode cX1_badPoint 5 = .ok (.bipush 6, 2) := by decide +kernel
theorem dX1_badPoint_7 : decode cX1_badPoint 7 = .ok (.if_icmp .le 7, 3) := by decide +kernel
theorem dX1_badPoint_10 : decode cX1_badPoint 10 = .ok (.iconst 1, 1) := by decide +kernel
theorem dX1_badPoint_11 : decode cX1_badPoint 11 = .ok (.goto 4, 3) := by decide +kernel
theorem dX1_badPoint_14 : decode cX1_badPoint 14 = .ok (.iconst 0, 1) := by decide +kernel
theorem dX1_badPoint_15 : decode cX1_badPoint 15 = .ok (.ireturn, 1) := by decide +kernel
theorem dX1_cut_0 : decode cX1_cut 0 = .ok (.aload_n 0, 1) := by decide +kernel
theorem dX1_cut_1 : decode cX1_cut 1 = .ok (.iload_n 1, 1) := by decide +kernel
theorem dX1_cut_2 : decode cX1_cut 2 = .ok (.invokevirtual 30, 3) := by decide +kernel
theorem dX1_cut_5 : decode cX1_cut 5 = .ok (.ifCond .eq 6, 3) := by decide +kernel
theorem dX1_cut_8 : decode cX1_cut 8 = .ok (.bipush (-2), 2) := by decide +kernel
theorem dX1_cut_10 : decode cX1_cut 10 = .ok (.ireturn, 1) := by decide +kernel
theorem dX1_cut_11 : decode cX1_cut 11 = .ok (.aload_n 0, 1) := by decide +kernel
theorem dX1_cut_12 : decode cX1_cut 12 = .ok (.getfield 7, 3) := by decide +kernel
theorem dX1_cut_15 : decode cX1_cut 15 = .ok (.iload_n 1, 1) := by decide +kernel
theorem dX1_cut_16 : decode cX1_cut 16 = .ok (.iconst 0, 1) := by decide +kernel
theorem dX1_cut_17 : decode cX1_cut 17 = .ok (.bastore, 1) := by decide +kernel
theorem dX1_cut_18 : decode cX1_cut 18 = .ok (.iconst 0, 1) := by decide +kernel
theorem dX1_cut_19 : decode cX1_cut 19 = .ok (.ireturn, 1) := by decide +kernel
theorem dX1_badLine_0 : decode cX1_badLine 0 = .ok (.iload_n 1, 1) := by decide +kernel
theorem dX1_badLine_1 : decode cX1_badLine 1 = .ok (.ifCond .lt 18, 3) := by decide +kernel
theorem dX1_badLine_4 : decode cX1_badLine 4 = .ok (.iload_n 1, 1) := by decide +kernel
theorem dX1_badLine_5 : decode cX1_badLine 5 = .ok (.bipush 9, 2) := by decide +kernel
theorem dX1_badLine_7 : decode cX1_badLine 7 = .ok (.if_icmp .gt 12, 3) := by decide +kernel
theorem dX1_badLine_10 : decode cX1_badLine 10 = .ok (.aload_n 0, 1) := by decide +kernel
theorem dX1_badLine_11 : decode cX1_badLine 11 = .ok (.getfield 7, 3) := by decide +kernel
theorem dX1_badLine_14 : decode cX1_badLine 14 = .ok (.iload_n 1, 1) := by decide +kernel
theorem dX1_badLine_15 : decode cX1_badLine 15 = .ok (.baload, 1) := by decide +kernel
theorem dX1_badLine_16 : decode cX1_badLine 16 = .ok (.ifCond .ne 7, 3) := by decide +kernel
theorem dX1_badLine_19 : decode cX1_badLine 19 = .ok (.iconst 1, 1) := by decide +kernel
theorem dX1_badLine_20 : decode cX1_badLine 20 = .ok (.goto 4, 3) := by decide +kernel
theorem dX1_badLine_23 : decode cX1_badLine 23 = .ok (.iconst 0, 1) := by decide +kernel
theorem dX1_badLine_24 : decode cX1_badLine 24 = .ok (.ireturn, 1) := by decide +kernel
theorem dX1_mark_0 : decode cX1_mark 0 = .ok (.iload_n 1, 1) := by decide +kernel
theorem dX1_mark_1 : decode cX1_mark 1 = .ok (.invokestatic 26, 3) := by decide +kernel
theorem dX1_mark_4 : decode cX1_mark 4 = .ok (.ifCond .eq 6, 3) := by decide +kernel
theorem dX1_mark_7 : decode cX1_mark 7 = .ok (.bipush (-2), 2) := by decide +kernel
theorem dX1_mark_9 : decode cX1_mark 9 = .ok (.ireturn, 1) := by decide +kernel
theorem dX1_mark_10 : decode cX1_mark 10 = .ok (.aload_n 0, 1) := by decide +kernel
theorem dX1_mark_11 : decode cX1_mark 11 = .ok (.getfield 23, 3) := by decide +kernel
theorem dX1_mark_14 : decode cX1_mark 14 = .ok (.iload_n 1, 1) := by decide +kernel
theorem dX1_mark_15 : decode cX1_mark 15 = .ok (.baload, 1) := by decide +kernel
theorem dX1_mark_16 : decode cX1_mark 16 = .ok (.ifCond .eq 7, 3) := by decide +kernel
theorem dX1_mark_19 : decode cX1_mark 19 = .ok (.iconst 1, 1) := by decide +kernel
theorem dX1_mark_20 : decode cX1_mark 20 = .ok (.goto 4, 3) := by decide +kernel
theorem dX1_mark_23 : decode cX1_mark 23 = .ok (.iconst 0, 1) := by decide +kernel
theorem dX1_mark_24 : decode cX1_mark 24 = .ok (.istore_n 3, 1) := by decide +kernel
theorem dX1_mark_25 : decode cX1_mark 25 = .ok (.aload_n 0, 1) := by decide +kernel
theorem dX1_mark_26 : decode cX1_mark 26 = .ok (.getfield 23, 3) := by decide +kernel
theorem dX1_mark_29 : decode cX1_mark 29 = .ok (.iload_n 1, 1) := by decide +kernel
theorem dX1_mark_30 : decode cX1_mark 30 = .ok (.iload_n 2, 1) := by decide +kernel
theorem dX1_mark_31 : decode cX1_mark 31 = .ok (.bastore, 1) := by decide +kernel
theorem dX1_mark_32 : decode cX1_mark 32 = .ok (.iload_n 3, 1) := by decide +kernel
theorem dX1_mark_33 : decode cX1_mark 33 = .ok (.ireturn, 1) := by decide +kernel
theorem dX1_least_0 : decode cX1_least 0 = .ok (.aload_n 0, 1) := by decide +kernel
theorem dX1_least_1 : decode cX1_least 1 = .ok (.invokevirtual 45, 3) := by decide +kernel
theorem dX1_least_4 : decode cX1_least 4 = .ok (.istore_n 1, 1) := by decide +kernel
theorem dX1_least_5 : decode cX1_least 5 = .ok (.aload_n 0, 1) := by decide +kernel
theorem dX1_least_6 : decode cX1_least 6 = .ok (.iload_n 1, 1) := by decide +kernel
theorem dX1_least_7 : decode cX1_least 7 = .ok (.iconst 0, 1) := by decide +kernel
theorem dX1_least_8 : decode cX1_least 8 = .ok (.iconst 0, 1) := by decide +kernel
theorem dX1_least_9 : decode cX1_least 9 = .ok (.invokevirtual 49, 3) := by decide +kernel
theorem dX1_least_12 : decode cX1_least 12 = .ok (.ireturn, 1) := by decide +kernel
theorem dX1_marks_0 : decode cX1_marks 0 = .ok (.iconst 0, 1) := by decide +kernel
theorem dX1_marks_1 : decode cX1_marks 1 = .ok (.istore_n 1, 1) := by decide +kernel
theorem dX1_marks_2 : decode cX1_marks 2 = .ok (.iconst 0, 1) := by decide +kernel
theorem dX1_marks_3 : decode cX1_marks 3 = .ok (.istore_n 2, 1) := by decide +kernel
theorem dX1_marks_4 : decode cX1_marks 4 = .ok (.iload_n 2, 1) := by decide +kernel
theorem dX1_marks_5 : decode cX1_marks 5 = .ok (.bipush 7, 2) := by decide +kernel
theorem dX1_marks_7 : decode cX1_marks 7 = .ok (.if_icmp .ge 24, 3) := by decide +kernel
theorem dX1_marks_10 : decode cX1_marks 10 = .ok (.aload_n 0, 1) := by decide +kernel
theorem dX1_marks_11 : decode cX1_marks 11 = .ok (.getfield 23, 3) := by decide +kernel
theorem dX1_marks_14 : decode cX1_marks 14 = .ok (.iload_n 2, 1) := by decide +kernel
theorem dX1_marks_15 : decode cX1_marks 15 = .ok (.baload, 1) := by decide +kernel
theorem dX1_marks_16 : decode cX1_marks 16 = .ok (.ifCond .eq 9, 3) := by decide +kernel
theorem dX1_marks_19 : decode cX1_marks 19 = .ok (.iload_n 1, 1) := by decide +kernel
theorem dX1_marks_20 : decode cX1_marks 20 = .ok (.iconst 1, 1) := by decide +kernel
theorem dX1_marks_21 : decode cX1_marks 21 = .ok (.iload_n 2, 1) := by decide +kernel
theorem dX1_marks_22 : decode cX1_marks 22 = .ok (.ishl, 1) := by decide +kernel
theorem dX1_marks_23 : decode cX1_marks 23 = .ok (.ior, 1) := by decide +kernel
theorem dX1_marks_24 : decode cX1_marks 24 = .ok (.istore_n 1, 1) := by decide +kernel
theorem dX1_marks_25 : decode cX1_marks 25 = .ok (.iinc 2 1, 3) := by decide +kernel
theorem dX1_marks_28 : decode cX1_marks 28 = .ok (.goto (-24), 3) := by decide +kernel
theorem dX1_marks_31 : decode cX1_marks 31 = .ok (.iload_n 1, 1) := by decide +kernel
theorem dX1_marks_32 : decode cX1_marks 32 = .ok (.ireturn, 1) := by decide +kernel
theorem dX1_lowest_0 : decode cX1_lowest 0 = .ok (.aload_n 0, 1) := by decide +kernel
theorem dX1_lowest_1 : decode cX1_lowest 1 = .ok (.iload_n 1, 1) := by decide +kernel
theorem dX1_lowest_2 : decode cX1_lowest 2 = .ok (.iload_n 2, 1) := by decide +kernel
theorem dX1_lowest_3 : decode cX1_lowest 3 = .ok (.iload_n 3, 1) := by decide +kernel
theorem dX1_lowest_4 : decode cX1_lowest 4 = .ok (.invokevirtual 41, 3) := by decide +kernel
theorem dX1_lowest_7 : decode cX1_lowest 7 = .ok (.istore 4, 2) := by decide +kernel
theorem dX1_lowest_9 : decode cX1_lowest 9 = .ok (.iload 4, 2) := by decide +kernel
theorem dX1_lowest_11 : decode cX1_lowest 11 = .ok (.ifCond .ge 7, 3) := by decide +kernel
theorem dX1_lowest_14 : decode cX1_lowest 14 = .ok (.iconst (-1), 1) := by decide +kernel
theorem dX1_lowest_15 : decode cX1_lowest 15 = .ok (.goto 9, 3) := by decide +kernel
theorem dX1_lowest_18 : decode cX1_lowest 18 = .ok (.aload_n 0, 1) := by decide +kernel
theorem dX1_lowest_19 : decode cX1_lowest 19 = .ok (.iload 4, 2) := by decide +kernel
theorem dX1_lowest_21 : decode cX1_lowest 21 = .ok (.invokevirtual 33, 3) := by decide +kernel
theorem dX1_lowest_24 : decode cX1_lowest 24 = .ok (.ireturn, 1) := by decide +kernel
theorem dX1_best_0 : decode cX1_best 0 = .ok (.iconst (-1), 1) := by decide +kernel
theorem dX1_best_1 : decode cX1_best 1 = .ok (.istore 4, 2) := by decide +kernel
theorem dX1_best_3 : decode cX1_best 3 = .ok (.iconst 0, 1) := by decide +kernel
theorem dX1_best_4 : decode cX1_best 4 = .ok (.istore 5, 2) := by decide +kernel
theorem dX1_best_6 : decode cX1_best 6 = .ok (.iconst 0, 1) := by decide +kernel
theorem dX1_best_7 : decode cX1_best 7 = .ok (.istore 6, 2) := by decide +kernel
theorem dX1_best_9 : decode cX1_best 9 = .ok (.iload 6, 2) := by decide +kernel
theorem dX1_best_11 : decode cX1_best 11 = .ok (.sipush 1024, 3) := by decide +kernel
theorem dX1_best_14 : decode cX1_best 14 = .ok (.if_icmp .ge 67, 3) := by decide +kernel
theorem dX1_best_17 : decode cX1_best 17 = .ok (.iload 6, 2) := by decide +kernel
theorem dX1_best_19 : decode cX1_best 19 = .ok (.iload_n 2, 1) := by decide +kernel
theorem dX1_best_20 : decode cX1_best 20 = .ok (.iand, 1) := by decide +kernel
theorem dX1_best_21 : decode cX1_best 21 = .ok (.iload_n 2, 1) := by decide +kernel
theorem dX1_best_22 : decode cX1_best 22 = .ok (.if_icmp .ne 53, 3) := by decide +kernel
theorem dX1_best_25 : decode cX1_best 25 = .ok (.iload 6, 2) := by decide +kernel
theorem dX1_best_27 : decode cX1_best 27 = .ok (.iload_n 3, 1) := by decide +kernel
theorem dX1_best_28 : decode cX1_best 28 = .ok (.iand, 1) := by decide +kernel
theorem dX1_best_29 : decode cX1_best 29 = .ok (.ifCond .ne 46, 3) := by decide +kernel
theorem dX1_best_32 : decode cX1_best 32 = .ok (.aload_n 0, 1) := by decide +kernel
theorem dX1_best_33 : decode cX1_best 33 = .ok (.iload 6, 2) := by decide +kernel
theorem dX1_best_35 : decode cX1_best 35 = .ok (.invokevirtual 33, 3) := by decide +kernel
theorem dX1_best_38 : decode cX1_best 38 = .ok (.istore 7, 2) := by decide +kernel
theorem dX1_best_40 : decode cX1_best 40 = .ok (.iload 7, 2) := by decide +kernel
theorem dX1_best_42 : decode cX1_best 42 = .ok (.ifCond .lt 33, 3) := by decide +kernel
theorem dX1_best_45 : decode cX1_best 45 = .ok (.iload 4, 2) := by decide +kernel
theorem dX1_best_47 : decode cX1_best 47 = .ok (.ifCond .lt 10, 3) := by decide +kernel
theorem dX1_best_50 : decode cX1_best 50 = .ok (.iload 7, 2) := by decide +kernel
theorem dX1_best_52 : decode cX1_best 52 = .ok (.iload 5, 2) := by decide +kernel
theorem dX1_best_54 : decode cX1_best 54 = .ok (.if_icmp .ge 21, 3) := by decide +kernel
theorem dX1_best_57 : decode cX1_best 57 = .ok (.aload_n 0, 1) := by decide +kernel
theorem dX1_best_58 : decode cX1_best 58 = .ok (.iload 6, 2) := by decide +kernel
theorem dX1_best_60 : decode cX1_best 60 = .ok (.iload_n 1, 1) := by decide +kernel
theorem dX1_best_61 : decode cX1_best 61 = .ok (.invokevirtual 37, 3) := by decide +kernel
theorem dX1_best_64 : decode cX1_best 64 = .ok (.ifCond .eq 11, 3) := by decide +kernel
theorem dX1_best_67 : decode cX1_best 67 = .ok (.iload 6, 2) := by decide +kernel
theorem dX1_best_69 : decode cX1_best 69 = .ok (.istore 4, 2) := by decide +kernel
theorem dX1_best_71 : decode cX1_best 71 = .ok (.iload 7, 2) := by decide +kernel
theorem dX1_best_73 : decode cX1_best 73 = .ok (.istore 5, 2) := by decide +kernel
theorem dX1_best_75 : decode cX1_best 75 = .ok (.iinc 6 1, 3) := by decide +kernel
theorem dX1_best_78 : decode cX1_best 78 = .ok (.goto (-69), 3) := by decide +kernel
theorem dX1_best_81 : decode cX1_best 81 = .ok (.iload 4, 2) := by decide +kernel
theorem dX1_best_83 : decode cX1_best 83 = .ok (.ireturn, 1) := by decide +kernel
theorem dX1_priceOf_0 : decode cX1_priceOf 0 = .ok (.iconst 0, 1) := by decide +kernel
theorem dX1_priceOf_1 : decode cX1_priceOf 1 = .ok (.istore_n 2, 1) := by decide +kernel
theorem dX1_priceOf_2 : decode cX1_priceOf 2 = .ok (.iconst 0, 1) := by decide +kernel
theorem dX1_priceOf_3 : decode cX1_priceOf 3 = .ok (.istore_n 3, 1) := by decide +kernel
theorem dX1_priceOf_4 : decode cX1_priceOf 4 = .ok (.iload_n 3, 1) := by decide +kernel
theorem dX1_priceOf_5 : decode cX1_priceOf 5 = .ok (.bipush 10, 2) := by decide +kernel
theorem dX1_priceOf_7 : decode cX1_priceOf 7 = .ok (.if_icmp .ge 38, 3) := by decide +kernel
theorem dX1_priceOf_10 : decode cX1_priceOf 10 = .ok (.iload_n 1, 1) := by decide +kernel
theorem dX1_priceOf_11 : decode cX1_priceOf 11 = .ok (.iload_n 3, 1) := by decide +kernel
theorem dX1_priceOf_12 : decode cX1_priceOf 12 = .ok (.ishr, 1) := by decide +kernel
theorem dX1_priceOf_13 : decode cX1_priceOf 13 = .ok (.iconst 1, 1) := by decide +kernel
theorem dX1_priceOf_14 : decode cX1_priceOf 14 = .ok (.iand, 1) := by decide +kernel
theorem dX1_priceOf_15 : decode cX1_priceOf 15 = .ok (.iconst 1, 1) := by decide +kernel
theorem dX1_priceOf_16 : decode cX1_priceOf 16 = .ok (.if_icmp .ne 23, 3) := by decide +kernel
theorem dX1_priceOf_19 : decode cX1_priceOf 19 = .ok (.aload_n 0, 1) := by decide +kernel
theorem dX1_priceOf_20 : decode cX1_priceOf 20 = .ok (.getfield 7, 3) := by decide +kernel
theorem dX1_priceOf_23 : decode cX1_priceOf 23 = .ok (.iload_n 3, 1) := by decide +kernel
theorem dX1_priceOf_24 : decode cX1_priceOf 24 = .ok (.baload, 1) := by decide +kernel
theorem dX1_priceOf_25 : decode cX1_priceOf 25 = .ok (.ifCond .ne 5, 3) := by decide +kernel
theorem dX1_priceOf_28 : decode cX1_priceOf 28 = .ok (.iconst (-1), 1) := by decide +kernel
theorem dX1_priceOf_29 : decode cX1_priceOf 29 = .ok (.ireturn, 1) := by decide +kernel
theorem dX1_priceOf_30 : decode cX1_priceOf 30 = .ok (.iload_n 2, 1) := by decide +kernel
theorem dX1_priceOf_31 : decode cX1_priceOf 31 = .ok (.aload_n 0, 1) := by decide +kernel
theorem dX1_priceOf_32 : decode cX1_priceOf 32 = .ok (.getfield 20, 3) := by decide +kernel
theorem dX1_priceOf_35 : decode cX1_priceOf 35 = .ok (.iload_n 3, 1) := by decide +kernel
theorem dX1_priceOf_36 : decode cX1_priceOf 36 = .ok (.iaload, 1) := by decide +kernel
theorem dX1_priceOf_37 : decode cX1_priceOf 37 = .ok (.iadd, 1) := by decide +kernel
theorem dX1_priceOf_38 : decode cX1_priceOf 38 = .ok (.istore_n 2, 1) := by decide +kernel
theorem dX1_priceOf_39 : decode cX1_priceOf 39 = .ok (.iinc 3 1, 3) := by decide +kernel
theorem dX1_priceOf_42 : decode cX1_priceOf 42 = .ok (.goto (-38), 3) := by decide +kernel
theorem dX1_priceOf_45 : decode cX1_priceOf 45 = .ok (.iload_n 2, 1) := by decide +kernel
theorem dX1_priceOf_46 : decode cX1_priceOf 46 = .ok (.ireturn, 1) := by decide +kernel
theorem dX1_joins_0 : decode cX1_joins 0 = .ok (.iload_n 2, 1) := by decide +kernel
theorem dX1_joins_1 : decode cX1_joins 1 = .ok (.iload_n 2, 1) := by decide +kernel
theorem dX1_joins_2 : decode cX1_joins 2 = .ok (.ineg, 1) := by decide +kernel
theorem dX1_joins_3 : decode cX1_joins 3 = .ok (.iand, 1) := by decide +kernel
theorem dX1_joins_4 : decode cX1_joins 4 = .ok (.istore_n 3, 1) := by decide +kernel
theorem dX1_joins_5 : decode cX1_joins 5 = .ok (.iconst 0, 1) := by decide +kernel
theorem dX1_joins_6 : decode cX1_joins 6 = .ok (.istore 4, 2) := by decide +kernel
theorem dX1_joins_8 : decode cX1_joins 8 = .ok (.iload 4, 2) := by decide +kernel
theorem dX1_joins_10 : decode cX1_joins 10 = .ok (.bipush 6, 2) := by decide +kernel
theorem dX1_joins_12 : decode cX1_joins 12 = .ok (.if_icmp .ge 68, 3) := by decide +kernel
theorem dX1_joins_15 : decode cX1_joins 15 = .ok (.iconst 0, 1) := by decide +kernel
theorem dX1_joins_16 : decode cX1_joins 16 = .ok (.istore 5, 2) := by decide +kernel
theorem dX1_joins_18 : decode cX1_joins 18 = .ok (.iload 5, 2) := by decide +kernel
theorem dX1_joins_20 : decode cX1_joins 20 = .ok (.bipush 10, 2) := by decide +kernel
theorem dX1_joins_22 : decode cX1_joins 22 = .ok (.if_icmp .ge 52, 3) := by decide +kernel
theorem dX1_joins_25 : decode cX1_joins 25 = .ok (.iconst 1, 1) := by decide +kernel
theorem dX1_joins_26 : decode cX1_joins 26 = .ok (.aload_n 0, 1) := by decide +kernel
theorem dX1_joins_27 : decode cX1_joins 27 = .ok (.getfield 13, 3) := by decide +kernel
theorem dX1_joins_30 : decode cX1_joins 30 = .ok (.iload 5, 2) := by decide +kernel
theorem dX1_joins_32 : decode cX1_joins 32 = .ok (.iaload, 1) := by decide +kernel
theorem dX1_joins_33 : decode cX1_joins 33 = .ok (.ishl, 1) := by decide +kernel
theorem dX1_joins_34 : decode cX1_joins 34 = .ok (.iconst 1, 1) := by decide +kernel
theorem dX1_joins_35 : decode cX1_joins 35 = .ok (.aload_n 0, 1) := by decide +kernel
theorem dX1_joins_36 : decode cX1_joins 36 = .ok (.getfield 17, 3) := by decide +kernel
theorem dX1_joins_39 : decode cX1_joins 39 = .ok (.iload 5, 2) := by decide +kernel
theorem dX1_joins_41 : decode cX1_joins 41 = .ok (.iaload, 1) := by decide +kernel
theorem dX1_joins_42 : decode cX1_joins 42 = .ok (.ishl, 1) := by decide +kernel
theorem dX1_joins_43 : decode cX1_joins 43 = .ok (.ior, 1) := by decide +kernel
theorem dX1_joins_44 : decode cX1_joins 44 = .ok (.istore 6, 2) := by decide +kernel
theorem dX1_joins_46 : decode cX1_joins 46 = .ok (.iload_n 1, 1) := by decide +kernel
theorem dX1_joins_47 : decode cX1_joins 47 = .ok (.iload 5, 2) := by decide +kernel
theorem dX1_joins_49 : decode cX1_joins 49 = .ok (.ishr, 1) := by decide +kernel
theorem dX1_joins_50 : decode cX1_joins 50 = .ok (.iconst 1, 1) := by decide +kernel
theorem dX1_joins_51 : decode cX1_joins 51 = .ok (.iand, 1) := by decide +kernel
theorem dX1_joins_52 : decode cX1_joins 52 = .ok (.iconst 1, 1) := by decide +kernel
theorem dX1_joins_53 : decode cX1_joins 53 = .ok (.if_icmp .ne 15, 3) := by decide +kernel
theorem dX1_joins_56 : decode cX1_joins 56 = .ok (.iload_n 3, 1) := by decide +kernel
theorem dX1_joins_57 : decode cX1_joins 57 = .ok (.iload 6, 2) := by decide +kernel
theorem dX1_joins_59 : decode cX1_joins 59 = .ok (.iand, 1) := by decide +kernel
theorem dX1_joins_60 : decode cX1_joins 60 = .ok (.ifCond .eq 8, 3) := by decide +kernel
theorem dX1_joins_63 : decode cX1_joins 63 = .ok (.iload_n 3, 1) := by decide +kernel
theorem dX1_joins_64 : decode cX1_joins 64 = .ok (.iload 6, 2) := by decide +kernel
theorem dX1_joins_66 : decode cX1_joins 66 = .ok (.ior, 1) := by decide +kernel
theorem dX1_joins_67 : decode cX1_joins 67 = .ok (.istore_n 3, 1) := by decide +kernel
theorem dX1_joins_68 : decode cX1_joins 68 = .ok (.iinc 5 1, 3) := by decide +kernel
theorem dX1_joins_71 : decode cX1_joins 71 = .ok (.goto (-53), 3) := by decide +kernel
theorem dX1_joins_74 : decode cX1_joins 74 = .ok (.iinc 4 1, 3) := by decide +kernel
theorem dX1_joins_77 : decode cX1_joins 77 = .ok (.goto (-69), 3) := by decide +kernel
theorem dX1_joins_80 : decode cX1_joins 80 = .ok (.iload_n 3, 1) := by decide +kernel
theorem dX1_joins_81 : decode cX1_joins 81 = .ok (.iload_n 2, 1) := by decide +kernel
theorem dX1_joins_82 : decode cX1_joins 82 = .ok (.iand, 1) := by decide +kernel
theorem dX1_joins_83 : decode cX1_joins 83 = .ok (.iload_n 2, 1) := by decide +kernel
theorem dX1_joins_84 : decode cX1_joins 84 = .ok (.if_icmp .ne 7, 3) := by decide +kernel
theorem dX1_joins_87 : decode cX1_joins 87 = .ok (.iconst 1, 1) := by decide +kernel
theorem dX1_joins_88 : decode cX1_joins 88 = .ok (.goto 4, 3) := by decide +kernel
theorem dX1_joins_91 : decode cX1_joins 91 = .ok (.iconst 0, 1) := by decide +kernel
theorem dX1_joins_92 : decode cX1_joins 92 = .ok (.ireturn, 1) := by decide +kernel
theorem dX1_chosen_0 : decode cX1_chosen 0 = .ok (.aload_n 0, 1) := by decide +kernel
theorem dX1_chosen_1 : decode cX1_chosen 1 = .ok (.iload_n 1, 1) := by decide +kernel
theorem dX1_chosen_2 : decode cX1_chosen 2 = .ok (.invokevirtual 30, 3) := by decide +kernel
theorem dX1_chosen_5 : decode cX1_chosen 5 = .ok (.ifCond .eq 6, 3) := by decide +kernel
theorem dX1_chosen_8 : decode cX1_chosen 8 = .ok (.bipush (-2), 2) := by decide +kernel
theorem dX1_chosen_10 : decode cX1_chosen 10 = .ok (.ireturn, 1) := by decide +kernel
theorem dX1_chosen_11 : decode cX1_chosen 11 = .ok (.aload_n 0, 1) := by decide +kernel
theorem dX1_chosen_12 : decode cX1_chosen 12 = .ok (.invokevirtual 45, 3) := by decide +kernel
theorem dX1_chosen_15 : decode cX1_chosen 15 = .ok (.istore_n 2, 1) := by decide +kernel
theorem dX1_chosen_16 : decode cX1_chosen 16 = .ok (.aload_n 0, 1) := by decide +kernel
theorem dX1_chosen_17 : decode cX1_chosen 17 = .ok (.iload_n 2, 1) := by decide +kernel
theorem dX1_chosen_18 : decode cX1_chosen 18 = .ok (.iconst 0, 1) := by decide +kernel
theorem dX1_chosen_19 : decode cX1_chosen 19 = .ok (.iconst 0, 1) := by decide +kernel
theorem dX1_chosen_20 : decode cX1_chosen 20 = .ok (.invokevirtual 41, 3) := by decide +kernel
theorem dX1_chosen_23 : decode cX1_chosen 23 = .ok (.istore_n 3, 1) := by decide +kernel
theorem dX1_chosen_24 : decode cX1_chosen 24 = .ok (.iload_n 3, 1) := by decide +kernel
theorem dX1_chosen_25 : decode cX1_chosen 25 = .ok (.ifCond .ge 7, 3) := by decide +kernel
theorem dX1_chosen_28 : decode cX1_chosen 28 = .ok (.iconst (-1), 1) := by decide +kernel
theorem dX1_chosen_29 : decode cX1_chosen 29 = .ok (.goto 8, 3) := by decide +kernel
theorem dX1_chosen_32 : decode cX1_chosen 32 = .ok (.iload_n 3, 1) := by decide +kernel
theorem dX1_chosen_33 : decode cX1_chosen 33 = .ok (.iload_n 1, 1) := by decide +kernel
theorem dX1_chosen_34 : decode cX1_chosen 34 = .ok (.ishr, 1) := by decide +kernel
theorem dX1_chosen_35 : decode cX1_chosen 35 = .ok (.iconst 1, 1) := by decide +kernel
theorem dX1_chosen_36 : decode cX1_chosen 36 = .ok (.iand, 1) := by decide +kernel
theorem dX1_chosen_37 : decode cX1_chosen 37 = .ok (.ireturn, 1) := by decide +kernel
theorem dX1_with_0 : decode cX1_with 0 = .ok (.aload_n 0, 1) := by decide +kernel
theorem dX1_with_1 : decode cX1_with 1 = .ok (.iload_n 1, 1) := by decide +kernel
theorem dX1_with_2 : decode cX1_with 2 = .ok (.invokevirtual 30, 3) := by decide +kernel
theorem dX1_with_5 : decode cX1_with 5 = .ok (.ifCond .eq 6, 3) := by decide +kernel
theorem dX1_with_8 : decode cX1_with 8 = .ok (.bipush (-2), 2) := by decide +kernel
theorem dX1_with_10 : decode cX1_with 10 = .ok (.ireturn, 1) := by decide +kernel
theorem dX1_with_11 : decode cX1_with 11 = .ok (.aload_n 0, 1) := by decide +kernel
theorem dX1_with_12 : decode cX1_with 12 = .ok (.invokevirtual 45, 3) := by decide +kernel
theorem dX1_with_15 : decode cX1_with 15 = .ok (.istore_n 2, 1) := by decide +kernel
theorem dX1_with_16 : decode cX1_with 16 = .ok (.aload_n 0, 1) := by decide +kernel
theorem dX1_with_17 : decode cX1_with 17 = .ok (.iload_n 2, 1) := by decide +kernel
theorem dX1_with_18 : decode cX1_with 18 = .ok (.iconst 1, 1) := by decide +kernel
theorem dX1_with_19 : decode cX1_with 19 = .ok (.iload_n 1, 1) := by decide +kernel
theorem dX1_with_20 : decode cX1_with 20 = .ok (.ishl, 1) := by decide +kernel
theorem dX1_with_21 : decode cX1_with 21 = .ok (.iconst 0, 1) := by decide +kernel
theorem dX1_with_22 : decode cX1_with 22 = .ok (.invokevirtual 49, 3) := by decide +kernel
theorem dX1_with_25 : decode cX1_with 25 = .ok (.ireturn, 1) := by decide +kernel
theorem dX1_without_0 : decode cX1_without 0 = .ok (.aload_n 0, 1) := by decide +kernel
theorem dX1_without_1 : decode cX1_without 1 = .ok (.iload_n 1, 1) := by decide +kernel
theorem dX1_without_2 : decode cX1_without 2 = .ok (.invokevirtual 30, 3) := by decide +kernel
theorem dX1_without_5 : decode cX1_without 5 = .ok (.ifCond .eq 6, 3) := by decide +kernel
theorem dX1_without_8 : decode cX1_without 8 = .ok (.bipush (-2), 2) := by decide +kernel
theorem dX1_without_10 : decode cX1_without 10 = .ok (.ireturn, 1) := by decide +kernel
theorem dX1_without_11 : decode cX1_without 11 = .ok (.aload_n 0, 1) := by decide +kernel
theorem dX1_without_12 : decode cX1_without 12 = .ok (.invokevirtual 45, 3) := by decide +kernel
theorem dX1_without_15 : decode cX1_without 15 = .ok (.istore_n 2, 1) := by decide +kernel
theorem dX1_without_16 : decode cX1_without 16 = .ok (.aload_n 0, 1) := by decide +kernel
theorem dX1_without_17 : decode cX1_without 17 = .ok (.iload_n 2, 1) := by decide +kernel
theorem dX1_without_18 : decode cX1_without 18 = .ok (.iconst 0, 1) := by decide +kernel
theorem dX1_without_19 : decode cX1_without 19 = .ok (.iconst 1, 1) := by decide +kernel
theorem dX1_without_20 : decode cX1_without 20 = .ok (.iload_n 1, 1) := by decide +kernel
theorem dX1_without_21 : decode cX1_without 21 = .ok (.ishl, 1) := by decide +kernel
theorem dX1_without_22 : decode cX1_without 22 = .ok (.invokevirtual 49, 3) := by decide +kernel
theorem dX1_without_25 : decode cX1_without 25 = .ok (.ireturn, 1) := by decide +kernel
theorem dX1_including_0 : decode cX1_including 0 = .ok (.iload_n 1, 1) := by decide +kernel
theorem dX1_including_1 : decode cX1_including 1 = .ok (.invokestatic 26, 3) := by decide +kernel
theorem dX1_including_4 : decode cX1_including 4 = .ok (.ifCond .eq 6, 3) := by decide +kernel
theorem dX1_including_7 : decode cX1_including 7 = .ok (.bipush (-2), 2) := by decide +kernel
theorem dX1_including_9 : decode cX1_including 9 = .ok (.ireturn, 1) := by decide +kernel
theorem dX1_including_10 : decode cX1_including 10 = .ok (.aload_n 0, 1) := by decide +kernel
theorem dX1_including_11 : decode cX1_including 11 = .ok (.invokevirtual 45, 3) := by decide +kernel
theorem dX1_including_14 : decode cX1_including 14 = .ok (.istore_n 2, 1) := by decide +kernel
theorem dX1_including_15 : decode cX1_including 15 = .ok (.aload_n 0, 1) := by decide +kernel
theorem dX1_including_16 : decode cX1_including 16 = .ok (.iload_n 2, 1) := by decide +kernel
theorem dX1_including_17 : decode cX1_including 17 = .ok (.iconst 1, 1) := by decide +kernel
theorem dX1_including_18 : decode cX1_including 18 = .ok (.iload_n 1, 1) := by decide +kernel
theorem dX1_including_19 : decode cX1_including 19 = .ok (.ishl, 1) := by decide +kernel
theorem dX1_including_20 : decode cX1_including 20 = .ok (.ior, 1) := by decide +kernel
theorem dX1_including_21 : decode cX1_including 21 = .ok (.iconst 0, 1) := by decide +kernel
theorem dX1_including_22 : decode cX1_including 22 = .ok (.iconst 0, 1) := by decide +kernel
theorem dX1_including_23 : decode cX1_including 23 = .ok (.invokevirtual 49, 3) := by decide +kernel
theorem dX1_including_26 : decode cX1_including 26 = .ok (.ireturn, 1) := by decide +kernel
theorem dX1_between_0 : decode cX1_between 0 = .ok (.iload_n 1, 1) := by decide +kernel
theorem dX1_between_1 : decode cX1_between 1 = .ok (.invokestatic 26, 3) := by decide +kernel
theorem dX1_between_4 : decode cX1_between 4 = .ok (.ifCond .ne 10, 3) := by decide +kernel
theorem dX1_between_7 : decode cX1_between 7 = .ok (.iload_n 2, 1) := by decide +kernel
theorem dX1_between_8 : decode cX1_between 8 = .ok (.invokestatic 26, 3) := by decide +kernel
theorem dX1_between_11 : decode cX1_between 11 = .ok (.ifCond .eq 6, 3) := by decide +kernel
theorem dX1_between_14 : decode cX1_between 14 = .ok (.bipush (-2), 2) := by decide +kernel
theorem dX1_between_16 : decode cX1_between 16 = .ok (.ireturn, 1) := by decide +kernel
theorem dX1_between_17 : decode cX1_between 17 = .ok (.aload_n 0, 1) := by decide +kernel
theorem dX1_between_18 : decode cX1_between 18 = .ok (.iconst 1, 1) := by decide +kernel
theorem dX1_between_19 : decode cX1_between 19 = .ok (.iload_n 1, 1) := by decide +kernel
theorem dX1_between_20 : decode cX1_between 20 = .ok (.ishl, 1) := by decide +kernel
theorem dX1_between_21 : decode cX1_between 21 = .ok (.iconst 1, 1) := by decide +kernel
theorem dX1_between_22 : decode cX1_between 22 = .ok (.iload_n 2, 1) := by decide +kernel
theorem dX1_between_23 : decode cX1_between 23 = .ok (.ishl, 1) := by decide +kernel
theorem dX1_between_24 : decode cX1_between 24 = .ok (.ior, 1) := by decide +kernel
theorem dX1_between_25 : decode cX1_between 25 = .ok (.iconst 0, 1) := by decide +kernel
theorem dX1_between_26 : decode cX1_between 26 = .ok (.iconst 0, 1) := by decide +kernel
theorem dX1_between_27 : decode cX1_between 27 = .ok (.invokevirtual 49, 3) := by decide +kernel
theorem dX1_between_30 : decode cX1_between 30 = .ok (.ireturn, 1) := by decide +kernel
end
section
/-! PLAIN GRAPHS: points are numbers, ten lines k with ends ea k, eb k; a choice of lines is c : Nat → Bool. No program in sight. -/
/-- q hangs together with p by the lines of c: every set that c respects and that holds p holds q -/
def sg_C (ea eb : Nat → Nat) (c : Nat → Bool) (p q : Nat) : Prop := ∀ S : Nat → Prop, (∀ k, k < 10 → c k = true → (S (ea k) ↔ S (eb k))) → S p → S q
theorem sg_rf {ea eb : Nat → Nat} {c : Nat → Bool} {p : Nat} : sg_C ea eb c p p := fun _ _ h => h
theorem sg_tr {ea eb : Nat → Nat} {c : Nat → Bool} {p q r : Nat} (h1 : sg_C ea eb c p q) (h2 : sg_C ea eb c q r) : sg_C ea eb c p r := fun S hS h => h2 S hS (h1 S hS h)
theorem sg_sy {ea eb : Nat → Nat} {c : Nat → Bool} {p q : Nat} (h : sg_C ea eb c p q) : sg_C ea eb c q p := by
  intro S hS hq
  apply Classical.byContradiction
  intro hp
  exact h (fun x => ¬ S x) (fun k hk hc => not_congr (hS k hk hc)) hp hq
theorem sg_mo {ea eb : Nat → Nat} {c d : Nat → Bool} {p q : Nat} (hm : ∀ k, k < 10 → c k = true → d k = true) (h : sg_C ea eb c p q) : sg_C ea eb d p q := fun S hS hp => h S (fun k hk hc => hS k hk (hm k hk hc)) hp
theorem sg_ed {ea eb : Nat → Nat} {c : Nat → Bool} {k : Nat} (hk : k < 10) (hc : c k = true) : sg_C ea eb c (ea k) (eb k) := fun S hS h => (hS k hk hc).mp h
/-- the price of a choice: lines below n -/
def sg_S (w : Nat → Nat) (c : Nat → Bool) : Nat → Nat
  | 0 => 0
  | n + 1 => sg_S w c n + (if c n = true then w n else 0)
theorem sg_S_or (w : Nat → Nat) (c d : Nat → Bool) (n : Nat) : sg_S w (fun k => c k || d k) n ≤ sg_S w c n + sg_S w d n := by
  induction n with
  | zero => simp [sg_S]
  | succ n ih =>
    simp only [sg_S]
    by_cases hc : c n = true <;> by_cases hd : d n = true <;> simp [hc, hd] <;> omega
theorem sg_S_mo {w : Nat → Nat} {c d : Nat → Bool} {n : Nat} (h : ∀ k, k < n → c k = true → d k = true) : sg_S w c n ≤ sg_S w d n := by
  induction n with
  | zero => simp [sg_S]
  | succ n ih =>
    have h1 := ih (fun k hk => h k (by omega))
    have h2 := h n (by omega)
    simp only [sg_S]
    cases hc : c n with
    | false => simp; omega
    | true => rw [h2 hc]; simp; omega
theorem sg_S_ge {w : Nat → Nat} {c : Nat → Bool} {k n : Nat} (hk : k < n) (hc : c k = true) : w k ≤ sg_S w c n := by
  induction n with
  | zero => omega
  | succ n ih =>
    simp only [sg_S]
    by_cases h : k = n
    · subst h; simp [hc]
    · have := ih (by omega); omega
theorem sg_S_sp (w : Nat → Nat) (c f : Nat → Bool) (n : Nat) : sg_S w (fun k => c k && f k) n + sg_S w (fun k => c k && !f k) n = sg_S w c n := by
  induction n with
  | zero => simp [sg_S]
  | succ n ih =>
    simp only [sg_S]
    by_cases hc : c n = true <;> by_cases hf : f n = true <;> simp [hc, hf] <;> omega
theorem sg_S_cg {w v : Nat → Nat} {c d : Nat → Bool} {n : Nat} (h : ∀ k, k < n → c k = d k) (hw : ∀ k, k < n → c k = true → w k = v k) : sg_S w c n = sg_S v d n := by
  induction n with
  | zero => rfl
  | succ n ih =>
    have h1 := ih (fun k hk => h k (by omega)) (fun k hk => hw k (by omega))
    simp only [sg_S]
    rw [h1, ← h n (by omega)]
    cases hc : c n with
    | false => simp
    | true => rw [hw n (by omega) hc]
theorem sg_S_le {w v : Nat → Nat} {c : Nat → Bool} {n : Nat} (hw : ∀ k, k < n → c k = true → w k ≤ v k) : sg_S w c n ≤ sg_S v c n := by
  induction n with
  | zero => exact Nat.le_refl _
  | succ n ih =>
    have h1 := ih (fun k hk => hw k (by omega))
    have h2 := hw n (by omega)
    simp only [sg_S]
    cases hc : c n with
    | false => simp; omega
    | true => have := h2 hc; simp; omega
/-- a line less -/
def sg_rm (c : Nat → Bool) (e : Nat) : Nat → Bool := fun k => c k && !decide (k = e)
theorem sg_rm_of {c : Nat → Bool} {e k : Nat} (h : sg_rm c e k = true) : c k = true ∧ k ≠ e := by
  simpa [sg_rm] using h
theorem sg_rm_to {c : Nat → Bool} {e k : Nat} (h : c k = true) (hk : k ≠ e) : sg_rm c e k = true := by
  simp [sg_rm, h, hk]
theorem sg_S_rm (w : Nat → Nat) {c : Nat → Bool} {e n : Nat} (he : e < n) (hc : c e = true) : sg_S w (sg_rm c e) n + w e = sg_S w c n := by
  induction n with
  | zero => omega
  | succ n ih =>
    simp only [sg_S]
    by_cases h : e = n
    · subst h
      have h0 : sg_S w (sg_rm c e) e = sg_S w c e := sg_S_cg (fun k hk => by simp [sg_rm, show k ≠ e by omega]) (fun _ _ _ => rfl)
      rw [h0]
      simp [sg_rm, hc]
    · have h1 := ih (by omega)
      have h2 : sg_rm c e n = c n := by simp [sg_rm, show n ≠ e by omega]
      rw [h2]
      omega
noncomputable def sg_db (P : Prop) : Bool := @decide P (Classical.propDecidable P)
theorem sg_db_t {P : Prop} (h : P) : sg_db P = true := @decide_eq_true P (Classical.propDecidable P) h
theorem sg_db_f {P : Prop} (h : ¬ P) : sg_db P = false := @decide_eq_false P (Classical.propDecidable P) h
theorem sg_db_of {P : Prop} (h : sg_db P = true) : P := @of_decide_eq_true P (Classical.propDecidable P) h
theorem sg_db_nof {P : Prop} (h : sg_db P = false) : ¬ P := @of_decide_eq_false P (Classical.propDecidable P) h
/-- a number with given bits -/
theorem sg_mask (P : Nat → Bool) : ∀ w : Nat, ∃ a : Nat, a < 2 ^ w ∧ ∀ k : Nat, a.testBit k = (decide (k < w) && P k)
  | 0 => ⟨0, by simp, fun k => by simp⟩
  | w + 1 => by
    obtain ⟨a, h1, h2⟩ := sg_mask P w
    cases hp : P w with
    | false =>
      refine ⟨a, by rw [Nat.pow_succ]; omega, fun k => ?_⟩
      rw [h2 k]
      by_cases hk : k < w
      · simp [hk, show k < w + 1 by omega]
      · by_cases hk2 : k = w
        · subst hk2; simp [hp]
        · simp [hk, show ¬ k < w + 1 by omega]
    | true =>
      refine ⟨a ||| 2 ^ w, Nat.or_lt_two_pow (by rw [Nat.pow_succ]; omega) (by rw [Nat.pow_succ]; have := Nat.two_pow_pos w; omega), fun k => ?_⟩
      rw [Nat.testBit_or, h2 k, Nat.testBit_two_pow]
      by_cases hk : k < w
      · simp [hk, show k < w + 1 by omega, show ¬ w = k by omega]
      · by_cases hk2 : k = w
        · subst hk2; simp [hp]
        · simp [hk, show ¬ k < w + 1 by omega, show ¬ w = k by omega]
theorem sg_sub (n : Nat) (P : Nat → Bool) : ∃ a : Nat, ∀ k : Nat, a.testBit k = (n.testBit k && P k) := by
  obtain ⟨a, h1, h2⟩ := sg_mask P n
  refine ⟨n &&& a, fun k => ?_⟩
  rw [Nat.testBit_and, h2 k]
  by_cases hk : k < n
  · simp [hk]
  · have hb : n.testBit k = false := Nat.testBit_lt_two_pow (Nat.lt_of_lt_of_le Nat.lt_two_pow_self (Nat.pow_le_pow_right (by omega) (Nat.not_lt.mp hk)))
    simp [hb]
theorem sg_le_of_bits {a b : Nat} (h : ∀ k, a.testBit k = true → b.testBit k = true) : a ≤ b := by
  have h1 : a &&& b = a := by
    apply Nat.eq_of_testBit_eq
    intro k
    rw [Nat.testBit_and]
    cases ha : a.testBit k with
    | false => simp
    | true => simp [h k ha]
  rw [← h1]
  exact Nat.and_le_right
theorem sg_bit_of_ne {a : Nat} (h : a ≠ 0) : ∃ k, a.testBit k = true := by
  apply Classical.byContradiction
  intro hn
  apply h
  apply Nat.eq_of_testBit_eq
  intro k
  rw [Nat.zero_testBit]
  cases hk : a.testBit k with
  | false => rfl
  | true => exact absurd ⟨k, hk⟩ hn
theorem sg_bit_lt {a k w : Nat} (h : a < 2 ^ w) (hk : a.testBit k = true) : k < w := by
  apply Classical.byContradiction
  intro hn
  have hb : a.testBit k = false := Nat.testBit_lt_two_pow (Nat.lt_of_lt_of_le h (Nat.pow_le_pow_right (by omega) (Nat.not_lt.mp hn)))
  rw [hb] at hk
  cases hk
theorem sg_two_bit (k j : Nat) : (2 ^ k).testBit j = true ↔ k = j := by
  rw [Nat.testBit_two_pow]
  simp
theorem sg_and_of_bits {a b : Nat} (h : ∀ k, a.testBit k = true → b.testBit k = true) : a &&& b = a := by
  apply Nat.eq_of_testBit_eq
  intro k
  rw [Nat.testBit_and]
  cases ha : a.testBit k with
  | false => simp
  | true => simp [h k ha]
theorem sg_bits_of_and {a b : Nat} (h : a &&& b = a) (k : Nat) (hk : a.testBit k = true) : b.testBit k = true := by
  have h1 : (a &&& b).testBit k = true := by rw [h]; exact hk
  rw [Nat.testBit_and, Bool.and_eq_true] at h1
  exact h1.2
theorem sg_xor0 {a b : Nat} (h : a ^^^ b = 0) : a = b := by
  apply Nat.eq_of_testBit_eq
  intro k
  have h1 : (a ^^^ b).testBit k = false := by rw [h, Nat.zero_testBit]
  rw [Nat.testBit_xor] at h1
  cases ha : a.testBit k <;> cases hb : b.testBit k <;> simp_all
theorem sg_ne_zero_of_bit {a k : Nat} (h : a.testBit k = true) : a ≠ 0 := by
  intro h0
  rw [h0, Nat.zero_testBit] at h
  cases h
section SGO
variable {ea eb ct wy wd : Nat → Nat} {f : Nat → Nat → Nat} {W : Nat}
/-- wanted points that all lie at p cost nothing -/
theorem sg_opt0 {p : Nat} (hp : p < 7) (hA : ∀ k, k < W → f (2 ^ k) (wd k) = 0) (hB : ∀ s h p, s < 2 ^ W → 0 < h → h < s → h &&& s = h → p < 7 → f s p ≤ f h p + f (s ^^^ h) p) :
    ∀ N s, s ≤ N → 0 < s → s < 2 ^ W → (∀ k, k < W → s.testBit k = true → wd k = p) → f s p = 0 := by
  intro N
  induction N with
  | zero => intro s h1 h2; omega
  | succ N ih =>
    intro s h1 h2 h3 h4
    obtain ⟨k, hk⟩ := sg_bit_of_ne (a := s) (by omega)
    have hkW := sg_bit_lt h3 hk
    have hw := h4 k hkW hk
    have hf : f (2 ^ k) p = 0 := by rw [← hw]; exact hA k hkW
    by_cases he : s = 2 ^ k
    · rw [he]; exact hf
    · have hsub : ∀ j, (2 ^ k).testBit j = true → s.testBit j = true := fun j hj => by
        rw [← (sg_two_bit k j).mp hj]; exact hk
      have hle := sg_le_of_bits hsub
      have hlt : 2 ^ k < s := by omega
      have hx : ∀ j, (s ^^^ 2 ^ k).testBit j = true → s.testBit j = true := fun j hj => by
        rw [Nat.testBit_xor] at hj
        cases hs : s.testBit j with
        | true => rfl
        | false =>
          rw [hs] at hj
          have := hsub j (by simpa using hj)
          rw [hs] at this
          exact this
      have hxle := sg_le_of_bits hx
      have hxne : s ^^^ 2 ^ k ≠ s := fun h => by
        have h9 : (s ^^^ 2 ^ k).testBit k = s.testBit k := by rw [h]
        rw [Nat.testBit_xor, hk, (sg_two_bit k k).mpr rfl] at h9
        cases h9
      have hx0 : s ^^^ 2 ^ k ≠ 0 := fun h => he (by
        have h9 := sg_xor0 h
        exact h9)
      have hi := ih (s ^^^ 2 ^ k) (by omega) (by omega) (by omega) (fun j hj hb => h4 j hj (hx j hb))
      have hb := hB s (2 ^ k) p h3 (Nat.two_pow_pos k) hlt (sg_and_of_bits hsub) hp
      omega
theorem sg_via {c : Nat → Bool} {e p v : Nat} (hv : (ea e = p ∧ eb e = v) ∨ (eb e = p ∧ ea e = v)) {w : Nat} (h : sg_C ea eb c p w) : sg_C ea eb (sg_rm c e) p w ∨ sg_C ea eb (sg_rm c e) v w := by
  refine h (fun q => sg_C ea eb (sg_rm c e) p q ∨ sg_C ea eb (sg_rm c e) v q) ?_ (Or.inl sg_rf)
  intro k hk hc
  by_cases he : k = e
  · subst he
    rcases hv with ⟨h1, h2⟩ | ⟨h1, h2⟩
    · rw [h1, h2]; exact ⟨fun _ => Or.inr sg_rf, fun _ => Or.inl sg_rf⟩
    · rw [h1, h2]; exact ⟨fun _ => Or.inl sg_rf, fun _ => Or.inr sg_rf⟩
  · have hed := sg_ed (ea := ea) (eb := eb) hk (sg_rm_to hc he)
    constructor
    · intro hh
      rcases hh with hh | hh
      · exact Or.inl (sg_tr hh hed)
      · exact Or.inr (sg_tr hh hed)
    · intro hh
      rcases hh with hh | hh
      · exact Or.inl (sg_tr hh (sg_sy hed))
      · exact Or.inr (sg_tr hh (sg_sy hed))
/-- the part of a choice that hangs together with p carries what hangs together with p -/
theorem sg_in {c : Nat → Bool} {p w : Nat} (h : sg_C ea eb c p w) : sg_C ea eb (fun k => c k && sg_db (sg_C ea eb c p (ea k))) p w := by
  intro S hS hp
  have h1 := h (fun q => sg_C ea eb c p q ∧ S q) ?_ ⟨sg_rf, hp⟩
  · exact h1.2
  · intro k hk hc
    have hed := sg_ed (ea := ea) (eb := eb) hk hc
    constructor
    · intro ⟨a, b⟩
      exact ⟨sg_tr a hed, (hS k hk (by simp [hc, sg_db_t a])).mp b⟩
    · intro ⟨a, b⟩
      have a' := sg_tr a (sg_sy hed)
      exact ⟨a', (hS k hk (by simp [hc, sg_db_t a'])).mpr b⟩
theorem sg_out {c : Nat → Bool} {p v w : Nat} (hv : ¬ sg_C ea eb c p v) (h : sg_C ea eb c v w) : sg_C ea eb (fun k => c k && !sg_db (sg_C ea eb c p (ea k))) v w := by
  intro S hS hp
  have h1 := h (fun q => ¬ sg_C ea eb c p q ∧ S q) ?_ ⟨hv, hp⟩
  · exact h1.2
  · intro k hk hc
    have hed := sg_ed (ea := ea) (eb := eb) hk hc
    constructor
    · intro ⟨a, b⟩
      exact ⟨fun z => a (sg_tr z (sg_sy hed)), (hS k hk (by simp [hc, sg_db_f a])).mp b⟩
    · intro ⟨a, b⟩
      have a' : ¬ sg_C ea eb c p (ea k) := fun z => a (sg_tr z hed)
      exact ⟨a', (hS k hk (by simp [hc, sg_db_f a'])).mpr b⟩
/-- NO CHOICE IS CHEAPER than the table says -/
theorem sg_opt (hea : ∀ k, ea k < 7) (heb : ∀ k, eb k < 7) (hA : ∀ k, k < W → f (2 ^ k) (wd k) = 0) (hB : ∀ s h p, s < 2 ^ W → 0 < h → h < s → h &&& s = h → p < 7 → f s p ≤ f h p + f (s ^^^ h) p)
    (hC : ∀ s p q, 0 < s → s < 2 ^ W → p < 7 → q < 7 → f s p ≤ f s q + wy (7 * q + p)) (hE : ∀ k, k < 10 → wy (7 * ea k + eb k) ≤ ct k ∧ wy (7 * eb k + ea k) ≤ ct k) :
    ∀ N (c : Nat → Bool), sg_S (fun _ => 1) c 10 ≤ N → ∀ s p, 0 < s → s < 2 ^ W → p < 7 → (∀ k, k < W → s.testBit k = true → sg_C ea eb c p (wd k)) → f s p ≤ sg_S ct c 10 := by
  intro N
  induction N with
  | zero =>
    intro c hc s p h1 h2 hp h3
    have hno : ∀ e, e < 10 → ¬ c e = true := fun e he hce => by
      have := sg_S_ge (w := fun _ => 1) he hce
      omega
    rw [sg_opt0 hp hA hB s s (Nat.le_refl _) h1 h2 (fun k hk hb => (h3 k hk hb (fun q => q = p) (fun j hj hcj => absurd hcj (hno j hj)) rfl))]
    exact Nat.zero_le _
  | succ N ih =>
    intro c hc s p h1 h2 hp h3
    by_cases hi : ∃ e, e < 10 ∧ c e = true ∧ (ea e = p ∨ eb e = p)
    · obtain ⟨e, he, hce, hor⟩ := hi
      have hcnt := sg_S_rm (fun _ => 1) he hce
      have hcost := sg_S_rm ct he hce
      obtain ⟨v, hv, hv7, hwy⟩ : ∃ v, ((ea e = p ∧ eb e = v) ∨ (eb e = p ∧ ea e = v)) ∧ v < 7 ∧ wy (7 * v + p) ≤ ct e := by
        rcases hor with h | h
        · exact ⟨eb e, Or.inl ⟨h, rfl⟩, heb e, by rw [← h]; exact (hE e he).2⟩
        · exact ⟨ea e, Or.inr ⟨h, rfl⟩, hea e, by rw [← h]; exact (hE e he).1⟩
      obtain ⟨a, ha⟩ := sg_sub s (fun k => sg_db (sg_C ea eb (sg_rm c e) p (wd k)))
      have has : ∀ k, a.testBit k = true → s.testBit k = true := fun k hk => by
        rw [ha k, Bool.and_eq_true] at hk; exact hk.1
      have hap : ∀ k, a.testBit k = true → sg_C ea eb (sg_rm c e) p (wd k) := fun k hk => by
        rw [ha k, Bool.and_eq_true] at hk; exact sg_db_of hk.2
      have hle := sg_le_of_bits has
      by_cases ha0 : a = 0
      · have hall : ∀ k, k < W → s.testBit k = true → sg_C ea eb (sg_rm c e) v (wd k) := fun k hk hb => by
          rcases sg_via hv (h3 k hk hb) with h | h
          · have : a.testBit k = true := by rw [ha k, hb, sg_db_t h]; rfl
            rw [ha0, Nat.zero_testBit] at this
            cases this
          · exact h
        have := ih (sg_rm c e) (by omega) s v h1 h2 hv7 hall
        have := hC s p v h1 h2 hp hv7
        omega
      · by_cases has2 : a = s
        · have := ih (sg_rm c e) (by omega) s p h1 h2 hp (fun k hk hb => hap k (by rw [has2]; exact hb))
          omega
        · have hx : ∀ k, (s ^^^ a).testBit k = true → s.testBit k = true ∧ ¬ sg_C ea eb (sg_rm c e) p (wd k) := fun k hk => by
            rw [Nat.testBit_xor, ha k] at hk
            cases hs : s.testBit k with
            | false => rw [hs] at hk; simp at hk
            | true =>
              refine ⟨rfl, fun z => ?_⟩
              rw [hs, sg_db_t z] at hk
              simp at hk
          have hxle := sg_le_of_bits (fun k hk => (hx k hk).1)
          have hx0 : s ^^^ a ≠ 0 := fun h => has2 (sg_xor0 h).symm
          have hxv : ∀ k, k < W → (s ^^^ a).testBit k = true → sg_C ea eb (sg_rm c e) v (wd k) := fun k hk hb => by
            rcases sg_via hv (h3 k hk (hx k hb).1) with h | h
            · exact absurd h (hx k hb).2
            · exact h
          have hnv : ¬ sg_C ea eb (sg_rm c e) p v := fun z => by
            obtain ⟨k, hk⟩ := sg_bit_of_ne hx0
            exact (hx k hk).2 (sg_tr z (hxv k (sg_bit_lt (Nat.lt_of_le_of_lt hxle h2) hk) hk))
          have hsp := sg_S_sp ct (sg_rm c e) (fun k => sg_db (sg_C ea eb (sg_rm c e) p (ea k))) 10
          have hsp1 := sg_S_sp (fun _ => 1) (sg_rm c e) (fun k => sg_db (sg_C ea eb (sg_rm c e) p (ea k))) 10
          have h5 := ih (fun k => sg_rm c e k && sg_db (sg_C ea eb (sg_rm c e) p (ea k))) (by omega) a p (by omega) (by omega) hp (fun k hk hb => sg_in (hap k hb))
          have h6 := ih (fun k => sg_rm c e k && !sg_db (sg_C ea eb (sg_rm c e) p (ea k))) (by omega) (s ^^^ a) v (by omega) (by omega) hv7 (fun k hk hb => sg_out hnv (hxv k hk hb))
          have h7 := hB s a p h2 (by omega) (by omega) (sg_and_of_bits has) hp
          have h8 := hC (s ^^^ a) p v (by omega) (by omega) hp hv7
          omega
    · have hno : ∀ e, e < 10 → c e = true → ea e ≠ p ∧ eb e ≠ p := fun e he hce => ⟨fun z => hi ⟨e, he, hce, Or.inl z⟩, fun z => hi ⟨e, he, hce, Or.inr z⟩⟩
      rw [sg_opt0 hp hA hB s s (Nat.le_refl _) h1 h2 (fun k hk hb => (h3 k hk hb (fun q => q = p) (fun j hj hcj => ⟨fun z => absurd z (hno j hj hcj).1, fun z => absurd z (hno j hj hcj).2⟩) rfl))]
      exact Nat.zero_le _
end SGO
/-- a choice joins the points of a set -/
def sg_J (ea eb : Nat → Nat) (c : Nat → Bool) (pts : Nat) : Prop := ∀ p q, pts.testBit p = true → pts.testBit q = true → sg_C ea eb c p q
theorem sg_J_mo {ea eb : Nat → Nat} {c d : Nat → Bool} {pts : Nat} (hm : ∀ k, k < 10 → c k = true → d k = true) (h : sg_J ea eb c pts) : sg_J ea eb d pts := fun p q hp hq => sg_mo hm (h p q hp hq)
/-- what leastFor must answer: L is the least price of a choice that joins the points, or 100000 -/
def sg_L (ea eb ct : Nat → Nat) (pts L : Nat) : Prop := L ≤ 100000 ∧ (∀ c, sg_J ea eb c pts → L ≤ sg_S ct c 10) ∧ (L = 100000 ∨ ∃ c, sg_J ea eb c pts ∧ sg_S ct c 10 ≤ L)
end
section
/-! PLAIN PROGRAMS 1: loops as 'it'; the ways between two points -/
def sg_it {α : Type} (f : Nat → α → α) : Nat → α → α
  | 0, x => x
  | n + 1, x => f n (sg_it f n x)
theorem sg_it_inv {α : Type} {f : Nat → α → α} {x : α} (P : Nat → α → Prop) (h0 : P 0 x) {n : Nat} (hs : ∀ i y, i < n → P i y → P (i + 1) (f i y)) : P n (sg_it f n x) := by
  have h : ∀ k, k ≤ n → P k (sg_it f k x) := by
    intro k
    induction k with
    | zero => intro _; exact h0
    | succ k ih => intro hk; exact hs k _ (by omega) (ih (by omega))
  exact h n (Nat.le_refl n)
/-- a table whose entries stay under M -/
def sg_B (M : Nat) (w : Nat → Nat) : Prop := ∀ j, w j ≤ M
theorem sg_B_up {M : Nat} {w : Nat → Nat} {k v : Nat} (h : sg_B M w) (hv : v ≤ M) : sg_B M (va_up w k v) := by
  intro j
  unfold va_up
  split
  · exact hv
  · exact h j
theorem sg_B_it {M : Nat} {f : Nat → (Nat → Nat) → (Nat → Nat)} {w : Nat → Nat} (h : sg_B M w) (hf : ∀ i y, sg_B M y → sg_B M (f i y)) (n : Nat) : sg_B M (sg_it f n w) := sg_it_inv (fun _ y => sg_B M y) h (fun i y _ hy => hf i y hy)
theorem sg_us {α : Type} {f : Nat → α} {k : Nat} {v : α} : va_up f k v k = v := by simp [va_up]
theorem sg_un {α : Type} {f : Nat → α} {k j : Nat} {v : α} (h : j ≠ k) : va_up f k v j = f j := by simp [va_up, h]
-- ===== countAll =====
def sg_cA1 (pr : Nat → Nat) (k : Nat) (ct : Nat → Nat) : Nat → Nat := va_up ct k (if pr k = 0 then 100000 else pr k)
def sg_cA (pr ct : Nat → Nat) (n : Nat) : Nat → Nat := sg_it (sg_cA1 pr) n ct
theorem sg_cA_spec (pr ct : Nat → Nat) (n : Nat) : ∀ j, sg_cA pr ct n j = if j < n then (if pr j = 0 then 100000 else pr j) else ct j := by
  refine sg_it_inv (f := sg_cA1 pr) (fun i y => ∀ j, y j = if j < i then (if pr j = 0 then 100000 else pr j) else ct j) (fun j => by simp) ?_
  intro i y _ hy j
  unfold sg_cA1
  by_cases hj : j = i
  · subst hj; rw [sg_us]; simp
  · rw [sg_un hj, hy j]
    by_cases h2 : j < i
    · simp [h2, show j < i + 1 by omega]
    · simp [h2, show ¬ j < i + 1 by omega]
theorem sg_cA_B {pr ct : Nat → Nat} (hp : sg_B 100 pr) (hc : sg_B 100000 ct) (n : Nat) : sg_B 100000 (sg_cA pr ct n) := by
  intro j
  rw [sg_cA_spec]
  have h1 := hp j
  have h2 := hc j
  split
  · split <;> omega
  · exact h2
-- ===== the ways' table =====
def sg_wI1 (a b : Nat) (w : Nat → Nat) : Nat → Nat := va_up w (7 * a + b) (if a = b then 0 else 100000)
def sg_wI2 (a : Nat) (w : Nat → Nat) : Nat → Nat := sg_it (sg_wI1 a) 7 w
def sg_wI (w : Nat → Nat) : Nat → Nat := sg_it sg_wI2 7 w
def sg_wL1 (ea eb ct : Nat → Nat) (k : Nat) (w : Nat → Nat) : Nat → Nat := if ct k < w (7 * ea k + eb k) then va_up (va_up w (7 * ea k + eb k) (ct k)) (7 * eb k + ea k) (ct k) else w
def sg_wL (ea eb ct w : Nat → Nat) : Nat → Nat := sg_it (sg_wL1 ea eb ct) 10 w
def sg_wS1 (m a b : Nat) (w : Nat → Nat) : Nat → Nat := if w (7 * a + m) + w (7 * m + b) < w (7 * a + b) then va_up w (7 * a + b) (w (7 * a + m) + w (7 * m + b)) else w
def sg_wS2 (m a : Nat) (w : Nat → Nat) : Nat → Nat := sg_it (sg_wS1 m a) 7 w
def sg_wS (m : Nat) (w : Nat → Nat) : Nat → Nat := sg_it (sg_wS2 m) 7 w
def sg_W (ea eb ct w : Nat → Nat) : Nat → Nat := sg_it sg_wS 7 (sg_wL ea eb ct (sg_wI w))
theorem sg_wI1_B {a b : Nat} {w : Nat → Nat} (h : sg_B 100000 w) : sg_B 100000 (sg_wI1 a b w) := sg_B_up h (by split <;> omega)
theorem sg_wI2_B {a : Nat} {w : Nat → Nat} (h : sg_B 100000 w) : sg_B 100000 (sg_wI2 a w) := sg_B_it h (fun _ _ h => sg_wI1_B h) 7
theorem sg_wI_B {w : Nat → Nat} (h : sg_B 100000 w) : sg_B 100000 (sg_wI w) := sg_B_it h (fun _ _ h => sg_wI2_B h) 7
theorem sg_wL1_B {ea eb ct : Nat → Nat} {k : Nat} {w : Nat → Nat} (hc : sg_B 100000 ct) (h : sg_B 100000 w) : sg_B 100000 (sg_wL1 ea eb ct k w) := by
  unfold sg_wL1
  split
  · exact sg_B_up (sg_B_up h (hc k)) (hc k)
  · exact h
theorem sg_wL_B {ea eb ct : Nat → Nat} {w : Nat → Nat} (hc : sg_B 100000 ct) (h : sg_B 100000 w) : sg_B 100000 (sg_wL ea eb ct w) := sg_B_it h (fun _ _ h => sg_wL1_B hc h) 10
theorem sg_wS1_B {m a b : Nat} {w : Nat → Nat} (h : sg_B 100000 w) : sg_B 100000 (sg_wS1 m a b w) := by
  unfold sg_wS1
  split
  · refine sg_B_up h ?_
    have := h (7 * a + b)
    omega
  · exact h
theorem sg_wS2_B {m a : Nat} {w : Nat → Nat} (h : sg_B 100000 w) : sg_B 100000 (sg_wS2 m a w) := sg_B_it h (fun _ _ h => sg_wS1_B h) 7
theorem sg_wS_B {m : Nat} {w : Nat → Nat} (h : sg_B 100000 w) : sg_B 100000 (sg_wS m w) := sg_B_it h (fun _ _ h => sg_wS2_B h) 7
theorem sg_W_B {ea eb ct : Nat → Nat} {w : Nat → Nat} (hc : sg_B 100000 ct) (h : sg_B 100000 w) : sg_B 100000 (sg_W ea eb ct w) := sg_B_it (sg_wL_B hc (sg_wI_B h)) (fun _ _ h => sg_wS_B h) 7
theorem sg_wI_spec (w : Nat → Nat) : ∀ x y, x < 7 → y < 7 → sg_wI w (7 * x + y) = if x = y then 0 else 100000 := by
  have h := sg_it_inv (f := sg_wI2) (x := w) (n := 7) (fun a v => ∀ x y, x < a → y < 7 → v (7 * x + y) = if x = y then 0 else 100000) (fun x y h _ => by omega) ?_
  · intro x y hx hy
    exact h x y hx hy
  · intro a v ha hv
    have h2 := sg_it_inv (f := sg_wI1 a) (x := v) (n := 7) (fun b u => ∀ x y, x < a + 1 → y < 7 → (x < a ∨ y < b) → u (7 * x + y) = if x = y then 0 else 100000) ?_ ?_
    · intro x y hx hy
      exact h2 x y hx hy (Or.inr hy)
    · intro x y hx hy hor
      exact hv x y (by omega) hy
    · intro b u hb hu x y hx hy hor
      unfold sg_wI1
      by_cases he : 7 * x + y = 7 * a + b
      · have h1 : x = a := by omega
        have h2 : y = b := by omega
        rw [he, sg_us, h1, h2]
      · rw [sg_un he]
        exact hu x y hx hy (by omega)
/-- what the ways' table is, all through: nothing on the diagonal, the same both ways, what is under 100000 is reached by a choice -/
def sg_wA (ea eb ct w : Nat → Nat) : Prop := (∀ x, x < 7 → w (7 * x + x) = 0) ∧ ∀ x y, x < 7 → y < 7 → (100000 ≤ w (7 * x + y) ∨ ∃ c, sg_S ct c 10 ≤ w (7 * x + y) ∧ sg_C ea eb c x y)
theorem sg_S_none (w : Nat → Nat) (n : Nat) : sg_S w (fun _ => false) n = 0 := by
  induction n with
  | zero => rfl
  | succ n ih => simp [sg_S, ih]
theorem sg_S_one (w : Nat → Nat) {k n : Nat} (hk : k < n) : sg_S w (fun j => decide (j = k)) n = w k := by
  have h := sg_S_rm w (c := fun j => decide (j = k)) hk (by simp)
  have h0 : sg_S w (sg_rm (fun j => decide (j = k)) k) n = sg_S w (fun _ => false) n := sg_S_cg (fun j _ => by simp [sg_rm]) (fun _ _ _ => rfl)
  rw [h0, sg_S_none] at h
  omega
theorem sg_wL_spec {ea eb ct : Nat → Nat} (hea : ∀ k, ea k < 7) (heb : ∀ k, eb k < 7) (w : Nat → Nat) : sg_wA ea eb ct (sg_wL ea eb ct (sg_wI w)) ∧ ∀ k, k < 10 → sg_wL ea eb ct (sg_wI w) (7 * ea k + eb k) ≤ ct k ∧ sg_wL ea eb ct (sg_wI w) (7 * eb k + ea k) ≤ ct k := by
  have hI := sg_wI_spec w
  have h := sg_it_inv (f := sg_wL1 ea eb ct) (x := sg_wI w) (n := 10) (fun i v => (∀ x y, x < 7 → y < 7 → v (7 * x + y) = v (7 * y + x)) ∧ sg_wA ea eb ct v ∧ ∀ k, k < i → v (7 * ea k + eb k) ≤ ct k ∧ v (7 * eb k + ea k) ≤ ct k) ?_ ?_
  · exact h.2
  · refine ⟨fun x y hx hy => ?_, ⟨fun x hx => ?_, fun x y hx hy => ?_⟩, fun k hk => by omega⟩
    · rw [hI x y hx hy, hI y x hy hx]
      by_cases h : x = y
      · simp [h]
      · simp [h, Ne.symm h]
    · rw [hI x x hx hx]; simp
    · rw [hI x y hx hy]
      by_cases h : x = y
      · subst h
        exact Or.inr ⟨fun _ => false, by rw [sg_S_none]; exact Nat.zero_le _, sg_rf⟩
      · simp [h]
  · intro i v hi ⟨hs, ⟨hd, hr⟩, he⟩
    have ha := hea i
    have hb := heb i
    have hsi := hs (ea i) (eb i) ha hb
    by_cases hc : ct i < v (7 * ea i + eb i)
    · have hne : ea i ≠ eb i := fun z => by
        rw [z] at hc
        have := hd (eb i) hb
        omega
      have hval : ∀ j, sg_wL1 ea eb ct i v j = if j = 7 * eb i + ea i then ct i else if j = 7 * ea i + eb i then ct i else v j := fun j => by
        unfold sg_wL1
        rw [if_pos hc]
        rfl
      have hle : ∀ j, sg_wL1 ea eb ct i v j ≤ v j := fun j => by
        rw [hval j]
        split
        · next h => rw [h]; omega
        · split
          · next h => rw [h]; omega
          · exact Nat.le_refl _
      refine ⟨fun x y hx hy => ?_, ⟨fun x hx => ?_, fun x y hx hy => ?_⟩, fun k hk => ?_⟩
      · rw [hval, hval]
        have := hs x y hx hy
        by_cases h1 : 7 * x + y = 7 * eb i + ea i
        · have : 7 * y + x = 7 * ea i + eb i := by omega
          rw [if_pos h1, if_neg (by omega), if_pos this]
        · by_cases h2 : 7 * x + y = 7 * ea i + eb i
          · have h3 : 7 * y + x = 7 * eb i + ea i := by omega
            rw [if_neg h1, if_pos h2, if_pos h3]
          · rw [if_neg h1, if_neg h2, if_neg (by omega), if_neg (by omega)]
            exact this
      · rw [hval, if_neg (by omega), if_neg (by omega)]
        exact hd x hx
      · rw [hval]
        by_cases h1 : 7 * x + y = 7 * eb i + ea i
        · rw [if_pos h1]
          have hx1 : x = eb i := by omega
          have hy1 : y = ea i := by omega
          refine Or.inr ⟨fun j => decide (j = i), by rw [sg_S_one ct hi]; exact Nat.le_refl _, ?_⟩
          rw [hx1, hy1]
          exact sg_sy (sg_ed hi (by simp))
        · rw [if_neg h1]
          by_cases h2 : 7 * x + y = 7 * ea i + eb i
          · rw [if_pos h2]
            have hx1 : x = ea i := by omega
            have hy1 : y = eb i := by omega
            refine Or.inr ⟨fun j => decide (j = i), by rw [sg_S_one ct hi]; exact Nat.le_refl _, ?_⟩
            rw [hx1, hy1]
            exact sg_ed hi (by simp)
          · rw [if_neg h2]
            exact hr x y hx hy
      · by_cases hk2 : k = i
        · subst hk2
          constructor
          · rw [hval]; split
            · exact Nat.le_refl _
            · rw [if_pos rfl]; exact Nat.le_refl _
          · rw [hval, if_pos rfl]; exact Nat.le_refl _
        · have := he k (by omega)
          have h1 := hle (7 * ea k + eb k)
          have h2 := hle (7 * eb k + ea k)
          omega
    · have hval : sg_wL1 ea eb ct i v = v := by unfold sg_wL1; rw [if_neg hc]
      rw [hval]
      refine ⟨hs, ⟨hd, hr⟩, fun k hk => ?_⟩
      by_cases hk2 : k = i
      · subst hk2; omega
      · exact he k (by omega)
theorem sg_wS_spec {m : Nat} (hm : m < 7) {w : Nat → Nat} (hz : w (7 * m + m) = 0) : ∀ x y, x < 7 → y < 7 → sg_wS m w (7 * x + y) = min (w (7 * x + y)) (w (7 * x + m) + w (7 * m + y)) := by
  have h := sg_it_inv (f := sg_wS2 m) (x := w) (n := 7) (fun a v => ∀ x y, x < 7 → y < 7 → v (7 * x + y) = if x < a then min (w (7 * x + y)) (w (7 * x + m) + w (7 * m + y)) else w (7 * x + y)) ?_ ?_
  · intro x y hx hy
    rw [show sg_wS m w = sg_it (sg_wS2 m) 7 w from rfl, h x y hx hy, if_pos hx]
  · intro x y hx hy
    simp
  · intro a v ha hv
    have h2 := sg_it_inv (f := sg_wS1 m a) (x := v) (n := 7) (fun b u => ∀ x y, x < 7 → y < 7 → u (7 * x + y) = if x < a ∨ (x = a ∧ y < b) then min (w (7 * x + y)) (w (7 * x + m) + w (7 * m + y)) else w (7 * x + y)) ?_ ?_
    · intro x y hx hy
      rw [show sg_wS2 m a v = sg_it (sg_wS1 m a) 7 v from rfl, h2 x y hx hy]
      by_cases h5 : x < a + 1
      · rw [if_pos h5, if_pos (by omega)]
      · rw [if_neg h5, if_neg (by omega)]
    · intro x y hx hy
      rw [hv x y hx hy]
      by_cases h5 : x < a
      · rw [if_pos h5, if_pos (by omega)]
      · rw [if_neg h5, if_neg (by omega)]
    · intro b u hb hu x y hx hy
      have e1 : u (7 * a + m) = w (7 * a + m) := by
        rw [hu a m ha hm]; split <;> omega
      have e2 : u (7 * m + b) = w (7 * m + b) := by
        rw [hu m b hm hb]; split <;> omega
      have e3 : u (7 * a + b) = w (7 * a + b) := by
        rw [hu a b ha hb, if_neg (by omega)]
      unfold sg_wS1
      rw [e1, e2, e3]
      by_cases hxy : x = a ∧ y = b
      · obtain ⟨rfl, rfl⟩ := hxy
        rw [if_pos (show x < x ∨ x = x ∧ y < y + 1 by omega)]
        split
        · rw [sg_us]; omega
        · rw [e3]; omega
      · have hne : 7 * x + y ≠ 7 * a + b := by omega
        have e4 : (if w (7 * a + m) + w (7 * m + b) < w (7 * a + b) then va_up u (7 * a + b) (w (7 * a + m) + w (7 * m + b)) else u) (7 * x + y) = u (7 * x + y) := by
          split
          · exact sg_un hne
          · rfl
        rw [e4, hu x y hx hy]
        by_cases h5 : x < a ∨ (x = a ∧ y < b)
        · rw [if_pos h5, if_pos (by omega)]
        · rw [if_neg h5, if_neg (by omega)]
theorem sg_wA_le {ea eb ct : Nat → Nat} {x y z : Nat} {u v : Nat} (h1 : 100000 ≤ u ∨ ∃ c, sg_S ct c 10 ≤ u ∧ sg_C ea eb c x y) (h2 : 100000 ≤ v ∨ ∃ c, sg_S ct c 10 ≤ v ∧ sg_C ea eb c y z) : 100000 ≤ u + v ∨ ∃ c, sg_S ct c 10 ≤ u + v ∧ sg_C ea eb c x z := by
  rcases h1 with h1 | ⟨c, h1, h3⟩
  · exact Or.inl (by omega)
  · rcases h2 with h2 | ⟨d, h2, h4⟩
    · exact Or.inl (by omega)
    · refine Or.inr ⟨fun k => c k || d k, ?_, sg_tr (sg_mo (fun k _ hk => by simp [hk]) h3) (sg_mo (fun k _ hk => by simp [hk]) h4)⟩
      have := sg_S_or ct c d 10
      omega
/-- THE WAYS: shortest, and reached -/
theorem sg_W_spec {ea eb ct : Nat → Nat} (hea : ∀ k, ea k < 7) (heb : ∀ k, eb k < 7) (w : Nat → Nat) : sg_wA ea eb ct (sg_W ea eb ct w) ∧ (∀ k, k < 10 → sg_W ea eb ct w (7 * ea k + eb k) ≤ ct k ∧ sg_W ea eb ct w (7 * eb k + ea k) ≤ ct k) ∧ ∀ k a b, k < 7 → a < 7 → b < 7 → sg_W ea eb ct w (7 * a + b) ≤ sg_W ea eb ct w (7 * a + k) + sg_W ea eb ct w (7 * k + b) := by
  have hL := sg_wL_spec (ct := ct) hea heb w
  have h := sg_it_inv (f := sg_wS) (x := sg_wL ea eb ct (sg_wI w)) (n := 7) (fun m v => sg_wA ea eb ct v ∧ (∀ k, k < 10 → v (7 * ea k + eb k) ≤ ct k ∧ v (7 * eb k + ea k) ≤ ct k) ∧ ∀ k a b, k < m → a < 7 → b < 7 → v (7 * a + b) ≤ v (7 * a + k) + v (7 * k + b)) ⟨hL.1, hL.2, fun k a b h => by omega⟩ ?_
  · exact h
  · intro m v hm ⟨⟨hd, hr⟩, he, ht⟩
    have hS := sg_wS_spec hm (hd m hm)
    refine ⟨⟨fun x hx => ?_, fun x y hx hy => ?_⟩, fun k hk => ?_, fun k a b hk ha hb => ?_⟩
    · rw [hS x x hx hx, hd x hx]; omega
    · rw [hS x y hx hy]
      by_cases hc : v (7 * x + y) ≤ v (7 * x + m) + v (7 * m + y)
      · rw [Nat.min_eq_left hc]; exact hr x y hx hy
      · rw [Nat.min_eq_right (by omega)]; exact sg_wA_le (hr x m hx hm) (hr m y hm hy)
    · rw [hS _ _ (hea k) (heb k), hS _ _ (heb k) (hea k)]
      have := he k hk
      omega
    · rw [hS a b ha hb, hS a k ha (by omega), hS k b (by omega) hb]
      by_cases hkm : k = m
      · subst hkm
        have := hd k hm
        omega
      · have h1 := ht k a b (by omega) ha hb
        have h2 := ht k m b (by omega) hm hb
        have h3 := ht k a m (by omega) ha hm
        omega
end
section
/-! PLAIN PROGRAMS 2: the table of parts, and leastFor -/
-- ===== startPart =====
def sg_pI1 (s p : Nat) (t : Nat → Nat) : Nat → Nat := va_up t (7 * s + p) 100000
def sg_pI (s : Nat) (t : Nat → Nat) : Nat → Nat := sg_it (sg_pI1 s) 7 t
def sg_pK1 (wd : Nat → Nat) (s k : Nat) (t : Nat → Nat) : Nat → Nat := if s = 2 ^ k then va_up t (7 * s + wd k) 0 else t
def sg_pK (wd : Nat → Nat) (W s : Nat) (t : Nat → Nat) : Nat → Nat := sg_it (sg_pK1 wd s) W t
def sg_pS (wd : Nat → Nat) (W s : Nat) (t : Nat → Nat) : Nat → Nat := sg_pK wd W s (sg_pI s t)
-- ===== joinParts =====
def sg_pJ1 (s h p : Nat) (t : Nat → Nat) : Nat → Nat := if t (7 * h + p) + t (7 * (s ^^^ h) + p) < t (7 * s + p) then va_up t (7 * s + p) (t (7 * h + p) + t (7 * (s ^^^ h) + p)) else t
def sg_pJ2 (s i : Nat) (t : Nat → Nat) : Nat → Nat := if (i + 1) &&& s = i + 1 then sg_it (sg_pJ1 s (i + 1)) 7 t else t
def sg_pJ (s : Nat) (t : Nat → Nat) : Nat → Nat := sg_it (sg_pJ2 s) (s - 1) t
-- ===== carryPart =====
def sg_pC0 (wy : Nat → Nat) (s p : Nat) (t : Nat → Nat) (q l : Nat) : Nat := if t (7 * s + q) + wy (7 * q + p) < l then t (7 * s + q) + wy (7 * q + p) else l
def sg_pC1 (wy : Nat → Nat) (s p : Nat) (t : Nat → Nat) : Nat → Nat := va_up t (7 * s + p) (sg_it (sg_pC0 wy s p t) 7 (t (7 * s + p)))
def sg_pC (wy : Nat → Nat) (s : Nat) (t : Nat → Nat) : Nat → Nat := sg_it (sg_pC1 wy s) 7 t
-- ===== all sets 1 .. n =====
def sg_pA1 (wy wd : Nat → Nat) (W i : Nat) (t : Nat → Nat) : Nat → Nat := sg_pC wy (i + 1) (sg_pJ (i + 1) (sg_pS wd W (i + 1) t))
def sg_pA (wy wd : Nat → Nat) (W n : Nat) (t : Nat → Nat) : Nat → Nat := sg_it (sg_pA1 wy wd W) n t
-- ===== bounds =====
theorem sg_pI_B {s : Nat} {t : Nat → Nat} (h : sg_B 100000 t) (n : Nat) : sg_B 100000 (sg_it (sg_pI1 s) n t) := sg_B_it h (fun _ _ h => sg_B_up h (Nat.le_refl _)) n
theorem sg_pK1_B {wd : Nat → Nat} {s k : Nat} {t : Nat → Nat} (h : sg_B 100000 t) : sg_B 100000 (sg_pK1 wd s k t) := by
  unfold sg_pK1
  split
  · exact sg_B_up h (by omega)
  · exact h
theorem sg_pK_B {wd : Nat → Nat} {s : Nat} {t : Nat → Nat} (h : sg_B 100000 t) (n : Nat) : sg_B 100000 (sg_it (sg_pK1 wd s) n t) := sg_B_it h (fun _ _ h => sg_pK1_B h) n
theorem sg_pS_B {wd : Nat → Nat} {W s : Nat} {t : Nat → Nat} (h : sg_B 100000 t) : sg_B 100000 (sg_pS wd W s t) := sg_pK_B (sg_pI_B h 7) W
theorem sg_pJ1_B {s h p : Nat} {t : Nat → Nat} (hb : sg_B 100000 t) : sg_B 100000 (sg_pJ1 s h p t) := by
  unfold sg_pJ1
  split
  · refine sg_B_up hb ?_
    have := hb (7 * s + p)
    omega
  · exact hb
theorem sg_pJ1i_B {s h : Nat} {t : Nat → Nat} (hb : sg_B 100000 t) (n : Nat) : sg_B 100000 (sg_it (sg_pJ1 s h) n t) := sg_B_it hb (fun _ _ h => sg_pJ1_B h) n
theorem sg_pJ2_B {s i : Nat} {t : Nat → Nat} (hb : sg_B 100000 t) : sg_B 100000 (sg_pJ2 s i t) := by
  unfold sg_pJ2
  split
  · exact sg_pJ1i_B hb 7
  · exact hb
theorem sg_pJi_B {s : Nat} {t : Nat → Nat} (hb : sg_B 100000 t) (n : Nat) : sg_B 100000 (sg_it (sg_pJ2 s) n t) := sg_B_it hb (fun _ _ h => sg_pJ2_B h) n
theorem sg_pC0_le (wy : Nat → Nat) (s p : Nat) (t : Nat → Nat) (l n : Nat) : sg_it (sg_pC0 wy s p t) n l ≤ l := by
  refine sg_it_inv (f := sg_pC0 wy s p t) (fun _ y => y ≤ l) (Nat.le_refl _) (fun i y _ hy => ?_)
  unfold sg_pC0
  split <;> omega
theorem sg_pC1_B {wy : Nat → Nat} {s p : Nat} {t : Nat → Nat} (hb : sg_B 100000 t) : sg_B 100000 (sg_pC1 wy s p t) := sg_B_up hb (Nat.le_trans (sg_pC0_le wy s p t _ 7) (hb _))
theorem sg_pCi_B {wy : Nat → Nat} {s : Nat} {t : Nat → Nat} (hb : sg_B 100000 t) (n : Nat) : sg_B 100000 (sg_it (sg_pC1 wy s) n t) := sg_B_it hb (fun _ _ h => sg_pC1_B h) n
theorem sg_pA1_B {wy wd : Nat → Nat} {W i : Nat} {t : Nat → Nat} (hb : sg_B 100000 t) : sg_B 100000 (sg_pA1 wy wd W i t) := sg_pCi_B (sg_pJi_B (sg_pS_B hb) _) 7
theorem sg_pA_B {wy wd : Nat → Nat} {W : Nat} {t : Nat → Nat} (hb : sg_B 100000 t) (n : Nat) : sg_B 100000 (sg_pA wy wd W n t) := sg_B_it hb (fun _ _ h => sg_pA1_B h) n
-- ===== what startPart does =====
/-- only the row s has changed -/
def sg_R (s : Nat) (t u : Nat → Nat) : Prop := ∀ x p, x ≠ s → p < 7 → u (7 * x + p) = t (7 * x + p)
theorem sg_R_tr {s : Nat} {t u v : Nat → Nat} (h1 : sg_R s t u) (h2 : sg_R s u v) : sg_R s t v := fun x p hx hp => (h2 x p hx hp).trans (h1 x p hx hp)
theorem sg_R_up {s p v : Nat} {t : Nat → Nat} (hp : p < 7) : sg_R s t (va_up t (7 * s + p) v) := fun x q hx hq => sg_un (by omega)
theorem sg_R_it {s : Nat} {f : Nat → (Nat → Nat) → (Nat → Nat)} {n : Nat} (hf : ∀ i y, i < n → sg_R s y (f i y)) (t : Nat → Nat) : sg_R s t (sg_it f n t) := sg_it_inv (f := f) (fun _ y => sg_R s t y) (fun _ _ _ _ => rfl) (fun i y hi hy => sg_R_tr hy (hf i y hi))
theorem sg_pI_spec (s : Nat) (t : Nat → Nat) : ∀ p, p < 7 → sg_pI s t (7 * s + p) = 100000 := by
  have h := sg_it_inv (f := sg_pI1 s) (x := t) (n := 7) (fun i u => ∀ p, p < i → u (7 * s + p) = 100000) (fun p h => by omega) ?_
  · exact h
  · intro i u hi hu p hp
    unfold sg_pI1
    by_cases h : p = i
    · subst h; exact sg_us
    · rw [sg_un (by omega)]; exact hu p (by omega)
theorem sg_pS_spec {wd : Nat → Nat} (hwd : ∀ k, wd k < 7) (W s : Nat) (t : Nat → Nat) : sg_R s t (sg_pS wd W s t) ∧ (∀ k, k < W → s = 2 ^ k → sg_pS wd W s t (7 * s + wd k) = 0) ∧ ∀ p, p < 7 → (sg_pS wd W s t (7 * s + p) = 100000 ∨ ∃ k, k < W ∧ s = 2 ^ k ∧ wd k = p) := by
  have h := sg_it_inv (f := sg_pK1 wd s) (x := sg_pI s t) (n := W) (fun i u => sg_R s t u ∧ (∀ k, k < i → s = 2 ^ k → u (7 * s + wd k) = 0) ∧ ∀ p, p < 7 → (u (7 * s + p) = 100000 ∨ ∃ k, k < i ∧ s = 2 ^ k ∧ wd k = p)) ?_ ?_
  · exact h
  · exact ⟨sg_R_it (fun i y hi => sg_R_up hi) t, fun k h => by omega, fun p hp => Or.inl (sg_pI_spec s t p hp)⟩
  · intro i u hi ⟨h1, h2, h3⟩
    unfold sg_pK1
    by_cases hc : s = 2 ^ i
    · rw [if_pos hc]
      refine ⟨sg_R_tr h1 (sg_R_up (hwd i)), fun k hk hs => ?_, fun p hp => ?_⟩
      · by_cases he : 7 * s + wd k = 7 * s + wd i
        · rw [he]; exact sg_us
        · rw [sg_un he]
          exact h2 k (by
            rcases Nat.lt_or_ge k i with z | z
            · exact z
            · exact absurd (by rw [show k = i by omega]) he) hs
      · by_cases he : 7 * s + p = 7 * s + wd i
        · exact Or.inr ⟨i, by omega, hc, by omega⟩
        · rw [sg_un he]
          rcases h3 p hp with z | ⟨k, z1, z2⟩
          · exact Or.inl z
          · exact Or.inr ⟨k, by omega, z2⟩
    · rw [if_neg hc]
      refine ⟨h1, fun k hk hs => h2 k ?_ hs, fun p hp => ?_⟩
      · rcases Nat.lt_or_ge k i with z | z
        · exact z
        · exact absurd (by rw [show i = k by omega]; exact hs) hc
      · rcases h3 p hp with z | ⟨k, z1, z2⟩
        · exact Or.inl z
        · exact Or.inr ⟨k, by omega, z2⟩
-- ===== what joinParts does =====
theorem sg_xor_ne {s h : Nat} (h0 : 0 < h) : s ^^^ h ≠ s := fun z => by
  obtain ⟨k, hk⟩ := sg_bit_of_ne (a := h) (by omega)
  have h9 : (s ^^^ h).testBit k = s.testBit k := by rw [z]
  rw [Nat.testBit_xor, hk] at h9
  cases hs : s.testBit k <;> rw [hs] at h9 <;> cases h9
theorem sg_pJ1_spec {s h : Nat} (h0 : 0 < h) (hs : h < s) (t : Nat → Nat) : sg_R s t (sg_it (sg_pJ1 s h) 7 t) ∧ ∀ p, p < 7 → sg_it (sg_pJ1 s h) 7 t (7 * s + p) = min (t (7 * s + p)) (t (7 * h + p) + t (7 * (s ^^^ h) + p)) := by
  have hx := sg_xor_ne (s := s) h0
  have hstep : ∀ i y, i < 7 → sg_R s y (sg_pJ1 s h i y) := fun i y hi => by
    unfold sg_pJ1
    split
    · exact sg_R_up hi
    · exact fun _ _ _ _ => rfl
  have h := sg_it_inv (f := sg_pJ1 s h) (x := t) (n := 7) (fun i u => sg_R s t u ∧ ∀ p, p < 7 → u (7 * s + p) = if p < i then min (t (7 * s + p)) (t (7 * h + p) + t (7 * (s ^^^ h) + p)) else t (7 * s + p)) ⟨fun _ _ _ _ => rfl, fun p hp => by simp⟩ ?_
  · exact ⟨h.1, fun p hp => by rw [h.2 p hp, if_pos hp]⟩
  · intro i u hi ⟨h1, h2⟩
    refine ⟨sg_R_tr h1 (hstep i u hi), fun p hp => ?_⟩
    have e1 := h1 h i (by omega) hi
    have e2 := h1 (s ^^^ h) i hx hi
    have e3 : u (7 * s + i) = t (7 * s + i) := by rw [h2 i hi, if_neg (by omega)]
    unfold sg_pJ1
    rw [e1, e2, e3]
    by_cases he : p = i
    · subst he
      rw [if_pos (show p < p + 1 by omega)]
      split
      · rw [sg_us]; omega
      · rw [e3]; omega
    · have e4 : (if t (7 * h + i) + t (7 * (s ^^^ h) + i) < t (7 * s + i) then va_up u (7 * s + i) (t (7 * h + i) + t (7 * (s ^^^ h) + i)) else u) (7 * s + p) = u (7 * s + p) := by
        split
        · exact sg_un (by omega)
        · rfl
      rw [e4, h2 p hp]
      by_cases h5 : p < i
      · rw [if_pos h5, if_pos (by omega)]
      · rw [if_neg h5, if_neg (by omega)]
theorem sg_pJ_spec (s : Nat) (t : Nat → Nat) : sg_R s t (sg_pJ s t) ∧ (∀ p, p < 7 → sg_pJ s t (7 * s + p) ≤ t (7 * s + p)) ∧ (∀ h p, 0 < h → h < s → h &&& s = h → p < 7 → sg_pJ s t (7 * s + p) ≤ t (7 * h + p) + t (7 * (s ^^^ h) + p)) ∧
    ∀ p, p < 7 → (sg_pJ s t (7 * s + p) = t (7 * s + p) ∨ ∃ h, 0 < h ∧ h < s ∧ h &&& s = h ∧ sg_pJ s t (7 * s + p) = t (7 * h + p) + t (7 * (s ^^^ h) + p)) := by
  have h := sg_it_inv (f := sg_pJ2 s) (x := t) (n := s - 1) (fun i u => sg_R s t u ∧ (∀ p, p < 7 → u (7 * s + p) ≤ t (7 * s + p)) ∧ (∀ h p, 0 < h → h < i + 1 → h &&& s = h → p < 7 → u (7 * s + p) ≤ t (7 * h + p) + t (7 * (s ^^^ h) + p)) ∧
    ∀ p, p < 7 → (u (7 * s + p) = t (7 * s + p) ∨ ∃ h, 0 < h ∧ h < s ∧ h &&& s = h ∧ u (7 * s + p) = t (7 * h + p) + t (7 * (s ^^^ h) + p))) ?_ ?_
  · obtain ⟨a, b, c, d⟩ := h
    exact ⟨a, b, fun h p h0 hs => c h p h0 (by omega), d⟩
  · exact ⟨fun _ _ _ _ => rfl, fun p _ => Nat.le_refl _, fun h p h0 h1 => by omega, fun p _ => Or.inl rfl⟩
  · intro i u hi ⟨h1, h2, h3, h4⟩
    unfold sg_pJ2
    by_cases hc : (i + 1) &&& s = i + 1
    · rw [if_pos hc]
      obtain ⟨g1, g2⟩ := sg_pJ1_spec (s := s) (h := i + 1) (by omega) (by omega) u
      have hx := sg_xor_ne (s := s) (h := i + 1) (by omega)
      refine ⟨sg_R_tr h1 g1, fun p hp => ?_, fun h p h0 hh hb hp => ?_, fun p hp => ?_⟩
      · rw [g2 p hp]; have := h2 p hp; omega
      · rw [g2 p hp]
        by_cases he : h = i + 1
        · subst he
          have e1 := h1 (i + 1) p (by omega) hp
          have e2 := h1 (s ^^^ (i + 1)) p hx hp
          omega
        · have := h3 h p h0 (by omega) hb hp
          omega
      · rw [g2 p hp]
        have e1 := h1 (i + 1) p (by omega) hp
        have e2 := h1 (s ^^^ (i + 1)) p hx hp
        by_cases hm : u (7 * s + p) ≤ u (7 * (i + 1) + p) + u (7 * (s ^^^ (i + 1)) + p)
        · rw [Nat.min_eq_left hm]; exact h4 p hp
        · rw [Nat.min_eq_right (by omega)]
          exact Or.inr ⟨i + 1, by omega, by omega, hc, by omega⟩
    · rw [if_neg hc]
      refine ⟨h1, h2, fun h p h0 hh hb hp => ?_, h4⟩
      by_cases he : h = i + 1
      · subst he; exact absurd hb hc
      · exact h3 h p h0 (by omega) hb hp
-- ===== what carryPart does =====
theorem sg_pC0_spec (wy : Nat → Nat) (s p : Nat) (t : Nat → Nat) (l : Nat) : sg_it (sg_pC0 wy s p t) 7 l ≤ l ∧ (∀ q, q < 7 → sg_it (sg_pC0 wy s p t) 7 l ≤ t (7 * s + q) + wy (7 * q + p)) ∧ (sg_it (sg_pC0 wy s p t) 7 l = l ∨ ∃ q, q < 7 ∧ sg_it (sg_pC0 wy s p t) 7 l = t (7 * s + q) + wy (7 * q + p)) := by
  have h := sg_it_inv (f := sg_pC0 wy s p t) (x := l) (n := 7) (fun i y => y ≤ l ∧ (∀ q, q < i → y ≤ t (7 * s + q) + wy (7 * q + p)) ∧ (y = l ∨ ∃ q, q < 7 ∧ y = t (7 * s + q) + wy (7 * q + p))) ⟨Nat.le_refl _, fun q h => by omega, Or.inl rfl⟩ ?_
  · exact h
  · intro i y hi ⟨h1, h2, h3⟩
    unfold sg_pC0
    by_cases hc : t (7 * s + i) + wy (7 * i + p) < y
    · rw [if_pos hc]
      refine ⟨by omega, fun q hq => ?_, Or.inr ⟨i, hi, rfl⟩⟩
      by_cases he : q = i
      · subst he; exact Nat.le_refl _
      · have := h2 q (by omega); omega
    · rw [if_neg hc]
      refine ⟨h1, fun q hq => ?_, h3⟩
      by_cases he : q = i
      · subst he; omega
      · exact h2 q (by omega)
theorem sg_pC_spec {wy : Nat → Nat} (hd : ∀ x, x < 7 → wy (7 * x + x) = 0) (ht : ∀ k a b, k < 7 → a < 7 → b < 7 → wy (7 * a + b) ≤ wy (7 * a + k) + wy (7 * k + b)) (s : Nat) (t : Nat → Nat) : sg_R s t (sg_pC wy s t) ∧ (∀ p, p < 7 → sg_pC wy s t (7 * s + p) ≤ t (7 * s + p)) ∧ (∀ p q, p < 7 → q < 7 → sg_pC wy s t (7 * s + p) ≤ sg_pC wy s t (7 * s + q) + wy (7 * q + p)) ∧
    ∀ p, p < 7 → ∃ r, r < 7 ∧ t (7 * s + r) + wy (7 * r + p) ≤ sg_pC wy s t (7 * s + p) := by
  have h := sg_it_inv (f := sg_pC1 wy s) (x := t) (n := 7) (fun i u => sg_R s t u ∧ (∀ p, p < 7 → i ≤ p → u (7 * s + p) = t (7 * s + p)) ∧ (∀ p r, p < i → r < 7 → u (7 * s + p) ≤ t (7 * s + r) + wy (7 * r + p)) ∧
    ∀ p, p < i → ∃ r, r < 7 ∧ t (7 * s + r) + wy (7 * r + p) ≤ u (7 * s + p)) ⟨fun _ _ _ _ => rfl, fun _ _ _ => rfl, fun p r h => by omega, fun p h => by omega⟩ ?_
  · obtain ⟨a, b, c, d⟩ := h
    refine ⟨a, fun p hp => ?_, fun p q hp hq => ?_, d⟩
    · have h1 := c p p hp hp
      have h2 := hd p hp
      show sg_it (sg_pC1 wy s) 7 t (7 * s + p) ≤ t (7 * s + p)
      omega
    · obtain ⟨r, hr, h1⟩ := d q hq
      have h2 := c p r hp hr
      have h3 := ht q r p hq hr hp
      show sg_it (sg_pC1 wy s) 7 t (7 * s + p) ≤ sg_it (sg_pC1 wy s) 7 t (7 * s + q) + wy (7 * q + p)
      omega
  · intro i u hi ⟨h1, h2, h3, h4⟩
    obtain ⟨g1, g2, g3⟩ := sg_pC0_spec wy s i u (u (7 * s + i))
    have hle : ∀ r, r < 7 → u (7 * s + r) ≤ t (7 * s + r) := fun r hr => by
      rcases Nat.lt_or_ge r i with z | z
      · have := h3 r r z hr
        have := hd r hr
        omega
      · rw [h2 r hr z]; exact Nat.le_refl _
    have hget : ∀ r, r < 7 → ∃ x, x < 7 ∧ t (7 * s + x) + wy (7 * x + r) ≤ u (7 * s + r) := fun r hr => by
      rcases Nat.lt_or_ge r i with z | z
      · exact h4 r z
      · exact ⟨r, hr, by rw [h2 r hr z, hd r hr]; omega⟩
    refine ⟨sg_R_tr h1 (sg_R_up hi), fun p hp hip => ?_, fun p r hp hr => ?_, fun p hp => ?_⟩
    · show va_up u _ _ _ = _
      rw [sg_un (by omega)]; exact h2 p hp (by omega)
    · show va_up u _ _ _ ≤ _
      by_cases he : p = i
      · subst he
        rw [sg_us]
        have := g2 r hr
        have := hle r hr
        omega
      · rw [sg_un (by omega)]; exact h3 p r (by omega) hr
    · show ∃ r, r < 7 ∧ _ ≤ va_up u _ _ _
      by_cases he : p = i
      · subst he
        rw [sg_us]
        rcases g3 with g3 | ⟨q, hq, g3⟩
        · obtain ⟨x, hx, h5⟩ := hget p hi
          exact ⟨x, hx, by omega⟩
        · obtain ⟨x, hx, h5⟩ := hget q hq
          have := ht q x p hq hx hi
          exact ⟨x, hx, by omega⟩
      · rw [sg_un (by omega)]; exact h4 p (by omega)
-- ===== the whole table =====
/-- what is under 100000 is reached by a choice -/
def sg_pR (ea eb ct wd : Nat → Nat) (W s p v : Nat) : Prop := 100000 ≤ v ∨ ∃ c, sg_S ct c 10 ≤ v ∧ ∀ k, k < W → s.testBit k = true → sg_C ea eb c p (wd k)
theorem sg_pA_spec {ea eb ct wy wd : Nat → Nat} (hwd : ∀ k, wd k < 7) (hw : sg_wA ea eb ct wy) (ht : ∀ k a b, k < 7 → a < 7 → b < 7 → wy (7 * a + b) ≤ wy (7 * a + k) + wy (7 * k + b)) (W n : Nat) (t : Nat → Nat) :
    (∀ k, k < W → 2 ^ k ≤ n → sg_pA wy wd W n t (7 * 2 ^ k + wd k) = 0) ∧
    (∀ s h p, s ≤ n → 0 < h → h < s → h &&& s = h → p < 7 → sg_pA wy wd W n t (7 * s + p) ≤ sg_pA wy wd W n t (7 * h + p) + sg_pA wy wd W n t (7 * (s ^^^ h) + p)) ∧
    (∀ s p q, 0 < s → s ≤ n → p < 7 → q < 7 → sg_pA wy wd W n t (7 * s + p) ≤ sg_pA wy wd W n t (7 * s + q) + wy (7 * q + p)) ∧
    (∀ s p, 0 < s → s ≤ n → p < 7 → sg_pR ea eb ct wd W s p (sg_pA wy wd W n t (7 * s + p))) := by
  refine sg_it_inv (f := sg_pA1 wy wd W) (x := t) (n := n) (fun i u => (∀ k, k < W → 2 ^ k ≤ i → u (7 * 2 ^ k + wd k) = 0) ∧
    (∀ s h p, s ≤ i → 0 < h → h < s → h &&& s = h → p < 7 → u (7 * s + p) ≤ u (7 * h + p) + u (7 * (s ^^^ h) + p)) ∧
    (∀ s p q, 0 < s → s ≤ i → p < 7 → q < 7 → u (7 * s + p) ≤ u (7 * s + q) + wy (7 * q + p)) ∧
    (∀ s p, 0 < s → s ≤ i → p < 7 → sg_pR ea eb ct wd W s p (u (7 * s + p)))) ?_ ?_
  · refine ⟨fun k _ h => ?_, fun s h p h1 h2 h3 => by omega, fun s p q h1 h2 => by omega, fun s p h1 h2 => by omega⟩
    have := Nat.two_pow_pos k
    omega
  · intro i u hi ⟨h1, h2, h3, h4⟩
    obtain ⟨a1, a2, a3⟩ := sg_pS_spec hwd W (i + 1) u
    obtain ⟨b1, b2, b3, b4⟩ := sg_pJ_spec (i + 1) (sg_pS wd W (i + 1) u)
    obtain ⟨c1, c2, c3, c4⟩ := sg_pC_spec hw.1 ht (i + 1) (sg_pJ (i + 1) (sg_pS wd W (i + 1) u))
    have hR : sg_R (i + 1) u (sg_pA1 wy wd W i u) := sg_R_tr (sg_R_tr a1 b1) c1
    have hsub : ∀ s h, s ≤ i + 1 → 0 < h → h < s → h &&& s = h → h ≤ i ∧ 0 < s ^^^ h ∧ s ^^^ h ≤ i := fun s h hs h0 hh hb => by
      have hx : ∀ j, (s ^^^ h).testBit j = true → s.testBit j = true := fun j hj => by
        rw [Nat.testBit_xor] at hj
        cases hsj : s.testBit j with
        | true => rfl
        | false =>
          rw [hsj] at hj
          have := sg_bits_of_and hb j (by simpa using hj)
          rw [hsj] at this
          exact this
      have hxle := sg_le_of_bits hx
      have hxne := sg_xor_ne (s := s) h0
      have hx0 : s ^^^ h ≠ 0 := fun z => by
        have := sg_xor0 z
        omega
      omega
    refine ⟨fun k hk hki => ?_, fun s h p hs h0 hh hb hp => ?_, fun s p q h0 hs hp hq => ?_, fun s p h0 hs hp => ?_⟩
    · by_cases he : 2 ^ k = i + 1
      · rw [he]
        have e1 := a2 k hk he.symm
        have e2 := b2 (wd k) (hwd k)
        have e3 := c2 (wd k) (hwd k)
        show sg_pC wy (i + 1) _ _ = 0
        omega
      · rw [hR (2 ^ k) (wd k) he (hwd k)]
        exact h1 k hk (by omega)
    · obtain ⟨g1, g2, g3⟩ := hsub s h hs h0 hh hb
      rw [hR h p (by omega) hp, hR (s ^^^ h) p (by omega) hp]
      by_cases he : s = i + 1
      · subst he
        have e1 := b3 h p h0 hh hb hp
        have e2 := c2 p hp
        have e3 := a1 h p (by omega) hp
        have e4 := a1 ((i + 1) ^^^ h) p (by omega) hp
        show sg_pC wy (i + 1) _ _ ≤ _
        omega
      · rw [hR s p he hp]
        exact h2 s h p (by omega) h0 hh hb hp
    · by_cases he : s = i + 1
      · subst he
        exact c3 p q hp hq
      · rw [hR s p he hp, hR s q he hq]
        exact h3 s p q h0 (by omega) hp hq
    · by_cases he : s = i + 1
      · subst he
        have hJ : ∀ r, r < 7 → sg_pR ea eb ct wd W (i + 1) r (sg_pJ (i + 1) (sg_pS wd W (i + 1) u) (7 * (i + 1) + r)) := fun r hr => by
          rcases b4 r hr with z | ⟨h, k1, k2, k3, z⟩
          · rw [z]
            rcases a3 r hr with y | ⟨k, y1, y2, y3⟩
            · exact Or.inl (by omega)
            · refine Or.inr ⟨fun _ => false, by rw [sg_S_none]; exact Nat.zero_le _, fun j hj hb => ?_⟩
              rw [y2] at hb
              rw [← (sg_two_bit k j).mp hb, y3]
              exact sg_rf
          · obtain ⟨g1, g2, g3⟩ := hsub (i + 1) h (by omega) k1 k2 k3
            rw [z, a1 h r (by omega) hr, a1 ((i + 1) ^^^ h) r (by omega) hr]
            rcases h4 h r k1 g1 hr with y | ⟨c, y1, y2⟩
            · exact Or.inl (by omega)
            · rcases h4 ((i + 1) ^^^ h) r g2 g3 hr with y | ⟨d, x1, x2⟩
              · exact Or.inl (by omega)
              · refine Or.inr ⟨fun k => c k || d k, ?_, fun j hj hb => ?_⟩
                · have := sg_S_or ct c d 10
                  omega
                · cases hhj : h.testBit j with
                  | true => exact sg_mo (fun k _ hk => by simp [hk]) (y2 j hj hhj)
                  | false => exact sg_mo (fun k _ hk => by simp [hk]) (x2 j hj (by rw [Nat.testBit_xor, hb, hhj]; rfl))
        obtain ⟨r, hr, e1⟩ := c4 p hp
        show sg_pR ea eb ct wd W (i + 1) p (sg_pC wy (i + 1) (sg_pJ (i + 1) (sg_pS wd W (i + 1) u)) (7 * (i + 1) + p))
        rcases hJ r hr with y | ⟨c, y1, y2⟩
        · exact Or.inl (by omega)
        · rcases hw.2 r p hr hp with x | ⟨d, x1, x2⟩
          · exact Or.inl (by omega)
          · refine Or.inr ⟨fun k => c k || d k, ?_, fun j hj hb => ?_⟩
            · have := sg_S_or ct c d 10
              omega
            · exact sg_tr (sg_sy (sg_mo (fun k _ hk => by simp [hk]) x2)) (sg_mo (fun k _ hk => by simp [hk]) (y2 j hj hb))
      · rw [hR s p he hp]
        exact h4 s p h0 (by omega) hp
-- ===== the wanted points =====
def sg_q1 (pts p : Nat) (u : Nat × (Nat → Nat)) : Nat × (Nat → Nat) := if pts.testBit p = true then (u.1 + 1, va_up u.2 u.1 p) else u
def sg_q (pts n : Nat) (wd : Nat → Nat) : Nat × (Nat → Nat) := sg_it (sg_q1 pts) n (0, wd)
theorem sg_q_spec (pts : Nat) {wd : Nat → Nat} (hwd : ∀ k, wd k < 7) (n : Nat) (hn : n ≤ 7) : (sg_q pts n wd).1 ≤ n ∧ (∀ k, (sg_q pts n wd).2 k < 7) ∧ (∀ k, k < (sg_q pts n wd).1 → pts.testBit ((sg_q pts n wd).2 k) = true) ∧ ∀ p, p < n → pts.testBit p = true → ∃ k, k < (sg_q pts n wd).1 ∧ (sg_q pts n wd).2 k = p := by
  refine sg_it_inv (f := sg_q1 pts) (x := (0, wd)) (n := n) (fun i u => u.1 ≤ i ∧ (∀ k, u.2 k < 7) ∧ (∀ k, k < u.1 → pts.testBit (u.2 k) = true) ∧ ∀ p, p < i → pts.testBit p = true → ∃ k, k < u.1 ∧ u.2 k = p) ⟨Nat.le_refl _, hwd, fun k h => absurd h (Nat.not_lt_zero k), fun p h => by omega⟩ ?_
  intro i u hi ⟨h1, h2, h3, h4⟩
  unfold sg_q1
  by_cases hc : pts.testBit i = true
  · rw [if_pos hc]
    refine ⟨by show u.1 + 1 ≤ i + 1; omega, fun k => ?_, fun k hk => ?_, fun p hp hb => ?_⟩
    · show va_up u.2 u.1 i k < 7
      unfold va_up
      split
      · omega
      · exact h2 k
    · show pts.testBit (va_up u.2 u.1 i k) = true
      by_cases he : k = u.1
      · rw [he, sg_us]; exact hc
      · rw [sg_un he]
        have hk2 : k < u.1 + 1 := hk
        exact h3 k (by omega)
    · by_cases he : p = i
      · subst he
        exact ⟨u.1, Nat.lt_succ_self _, sg_us⟩
      · obtain ⟨k, z1, z2⟩ := h4 p (by omega) hb
        exact ⟨k, Nat.lt_succ_of_lt z1, by show va_up u.2 u.1 i k = p; rw [sg_un (by omega)]; exact z2⟩
  · rw [if_neg hc]
    refine ⟨by omega, h2, h3, fun p hp hb => ?_⟩
    by_cases he : p = i
    · subst he; exact absurd hb hc
    · exact h4 p (by omega) hb
/-- LEASTFOR is right: few points -/
theorem sg_least_few (ea eb ct : Nat → Nat) {pts m : Nat} {wd : Nat → Nat} (hp : pts < 128) (hm : m < 2) (h4 : ∀ p, p < 7 → pts.testBit p = true → ∃ k, k < m ∧ wd k = p) : sg_L ea eb ct pts 0 := by
  have hj : sg_J ea eb (fun _ => false) pts := fun p q h1 h2 => by
    obtain ⟨k, k1, k2⟩ := h4 p (sg_bit_lt (w := 7) hp h1) h1
    obtain ⟨j, j1, j2⟩ := h4 q (sg_bit_lt (w := 7) hp h2) h2
    have : k = j := by omega
    subst this
    rw [← k2, ← j2]
    exact sg_rf
  exact ⟨by omega, fun c _ => Nat.zero_le _, Or.inr ⟨fun _ => false, hj, by rw [sg_S_none]; exact Nat.le_refl _⟩⟩
/-- LEASTFOR is right: W + 1 points, two or more -/
theorem sg_least_many {ea eb ct wd w0 t0 : Nat → Nat} (hea : ∀ k, ea k < 7) (heb : ∀ k, eb k < 7) {pts W : Nat} (hp : pts < 128) (hW : 0 < W) (hwd : ∀ k, wd k < 7) (h3 : ∀ k, k < W + 1 → pts.testBit (wd k) = true) (h4 : ∀ p, p < 7 → pts.testBit p = true → ∃ k, k < W + 1 ∧ wd k = p) (ht0 : sg_B 100000 t0) :
    sg_L ea eb ct pts (sg_pA (sg_W ea eb ct w0) wd W (2 ^ W - 1) t0 (7 * (2 ^ W - 1) + wd W)) := by
  obtain ⟨hw, hE, ht⟩ := sg_W_spec (ct := ct) hea heb w0
  obtain ⟨gA, gB, gC, gR⟩ := sg_pA_spec hwd hw ht W (2 ^ W - 1) t0
  have h2 : 2 ≤ 2 ^ W := by
    have : 2 ^ 1 ≤ 2 ^ W := Nat.pow_le_pow_right (by omega) hW
    omega
  have hbits : ∀ k, k < W → (2 ^ W - 1).testBit k = true := fun k hk => by
    rw [Nat.testBit_two_pow_sub_one]; simp [hk]
  refine ⟨sg_pA_B ht0 _ _, fun c hc => ?_, ?_⟩
  · refine sg_opt (W := W) (f := fun s p => sg_pA (sg_W ea eb ct w0) wd W (2 ^ W - 1) t0 (7 * s + p)) (wy := sg_W ea eb ct w0) hea heb (fun k hk => gA k hk ?_) (fun s h p hs => gB s h p (by omega)) (fun s p q h0 hs => gC s p q h0 (by omega)) hE _ c (Nat.le_refl _) (2 ^ W - 1) (wd W) (by omega) (by omega) (hwd W) (fun k hk _ => hc _ _ (h3 W (by omega)) (h3 k (by omega)))
    have : 2 ^ k < 2 ^ W := Nat.pow_lt_pow_right (by omega) hk
    omega
  · rcases gR (2 ^ W - 1) (wd W) (by omega) (Nat.le_refl _) (hwd W) with z | ⟨c, z1, z2⟩
    · exact Or.inl (Nat.le_antisymm (sg_pA_B ht0 _ _) z)
    · refine Or.inr ⟨c, fun p q hp1 hq1 => ?_, z1⟩
      have hall : ∀ x, pts.testBit x = true → sg_C ea eb c (wd W) x := fun x hx => by
        obtain ⟨k, k1, k2⟩ := h4 x (sg_bit_lt (w := 7) hp hx) hx
        rw [← k2]
        by_cases he : k = W
        · rw [he]; exact sg_rf
        · exact z2 k (by omega) (hbits k (by omega))
      exact sg_tr (sg_sy (hall p hp1)) (hall q hq1)
end
section
/-! PLAIN LAW: what both sides must answer, and that there is one answer -/
/-- a choice n of lines that is allowed: all of inn, none of out, all lines there, the points joined -/
def sg_F (ea eb pr : Nat → Nat) (pts : Nat) (inn out : Nat → Bool) (n : Nat) : Prop := n < 1024 ∧ (∀ k, k < 10 → inn k = true → n.testBit k = true) ∧ (∀ k, k < 10 → out k = true → n.testBit k = false) ∧ (∀ k, k < 10 → n.testBit k = true → pr k ≠ 0) ∧ sg_J ea eb n.testBit pts
def sg_P (pr : Nat → Nat) (n : Nat) : Nat := sg_S pr n.testBit 10
/-- the least price of an allowed choice, or -1 -/
def sg_Low (ea eb pr : Nat → Nat) (pts : Nat) (inn out : Nat → Bool) (r : Int32) : Prop := ((∀ n, ¬ sg_F ea eb pr pts inn out n) ∧ r = -1) ∨ ∃ n, sg_F ea eb pr pts inn out n ∧ (∀ m, sg_F ea eb pr pts inn out m → sg_P pr n ≤ sg_P pr m) ∧ r = nI (sg_P pr n)
/-- the best choice n itself -/
def sg_Bst (ea eb pr : Nat → Nat) (pts : Nat) (inn out : Nat → Bool) (n : Nat) : Prop := sg_F ea eb pr pts inn out n ∧ (∀ m, sg_F ea eb pr pts inn out m → sg_P pr n ≤ sg_P pr m) ∧ (∀ m, sg_F ea eb pr pts inn out m → m < n → sg_P pr n < sg_P pr m)
theorem sg_Low_u {ea eb pr : Nat → Nat} {pts : Nat} {inn out : Nat → Bool} {r1 r2 : Int32} (h1 : sg_Low ea eb pr pts inn out r1) (h2 : sg_Low ea eb pr pts inn out r2) : r1 = r2 := by
  rcases h1 with ⟨a, rfl⟩ | ⟨n, a1, a2, rfl⟩
  · rcases h2 with ⟨b, rfl⟩ | ⟨m, b1, b2, rfl⟩
    · rfl
    · exact absurd b1 (a m)
  · rcases h2 with ⟨b, rfl⟩ | ⟨m, b1, b2, rfl⟩
    · exact absurd a1 (b n)
    · rw [Nat.le_antisymm (a2 m b1) (b2 n a1)]
theorem sg_Bst_u {ea eb pr : Nat → Nat} {pts : Nat} {inn out : Nat → Bool} {n m : Nat} (h1 : sg_Bst ea eb pr pts inn out n) (h2 : sg_Bst ea eb pr pts inn out m) : n = m := by
  have e := Nat.le_antisymm (h1.2.1 m h2.1) (h2.2.1 n h1.1)
  rcases Nat.lt_trichotomy n m with h | h | h
  · have := h2.2.2 n h1.1 h; omega
  · exact h
  · have := h1.2.2 m h2.1 h; omega
theorem sg_Bst_Low {ea eb pr : Nat → Nat} {pts : Nat} {inn out : Nat → Bool} {n : Nat} (h : sg_Bst ea eb pr pts inn out n) : sg_Low ea eb pr pts inn out (nI (sg_P pr n)) := Or.inr ⟨n, h.1, h.2.1, rfl⟩
theorem sg_Low_cg {ea eb pr : Nat → Nat} {pts : Nat} {inn out inn' out' : Nat → Bool} {r : Int32} (h1 : ∀ k, k < 10 → inn k = inn' k) (h2 : ∀ k, k < 10 → out k = out' k) (h : sg_Low ea eb pr pts inn out r) : sg_Low ea eb pr pts inn' out' r := by
  have hF : ∀ n, sg_F ea eb pr pts inn out n ↔ sg_F ea eb pr pts inn' out' n := fun n => by
    unfold sg_F
    constructor
    · intro ⟨a, b, c, d⟩
      exact ⟨a, fun k hk hi => b k hk (by rw [h1 k hk]; exact hi), fun k hk hi => c k hk (by rw [h2 k hk]; exact hi), d⟩
    · intro ⟨a, b, c, d⟩
      exact ⟨a, fun k hk hi => b k hk (by rw [← h1 k hk]; exact hi), fun k hk hi => c k hk (by rw [← h2 k hk]; exact hi), d⟩
  rcases h with ⟨a, b⟩ | ⟨n, a, b, c⟩
  · exact Or.inl ⟨fun n h => a n ((hF n).mpr h), b⟩
  · exact Or.inr ⟨n, (hF n).mp a, fun m hm => b m ((hF m).mpr hm), c⟩
/-- the counts that stand for: all of inn, none of out -/
def sg_ct (pr ct : Nat → Nat) (inn out : Nat → Bool) : Prop := ∀ k, k < 10 → ct k = if pr k = 0 ∨ out k = true then 100000 else if inn k = true then 0 else pr k
theorem sg_P_le {pr : Nat → Nat} (hp : sg_B 100 pr) (n : Nat) : sg_P pr n ≤ 1000 := by
  have h : ∀ m, sg_S pr n.testBit m ≤ 100 * m := by
    intro m
    induction m with
    | zero => exact Nat.le_refl _
    | succ m ih =>
      simp only [sg_S]
      have := hp m
      split <;> omega
  exact h 10
section SGN
variable {ea eb pr ct : Nat → Nat} {pts L I : Nat} {inn out : Nat → Bool}
/-- an allowed choice: its counts and the price of inn make its price -/
theorem sg_ct_sum (hc : sg_ct pr ct inn out) (hI : ∀ k, k < 10 → (inn k = true ↔ I.testBit k = true)) {n : Nat} (hF : sg_F ea eb pr pts inn out n) : sg_S ct n.testBit 10 + sg_P pr I = sg_P pr n := by
  obtain ⟨h0, h1, h2, h3, -⟩ := hF
  unfold sg_P
  have hs := sg_S_sp pr n.testBit I.testBit 10
  have e1 : sg_S pr (fun k => n.testBit k && I.testBit k) 10 = sg_S pr I.testBit 10 := sg_S_cg (fun k hk => by
    cases hi : I.testBit k with
    | false => simp
    | true => simp [h1 k hk ((hI k hk).mpr hi)]) (fun _ _ _ => rfl)
  have hs2 := sg_S_sp ct n.testBit I.testBit 10
  have e2 : sg_S ct (fun k => n.testBit k && I.testBit k) 10 = sg_S (fun _ => 0) (fun k => n.testBit k && I.testBit k) 10 := sg_S_cg (fun _ _ => rfl) (fun k hk hb => by
    have hb' : n.testBit k = true ∧ I.testBit k = true := by simpa using hb
    rw [hc k hk, if_neg, if_pos ((hI k hk).mpr hb'.2)]
    intro z
    rcases z with z | z
    · exact h3 k hk hb'.1 z
    · have := h2 k hk z
      rw [this] at hb'
      exact absurd hb'.1 (by decide))
  have e3 : ∀ (c : Nat → Bool) m, sg_S (fun _ => 0) c m = 0 := by
    intro c m
    induction m with
    | zero => rfl
    | succ m ih => simp [sg_S, ih]
  have e4 : sg_S ct (fun k => n.testBit k && !I.testBit k) 10 = sg_S pr (fun k => n.testBit k && !I.testBit k) 10 := sg_S_cg (fun _ _ => rfl) (fun k hk hb => by
    have hb' : n.testBit k = true ∧ I.testBit k = false := by simpa using hb
    rw [hc k hk, if_neg, if_neg]
    · intro z
      have := (hI k hk).mp z
      rw [this] at hb'
      exact absurd hb'.2 (by decide)
    · intro z
      rcases z with z | z
      · exact h3 k hk hb'.1 z
      · have := h2 k hk z
        rw [this] at hb'
        exact absurd hb'.1 (by decide))
  rw [e2, e3, e4] at hs2
  rw [e1] at hs
  omega
/-- a choice of little cost gives an allowed one -/
theorem sg_ct_get (hp : sg_B 100 pr) (hc : sg_ct pr ct inn out) (hI : ∀ k, k < 10 → (inn k = true ↔ I.testBit k = true)) (hin : ∀ k, k < 10 → inn k = true → pr k ≠ 0 ∧ out k = false) (hL : sg_L ea eb ct pts L) (hl : L ≠ 100000) : ∃ n, sg_F ea eb pr pts inn out n ∧ sg_P pr n = L + sg_P pr I := by
  obtain ⟨h1, h2, h3⟩ := hL
  rcases h3 with h3 | ⟨c, hj, hs⟩
  · exact absurd h3 hl
  obtain ⟨n, hn, hb⟩ := sg_mask (fun k => c k || inn k) 10
  have hb' : ∀ k, k < 10 → n.testBit k = (c k || inn k) := fun k hk => by rw [hb k]; simp [hk]
  have hcl : ∀ k, k < 10 → c k = true → ct k ≠ 100000 := fun k hk hck z => by
    have := sg_S_ge (w := ct) hk hck
    omega
  have hcp : ∀ k, k < 10 → c k = true → pr k ≠ 0 ∧ out k = false := fun k hk hck => by
    have h5 := hcl k hk hck
    rw [hc k hk] at h5
    by_cases h6 : pr k = 0 ∨ out k = true
    · rw [if_pos h6] at h5; exact absurd rfl h5
    · refine ⟨fun z => h6 (Or.inl z), ?_⟩
      cases ho : out k with
      | false => rfl
      | true => exact absurd (Or.inr ho) h6
  have hj2 : sg_J ea eb n.testBit pts := sg_J_mo (fun k hk hck => by rw [hb' k hk, hck]; rfl) hj
  have hF : sg_F ea eb pr pts inn out n := by
    refine ⟨hn, fun k hk hi => by rw [hb' k hk, hi]; simp, fun k hk ho => ?_, fun k hk hbk => ?_, hj2⟩
    · rw [hb' k hk]
      cases hck : c k with
      | true => rw [(hcp k hk hck).2] at ho; cases ho
      | false =>
        cases hik : inn k with
        | true => rw [(hin k hk hik).2] at ho; cases ho
        | false => rfl
    · rw [hb' k hk] at hbk
      cases hck : c k with
      | true => exact (hcp k hk hck).1
      | false =>
        rw [hck] at hbk
        exact (hin k hk (by simpa using hbk)).1
  refine ⟨n, hF, ?_⟩
  have e1 := sg_ct_sum hc hI hF
  have e2 := h2 _ hj2
  have e3 := sg_S_or ct c inn 10
  have e4 : sg_S ct n.testBit 10 = sg_S ct (fun k => c k || inn k) 10 := sg_S_cg hb' (fun _ _ _ => rfl)
  have e5 : sg_S ct inn 10 = 0 := by
    have : ∀ m, m ≤ 10 → sg_S ct inn m = 0 := by
      intro m
      induction m with
      | zero => intro _; rfl
      | succ m ih =>
        intro hm
        simp only [sg_S]
        rw [ih (by omega)]
        by_cases hi : inn m = true
        · have := hin m (by omega) hi
          rw [if_pos hi, hc m (by omega), if_neg, if_pos hi]
          intro z
          rcases z with z | z
          · exact this.1 z
          · rw [this.2] at z; cases z
        · rw [if_neg hi]
    exact this 10 (Nat.le_refl _)
  omega
theorem sg_low (hp : sg_B 100 pr) (hc : sg_ct pr ct inn out) (hI : ∀ k, k < 10 → (inn k = true ↔ I.testBit k = true)) (hin : ∀ k, k < 10 → inn k = true → pr k ≠ 0 ∧ out k = false) (hL : sg_L ea eb ct pts L) : sg_Low ea eb pr pts inn out (if L = 100000 then -1 else nI (L + sg_P pr I)) := by
  by_cases hl : L = 100000
  · rw [if_pos hl]
    refine Or.inl ⟨fun n hF => ?_, rfl⟩
    have e1 := sg_ct_sum hc hI hF
    have e2 := hL.2.1 _ hF.2.2.2.2
    have e3 := sg_P_le hp n
    omega
  · rw [if_neg hl]
    obtain ⟨n, hF, e⟩ := sg_ct_get hp hc hI hin hL hl
    refine Or.inr ⟨n, hF, fun m hm => ?_, by rw [e]⟩
    have e1 := sg_ct_sum hc hI hm
    have e2 := hL.2.1 _ hm.2.2.2.2
    omega
end SGN
-- ===== the greedy search for the best choice =====
/-- lines j .. 9 are decided: bs holds those taken; n0 is the least price -/
def sg_G (ea eb pr : Nat → Nat) (mk best j : Nat) (ct : Nat → Nat) (bs : Nat) : Prop :=
  bs < 1024 ∧ (∀ k, bs.testBit k = true → j ≤ k ∧ pr k ≠ 0) ∧ (∀ k, k < 10 → ct k = if pr k = 0 then 100000 else if j ≤ k then (if bs.testBit k = true then 0 else 100000) else pr k) ∧
  (∃ n, sg_F ea eb pr mk (fun _ => false) (fun _ => false) n ∧ sg_P pr n = best ∧ ∀ k, j ≤ k → n.testBit k = bs.testBit k) ∧
  (∀ m, sg_F ea eb pr mk (fun _ => false) (fun _ => false) m → best ≤ sg_P pr m) ∧
  ∀ m, sg_F ea eb pr mk (fun _ => false) (fun _ => false) m → sg_P pr m = best → (∀ k, j ≤ k → m.testBit k = bs.testBit k) ∨ ∃ i, j ≤ i ∧ m.testBit i = true ∧ bs.testBit i = false ∧ ∀ k, i < k → m.testBit k = bs.testBit k
theorem sg_F_bit {ea eb pr : Nat → Nat} {mk : Nat} {inn out : Nat → Bool} {n k : Nat} (h : sg_F ea eb pr mk inn out n) (hk : 10 ≤ k) : n.testBit k = false := by
  cases hb : n.testBit k with
  | false => rfl
  | true =>
    have := sg_bit_lt (w := 10) h.1 hb
    omega
/-- a decision that leaves line j - 1 = k out because it isn't there -/
theorem sg_G_no {ea eb pr ct : Nat → Nat} {mk best k bs : Nat} (hk : k < 10) (h : sg_G ea eb pr mk best (k + 1) ct bs) (h0 : pr k = 0) : sg_G ea eb pr mk best k ct bs := by
  obtain ⟨a, b, c, ⟨n, d1, d2, d3⟩, e, f⟩ := h
  have hbk : bs.testBit k = false := by
    cases hb : bs.testBit k with
    | false => rfl
    | true => have := (b k hb).1; omega
  have hno : ∀ m, sg_F ea eb pr mk (fun _ => false) (fun _ => false) m → m.testBit k = false := fun m hm => by
    cases hb : m.testBit k with
    | false => rfl
    | true => exact absurd h0 (hm.2.2.2.1 k hk hb)
  refine ⟨a, fun i hi => ⟨by have := (b i hi).1; omega, (b i hi).2⟩, fun i hi => ?_, ⟨n, d1, d2, fun i hi => ?_⟩, e, fun m hm hme => ?_⟩
  · rw [c i hi]
    by_cases hp : pr i = 0
    · rw [if_pos hp, if_pos hp]
    · rw [if_neg hp, if_neg hp]
      by_cases hik : i = k
      · subst hik; exact absurd h0 hp
      · by_cases h5 : k + 1 ≤ i
        · rw [if_pos h5, if_pos (show k ≤ i by omega)]
        · rw [if_neg h5, if_neg (show ¬ k ≤ i by omega)]
  · by_cases hik : i = k
    · subst hik; rw [hno n d1, hbk]
    · exact d3 i (by omega)
  · rcases f m hm hme with z | ⟨i, z1, z2⟩
    · refine Or.inl fun i hi => ?_
      by_cases hik : i = k
      · subst hik; rw [hno m hm, hbk]
      · exact z i (by omega)
    · exact Or.inr ⟨i, by omega, z2⟩
/-- line k tried out: the counts then, and what leastFor says of them -/
theorem sg_G_ct {ea eb pr ct : Nat → Nat} {mk best k bs : Nat} (hk : k < 10) (h : sg_G ea eb pr mk best (k + 1) ct bs) : sg_ct pr (va_up ct k 100000) bs.testBit (fun i => decide (k ≤ i) && !bs.testBit i) := by
  obtain ⟨a, b, c, -, -⟩ := h
  intro i hi
  by_cases hik : i = k
  · subst hik
    rw [sg_us]
    have hbk : bs.testBit i = false := by
      cases hb : bs.testBit i with
      | false => rfl
      | true => have := (b i hb).1; omega
    rw [if_pos (Or.inr (by simp [hbk]))]
  · rw [sg_un hik, c i hi]
    by_cases hp : pr i = 0
    · rw [if_pos hp, if_pos (Or.inl hp)]
    · rw [if_neg hp]
      by_cases h5 : k + 1 ≤ i
      · rw [if_pos h5]
        cases hb : bs.testBit i with
        | true => rw [if_pos rfl, if_neg (by simp [hp, hb]), if_pos rfl]
        | false => rw [if_neg (by decide), if_pos (Or.inr (by simp [hb]; omega))]
      · rw [if_neg h5]
        have hb : bs.testBit i = false := by
          cases hb : bs.testBit i with
          | false => rfl
          | true => have := (b i hb).1; omega
        rw [if_neg (by simp [hp]; omega), hb, if_neg (by decide)]
theorem sg_G_out {ea eb pr ct : Nat → Nat} {mk best k bs L : Nat} (hp : sg_B 100 pr) (hbst : best < 100000) (hk : k < 10) (hpk : pr k ≠ 0) (h : sg_G ea eb pr mk best (k + 1) ct bs) (hL : sg_L ea eb (va_up ct k 100000) mk L) (he : L + sg_P pr bs = best) : sg_G ea eb pr mk best k (va_up ct k 100000) bs := by
  have hct := sg_G_ct hk h
  obtain ⟨a, b, c, ⟨n, d1, d2, d3⟩, e, f⟩ := h
  have hbk : bs.testBit k = false := by
    cases hb : bs.testBit k with
    | false => rfl
    | true => have := (b k hb).1; omega
  obtain ⟨n', hF, hP⟩ := sg_ct_get (I := bs) hp hct (fun _ _ => Iff.rfl) (fun i hi hb => ⟨(b i hb).2, by simp [hb]⟩) hL (by omega)
  refine ⟨a, fun i hi => ⟨by have := (b i hi).1; omega, (b i hi).2⟩, fun i hi => ?_, ⟨n', ?_, by omega, fun i hi => ?_⟩, e, fun m hm hme => ?_⟩
  · by_cases hik : i = k
    · subst hik
      rw [sg_us, if_neg hpk, if_pos (Nat.le_refl _), hbk, if_neg (by decide)]
    · rw [sg_un hik, c i hi]
      by_cases hpi : pr i = 0
      · rw [if_pos hpi, if_pos hpi]
      · rw [if_neg hpi, if_neg hpi]
        by_cases h5 : k + 1 ≤ i
        · rw [if_pos h5, if_pos (show k ≤ i by omega)]
        · rw [if_neg h5, if_neg (show ¬ k ≤ i by omega)]
  · exact ⟨hF.1, fun _ _ h => (by cases h), fun _ _ h => (by cases h), hF.2.2.2.1, hF.2.2.2.2⟩
  · by_cases hi10 : 10 ≤ i
    · rw [sg_F_bit hF hi10]
      cases hb : bs.testBit i with
      | false => rfl
      | true => have := sg_bit_lt (w := 10) a hb; omega
    · cases hb : bs.testBit i with
      | true => exact hF.2.1 i (by omega) hb
      | false => exact hF.2.2.1 i (by omega) (by simp [hi, hb])
  · rcases f m hm hme with z | ⟨i, z1, z2⟩
    · cases hmk : m.testBit k with
      | false =>
        refine Or.inl fun i hi => ?_
        by_cases hik : i = k
        · subst hik; rw [hmk, hbk]
        · exact z i (by omega)
      | true => exact Or.inr ⟨k, Nat.le_refl _, hmk, hbk, fun i hi => z i (by omega)⟩
    · exact Or.inr ⟨i, by omega, z2⟩
theorem sg_P_or {pr : Nat → Nat} {bs k : Nat} (hk : k < 10) (hb : bs.testBit k = false) : sg_P pr (bs ||| 2 ^ k) = sg_P pr bs + pr k := by
  unfold sg_P
  have h := sg_S_rm pr (c := (bs ||| 2 ^ k).testBit) hk (by rw [Nat.testBit_or, (sg_two_bit k k).mpr rfl]; simp)
  have e : sg_S pr (sg_rm (bs ||| 2 ^ k).testBit k) 10 = sg_S pr bs.testBit 10 := sg_S_cg (fun i hi => by
    unfold sg_rm
    rw [Nat.testBit_or, Nat.testBit_two_pow]
    by_cases h : i = k
    · subst h; simp [hb]
    · simp [h, Ne.symm h]) (fun _ _ _ => rfl)
  rw [e] at h
  exact h.symm
theorem sg_G_in {ea eb pr ct : Nat → Nat} {mk best k bs L : Nat} (hp : sg_B 100 pr) (hbst : best < 100000) (hk : k < 10) (hpk : pr k ≠ 0) (h : sg_G ea eb pr mk best (k + 1) ct bs) (hL : sg_L ea eb (va_up ct k 100000) mk L) (he : L + sg_P pr bs ≠ best) : sg_G ea eb pr mk best k (va_up (va_up ct k 100000) k 0) (bs ||| 2 ^ k) := by
  have hct := sg_G_ct hk h
  obtain ⟨a, b, c, ⟨n, d1, d2, d3⟩, e, f⟩ := h
  have hbk : bs.testBit k = false := by
    cases hb : bs.testBit k with
    | false => rfl
    | true => have := (b k hb).1; omega
  have hor : ∀ i, (bs ||| 2 ^ k).testBit i = if i = k then true else bs.testBit i := fun i => by
    rw [Nat.testBit_or, Nat.testBit_two_pow]
    by_cases h : i = k
    · subst h; simp
    · simp [h, Ne.symm h]
  have hmust : ∀ m, sg_F ea eb pr mk (fun _ => false) (fun _ => false) m → sg_P pr m = best → (∀ i, k + 1 ≤ i → m.testBit i = bs.testBit i) → m.testBit k = true := fun m hm hme hag => by
    cases hmk : m.testBit k with
    | true => rfl
    | false =>
      exfalso
      have hF : sg_F ea eb pr mk bs.testBit (fun i => decide (k ≤ i) && !bs.testBit i) m := by
        refine ⟨hm.1, fun i hi hb => ?_, fun i hi ho => ?_, hm.2.2.2.1, hm.2.2.2.2⟩
        · have := (b i hb).1
          rw [hag i this]; exact hb
        · have ho' : k ≤ i ∧ bs.testBit i = false := by simpa using ho
          by_cases hik : i = k
          · subst hik; exact hmk
          · rw [hag i (by omega)]; exact ho'.2
      have e1 := sg_ct_sum (I := bs) hct (fun _ _ => Iff.rfl) hF
      have e2 := hL.2.1 _ hm.2.2.2.2
      obtain ⟨n', hF', hP'⟩ := sg_ct_get (I := bs) hp hct (fun _ _ => Iff.rfl) (fun i hi hb => ⟨(b i hb).2, by simp [hb]⟩) hL (by omega)
      have e3 := e n' ⟨hF'.1, fun _ _ h => (by cases h), fun _ _ h => (by cases h), hF'.2.2.2.1, hF'.2.2.2.2⟩
      omega
  refine ⟨Nat.or_lt_two_pow (n := 10) a (by have : 2 ^ k < 2 ^ 10 := Nat.pow_lt_pow_right (by omega) hk; exact this), fun i hi => ?_, fun i hi => ?_, ⟨n, d1, d2, fun i hi => ?_⟩, e, fun m hm hme => ?_⟩
  · rw [hor i] at hi
    by_cases hik : i = k
    · subst hik; exact ⟨Nat.le_refl _, hpk⟩
    · rw [if_neg hik] at hi
      exact ⟨by have := (b i hi).1; omega, (b i hi).2⟩
  · rw [hor i]
    by_cases hik : i = k
    · subst hik
      rw [sg_us, if_neg hpk, if_pos (Nat.le_refl _), if_pos rfl, if_pos rfl]
    · rw [sg_un hik, sg_un hik, c i hi, if_neg hik]
      by_cases hpi : pr i = 0
      · rw [if_pos hpi, if_pos hpi]
      · rw [if_neg hpi, if_neg hpi]
        by_cases h5 : k + 1 ≤ i
        · rw [if_pos h5, if_pos (show k ≤ i by omega)]
        · rw [if_neg h5, if_neg (show ¬ k ≤ i by omega)]
  · rw [hor i]
    by_cases hik : i = k
    · subst hik; rw [if_pos rfl]; exact hmust n d1 d2 d3
    · rw [if_neg hik]; exact d3 i (by omega)
  · rcases f m hm hme with z | ⟨i, z1, z2, z3, z4⟩
    · refine Or.inl fun i hi => ?_
      rw [hor i]
      by_cases hik : i = k
      · subst hik; rw [if_pos rfl]; exact hmust m hm hme z
      · rw [if_neg hik]; exact z i (by omega)
    · refine Or.inr ⟨i, by omega, z2, ?_, fun j hj => ?_⟩
      · rw [hor i, if_neg (by omega)]; exact z3
      · rw [hor j, if_neg (by omega)]; exact z4 j hj
/-- what findBest keeps: the price and the set of the best choice -/
def sg_BS (ea eb pr : Nat → Nat) (mk : Nat) (bp : Int32) (bs : Nat) : Prop := ((∀ n, ¬ sg_F ea eb pr mk (fun _ => false) (fun _ => false) n) ∧ bp = -1) ∨ (sg_Bst ea eb pr mk (fun _ => false) (fun _ => false) bs ∧ bp = nI (sg_P pr bs))
theorem sg_G_start {ea eb pr ct : Nat → Nat} {mk L : Nat} (hp : sg_B 100 pr) (hc : ∀ k, k < 10 → ct k = if pr k = 0 then 100000 else pr k) (hL : sg_L ea eb ct mk L) (hl : L ≠ 100000) : sg_G ea eb pr mk L 10 ct 0 := by
  have hct : sg_ct pr ct (fun _ => false) (fun _ => false) := fun k hk => by rw [hc k hk]; simp
  have h0 : sg_P pr 0 = 0 := by
    unfold sg_P
    have : sg_S pr (Nat.testBit 0) 10 = sg_S pr (fun _ => false) 10 := sg_S_cg (fun k _ => by rw [Nat.zero_testBit]) (fun _ _ _ => rfl)
    rw [this, sg_S_none]
  have hI : ∀ k, k < 10 → ((fun _ => false : Nat → Bool) k = true ↔ (0 : Nat).testBit k = true) := fun k _ => by rw [Nat.zero_testBit]
  obtain ⟨n, hF, hP⟩ := sg_ct_get (I := 0) hp hct hI (fun k _ h => (by cases h)) hL hl
  refine ⟨by omega, fun k hk => (by rw [Nat.zero_testBit] at hk; cases hk), fun k hk => ?_, ⟨n, hF, by omega, fun k hk => ?_⟩, fun m hm => ?_, fun m hm hme => Or.inl fun k hk => ?_⟩
  · rw [hc k hk, if_neg (show ¬ 10 ≤ k by omega)]
  · rw [sg_F_bit hF hk, Nat.zero_testBit]
  · have e1 := sg_ct_sum hct hI hm
    have e2 := hL.2.1 _ hm.2.2.2.2
    omega
  · rw [sg_F_bit hm hk, Nat.zero_testBit]
theorem sg_lt_bit {x y i : Nat} (hx : x.testBit i = false) (hy : y.testBit i = true) (h : ∀ j, i < j → x.testBit j = y.testBit j) : x < y := by
  have h1 : x / 2 ^ (i + 1) = y / 2 ^ (i + 1) := Nat.eq_of_testBit_eq (fun j => by rw [Nat.testBit_div_two_pow, Nat.testBit_div_two_pow]; exact h _ (by omega))
  have e1 : x / 2 ^ i / 2 = y / 2 ^ i / 2 := by rw [Nat.div_div_eq_div_mul, Nat.div_div_eq_div_mul, ← Nat.pow_succ]; exact h1
  rw [Nat.testBit_eq_decide_div_mod_eq] at hx hy
  have hx' : ¬ x / 2 ^ i % 2 = 1 := by simpa using hx
  have hy' : y / 2 ^ i % 2 = 1 := by simpa using hy
  have : x / 2 ^ i < y / 2 ^ i := by omega
  exact Nat.lt_of_not_le (fun z => by have := Nat.div_le_div_right (c := 2 ^ i) z; omega)
theorem sg_G_end {ea eb pr ct : Nat → Nat} {mk best bs : Nat} (h : sg_G ea eb pr mk best 0 ct bs) : sg_Bst ea eb pr mk (fun _ => false) (fun _ => false) bs ∧ sg_P pr bs = best := by
  obtain ⟨a, b, c, ⟨n, d1, d2, d3⟩, e, f⟩ := h
  have hn : n = bs := Nat.eq_of_testBit_eq (fun k => d3 k (Nat.zero_le _))
  subst hn
  refine ⟨⟨d1, fun m hm => by rw [d2]; exact e m hm, fun m hm hlt => ?_⟩, d2⟩
  have h1 := e m hm
  rcases Nat.lt_or_ge (sg_P pr n) (sg_P pr m) with z | z
  · exact z
  · exfalso
    have hme : sg_P pr m = best := by omega
    rcases f m hm hme with y | ⟨i, y1, y2, y3, y4⟩
    · have : m = n := Nat.eq_of_testBit_eq (fun k => y k (Nat.zero_le _))
      omega
    · have := sg_lt_bit (i := i) y3 y2 (fun j hj => (y4 j hj).symm)
      omega
/-- no choice at all -/
theorem sg_BS_none {ea eb pr ct : Nat → Nat} {mk bs : Nat} (hp : sg_B 100 pr) (hc : ∀ k, k < 10 → ct k = if pr k = 0 then 100000 else pr k) (hL : sg_L ea eb ct mk 100000) : sg_BS ea eb pr mk (-1) bs := by
  have hct : sg_ct pr ct (fun _ => false) (fun _ => false) := fun k hk => by rw [hc k hk]; simp
  have hI : ∀ k, k < 10 → ((fun _ => false : Nat → Bool) k = true ↔ (0 : Nat).testBit k = true) := fun k _ => by rw [Nat.zero_testBit]
  refine Or.inl ⟨fun n hF => ?_, rfl⟩
  have e1 := sg_ct_sum hct hI hF
  have e2 := hL.2.1 _ hF.2.2.2.2
  have e3 := sg_P_le hp n
  omega
theorem sg_BS_Low {ea eb pr : Nat → Nat} {mk bs : Nat} {bp : Int32} (h : sg_BS ea eb pr mk bp bs) : sg_Low ea eb pr mk (fun _ => false) (fun _ => false) bp := by
  rcases h with ⟨a, rfl⟩ | ⟨a, rfl⟩
  · exact Or.inl ⟨a, rfl⟩
  · exact sg_Bst_Low a
end
section
/-! PLAIN PROGRAMS 3: the reference: joins, and the search through all choices -/
def sg_en (ea eb : Nat → Nat) (k : Nat) : Nat := 2 ^ ea k ||| 2 ^ eb k
def sg_j1 (ea eb : Nat → Nat) (n k r : Nat) : Nat := if n.testBit k = true ∧ r &&& sg_en ea eb k ≠ 0 then r ||| sg_en ea eb k else r
def sg_j2 (ea eb : Nat → Nat) (n r : Nat) : Nat := sg_it (sg_j1 ea eb n) 10 r
def sg_j (ea eb : Nat → Nat) (n r : Nat) : Nat := sg_it (fun _ r => sg_j2 ea eb n r) 6 r
theorem sg_en_bit (ea eb : Nat → Nat) (k q : Nat) : (sg_en ea eb k).testBit q = true ↔ q = ea k ∨ q = eb k := by
  unfold sg_en
  rw [Nat.testBit_or, Nat.testBit_two_pow, Nat.testBit_two_pow]
  simp
  constructor
  · intro h; omega
  · intro h; omega
theorem sg_en_lt {ea eb : Nat → Nat} (hea : ∀ k, ea k < 7) (heb : ∀ k, eb k < 7) (k : Nat) : sg_en ea eb k < 128 := by
  refine Nat.or_lt_two_pow (n := 7) ?_ ?_
  · exact Nat.pow_lt_pow_right (by omega) (hea k)
  · exact Nat.pow_lt_pow_right (by omega) (heb k)
theorem sg_meet (ea eb : Nat → Nat) (k r : Nat) : r &&& sg_en ea eb k ≠ 0 ↔ r.testBit (ea k) = true ∨ r.testBit (eb k) = true := by
  constructor
  · intro h
    obtain ⟨q, hq⟩ := sg_bit_of_ne h
    rw [Nat.testBit_and, Bool.and_eq_true] at hq
    rcases (sg_en_bit ea eb k q).mp hq.2 with z | z
    · rw [← z]; exact Or.inl hq.1
    · rw [← z]; exact Or.inr hq.1
  · intro h
    rcases h with h | h
    · exact sg_ne_zero_of_bit (k := ea k) (by rw [Nat.testBit_and, h, (sg_en_bit ea eb k (ea k)).mpr (Or.inl rfl)]; rfl)
    · exact sg_ne_zero_of_bit (k := eb k) (by rw [Nat.testBit_and, h, (sg_en_bit ea eb k (eb k)).mpr (Or.inr rfl)]; rfl)
theorem sg_j1_lt {ea eb : Nat → Nat} (hea : ∀ k, ea k < 7) (heb : ∀ k, eb k < 7) {n k r : Nat} (h : r < 128) : sg_j1 ea eb n k r < 128 := by
  unfold sg_j1
  split
  · exact Nat.or_lt_two_pow (n := 7) h (sg_en_lt hea heb k)
  · exact h
theorem sg_j1i_lt {ea eb : Nat → Nat} (hea : ∀ k, ea k < 7) (heb : ∀ k, eb k < 7) {n r : Nat} (h : r < 128) (i : Nat) : sg_it (sg_j1 ea eb n) i r < 128 := sg_it_inv (f := sg_j1 ea eb n) (fun _ y => y < 128) h (fun _ _ _ hy => sg_j1_lt hea heb hy)
theorem sg_ji_lt {ea eb : Nat → Nat} (hea : ∀ k, ea k < 7) (heb : ∀ k, eb k < 7) {n r : Nat} (h : r < 128) (i : Nat) : sg_it (fun _ r => sg_j2 ea eb n r) i r < 128 := sg_it_inv (f := fun _ r => sg_j2 ea eb n r) (fun _ y => y < 128) h (fun _ _ _ hy => sg_j1i_lt hea heb hy 10)
theorem sg_j1_ge (ea eb : Nat → Nat) (n k r q : Nat) (h : r.testBit q = true) : (sg_j1 ea eb n k r).testBit q = true := by
  unfold sg_j1
  split
  · rw [Nat.testBit_or, h]; rfl
  · exact h
theorem sg_j1i_ge (ea eb : Nat → Nat) (n r : Nat) {a b : Nat} (hab : a ≤ b) (q : Nat) (h : (sg_it (sg_j1 ea eb n) a r).testBit q = true) : (sg_it (sg_j1 ea eb n) b r).testBit q = true := by
  induction b with
  | zero => rw [show a = 0 by omega] at h; exact h
  | succ b ih =>
    by_cases he : a = b + 1
    · rw [← he]; exact h
    · exact sg_j1_ge ea eb n b _ q (ih (by omega))
/-- nothing more is reached in a round: the reached points are closed -/
theorem sg_j2_fix {ea eb : Nat → Nat} {n r : Nat} (h : sg_j2 ea eb n r = r) (k : Nat) (hk : k < 10) (hn : n.testBit k = true) : r.testBit (ea k) = true ↔ r.testBit (eb k) = true := by
  have hall : ∀ a, a ≤ 10 → sg_it (sg_j1 ea eb n) a r = r := fun a ha => by
    apply Nat.eq_of_testBit_eq
    intro q
    have h1 := sg_j1i_ge ea eb n r (Nat.zero_le a) q
    have h2 := sg_j1i_ge ea eb n r ha q
    have h3 : sg_it (sg_j1 ea eb n) 10 r = r := h
    rw [h3] at h2
    change r.testBit q = true → _ at h1
    cases hx : (sg_it (sg_j1 ea eb n) a r).testBit q with
    | true => rw [h2 hx]
    | false =>
      cases hy : r.testBit q with
      | true => rw [h1 hy] at hx; cases hx
      | false => rfl
  have e : sg_j1 ea eb n k r = r := by
    have e1 := hall (k + 1) (by omega)
    have e0 := hall k (by omega)
    rw [show sg_it (sg_j1 ea eb n) (k + 1) r = sg_j1 ea eb n k (sg_it (sg_j1 ea eb n) k r) from rfl, e0] at e1
    exact e1
  have key : r.testBit (ea k) = true ∨ r.testBit (eb k) = true → r.testBit (ea k) = true ∧ r.testBit (eb k) = true := fun hor => by
    have hm := (sg_meet ea eb k r).mpr hor
    unfold sg_j1 at e
    rw [if_pos ⟨hn, hm⟩] at e
    rw [← e, Nat.testBit_or, Nat.testBit_or, (sg_en_bit ea eb k (ea k)).mpr (Or.inl rfl), (sg_en_bit ea eb k (eb k)).mpr (Or.inr rfl)]
    simp
  exact ⟨fun z => (key (Or.inl z)).2, fun z => (key (Or.inr z)).1⟩
theorem sg_cnt_lt {r s : Nat} (hs : s < 128) (h : ∀ q, r.testBit q = true → s.testBit q = true) (hne : s ≠ r) : sg_S (fun _ => 1) r.testBit 7 < sg_S (fun _ => 1) s.testBit 7 := by
  have hx : ∃ q, s.testBit q = true ∧ r.testBit q = false := by
    apply Classical.byContradiction
    intro hno
    apply hne
    apply Nat.eq_of_testBit_eq
    intro q
    cases hq : s.testBit q with
    | true =>
      cases hr : r.testBit q with
      | true => rfl
      | false => exact absurd ⟨q, hq, hr⟩ hno
    | false =>
      cases hr : r.testBit q with
      | false => rfl
      | true => rw [h q hr] at hq; cases hq
  obtain ⟨q, hq, hr⟩ := hx
  have hq7 := sg_bit_lt (w := 7) hs hq
  have h1 := sg_S_rm (fun _ => 1) hq7 hq
  have h2 : sg_S (fun _ => 1) r.testBit 7 ≤ sg_S (fun _ => 1) (sg_rm s.testBit q) 7 := sg_S_mo (fun k _ hk => sg_rm_to (h k hk) (fun z => by rw [z, hr] at hk; cases hk))
  omega
theorem sg_cnt_all {r : Nat} (h : 7 ≤ sg_S (fun _ => 1) r.testBit 7) : ∀ q, q < 7 → r.testBit q = true := by
  intro q hq
  cases hr : r.testBit q with
  | true => rfl
  | false =>
    exfalso
    have h1 := sg_S_rm (fun _ => 1) (c := fun _ => true) hq rfl
    have h2 : sg_S (fun _ => 1) r.testBit 7 ≤ sg_S (fun _ => 1) (sg_rm (fun _ => true) q) 7 := sg_S_mo (fun k _ hk => sg_rm_to rfl (fun z => by rw [z, hr] at hk; cases hk))
    have h3 : sg_S (fun _ => 1) (fun _ => true) 7 = 7 := rfl
    omega
theorem sg_j2_le (ea eb : Nat → Nat) (n r q : Nat) (h : r.testBit q = true) : (sg_j2 ea eb n r).testBit q = true := sg_j1i_ge ea eb n r (Nat.zero_le 10) q h
/-- SIX ROUNDS reach all that hangs together with the first point -/
theorem sg_j_spec {ea eb : Nat → Nat} (hea : ∀ k, ea k < 7) (heb : ∀ k, eb k < 7) (n p0 : Nat) (hp : p0 < 7) : ∀ q, (sg_j ea eb n (2 ^ p0)).testBit q = true ↔ sg_C ea eb n.testBit p0 q := by
  have hlt0 : 2 ^ p0 < 2 ^ 7 := Nat.pow_lt_pow_right (by omega) hp
  have hlt := sg_ji_lt hea heb (n := n) hlt0 6
  have hso : ∀ q, (sg_j ea eb n (2 ^ p0)).testBit q = true → sg_C ea eb n.testBit p0 q := by
    refine sg_it_inv (f := fun _ r => sg_j2 ea eb n r) (fun _ r => ∀ q, r.testBit q = true → sg_C ea eb n.testBit p0 q) (fun q hq => by rw [← (sg_two_bit p0 q).mp hq]; exact sg_rf) ?_
    intro i r _ hr
    refine sg_it_inv (f := sg_j1 ea eb n) (x := r) (n := 10) (fun _ r => ∀ q, r.testBit q = true → sg_C ea eb n.testBit p0 q) hr ?_
    intro k y hk hy q hq
    unfold sg_j1 at hq
    by_cases hc : n.testBit k = true ∧ y &&& sg_en ea eb k ≠ 0
    · rw [if_pos hc, Nat.testBit_or, Bool.or_eq_true] at hq
      have hed := sg_ed (ea := ea) (eb := eb) (c := n.testBit) hk hc.1
      have hboth : sg_C ea eb n.testBit p0 (ea k) ∧ sg_C ea eb n.testBit p0 (eb k) := by
        rcases (sg_meet ea eb k y).mp hc.2 with z | z
        · exact ⟨hy _ z, sg_tr (hy _ z) hed⟩
        · exact ⟨sg_tr (hy _ z) (sg_sy hed), hy _ z⟩
      rcases hq with hq | hq
      · exact hy q hq
      · rcases (sg_en_bit ea eb k q).mp hq with z | z
        · rw [z]; exact hboth.1
        · rw [z]; exact hboth.2
    · rw [if_neg hc] at hq
      exact hy q hq
  have hst : (sg_j ea eb n (2 ^ p0)).testBit p0 = true := sg_it_inv (f := fun _ r => sg_j2 ea eb n r) (fun _ r => r.testBit p0 = true) ((sg_two_bit p0 p0).mpr rfl) (fun _ y _ hy => sg_j2_le ea eb n y p0 hy)
  have hcl : sg_j2 ea eb n (sg_j ea eb n (2 ^ p0)) = sg_j ea eb n (2 ^ p0) ∨ 6 + 1 ≤ sg_S (fun _ => 1) (sg_j ea eb n (2 ^ p0)).testBit 7 := by
    have h := sg_it_inv (f := fun _ r => sg_j2 ea eb n r) (x := 2 ^ p0) (n := 6) (fun i r => r < 128 ∧ (sg_j2 ea eb n r = r ∨ i + 1 ≤ sg_S (fun _ => 1) r.testBit 7)) ⟨hlt0, Or.inr (sg_S_ge (w := fun _ => 1) (k := p0) hp ((sg_two_bit p0 p0).mpr rfl))⟩ ?_
    · exact h.2
    · intro i r _ ⟨hr, hor⟩
      refine ⟨sg_j1i_lt hea heb hr 10, ?_⟩
      by_cases hf : sg_j2 ea eb n r = r
      · exact Or.inl (by show sg_j2 ea eb n (sg_j2 ea eb n r) = sg_j2 ea eb n r; rw [hf, hf])
      · rcases hor with z | z
        · exact absurd z hf
        · have := sg_cnt_lt (sg_j1i_lt hea heb hr 10) (fun q hq => sg_j2_le ea eb n r q hq) hf
          exact Or.inr (by show i + 1 + 1 ≤ sg_S (fun _ => 1) (sg_j2 ea eb n r).testBit 7; exact Nat.succ_le_of_lt (Nat.lt_of_le_of_lt z this))
  intro q
  refine ⟨hso q, fun hC => ?_⟩
  refine hC (fun x => (sg_j ea eb n (2 ^ p0)).testBit x = true) ?_ hst
  intro k hk hn
  rcases hcl with hcl | hcl
  · exact sg_j2_fix hcl k hk hn
  · have hall := sg_cnt_all hcl
    exact ⟨fun _ => hall _ (heb k), fun _ => hall _ (hea k)⟩
/-- joins answers what it must: r0 is the least point of the set as a bit, or nothing -/
theorem sg_joins {ea eb : Nat → Nat} (hea : ∀ k, ea k < 7) (heb : ∀ k, eb k < 7) (n : Nat) {set r0 : Nat} (h : (set = 0 ∧ r0 = 0) ∨ ∃ p, p < 7 ∧ set.testBit p = true ∧ r0 = 2 ^ p) : sg_j ea eb n r0 &&& set = set ↔ sg_J ea eb n.testBit set := by
  rcases h with ⟨h1, h2⟩ | ⟨p, hp, hb, hr⟩
  · subst h1
    rw [Nat.and_zero]
    exact ⟨fun _ p q hp => (by rw [Nat.zero_testBit] at hp; cases hp), fun _ => rfl⟩
  · subst hr
    have hsp := sg_j_spec hea heb n p hp
    constructor
    · intro h x y hx hy
      have hin : ∀ z, set.testBit z = true → sg_C ea eb n.testBit p z := fun z hz => by
        rw [← h, Nat.testBit_and, Bool.and_eq_true] at hz
        exact (hsp z).mp hz.1
      exact sg_tr (sg_sy (hin x hx)) (hin y hy)
    · intro h
      rw [Nat.and_comm]
      exact sg_and_of_bits (fun k hk => (hsp k).mpr (h p k hb hk))
-- ===== the search through all choices =====
/-- of the choices below i the best is b (with its price), or there is none -/
def sg_M (ea eb pr : Nat → Nat) (pts : Nat) (inn out : Nat → Bool) (i : Nat) (b : Option Nat) : Prop := match b with
  | none => ∀ m, m < i → ¬ sg_F ea eb pr pts inn out m
  | some n => n < i ∧ sg_F ea eb pr pts inn out n ∧ (∀ m, m < i → sg_F ea eb pr pts inn out m → sg_P pr n ≤ sg_P pr m) ∧ (∀ m, sg_F ea eb pr pts inn out m → m < n → sg_P pr n < sg_P pr m)
theorem sg_M_0 (ea eb pr : Nat → Nat) (pts : Nat) (inn out : Nat → Bool) : sg_M ea eb pr pts inn out 0 none := fun m h => absurd h (Nat.not_lt_zero m)
section SGM
variable {ea eb pr : Nat → Nat} {pts i : Nat} {inn out : Nat → Bool} {b : Option Nat}
/-- a choice that isn't allowed, or isn't cheaper: nothing changes -/
theorem sg_M_skip (h : sg_M ea eb pr pts inn out i b) (hs : sg_F ea eb pr pts inn out i → ∃ n, b = some n ∧ sg_P pr n ≤ sg_P pr i) : sg_M ea eb pr pts inn out (i + 1) b := by
  cases b with
  | none =>
    intro m hm hF
    by_cases he : m = i
    · subst he
      obtain ⟨n, hn, -⟩ := hs hF
      cases hn
    · exact h m (by omega) hF
  | some n =>
    obtain ⟨h1, h2, h3, h4⟩ := h
    refine ⟨by omega, h2, fun m hm hF => ?_, h4⟩
    by_cases he : m = i
    · subst he
      obtain ⟨n', hn, hle⟩ := hs hF
      cases hn
      exact hle
    · exact h3 m (by omega) hF
theorem sg_M_take (h : sg_M ea eb pr pts inn out i b) (hF : sg_F ea eb pr pts inn out i) (hs : ∀ n, b = some n → sg_P pr i < sg_P pr n) : sg_M ea eb pr pts inn out (i + 1) (some i) := by
  cases b with
  | none =>
    refine ⟨by omega, hF, fun m hm hF2 => ?_, fun m hF2 hm => absurd hF2 (h m hm)⟩
    by_cases he : m = i
    · rw [he]; exact Nat.le_refl _
    · exact absurd hF2 (h m (by omega))
  | some n =>
    obtain ⟨h1, h2, h3, h4⟩ := h
    have hlt := hs n rfl
    refine ⟨by omega, hF, fun m hm hF2 => ?_, fun m hF2 hm => ?_⟩
    · by_cases he : m = i
      · rw [he]; exact Nat.le_refl _
      · have := h3 m (by omega) hF2; omega
    · have := h3 m hm hF2; omega
theorem sg_M_end (h : sg_M ea eb pr pts inn out 1024 b) : (b = none ∧ ∀ n, ¬ sg_F ea eb pr pts inn out n) ∨ ∃ n, b = some n ∧ sg_Bst ea eb pr pts inn out n := by
  cases b with
  | none => exact Or.inl ⟨rfl, fun n hF => h n hF.1 hF⟩
  | some n =>
    obtain ⟨h1, h2, h3, h4⟩ := h
    exact Or.inr ⟨n, rfl, h2, fun m hF => h3 m hF.1 hF, h4⟩
end SGM
end
section
/-! ROWS OF OUR OWN over the kit's: whole numbers as nI of a Nat, tables as sA, contracts from world to world, calls with one line -/
abbrev vwCl : List vw_C := [(RX0, TX0, 12), (RX1, TX1, 5)]
def sA (F : Nat → Nat) : Nat → Int32 := fun j => nI (F j)
theorem sA_up (F : Nat → Nat) (k v : Nat) : upd (sA F) k (nI v) = sA (va_up F k v) := by
  funext j
  unfold sA va_up
  by_cases h : j = k
  · subst h; rw [pk_us]; simp
  · rw [pk_un h]; simp [h]
/-- what a method's walk stands on -/
def Cx (p : Program) (c : Code) (cc : ByteArray) (nL : Nat) (s : State) (m : MethodId) (args : Array Value) (own : String) (dC : Nat → ClassId) (dI : Nat → Nat → Nat) (tys : List (ClassId × FieldType)) : Prop := CallFix p m c cc nL s args lw_all own ∧ va_K (dC, dI) vwCl tys s
/-- a contract's start: the world w -/
def sPc (dC : Nat → ClassId) (dI : Nat → Nat → Nat) (tys : List (ClassId × FieldType)) (av : List Value) (w : va_W) (sz : Nat) : Array Value → State → Prop := va_Pc av (fun U => U.heap.size = sz ∧ va_P (dC, dI) vwCl w U.heap ∧ va_K (dC, dI) vwCl tys U ∧ va_D (fun _ => True) w)
def sB (dC : Nat → ClassId) (dI : Nat → Nat → Nat) (A : Nat → Prop) (w : va_W) (t : State) : Prop := va_P (dC, dI) vwCl w t.heap ∧ va_D A w
/-- a contract with an int (or boolean) answer r and a world w1 u behind it, post r u -/
def sMi (l : Launch) (y : MethodName) (cc : ByteArray) (nL : Nat) (ret : Option FieldType) (rm : Room) (dC : Nat → ClassId) (dI : Nat → Nat → Nat) (tys : List (ClassId × FieldType)) (av : List Value) (w : va_W) {S : Type} (post : Int32 → S → Prop) (w1 : S → va_W) : Prop :=
  ∀ sz : Nat, Met l y (ws_ y cc nL ret) rm (sPc dC dI tys av w sz) (va_Qi post (fun u t => sB dC dI (va_A w sz) (w1 u) t) (va_A w sz)) 0 0 (va_A w sz)
/-- a contract without an answer -/
def sMv (l : Launch) (y : MethodName) (cc : ByteArray) (nL : Nat) (rm : Room) (dC : Nat → ClassId) (dI : Nat → Nat → Nat) (tys : List (ClassId × FieldType)) (av : List Value) (w : va_W) {S : Type} (post : S → Prop) (w1 : S → va_W) : Prop :=
  ∀ sz : Nat, Met l y (ws_ y cc nL none) rm (sPc dC dI tys av w sz) (va_Qv post (fun u t => sB dC dI (va_A w sz) (w1 u) t) (va_A w sz)) 0 0 (va_A w sz)
theorem sPc_blind {dC : Nat → ClassId} {dI : Nat → Nat → Nat} {tys : List (ClassId × FieldType)} {av : List Value} {w : va_W} {sz : Nat} : FrameBlind (sPc dC dI tys av w sz) := fun a U g mk q => by
  obtain ⟨q0, q1, qP, qK, qD⟩ := q
  exact ⟨q0, q1, qP, va_K.moved (u := U) (U := U.calling g mk a) (Vm.Alike.refl U.vm) qK, qD⟩
section SROWS
variable {p : Program} {l : Launch} {e : Env} {R : Room} {s : State} {m : MethodId} {args : Array Value} {below : List Frame} {meth : Method} {c : Code} {H : Heap} {locs : List Loc} {cells slots : Nat} {Q : State → Prop}
variable {cc : ByteArray} {pc nL : Nat} {ls : Array Slot} {rest : List Value} {own : String} {dC : Nat → ClassId} {dI : Nat → Nat → Nat} {tys : List (ClassId × FieldType)} {ws : va_W} {A : Nat → Prop} {a : Nat} {H0 : Heap}
theorem s_top {x : Int32} (y : Int32) (h : x = y) (k : W p l e R s m args below meth c H locs cells slots Q (F0 m pc ls (.int y :: rest))) : W p l e R s m args below meth c H locs cells slots Q (F0 m pc ls (.int x :: rest)) := h ▸ k
-- ===== fields =====
theorem s_get0 (X : Cx p c cc nL s m args RX0 dC dI tys) (hP : va_P (dC, dI) vwCl ws H) (q0 : Nat) {fs : List Value} (he : ws[q0]? = some (a, .inr (0, fs))) (k : Nat) (hk : k < 12) {idx : Nat} (hl : Cond.fieldLink RX0 idx RX0 (TX0 k).2.1 (TX0 k).2.2.1 ∈ lw_all) (hsame : (TX0 k).1 = RX0) {v : Value} (hv : fs[k]? = some v) (hdg : decode cc pc = .ok (.getfield idx, 3))
    (kk : W p l e R s m args below meth c H locs cells slots Q (F0 m (pc + 3) ls (v :: rest))) : W p l e R s m args below meth c H locs cells slots Q (F0 m pc ls (.ref a :: rest)) := by
  obtain ⟨⟨hx, hb, hml, hown, hts⟩, hK⟩ := X
  exact va_get (D := (dC, dI)) (ci := 0) (C := RX0) (T := TX0) (N := 12) (ref := RX0) hx hb hts in_X0 hown hK hP q0 he rfl k hk (hts _ hl) (fun _ h9 => by rw [hsame] at h9; exact h9) hv hdg kk
theorem s_get1 (X : Cx p c cc nL s m args RX1 dC dI tys) (hP : va_P (dC, dI) vwCl ws H) (q0 : Nat) {fs : List Value} (he : ws[q0]? = some (a, .inr (1, fs))) (k : Nat) (hk : k < 5) {idx : Nat} (hl : Cond.fieldLink RX1 idx RX1 (TX1 k).2.1 (TX1 k).2.2.1 ∈ lw_all) (hsame : (TX1 k).1 = RX1) {v : Value} (hv : fs[k]? = some v) (hdg : decode cc pc = .ok (.getfield idx, 3))
    (kk : W p l e R s m args below meth c H locs cells slots Q (F0 m (pc + 3) ls (v :: rest))) : W p l e R s m args below meth c H locs cells slots Q (F0 m pc ls (.ref a :: rest)) := by
  obtain ⟨⟨hx, hb, hml, hown, hts⟩, hK⟩ := X
  exact va_get (D := (dC, dI)) (ci := 1) (C := RX1) (T := TX1) (N := 5) (ref := RX1) hx hb hts in_X1 hown hK hP q0 he rfl k hk (hts _ hl) (fun _ h9 => by rw [hsame] at h9; exact h9) hv hdg kk
theorem s_put0 (X : Cx p c cc nL s m args RX0 dC dI tys) (hP : va_P (dC, dI) vwCl ws H) (hD : va_D A ws) (hS : va_S A H0 H locs) (q0 : Nat) {fs : List Value} (he : ws[q0]? = some (a, .inr (0, fs))) (k : Nat) (hk : k < 12) {idx : Nat} (hl : Cond.fieldLink RX0 idx RX0 (TX0 k).2.1 (TX0 k).2.2.1 ∈ lw_all) (hsame : (TX0 k).1 = RX0) (hfin : (TX0 k).2.2.2 = false) {v : Value} (hn : narrow (tyX0 k) v = v) (hfit : fits (tyX0 k) v = true) (hlen : k < fs.length) (hdg : decode cc pc = .ok (.putfield idx, 3))
    (kk : ∀ (H1 : Heap) (locs1 : List Loc), va_P (dC, dI) vwCl (ws.set q0 (a, .inr (0, fs.set k v))) H1 → va_D A (ws.set q0 (a, .inr (0, fs.set k v))) → va_S A H0 H1 locs1 → W p l e R s m args below meth c H1 locs1 cells slots Q (F0 m (pc + 3) ls rest)) : W p l e R s m args below meth c H locs cells slots Q (F0 m pc ls (v :: .ref a :: rest)) := by
  obtain ⟨⟨hx, hb, hml, hown, hts⟩, hK⟩ := X
  exact va_put (D := (dC, dI)) (ci := 0) (C := RX0) (T := TX0) (N := 12) (ref := RX0) hx hb hts in_X0 tyX0 tyX0_ok nmX0 hown hK hP hD hS q0 he rfl k hk (hts _ hl) (fun _ h9 => by rw [hsame] at h9; exact h9) hfin (tyX0_ok k hk) hn hfit hlen hdg kk
-- ===== tables =====
theorem s_ild (X : Cx p c cc nL s m args own dC dI tys) (hP : va_P (dC, dI) vwCl ws H) (q0 t0 : Nat) {cA : ClassId} {n : Nat} {F : Nat → Nat} (ha : ws[q0]? = some (a, .inl (cA, n, .inl (sA F)))) (ht : tys[t0]? = some (cA, .int)) {k : Nat} (hk : k < n) (hn : n < 1000) (hdg : decode cc pc = .ok (.iaload, 1))
    (kk : W p l e R s m args below meth c H locs cells slots Q (F0 m (pc + 1) ls (.int (nI (F k)) :: rest))) : W p l e R s m args below meth c H locs cells slots Q (F0 m pc ls (.int (nI k) :: .ref a :: rest)) := by
  obtain ⟨⟨hx, hb, hml, hown, hts⟩, hK⟩ := X
  refine va_iald hx hb hK hP q0 t0 ha ht (vp_in_nI hk (by omega)) hdg ?_
  rw [nI_clamp (by omega)]
  exact kk
theorem s_zld (X : Cx p c cc nL s m args own dC dI tys) (hP : va_P (dC, dI) vwCl ws H) (q0 t0 : Nat) {cA : ClassId} {n : Nat} {F : Nat → Nat} (ha : ws[q0]? = some (a, .inl (cA, n, .inl (sA F)))) (ht : tys[t0]? = some (cA, .boolean)) {k : Nat} (hk : k < n) (hn : n < 1000) (hdg : decode cc pc = .ok (.baload, 1))
    (kk : W p l e R s m args below meth c H locs cells slots Q (F0 m (pc + 1) ls (.int (nI (F k)) :: rest))) : W p l e R s m args below meth c H locs cells slots Q (F0 m pc ls (.int (nI k) :: .ref a :: rest)) := by
  obtain ⟨⟨hx, hb, hml, hown, hts⟩, hK⟩ := X
  refine va_zald hx hb hK hP q0 t0 ha ht (vp_in_nI hk (by omega)) hdg ?_
  rw [nI_clamp (by omega)]
  exact kk
theorem s_ist (X : Cx p c cc nL s m args own dC dI tys) (hP : va_P (dC, dI) vwCl ws H) (hD : va_D A ws) (hS : va_S A H0 H locs) (q0 t0 : Nat) {cA : ClassId} {n : Nat} {F : Nat → Nat} (ha : ws[q0]? = some (a, .inl (cA, n, .inl (sA F)))) (ht : tys[t0]? = some (cA, .int)) {k v : Nat} (hk : k < n) (hn : n < 1000) (hdg : decode cc pc = .ok (.iastore, 1))
    (kk : ∀ (H1 : Heap) (locs1 : List Loc), va_P (dC, dI) vwCl (ws.set q0 (a, .inl (cA, n, .inl (sA (va_up F k v))))) H1 → va_D A (ws.set q0 (a, .inl (cA, n, .inl (sA (va_up F k v))))) → va_S A H0 H1 locs1 → W p l e R s m args below meth c H1 locs1 cells slots Q (F0 m (pc + 1) ls rest)) : W p l e R s m args below meth c H locs cells slots Q (F0 m pc ls (.int (nI v) :: .int (nI k) :: .ref a :: rest)) := by
  obtain ⟨⟨hx, hb, hml, hown, hts⟩, hK⟩ := X
  refine va_iast hx hb hK hP hD hS q0 t0 ha ht (vp_in_nI hk (by omega)) hdg (fun H1 locs1 => ?_)
  rw [nI_clamp (by omega), sA_up]
  exact kk H1 locs1
theorem s_zst (X : Cx p c cc nL s m args own dC dI tys) (hP : va_P (dC, dI) vwCl ws H) (hD : va_D A ws) (hS : va_S A H0 H locs) (q0 t0 : Nat) {cA : ClassId} {n : Nat} {F : Nat → Nat} (ha : ws[q0]? = some (a, .inl (cA, n, .inl (sA F)))) (ht : tys[t0]? = some (cA, .boolean)) {k v : Nat} (hv : v < 2) (hk : k < n) (hn : n < 1000) (hdg : decode cc pc = .ok (.bastore, 1))
    (kk : ∀ (H1 : Heap) (locs1 : List Loc), va_P (dC, dI) vwCl (ws.set q0 (a, .inl (cA, n, .inl (sA (va_up F k v))))) H1 → va_D A (ws.set q0 (a, .inl (cA, n, .inl (sA (va_up F k v))))) → va_S A H0 H1 locs1 → W p l e R s m args below meth c H1 locs1 cells slots Q (F0 m (pc + 1) ls rest)) : W p l e R s m args below meth c H locs cells slots Q (F0 m pc ls (.int (nI v) :: .int (nI k) :: .ref a :: rest)) := by
  obtain ⟨⟨hx, hb, hml, hown, hts⟩, hK⟩ := X
  refine va_zast hx hb hK hP hD hS q0 t0 ha ht (vp_in_nI hk (by omega)) hdg (fun H1 locs1 => ?_)
  have hnar : vp_nar .boolean (nI v) = nI v := by
    rcases (show v = 0 ∨ v = 1 by omega) with h | h <;> subst h <;> decide +kernel
  rw [nI_clamp (by omega), hnar, sA_up]
  exact kk H1 locs1
-- ===== branches over whole numbers =====
theorem s_cge (X : Cx p c cc nL s m args own dC dI tys) {x y : Nat} (hx2 : x < 2 ^ 31) (hy2 : y < 2 ^ 31) {off : Int} {tgt : Nat} (hdg : decode cc pc = .ok (.if_icmp .ge off, 3)) (ht : (pc : Int) + off = (tgt : Int)) (kt : y ≤ x → W p l e R s m args below meth c H locs cells slots Q (F0 m tgt ls rest)) (kf : x < y → W p l e R s m args below meth c H locs cells slots Q (F0 m (pc + 3) ls rest)) : W p l e R s m args below meth c H locs cells slots Q (F0 m pc ls (.int (nI y) :: .int (nI x) :: rest)) :=
  lv_icmp_ge X.1.1 X.1.2.1 hdg ht (fun h => kt ((nI_leI hy2 hx2).mp h)) (fun h => kf (Nat.lt_of_not_le (fun z => h ((nI_leI hy2 hx2).mpr z))))
theorem s_clt (X : Cx p c cc nL s m args own dC dI tys) {x y : Nat} (hx2 : x < 2 ^ 31) (hy2 : y < 2 ^ 31) {off : Int} {tgt : Nat} (hdg : decode cc pc = .ok (.if_icmp .lt off, 3)) (ht : (pc : Int) + off = (tgt : Int)) (kt : x < y → W p l e R s m args below meth c H locs cells slots Q (F0 m tgt ls rest)) (kf : y ≤ x → W p l e R s m args below meth c H locs cells slots Q (F0 m (pc + 3) ls rest)) : W p l e R s m args below meth c H locs cells slots Q (F0 m pc ls (.int (nI y) :: .int (nI x) :: rest)) :=
  lv_icmp_lt X.1.1 X.1.2.1 hdg ht (fun h => kt ((nI_ltI hx2 hy2).mp h)) (fun h => kf (Nat.le_of_not_lt (fun z => h ((nI_ltI hx2 hy2).mpr z))))
theorem s_ceq (X : Cx p c cc nL s m args own dC dI tys) {x y : Nat} (hx2 : x < 2 ^ 31) (hy2 : y < 2 ^ 31) {off : Int} {tgt : Nat} (hdg : decode cc pc = .ok (.if_icmp .eq off, 3)) (ht : (pc : Int) + off = (tgt : Int)) (kt : x = y → W p l e R s m args below meth c H locs cells slots Q (F0 m tgt ls rest)) (kf : x ≠ y → W p l e R s m args below meth c H locs cells slots Q (F0 m (pc + 3) ls rest)) : W p l e R s m args below meth c H locs cells slots Q (F0 m pc ls (.int (nI y) :: .int (nI x) :: rest)) :=
  lv_icmp_eq X.1.1 X.1.2.1 hdg ht (fun h => kt ((nI_eq hx2 hy2).mp h)) (fun h => kf (fun z => h (by rw [z])))
theorem s_cne (X : Cx p c cc nL s m args own dC dI tys) {x y : Nat} (hx2 : x < 2 ^ 31) (hy2 : y < 2 ^ 31) {off : Int} {tgt : Nat} (hdg : decode cc pc = .ok (.if_icmp .ne off, 3)) (ht : (pc : Int) + off = (tgt : Int)) (kt : x ≠ y → W p l e R s m args below meth c H locs cells slots Q (F0 m tgt ls rest)) (kf : x = y → W p l e R s m args below meth c H locs cells slots Q (F0 m (pc + 3) ls rest)) : W p l e R s m args below meth c H locs cells slots Q (F0 m pc ls (.int (nI y) :: .int (nI x) :: rest)) :=
  lv_icmp_ne X.1.1 X.1.2.1 hdg ht (fun h => kt (fun z => h (by rw [z]))) (fun h => kf ((nI_eq hx2 hy2).mp h))
theorem s_ieq (X : Cx p c cc nL s m args own dC dI tys) {x : Nat} (hx2 : x < 2 ^ 31) {off : Int} {tgt : Nat} (hdg : decode cc pc = .ok (.ifCond .eq off, 3)) (ht : (pc : Int) + off = (tgt : Int)) (kt : x = 0 → W p l e R s m args below meth c H locs cells slots Q (F0 m tgt ls rest)) (kf : x ≠ 0 → W p l e R s m args below meth c H locs cells slots Q (F0 m (pc + 3) ls rest)) : W p l e R s m args below meth c H locs cells slots Q (F0 m pc ls (.int (nI x) :: rest)) :=
  lv_if_eq X.1.1 X.1.2.1 hdg ht (fun h => kt ((nI_eq hx2 (b := 0) (by decide)).mp h)) (fun h => kf (fun z => h (by rw [z]; rfl)))
theorem s_ine (X : Cx p c cc nL s m args own dC dI tys) {x : Nat} (hx2 : x < 2 ^ 31) {off : Int} {tgt : Nat} (hdg : decode cc pc = .ok (.ifCond .ne off, 3)) (ht : (pc : Int) + off = (tgt : Int)) (kt : x ≠ 0 → W p l e R s m args below meth c H locs cells slots Q (F0 m tgt ls rest)) (kf : x = 0 → W p l e R s m args below meth c H locs cells slots Q (F0 m (pc + 3) ls rest)) : W p l e R s m args below meth c H locs cells slots Q (F0 m pc ls (.int (nI x) :: rest)) :=
  lv_if_ne X.1.1 X.1.2.1 hdg ht (fun h => kt (fun z => h (by rw [z]; rfl))) (fun h => kf ((nI_eq hx2 (b := 0) (by decide)).mp h))
theorem s_ile (X : Cx p c cc nL s m args own dC dI tys) {x : Nat} (hx2 : x < 2 ^ 31) {off : Int} {tgt : Nat} (hdg : decode cc pc = .ok (.ifCond .le off, 3)) (ht : (pc : Int) + off = (tgt : Int)) (kt : x = 0 → W p l e R s m args below meth c H locs cells slots Q (F0 m tgt ls rest)) (kf : x ≠ 0 → W p l e R s m args below meth c H locs cells slots Q (F0 m (pc + 3) ls rest)) : W p l e R s m args below meth c H locs cells slots Q (F0 m pc ls (.int (nI x) :: rest)) :=
  lv_if_le X.1.1 X.1.2.1 hdg ht (fun h => kt (by have := (nI_leI hx2 (b := 0) (by decide)).mp h; omega)) (fun h => kf (fun z => h (by rw [z]; decide)))
-- ===== ends =====
theorem s_iret {S : Type} {post : Int32 → S → Prop} {w1 : S → va_W} {r : Int32} {ret : FieldType} (X : Cx p c cc nL s m args own dC dI tys) (hr : meth.sig.returnType = some ret) (hlocks : meth.locks = false) (hn : narrow ret (.int r) = .int r) (u : S) (hpost : post r u) (hP : va_P (dC, dI) vwCl (w1 u) H) (hD : va_D A (w1 u)) (hS : va_S A s.heap H locs) (hdg : decode cc pc = .ok (.ireturn, 1)) : W p l e R s m args below meth c H locs 0 0 (MQ below (va_Qi post (fun u t => sB dC dI A (w1 u) t) A) args s 0 0 A) (F0 m pc ls [.int r]) :=
  W.zret (v := r) X.1.1 X.1.2.1 hr hn (fun t ht hW => ⟨⟨r, u, rfl, hpost, by rw [ht]; exact hP, hD⟩, hS.F ht⟩) hS.2.2 hdg
theorem s_vret {S : Type} {post : S → Prop} {w1 : S → va_W} (X : Cx p c cc nL s m args own dC dI tys) (hr : meth.sig.returnType = none) (hlocks : meth.locks = false) (u : S) (hpost : post u) (hP : va_P (dC, dI) vwCl (w1 u) H) (hD : va_D A (w1 u)) (hS : va_S A s.heap H locs) (hdg : decode cc pc = .ok (.return_, 1)) : W p l e R s m args below meth c H locs 0 0 (MQ below (va_Qv post (fun u t => sB dC dI A (w1 u) t) A) args s 0 0 A) (F0 m pc ls []) :=
  W.vret X.1.1 X.1.2.1 hr (fun t ht hW => ⟨⟨u, rfl, hpost, by rw [ht]; exact hP, hD⟩, hS.F ht⟩) hS.2.2 hdg
end SROWS
/-- the walk of a method, from its entry -/
def sWalk (l : Launch) (y : MethodName) (cc : ByteArray) (nL : Nat) (ret : Option FieldType) (rm : Room) (dC : Nat → ClassId) (dI : Nat → Nat → Nat) (tys : List (ClassId × FieldType)) (av : List Value) (w : va_W) (Qc : (Nat → Prop) → Array Value → State → Outcome → State → Prop) : Prop :=
  ∀ (p : Program) (e : Env) (s : State) (m : MethodId) (below : List Frame) (meth : Method) (c : Code) (A : Nat → Prop) (ls : Array Slot), Cx p c cc nL s m av.toArray y.cls dC dI tys → meth.sig.returnType = ret → meth.locks = false → (∀ q : Nat, s.heap.size ≤ q → A q) → va_P (dC, dI) vwCl w s.heap → va_D A w → va_S A s.heap s.heap [] → lv_has ls nL (lv_args 0 av) →
    W p l e (headSpec (ws_ y cc nL ret) rm).room s m av.toArray below meth c s.heap [] 0 0 (MQ below (Qc A) av.toArray s 0 0 A) (F0 m 0 ls [])
theorem sWalk_met {l : Launch} {y : MethodName} {cc : ByteArray} {nL : Nat} {ret : Option FieldType} {rm : Room} {dC : Nat → ClassId} {dI : Nat → Nat → Nat} {tys : List (ClassId × FieldType)} {av : List Value} {w : va_W} {Qc : (Nat → Prop) → Array Value → State → Outcome → State → Prop} (hy : plainName y.cls = true) (hn : (lg_sl av).length ≤ nL) (h : sWalk l y cc nL ret rm dC dI tys av w Qc) (sz : Nat) : Met l y (ws_ y cc nL ret) rm (sPc dC dI tys av w sz) (Qc (va_A w sz)) 0 0 (va_A w sz) := by
  refine Met.ofW (cc := cc) (maxL := nL) (ret := ret) hy rfl ?_
  intro p e s m args below meth c s₁ B hml hv
  obtain ⟨rfl, hsz, hP, hK, hD0⟩ := hv
  have hts := atoms_spec (ws := ws_ y cc nL ret) B.pre
  have hts : ∀ w ∈ lw_all, w.before _ s = true := fun w h => hts w (List.mem_cons_of_mem _ h)
  have hown : s.vm.findClass y.cls = some m.cls := findClass_of_methodNamed B.named
  subst hsz
  have hl := lv_entry av (n := nL) hn
  rw [lg_entry_eq]
  exact h p e s m below meth c (va_A w s.heap.size) _ ⟨⟨B.exec, B.bytes, hml, hown, hts⟩, hK⟩ B.returns B.notSynchronized (fun q h => Or.inr h) hP hD0.self va_S.rf hl
section SCALLS
variable {p : Program} {l : Launch} {e : Env} {R : Room} {s : State} {m : MethodId} {args : Array Value} {below : List Frame} {meth : Method} {c : Code} {H : Heap} {locs : List Loc} {cells slots : Nat} {Q : State → Prop}
variable {cc : ByteArray} {pc nL : Nat} {ls : Array Slot} {rest st : List Value} {own : String} {dC : Nat → ClassId} {dI : Nat → Nat → Nat} {tys : List (ClassId × FieldType)} {ws wc wr : va_W} {A : Nat → Prop} {a : Nat} {H0 : Heap}
variable {y : MethodName} {bytes : ByteArray} {maxL n index : Nat} {rm : Room} {ret : Option FieldType} {As : List Value} {b : Nat}
/-- a call through an object, with an answer -/
theorem s_calliV {S : Type} {post : Int32 → S → Prop} {w1 : S → va_W} (X : Cx p c cc nL s m args own dC dI tys) (hM : sMi l y bytes maxL ret rm dC dI tys (.ref b :: As) wc post w1) (cw : CallW R s args own y.cls index y bytes maxL ret (ws_ y bytes maxL ret) rm 0 0 n) (hf : cells ≤ R.cells ∧ slots ≤ R.slots)
    (hP : va_P (dC, dI) vwCl ws H) (hD : va_D A ws) (hS : va_S A H0 H locs) (hA : ∀ q : Nat, H0.size ≤ q → A q) (isC isR : List Nat) (hC : isC.map (fun i => ws[i]?) = wc.map some) (hR : isR.map (fun i => ws[i]?) = wr.map some) (hnC : va_nd isC = true) (hnR : va_nd isR = true) (hdis : ∀ i ∈ isR, i ∉ isC) (ci : Nat) {q : vw_C} {fs : List Value} (hcl : vwCl[ci]? = some q) (hq1 : q.1 = y.cls) (he : wc[0]? = some (b, .inr (ci, fs)))
    (hls : ls.size = nL) (hn : As.length = n) (hst : st = As.reverse ++ .ref b :: rest) (hroom : (rest.map fun v => v.category).sum ≤ 8) (hdg : decode cc pc = .ok (.invokevirtual index, 3))
    (kk : ∀ (r : Int32) (u : S) (H1 : Heap) (locs1 : List Loc), post r u → va_P (dC, dI) vwCl (wr ++ w1 u) H1 → va_D A (wr ++ w1 u) → va_S A H0 H1 locs1 → W p l e R s m args below meth c H1 locs1 cells slots Q (F0 m (pc + 3) ls (.int r :: rest))) : W p l e R s m args below meth c H locs cells slots Q (F0 m pc ls st) := by
  obtain ⟨⟨hx, hb, hml, hown, hts⟩, hK⟩ := X
  have hPc : va_P (dC, dI) vwCl wc H := by
    intro k q hk
    have h1 : (isC.map (fun i => ws[i]?))[k]? = some (some q) := by rw [hC, List.getElem?_map, hk]; rfl
    rw [List.getElem?_map] at h1
    cases hi : isC[k]? with
    | none => rw [hi] at h1; cases h1
    | some i => rw [hi] at h1; exact hP i q (Option.some.inj h1)
  have hDc := hD.sub (ws' := wc) isC hnC hC
  have hFc := va_free (wc := wc) hD hS hA isC hC
  have hrv := va_recv hK hPc (ci := ci) (q0 := 0) hcl he
  rw [hq1] at hrv
  refine va_calli (va_runV (As := As) (rest := rest) ⟨hx, hb, hml, hown, hts⟩ (hM H.size) cw ⟨sPc_blind, hrv, fun U hU hW => ⟨rfl, by rw [hU], by rw [hU]; exact hPc, va_K.moved hW.alike hK, hDc.weaken (fun _ _ _ _ => trivial)⟩⟩ rfl hn hls hst (lv_room hroom) hdg hf) hS (fun q _ h => hFc q h) hFc (fun r u t H1 locs1 ht hvm hw1 hB hz1 hk1 hS => ?_)
  obtain ⟨hP1, hD1⟩ := hB
  rw [ht] at hP1
  obtain ⟨hP, hD⟩ := va_join (wr := wr) (w1 := w1 u) hP hD isC isR hC hR hnR hdis hk1 hFc hP1 hD1
  exact kk r u H1 locs1 hw1 hP hD hS
/-- a call through an object, without an answer -/
theorem s_callvV {S : Type} {post : S → Prop} {w1 : S → va_W} (X : Cx p c cc nL s m args own dC dI tys) (hM : sMv l y bytes maxL rm dC dI tys (.ref b :: As) wc post w1) (cw : CallW R s args own y.cls index y bytes maxL none (ws_ y bytes maxL none) rm 0 0 n) (hf : cells ≤ R.cells ∧ slots ≤ R.slots)
    (hP : va_P (dC, dI) vwCl ws H) (hD : va_D A ws) (hS : va_S A H0 H locs) (hA : ∀ q : Nat, H0.size ≤ q → A q) (isC isR : List Nat) (hC : isC.map (fun i => ws[i]?) = wc.map some) (hR : isR.map (fun i => ws[i]?) = wr.map some) (hnC : va_nd isC = true) (hnR : va_nd isR = true) (hdis : ∀ i ∈ isR, i ∉ isC) (ci : Nat) {q : vw_C} {fs : List Value} (hcl : vwCl[ci]? = some q) (hq1 : q.1 = y.cls) (he : wc[0]? = some (b, .inr (ci, fs)))
    (hls : ls.size = nL) (hn : As.length = n) (hst : st = As.reverse ++ .ref b :: rest) (hroom : (rest.map fun v => v.category).sum ≤ 8) (hdg : decode cc pc = .ok (.invokevirtual index, 3))
    (kk : ∀ (u : S) (H1 : Heap) (locs1 : List Loc), post u → va_P (dC, dI) vwCl (wr ++ w1 u) H1 → va_D A (wr ++ w1 u) → va_S A H0 H1 locs1 → W p l e R s m args below meth c H1 locs1 cells slots Q (F0 m (pc + 3) ls rest)) : W p l e R s m args below meth c H locs cells slots Q (F0 m pc ls st) := by
  obtain ⟨⟨hx, hb, hml, hown, hts⟩, hK⟩ := X
  have hPc : va_P (dC, dI) vwCl wc H := by
    intro k q hk
    have h1 : (isC.map (fun i => ws[i]?))[k]? = some (some q) := by rw [hC, List.getElem?_map, hk]; rfl
    rw [List.getElem?_map] at h1
    cases hi : isC[k]? with
    | none => rw [hi] at h1; cases h1
    | some i => rw [hi] at h1; exact hP i q (Option.some.inj h1)
  have hDc := hD.sub (ws' := wc) isC hnC hC
  have hFc := va_free (wc := wc) hD hS hA isC hC
  have hrv := va_recv hK hPc (ci := ci) (q0 := 0) hcl he
  rw [hq1] at hrv
  refine va_callv (va_runV (As := As) (rest := rest) ⟨hx, hb, hml, hown, hts⟩ (hM H.size) cw ⟨sPc_blind, hrv, fun U hU hW => ⟨rfl, by rw [hU], by rw [hU]; exact hPc, va_K.moved hW.alike hK, hDc.weaken (fun _ _ _ _ => trivial)⟩⟩ rfl hn hls hst (lv_room hroom) hdg hf) hS (fun q _ h => hFc q h) hFc (fun u t H1 locs1 ht hvm hw1 hB hz1 hk1 hS => ?_)
  obtain ⟨hP1, hD1⟩ := hB
  rw [ht] at hP1
  obtain ⟨hP, hD⟩ := va_join (wr := wr) (w1 := w1 u) hP hD isC isR hC hR hnR hdis hk1 hFc hP1 hD1
  exact kk u H1 locs1 hw1 hP hD hS
/-- a static call that touches no cell, with an answer -/
theorem s_calliS {post : Int32 → Unit → Prop} (X : Cx p c cc nL s m args own dC dI tys) (hM : sMi l y bytes maxL ret rm dC dI tys As [] post (fun _ => [])) (cw : CallB R s args own index y bytes maxL ret (ws_ y bytes maxL ret) rm 0 0 n ∧ (Cond.static y).before args s = true) (hf : cells ≤ R.cells ∧ slots ≤ R.slots)
    (hP : va_P (dC, dI) vwCl ws H) (hD : va_D A ws) (hS : va_S A H0 H locs) (hA : ∀ q : Nat, H0.size ≤ q → A q) (hls : ls.size = nL) (hn : As.length = n) (hst : st = As.reverse ++ rest) (hroom : (rest.map fun v => v.category).sum ≤ 8) (hdg : decode cc pc = .ok (.invokestatic index, 3))
    (kk : ∀ (r : Int32) (H1 : Heap) (locs1 : List Loc), post r () → va_P (dC, dI) vwCl ws H1 → va_D A ws → va_S A H0 H1 locs1 → W p l e R s m args below meth c H1 locs1 cells slots Q (F0 m (pc + 3) ls (.int r :: rest))) : W p l e R s m args below meth c H locs cells slots Q (F0 m pc ls st) := by
  obtain ⟨⟨hx, hb, hml, hown, hts⟩, hK⟩ := X
  have hPc : va_P (dC, dI) vwCl [] H := fun k q hk => by simp at hk
  have hDc : va_D A [] := ⟨fun i j x y hi => by simp at hi, fun k q hk => by simp at hk⟩
  have hFc := va_free (wc := []) hD hS hA [] rfl
  refine va_calli (va_runS (As := As) (rest := rest) ⟨hx, hb, hml, hown, hts⟩ (hM H.size) cw ⟨sPc_blind, fun U hU hW => ⟨rfl, by rw [hU], by rw [hU]; exact hPc, va_K.moved hW.alike hK, hDc.weaken (fun _ _ _ _ => trivial)⟩⟩ rfl hn hls hst (lv_room hroom) hdg hf) hS (fun q _ h => hFc q h) hFc (fun r u t H1 locs1 ht hvm hw1 hB hz1 hk1 hS => ?_)
  refine kk r H1 locs1 hw1 (hP.kept (fun k q hk => hk1 q.1 (hP k q hk).lt (fun z => ?_))) hD hS
  rcases z with ⟨k2, e2, z⟩ | z
  · simp at z
  · have := (hP k q hk).lt; omega
end SCALLS
end
section
/-! THE WORLDS: the class's object with its seven tables, the reference's with its five -/
abbrev tyz (dA dZ : ClassId) : List (ClassId × FieldType) := [(dA, .int), (dZ, .boolean)]
abbrev nW (dA : ClassId) (Q : Nat → Nat) (ea eb pr : Nat → Nat) (mk : Nat) (ct wy pt : Nat → Nat) (wc : Nat) (wd : Nat → Nat) (kn : Nat) (bp : Int32) (bs : Nat) : va_W :=
  [(Q 0, .inr (0, [.ref (Q 1), .ref (Q 2), .ref (Q 3), .int (nI mk), .ref (Q 4), .ref (Q 5), .ref (Q 6), .int (nI wc), .ref (Q 7), .int (nI kn), .int bp, .int (nI bs)])), (Q 1, .inl (dA, 10, .inl (sA ea))), (Q 2, .inl (dA, 10, .inl (sA eb))), (Q 3, .inl (dA, 10, .inl (sA pr))), (Q 4, .inl (dA, 10, .inl (sA ct))), (Q 5, .inl (dA, 49, .inl (sA wy))), (Q 6, .inl (dA, 448, .inl (sA pt))), (Q 7, .inl (dA, 7, .inl (sA wd)))]
abbrev mW (dA dZ : ClassId) (Q : Nat → Nat) (th ea eb pc mm : Nat → Nat) : va_W :=
  [(Q 0, .inr (1, [.ref (Q 1), .ref (Q 2), .ref (Q 3), .ref (Q 4), .ref (Q 5)])), (Q 1, .inl (dZ, 10, .inl (sA th))), (Q 2, .inl (dA, 10, .inl (sA ea))), (Q 3, .inl (dA, 10, .inl (sA eb))), (Q 4, .inl (dA, 10, .inl (sA pc))), (Q 5, .inl (dZ, 7, .inl (sA mm)))]
def sWd (dC : Nat → ClassId) (dI : Nat → Nat → Nat) (A : Nat → Prop) (H0 : Heap) (w : va_W) (H : Heap) (locs : List Loc) : Prop := va_P (dC, dI) vwCl w H ∧ va_D A w ∧ va_S A H0 H locs
-- ===== bits =====
theorem s_shl1 {k : Nat} (hk : k < 10) : nI 1 <<< (nI k &&& 31) = nI (2 ^ k) := by
  have h : ∀ j : Fin 10, nI 1 <<< (nI j.val &&& 31) = nI (2 ^ j.val) := by decide +kernel
  exact h ⟨k, hk⟩
theorem s_or (a b : Nat) : nI a ||| nI b = nI (a ||| b) := by
  apply Int32.toBitVec_inj.mp
  show BitVec.ofNat 32 a ||| BitVec.ofNat 32 b = BitVec.ofNat 32 (a ||| b)
  exact (BitVec.ofNat_or).symm
theorem s_and (a b : Nat) : nI a &&& nI b = nI (a &&& b) := by
  apply Int32.toBitVec_inj.mp
  show BitVec.ofNat 32 a &&& BitVec.ofNat 32 b = BitVec.ofNat 32 (a &&& b)
  exact (BitVec.ofNat_and).symm
theorem s_tb (a k : Nat) : a / 2 ^ k % 2 = (a.testBit k).toNat := by
  rw [Nat.testBit_eq_decide_div_mod_eq]
  rcases (show a / 2 ^ k % 2 = 0 ∨ a / 2 ^ k % 2 = 1 by omega) with h | h <;> simp [h]
theorem s_bitS {a k : Nat} (ha : a < 2 ^ 31) (hk : k < 10) : (nI a >>> (nI k &&& 31)) &&& nI 1 = nI ((a.testBit k).toNat) := by
  have h : ∀ j : Fin 10, ((nI j.val &&& 31).toBitVec.smod 32).toNat = j.val := by decide +kernel
  rw [pk_shrN ha (nI k &&& 31) k (h ⟨k, hk⟩), s_and, Nat.and_one_is_mod, s_tb]
theorem s_bitU {a k : Nat} (ha : a < 2 ^ 31) (hk : k < 10) : ((nI a).toUInt32 >>> ((nI k).toUInt32 &&& Int32.toUInt32 31)).toInt32 &&& nI 1 = nI ((a.testBit k).toNat) := by
  have h : ∀ j : Fin 10, (((nI j.val).toUInt32 &&& Int32.toUInt32 31).toBitVec % 32).toNat = j.val := by decide +kernel
  rw [pk_ushrN (by omega) (nI k) k (h ⟨k, hk⟩), s_and, Nat.and_one_is_mod, s_tb]
/-- set and not half, half in set -/
theorem s_other {a b : Nat} (ha : a < 64) (hb : b < 64) (h : b &&& a = b) : nI a &&& (nI b ^^^ (-1)) = nI (a ^^^ b) := by
  have h2 : ∀ i : Fin 64, ∀ j : Fin 64, j.val &&& i.val = j.val → nI i.val &&& (nI j.val ^^^ (-1)) = nI (i.val ^^^ j.val) := by decide +kernel
  exact h2 ⟨a, ha⟩ ⟨b, hb⟩ h
theorem s_sub0 {a b : Nat} (ha : a < 64) (hb : b < 64) : nI b &&& (nI a ^^^ (-1)) = nI (if b &&& a = b then 0 else b &&& (63 - a)) := by
  have h2 : ∀ i : Fin 64, ∀ j : Fin 64, nI j.val &&& (nI i.val ^^^ (-1)) = nI (if j.val &&& i.val = j.val then 0 else j.val &&& (63 - i.val)) := by decide +kernel
  exact h2 ⟨a, ha⟩ ⟨b, hb⟩
theorem s_sub1 {a b : Nat} (ha : a < 64) (hb : b < 64) : (if b &&& a = b then 0 else b &&& (63 - a)) = 0 ↔ b &&& a = b := by
  have h2 : ∀ i : Fin 64, ∀ j : Fin 64, (if j.val &&& i.val = j.val then 0 else j.val &&& (63 - i.val)) = 0 ↔ j.val &&& i.val = j.val := by decide +kernel
  exact h2 ⟨a, ha⟩ ⟨b, hb⟩
/-- a point struck out of the marked ones -/
theorem s_clear {a k : Nat} (ha : a < 128) (hk : k < 7) : nI a &&& (nI (2 ^ k) ^^^ (-1)) = nI (a &&& (127 - 2 ^ k)) := by
  have h2 : ∀ i : Fin 128, ∀ j : Fin 7, nI i.val &&& (nI (2 ^ j.val) ^^^ (-1)) = nI (i.val &&& (127 - 2 ^ j.val)) := by decide +kernel
  exact h2 ⟨a, ha⟩ ⟨k, hk⟩
theorem s_clear_bit {a k : Nat} (ha : a < 128) (hk : k < 7) (j : Nat) : (a &&& (127 - 2 ^ k)).testBit j = if j = k then false else a.testBit j := by
  by_cases hj : j < 7
  · have h2 : ∀ i : Fin 128, ∀ k : Fin 7, ∀ j : Fin 7, (i.val &&& (127 - 2 ^ k.val)).testBit j.val = if j.val = k.val then false else i.val.testBit j.val := by decide +kernel
    exact h2 ⟨a, ha⟩ ⟨k, hk⟩ ⟨j, hj⟩
  · rw [if_neg (by omega), Nat.testBit_and]
    have : a.testBit j = false := by
      cases hb : a.testBit j with
      | false => rfl
      | true => have := sg_bit_lt (w := 7) ha hb; omega
    rw [this]; rfl
/-- the least point of a set -/
theorem s_low {a : Nat} (ha : a < 128) : ∃ r, nI a &&& (-nI a) = nI r ∧ r < 128 ∧ ((a = 0 ∧ r = 0) ∨ ∃ p, p < 7 ∧ a.testBit p = true ∧ r = 2 ^ p) := by
  have h2 : ∀ i : Fin 128, ∃ r : Fin 128, nI i.val &&& (-nI i.val) = nI r.val ∧ ((i.val = 0 ∧ r.val = 0) ∨ ∃ p : Fin 7, i.val.testBit p.val = true ∧ r.val = 2 ^ p.val) := by decide +kernel
  obtain ⟨r, h3, h4⟩ := h2 ⟨a, ha⟩
  refine ⟨r.val, h3, r.isLt, ?_⟩
  rcases h4 with h4 | ⟨p, h5, h6⟩
  · exact Or.inl h4
  · exact Or.inr ⟨p.val, p.isLt, h5, h6⟩
end
section
/-! contracts out of walks; what a loop's step does, case by case -/
theorem sMv_of {l : Launch} {y : MethodName} {cc : ByteArray} {nL : Nat} {rm : Room} {dC : Nat → ClassId} {dI : Nat → Nat → Nat} {tys : List (ClassId × FieldType)} {av : List Value} {w : va_W} {S : Type} {post : S → Prop} {w1 : S → va_W} (hy : plainName y.cls = true) (hn : (lg_sl av).length ≤ nL) (h : sWalk l y cc nL none rm dC dI tys av w (fun A => va_Qv post (fun u t => sB dC dI A (w1 u) t) A)) : sMv l y cc nL rm dC dI tys av w post w1 := fun sz => sWalk_met hy hn h sz
theorem sMi_of {l : Launch} {y : MethodName} {cc : ByteArray} {nL : Nat} {ret : Option FieldType} {rm : Room} {dC : Nat → ClassId} {dI : Nat → Nat → Nat} {tys : List (ClassId × FieldType)} {av : List Value} {w : va_W} {S : Type} {post : Int32 → S → Prop} {w1 : S → va_W} (hy : plainName y.cls = true) (hn : (lg_sl av).length ≤ nL) (h : sWalk l y cc nL ret rm dC dI tys av w (fun A => va_Qi post (fun u t => sB dC dI A (w1 u) t) A)) : sMi l y cc nL ret rm dC dI tys av w post w1 := fun sz => sWalk_met hy hn h sz
theorem sg_it_0 {α : Type} (f : Nat → α → α) (x : α) : sg_it f 0 x = x := rfl
theorem sg_it_s {α : Type} (f : Nat → α → α) (n : Nat) (x : α) : sg_it f (n + 1) x = f n (sg_it f n x) := rfl
theorem sg_cA_0 (pr ct : Nat → Nat) : sg_cA pr ct 0 = ct := rfl
theorem sg_q_0 (pts : Nat) (wd : Nat → Nat) : sg_q pts 0 wd = (0, wd) := rfl
theorem sg_pA_0 (wy wd : Nat → Nat) (W : Nat) (t : Nat → Nat) : sg_pA wy wd W 0 t = t := rfl
theorem sg_pA_s (wy wd : Nat → Nat) (W i : Nat) (t : Nat → Nat) : sg_pA wy wd W (i + 1) t = sg_pC wy (i + 1) (sg_pJ (i + 1) (sg_pS wd W (i + 1) (sg_pA wy wd W i t))) := rfl
section STEPS
variable {ea eb pr ct wy wd : Nat → Nat} {t w w1 : Nat → Nat}
theorem st_cA0 {i : Nat} (hg : sg_cA pr ct i = w1) (h : pr i = 0) : sg_cA pr ct (i + 1) = va_up w1 i 100000 := by
  subst hg
  show sg_cA1 pr i (sg_cA pr ct i) = _
  unfold sg_cA1; rw [if_pos h]
theorem st_cA1 {i : Nat} (hg : sg_cA pr ct i = w1) (h : pr i ≠ 0) : sg_cA pr ct (i + 1) = va_up w1 i (pr i) := by
  subst hg
  show sg_cA1 pr i (sg_cA pr ct i) = _
  unfold sg_cA1; rw [if_neg h]
theorem st_pC0t {s p q l l1 : Nat} (hg : sg_it (sg_pC0 wy s p t) q l = l1) (h : t (7 * s + q) + wy (7 * q + p) < l1) : sg_it (sg_pC0 wy s p t) (q + 1) l = t (7 * s + q) + wy (7 * q + p) := by
  rw [sg_it_s, hg]
  unfold sg_pC0; rw [if_pos h]
theorem st_pC0f {s p q l l1 : Nat} (hg : sg_it (sg_pC0 wy s p t) q l = l1) (h : l1 ≤ t (7 * s + q) + wy (7 * q + p)) : sg_it (sg_pC0 wy s p t) (q + 1) l = l1 := by
  rw [sg_it_s, hg]
  unfold sg_pC0; rw [if_neg (Nat.not_lt.mpr h)]
theorem st_wS1t {m a b : Nat} (hg : sg_it (sg_wS1 m a) b w = w1) (h : w1 (7 * a + m) + w1 (7 * m + b) < w1 (7 * a + b)) : sg_it (sg_wS1 m a) (b + 1) w = va_up w1 (7 * a + b) (w1 (7 * a + m) + w1 (7 * m + b)) := by
  rw [sg_it_s, hg]
  unfold sg_wS1; rw [if_pos h]
theorem st_wS1f {m a b : Nat} (hg : sg_it (sg_wS1 m a) b w = w1) (h : w1 (7 * a + b) ≤ w1 (7 * a + m) + w1 (7 * m + b)) : sg_it (sg_wS1 m a) (b + 1) w = w1 := by
  rw [sg_it_s, hg]
  unfold sg_wS1; rw [if_neg (Nat.not_lt.mpr h)]
theorem st_wI1t {a b : Nat} (hg : sg_it (sg_wI1 a) b w = w1) (h : a = b) : sg_it (sg_wI1 a) (b + 1) w = va_up w1 (7 * a + b) 0 := by
  rw [sg_it_s, hg]
  unfold sg_wI1; rw [if_pos h]
theorem st_wI1f {a b : Nat} (hg : sg_it (sg_wI1 a) b w = w1) (h : a ≠ b) : sg_it (sg_wI1 a) (b + 1) w = va_up w1 (7 * a + b) 100000 := by
  rw [sg_it_s, hg]
  unfold sg_wI1; rw [if_neg h]
theorem st_wL1t {k : Nat} (hg : sg_it (sg_wL1 ea eb ct) k w = w1) (h : ct k < w1 (7 * ea k + eb k)) : sg_it (sg_wL1 ea eb ct) (k + 1) w = va_up (va_up w1 (7 * ea k + eb k) (ct k)) (7 * eb k + ea k) (ct k) := by
  rw [sg_it_s, hg]
  unfold sg_wL1; rw [if_pos h]
theorem st_wL1f {k : Nat} (hg : sg_it (sg_wL1 ea eb ct) k w = w1) (h : w1 (7 * ea k + eb k) ≤ ct k) : sg_it (sg_wL1 ea eb ct) (k + 1) w = w1 := by
  rw [sg_it_s, hg]
  unfold sg_wL1; rw [if_neg (Nat.not_lt.mpr h)]
theorem st_pI1 {s p : Nat} (hg : sg_it (sg_pI1 s) p t = w1) : sg_it (sg_pI1 s) (p + 1) t = va_up w1 (7 * s + p) 100000 := by
  rw [sg_it_s, hg]
  rfl
theorem st_pK1t {s k : Nat} (hg : sg_it (sg_pK1 wd s) k t = w1) (h : s = 2 ^ k) : sg_it (sg_pK1 wd s) (k + 1) t = va_up w1 (7 * s + wd k) 0 := by
  rw [sg_it_s, hg]
  unfold sg_pK1; rw [if_pos h]
theorem st_pK1f {s k : Nat} (hg : sg_it (sg_pK1 wd s) k t = w1) (h : s ≠ 2 ^ k) : sg_it (sg_pK1 wd s) (k + 1) t = w1 := by
  rw [sg_it_s, hg]
  unfold sg_pK1; rw [if_neg h]
theorem st_pJ1t {s h p : Nat} (hg : sg_it (sg_pJ1 s h) p t = w1) (hc : w1 (7 * h + p) + w1 (7 * (s ^^^ h) + p) < w1 (7 * s + p)) : sg_it (sg_pJ1 s h) (p + 1) t = va_up w1 (7 * s + p) (w1 (7 * h + p) + w1 (7 * (s ^^^ h) + p)) := by
  rw [sg_it_s, hg]
  unfold sg_pJ1; rw [if_pos hc]
theorem st_pJ1f {s h p : Nat} (hg : sg_it (sg_pJ1 s h) p t = w1) (hc : w1 (7 * s + p) ≤ w1 (7 * h + p) + w1 (7 * (s ^^^ h) + p)) : sg_it (sg_pJ1 s h) (p + 1) t = w1 := by
  rw [sg_it_s, hg]
  unfold sg_pJ1; rw [if_neg (Nat.not_lt.mpr hc)]
theorem st_pJ2t {s i : Nat} (hg : sg_it (sg_pJ2 s) i t = w1) (h : (i + 1) &&& s = i + 1) : sg_it (sg_pJ2 s) (i + 1) t = sg_it (sg_pJ1 s (i + 1)) 7 w1 := by
  rw [sg_it_s, hg]
  unfold sg_pJ2; rw [if_pos h]
theorem st_pJ2f {s i : Nat} (hg : sg_it (sg_pJ2 s) i t = w1) (h : ¬ (i + 1) &&& s = i + 1) : sg_it (sg_pJ2 s) (i + 1) t = w1 := by
  rw [sg_it_s, hg]
  unfold sg_pJ2; rw [if_neg h]
theorem st_wS2 {m a : Nat} (hg : sg_it (sg_wS2 m) a w = w1) : sg_it (sg_wS2 m) (a + 1) w = sg_it (sg_wS1 m a) 7 w1 := by
  rw [sg_it_s, hg]
  rfl
theorem st_wI2 {a : Nat} (hg : sg_it sg_wI2 a w = w1) : sg_it sg_wI2 (a + 1) w = sg_it (sg_wI1 a) 7 w1 := by
  rw [sg_it_s, hg]
  rfl
theorem st_wS {a : Nat} (hg : sg_it sg_wS a w = w1) : sg_it sg_wS (a + 1) w = sg_wS a w1 := by
  rw [sg_it_s, hg]
theorem st_pC1 {s i : Nat} (hg : sg_it (sg_pC1 wy s) i t = w1) : sg_it (sg_pC1 wy s) (i + 1) t = sg_pC1 wy s i w1 := by
  rw [sg_it_s, hg]
theorem st_pA {W i : Nat} (hg : sg_pA wy wd W i t = w1) : sg_pA wy wd W (i + 1) t = sg_pC wy (i + 1) (sg_pJ (i + 1) (sg_pS wd W (i + 1) w1)) := by
  rw [sg_pA_s, hg]
theorem st_q1t {pts p : Nat} {z : Nat × (Nat → Nat)} (hg : sg_q pts p wd = z) (h : pts.testBit p = true) : sg_q pts (p + 1) wd = (z.1 + 1, va_up z.2 z.1 p) := by
  subst hg
  show sg_q1 pts p _ = _
  unfold sg_q1; rw [if_pos h]; rfl
theorem st_q1f {pts p : Nat} {z : Nat × (Nat → Nat)} (hg : sg_q pts p wd = z) (h : ¬ pts.testBit p = true) : sg_q pts (p + 1) wd = z := by
  subst hg
  show sg_q1 pts p _ = _
  unfold sg_q1; rw [if_neg h]; rfl
end STEPS
end
section
section NET1
variable {p : Program} {l : Launch} {e : Env} {R : Room} {s : State} {m : MethodId} {args : Array Value} {below : List Frame} {meth : Method} {c : Code} {cells slots : Nat} {Qp : State → Prop} {dC : Nat → ClassId} {dI : Nat → Nat → Nat} {dA dZ : ClassId} {A : Nat → Prop} {H0 : Heap} {Q : Nat → Nat}
variable {ea eb pr : Nat → Nat} {mk : Nat} {ct wy pt : Nat → Nat} {wc : Nat} {wd : Nat → Nat} {kn : Nat} {bp : Int32} {bs : Nat}
set_option maxHeartbeats 4000000 in
set_option maxRecDepth 100000 in
theorem lp_carryTo (X : Cx p c cX0_carryTo 6 s m args RX0 dC dI (tyz dA dZ)) (st p0 : Nat) (hst : st < 64) (hp : p0 < 7) (hwy : sg_B 100000 wy) (hpt : sg_B 100000 pt) (K : ∀ (H : Heap) (locs : List Loc) (ls : Array Slot), sWd dC dI A H0 (nW dA Q ea eb pr mk ct wy pt wc wd kn bp bs) H locs → lv_has ls 6 [(0, .ref (Q 0)), (1, .int (nI st)), (2, .int (nI p0)), (3, .int (nI (sg_it (sg_pC0 wy st p0 pt) 7 (pt (7 * st + p0)))))] → W p l e R s m args below meth c H locs cells slots Qp (F0 m 64 ls [])) : ∀ (n i : Nat), i ≤ 7 → 7 < i + n → ∀ (H : Heap) (locs : List Loc) (ls : Array Slot), sWd dC dI A H0 (nW dA Q ea eb pr mk ct wy pt wc wd kn bp bs) H locs → lv_has ls 6 [(0, .ref (Q 0)), (1, .int (nI st)), (2, .int (nI p0)), (3, .int (nI (sg_it (sg_pC0 wy st p0 pt) i (pt (7 * st + p0))))), (4, .int (nI i))] → W p l e R s m args below meth c H locs cells slots Qp (F0 m 15 ls []) := by
  have hx := X.1.1
  have hb := X.1.2.1
  have hown := X.1.2.2.2.1
  have hts := X.1.2.2.2.2
  intro n
  induction n with
  | zero => intro i h1 h2; omega
  | succ n ih =>
    intro i h1 h2 H locs ls hW hl
    obtain ⟨hP, hD, hS⟩ := hW
    generalize hg : sg_it (sg_pC0 wy st p0 pt) i (pt (7 * st + p0)) = l1 at hl
    refine lv_iload hx hb dX0_carryTo_15 (lv_at hl 4 rfl) ?_
    refine lv_bipush (v := nI 7) hx hb dX0_carryTo_17 (by decide) ?_
    refine s_cge X (x := i) (y := 7) (by omega) (by omega) (tgt := 64) dX0_carryTo_19 (by decide) (fun c_1 => ?_) (fun c_1 => ?_)
    · have hi_ : i = 7 := by omega
      subst hi_
      exact K _ _ _ ⟨hP, hD, hS⟩ (by rw [hg]; exact lv_sub hl [0, 1, 2, 3] rfl)
    · have hb1 := hpt (7 * st + i)
      have hb2 := hwy (7 * i + p0)
      have hb3 : l1 ≤ 100000 := by rw [← hg]; exact Nat.le_trans (sg_pC0_le wy st p0 pt (pt (7 * st + p0)) i) (hpt _)
      refine lv_aload_n hx hb dX0_carryTo_22 rfl (lv_at hl 0 rfl) ?_
      refine s_get0 X hP 0 rfl 6 (by decide) q33 rfl rfl dX0_carryTo_23 ?_
      refine lv_bipush (v := nI 7) hx hb dX0_carryTo_26 (by decide) ?_
      refine lv_iload_n hx hb dX0_carryTo_28 rfl (lv_at hl 1 rfl) ?_
      refine lv_imul hx hb dX0_carryTo_29 ?_
      refine s_top (nI (7 * st)) (pk_mul _ _) ?_
      refine lv_iload hx hb dX0_carryTo_30 (lv_at hl 4 rfl) ?_
      refine lv_iadd hx hb dX0_carryTo_32 ?_
      refine s_top (nI ((7 * st) + i)) (nI_add _ _) ?_
      refine s_ild X hP 6 0 rfl rfl (k := (7 * st) + i) (by omega) (by decide) dX0_carryTo_33 ?_
      refine lv_aload_n hx hb dX0_carryTo_34 rfl (lv_at hl 0 rfl) ?_
      refine s_get0 X hP 0 rfl 5 (by decide) q32 rfl rfl dX0_carryTo_35 ?_
      refine lv_bipush (v := nI 7) hx hb dX0_carryTo_38 (by decide) ?_
      refine lv_iload hx hb dX0_carryTo_40 (lv_at hl 4 rfl) ?_
      refine lv_imul hx hb dX0_carryTo_42 ?_
      refine s_top (nI (7 * i)) (pk_mul _ _) ?_
      refine lv_iload_n hx hb dX0_carryTo_43 rfl (lv_at hl 2 rfl) ?_
      refine lv_iadd hx hb dX0_carryTo_44 ?_
      refine s_top (nI ((7 * i) + p0)) (nI_add _ _) ?_
      refine s_ild X hP 5 0 rfl rfl (k := (7 * i) + p0) (by omega) (by decide) dX0_carryTo_45 ?_
      refine lv_iadd hx hb dX0_carryTo_46 ?_
      refine s_top (nI ((pt ((7 * st) + i)) + (wy ((7 * i) + p0)))) (nI_add _ _) ?_
      refine lv_istore (lv' := [(5, .int (nI ((pt ((7 * st) + i)) + (wy ((7 * i) + p0))))), (0, .ref (Q 0)), (1, .int (nI st)), (2, .int (nI p0)), (3, .int (nI l1)), (4, .int (nI i))]) hx hb dX0_carryTo_47 hl (by decide) rfl (fun ls hl => ?_)
      refine lv_iload hx hb dX0_carryTo_49 (lv_at hl 0 rfl) ?_
      refine lv_iload_n hx hb dX0_carryTo_51 rfl (lv_at hl 4 rfl) ?_
      refine s_cge X (x := (pt ((7 * st) + i)) + (wy ((7 * i) + p0))) (y := l1) (by omega) (by omega) (tgt := 58) dX0_carryTo_52 (by decide) (fun c_2 => ?_) (fun c_2 => ?_)
      · refine lv_iinc (v := (nI (i + 1))) (lv' := [(4, .int (nI (i + 1))), (5, .int (nI ((pt ((7 * st) + i)) + (wy ((7 * i) + p0))))), (0, .ref (Q 0)), (1, .int (nI st)), (2, .int (nI p0)), (3, .int (nI l1))]) hx hb dX0_carryTo_58 hl (k := 5) rfl (nI_1 _) (by decide) rfl (fun ls hl => ?_)
        refine lv_goto (tgt := 15) hx hb dX0_carryTo_61 (by decide) ?_
        exact ih (i + 1) (by omega) (by omega) _ _ _ ⟨hP, hD, hS⟩ (by rw [st_pC0f hg c_2]; exact lv_sub hl [2, 3, 4, 5, 0] rfl)
      · refine lv_iload hx hb dX0_carryTo_55 (lv_at hl 0 rfl) ?_
        refine lv_istore_n (lv' := [(3, .int (nI ((pt ((7 * st) + i)) + (wy ((7 * i) + p0))))), (5, .int (nI ((pt ((7 * st) + i)) + (wy ((7 * i) + p0))))), (0, .ref (Q 0)), (1, .int (nI st)), (2, .int (nI p0)), (4, .int (nI i))]) hx hb dX0_carryTo_57 rfl hl (by decide) rfl (fun ls hl => ?_)
        refine lv_iinc (v := (nI (i + 1))) (lv' := [(4, .int (nI (i + 1))), (3, .int (nI ((pt ((7 * st) + i)) + (wy ((7 * i) + p0))))), (5, .int (nI ((pt ((7 * st) + i)) + (wy ((7 * i) + p0))))), (0, .ref (Q 0)), (1, .int (nI st)), (2, .int (nI p0))]) hx hb dX0_carryTo_58 hl (k := 5) rfl (nI_1 _) (by decide) rfl (fun ls hl => ?_)
        refine lv_goto (tgt := 15) hx hb dX0_carryTo_61 (by decide) ?_
        exact ih (i + 1) (by omega) (by omega) _ _ _ ⟨hP, hD, hS⟩ (by rw [st_pC0t hg c_2]; exact lv_sub hl [3, 4, 5, 1, 0] rfl)

set_option maxHeartbeats 4000000 in
set_option maxRecDepth 100000 in
theorem met_carryTo (l : Launch) (dC : Nat → ClassId) (dI : Nat → Nat → Nat) (dA dZ : ClassId) (Q : Nat → Nat) (ea eb pr : Nat → Nat) (mk : Nat) (ct wy pt : Nat → Nat) (wc : Nat) (wd : Nat → Nat) (kn : Nat) (bp : Int32) (bs : Nat) (st p0 : Nat) (hst : st < 64) (hp : p0 < 7) (hwy : sg_B 100000 wy) (hpt : sg_B 100000 pt) : sMv l yX0_carryTo cX0_carryTo 6 ({ frames := 0, cells := 0, slots := 0, locals := 0 }) dC dI (tyz dA dZ) [.ref (Q 0), .int (nI st), .int (nI p0)] (nW dA Q ea eb pr mk ct wy pt wc wd kn bp bs) (fun _ : Unit => True) (fun _ => nW dA Q ea eb pr mk ct wy (sg_pC1 wy st p0 pt) wc wd kn bp bs) := by
  refine sMv_of (by decide) (Nat.le_of_ble_eq_true rfl) ?_
  intro p e s m below meth c A ls X hr hlocks hA hP hD hS hl
  have hl : lv_has ls 6 [(0, .ref (Q 0)), (1, .int (nI st)), (2, .int (nI p0))] := hl
  have hx := X.1.1
  have hb := X.1.2.1
  have hown := X.1.2.2.2.1
  have hts := X.1.2.2.2.2
  refine lv_aload_n hx hb dX0_carryTo_0 rfl (lv_at hl 0 rfl) ?_
  refine s_get0 X hP 0 rfl 6 (by decide) q33 rfl rfl dX0_carryTo_1 ?_
  refine lv_bipush (v := nI 7) hx hb dX0_carryTo_4 (by decide) ?_
  refine lv_iload_n hx hb dX0_carryTo_6 rfl (lv_at hl 1 rfl) ?_
  refine lv_imul hx hb dX0_carryTo_7 ?_
  refine s_top (nI (7 * st)) (pk_mul _ _) ?_
  refine lv_iload_n hx hb dX0_carryTo_8 rfl (lv_at hl 2 rfl) ?_
  refine lv_iadd hx hb dX0_carryTo_9 ?_
  refine s_top (nI ((7 * st) + p0)) (nI_add _ _) ?_
  refine s_ild X hP 6 0 rfl rfl (k := (7 * st) + p0) (by omega) (by decide) dX0_carryTo_10 ?_
  refine lv_istore_n (lv' := [(3, .int (nI (pt ((7 * st) + p0)))), (0, .ref (Q 0)), (1, .int (nI st)), (2, .int (nI p0))]) hx hb dX0_carryTo_11 rfl hl (by decide) rfl (fun ls hl => ?_)
  refine lv_iconst (v := nI 0) hx hb dX0_carryTo_12 (by decide) ?_
  refine lv_istore (lv' := [(4, .int (nI 0)), (3, .int (nI (pt ((7 * st) + p0)))), (0, .ref (Q 0)), (1, .int (nI st)), (2, .int (nI p0))]) hx hb dX0_carryTo_13 hl (by decide) rfl (fun ls hl => ?_)
  refine lp_carryTo X st p0 hst hp hwy hpt (fun H locs ls hW hl => ?_) 11 0 (by omega) (by omega) _ _ _ ⟨hP, hD, hS⟩ (by rw [sg_it_0]; exact lv_sub hl [2, 3, 4, 1, 0] rfl)
  obtain ⟨hP, hD, hS⟩ := hW
  have hP : va_P (dC, dI) vwCl (nW dA Q ea eb pr mk ct wy pt wc wd kn bp bs) H := hP
  have hD : va_D A (nW dA Q ea eb pr mk ct wy pt wc wd kn bp bs) := hD
  refine lv_aload_n hx hb dX0_carryTo_64 rfl (lv_at hl 0 rfl) ?_
  refine s_get0 X hP 0 rfl 6 (by decide) q33 rfl rfl dX0_carryTo_65 ?_
  refine lv_bipush (v := nI 7) hx hb dX0_carryTo_68 (by decide) ?_
  refine lv_iload_n hx hb dX0_carryTo_70 rfl (lv_at hl 1 rfl) ?_
  refine lv_imul hx hb dX0_carryTo_71 ?_
  refine s_top (nI (7 * st)) (pk_mul _ _) ?_
  refine lv_iload_n hx hb dX0_carryTo_72 rfl (lv_at hl 2 rfl) ?_
  refine lv_iadd hx hb dX0_carryTo_73 ?_
  refine s_top (nI ((7 * st) + p0)) (nI_add _ _) ?_
  refine lv_iload_n hx hb dX0_carryTo_74 rfl (lv_at hl 3 rfl) ?_
  refine s_ist X hP hD hS 6 0 rfl rfl (k := (7 * st) + p0) (v := sg_it (sg_pC0 wy st p0 pt) 7 (pt (7 * st + p0))) (by omega) (by decide) dX0_carryTo_75 (fun H locs hP hD hS => ?_)
  have hP : va_P (dC, dI) vwCl (nW dA Q ea eb pr mk ct wy (va_up pt ((7 * st) + p0) (sg_it (sg_pC0 wy st p0 pt) 7 (pt (7 * st + p0)))) wc wd kn bp bs) H := hP
  have hD : va_D A (nW dA Q ea eb pr mk ct wy (va_up pt ((7 * st) + p0) (sg_it (sg_pC0 wy st p0 pt) 7 (pt (7 * st + p0)))) wc wd kn bp bs) := hD
  exact s_vret X hr hlocks () (trivial) hP hD hS dX0_carryTo_76

end NET1
end
section
section NET1
variable {p : Program} {l : Launch} {e : Env} {R : Room} {s : State} {m : MethodId} {args : Array Value} {below : List Frame} {meth : Method} {c : Code} {cells slots : Nat} {Qp : State → Prop} {dC : Nat → ClassId} {dI : Nat → Nat → Nat} {dA dZ : ClassId} {A : Nat → Prop} {H0 : Heap} {Q : Nat → Nat}
variable {ea eb pr : Nat → Nat} {mk : Nat} {ct wy pt : Nat → Nat} {wc : Nat} {wd : Nat → Nat} {kn : Nat} {bp : Int32} {bs : Nat}
set_option maxHeartbeats 4000000 in
set_option maxRecDepth 100000 in
theorem met_isPoint (l : Launch) (dC : Nat → ClassId) (dI : Nat → Nat → Nat) (dA dZ : ClassId) (x : Int32) : sMi l yX0_isPoint cX0_isPoint 1 (some .boolean) ({ frames := 0, cells := 0, slots := 0, locals := 0 }) dC dI (tyz dA dZ) [.int x] [] (fun (r : Int32) (_ : Unit) => ((¬ x < 0 ∧ x ≤ nI 6) ∧ r = nI 1) ∨ (¬ (¬ x < 0 ∧ x ≤ nI 6) ∧ r = nI 0)) (fun _ => []) := by
  refine sMi_of (by decide) (Nat.le_of_ble_eq_true rfl) ?_
  intro p e s m below meth c A ls X hr hlocks hA hP hD hS hl
  have hl : lv_has ls 1 [(0, .int x)] := hl
  have hx := X.1.1
  have hb := X.1.2.1
  have hown := X.1.2.2.2.1
  have hts := X.1.2.2.2.2
  refine lv_iload_n hx hb dX0_isPoint_0 rfl (lv_at hl 0 rfl) ?_
  refine lv_if_lt (tgt := 14) hx hb dX0_isPoint_1 (by decide) (fun c_1 => ?_) (fun c_1 => ?_)
  · refine lv_iconst (v := nI 0) hx hb dX0_isPoint_14 (by decide) ?_
    exact s_iret (r := (nI 0)) X hr hlocks (by decide +kernel) () (Or.inr ⟨fun z => absurd c_1 z.1, rfl⟩) hP hD hS dX0_isPoint_15
  · refine lv_iload_n hx hb dX0_isPoint_4 rfl (lv_at hl 0 rfl) ?_
    refine lv_bipush (v := nI 6) hx hb dX0_isPoint_5 (by decide) ?_
    refine lv_icmp_gt (tgt := 14) hx hb dX0_isPoint_7 (by decide) (fun c_2 => ?_) (fun c_2 => ?_)
    · refine lv_iconst (v := nI 0) hx hb dX0_isPoint_14 (by decide) ?_
      exact s_iret (r := (nI 0)) X hr hlocks (by decide +kernel) () (Or.inr ⟨fun z => absurd z.2 (Int32.not_le.mpr c_2), rfl⟩) hP hD hS dX0_isPoint_15
    · refine lv_iconst (v := nI 1) hx hb dX0_isPoint_10 (by decide) ?_
      refine lv_goto (tgt := 15) hx hb dX0_isPoint_11 (by decide) ?_
      exact s_iret (r := (nI 1)) X hr hlocks (by decide +kernel) () (Or.inl ⟨⟨c_1, Int32.not_lt.mp c_2⟩, rfl⟩) hP hD hS dX0_isPoint_15

set_option maxHeartbeats 4000000 in
set_option maxRecDepth 100000 in
theorem met_isLine (l : Launch) (dC : Nat → ClassId) (dI : Nat → Nat → Nat) (dA dZ : ClassId) (Q : Nat → Nat) (ea eb pr : Nat → Nat) (mk : Nat) (ct wy pt : Nat → Nat) (wc : Nat) (wd : Nat → Nat) (kn : Nat) (bp : Int32) (bs : Nat) (x : Int32) (hpr : sg_B 100 pr) : sMi l yX0_isLine cX0_isLine 2 (some .boolean) ({ frames := 0, cells := 0, slots := 0, locals := 0 }) dC dI (tyz dA dZ) [.ref (Q 0), .int x] (nW dA Q ea eb pr mk ct wy pt wc wd kn bp bs) (fun (r : Int32) (_ : Unit) => ((∃ k, k < 10 ∧ x = nI k ∧ pr k ≠ 0) ∧ r = nI 1) ∨ (¬ (∃ k, k < 10 ∧ x = nI k ∧ pr k ≠ 0) ∧ r = nI 0)) (fun _ => nW dA Q ea eb pr mk ct wy pt wc wd kn bp bs) := by
  refine sMi_of (by decide) (Nat.le_of_ble_eq_true rfl) ?_
  intro p e s m below meth c A ls X hr hlocks hA hP hD hS hl
  have hl : lv_has ls 2 [(0, .ref (Q 0)), (1, .int x)] := hl
  have hx := X.1.1
  have hb := X.1.2.1
  have hown := X.1.2.2.2.1
  have hts := X.1.2.2.2.2
  refine lv_iload_n hx hb dX0_isLine_0 rfl (lv_at hl 1 rfl) ?_
  refine lv_if_lt (tgt := 23) hx hb dX0_isLine_1 (by decide) (fun c_1 => ?_) (fun c_1 => ?_)
  · refine lv_iconst (v := nI 0) hx hb dX0_isLine_23 (by decide) ?_
    exact s_iret (r := (nI 0)) X hr hlocks (by decide +kernel) () (Or.inr ⟨fun ⟨k, hk, e1, _⟩ => absurd c_1 (by rw [e1]; exact nI_pos (by omega)), rfl⟩) hP hD hS dX0_isLine_24
  · refine lv_iload_n hx hb dX0_isLine_4 rfl (lv_at hl 1 rfl) ?_
    refine lv_bipush (v := nI 9) hx hb dX0_isLine_5 (by decide) ?_
    refine lv_icmp_gt (tgt := 23) hx hb dX0_isLine_7 (by decide) (fun c_2 => ?_) (fun c_2 => ?_)
    · refine lv_iconst (v := nI 0) hx hb dX0_isLine_23 (by decide) ?_
      exact s_iret (r := (nI 0)) X hr hlocks (by decide +kernel) () (Or.inr ⟨fun ⟨k, hk, e1, _⟩ => absurd c_2 (by rw [e1]; exact nI_nlt (a := 9) (b := k) (by omega) (by omega)), rfl⟩) hP hD hS dX0_isLine_24
    · obtain ⟨j, hj, rfl⟩ := nI_of2 (M := nI 9) (n := 9) (by decide) c_1 (Int32.not_lt.mp c_2)
      have hpj := hpr j
      refine lv_aload_n hx hb dX0_isLine_10 rfl (lv_at hl 0 rfl) ?_
      refine s_get0 X hP 0 rfl 2 (by decide) q29 rfl rfl dX0_isLine_11 ?_
      refine lv_iload_n hx hb dX0_isLine_14 rfl (lv_at hl 1 rfl) ?_
      refine s_ild X hP 3 0 rfl rfl (k := j) (by omega) (by decide) dX0_isLine_15 ?_
      refine s_ile X (x := pr j) (by omega) (tgt := 23) dX0_isLine_16 (by decide) (fun c_3 => ?_) (fun c_3 => ?_)
      · refine lv_iconst (v := nI 0) hx hb dX0_isLine_23 (by decide) ?_
        exact s_iret (r := (nI 0)) X hr hlocks (by decide +kernel) () (Or.inr ⟨fun ⟨k, hk, e1, e2⟩ => e2 (by rw [← (nI_eq (by omega) (by omega)).mp e1]; exact c_3), rfl⟩) hP hD hS dX0_isLine_24
      · refine lv_iconst (v := nI 1) hx hb dX0_isLine_19 (by decide) ?_
        refine lv_goto (tgt := 24) hx hb dX0_isLine_20 (by decide) ?_
        exact s_iret (r := (nI 1)) X hr hlocks (by decide +kernel) () (Or.inl ⟨⟨j, by omega, rfl, c_3⟩, rfl⟩) hP hD hS dX0_isLine_24

set_option maxHeartbeats 4000000 in
set_option maxRecDepth 100000 in
theorem lp_countAll (X : Cx p c cX0_countAll 2 s m args RX0 dC dI (tyz dA dZ)) (hpr : sg_B 100 pr) (K : ∀ (H : Heap) (locs : List Loc) (ls : Array Slot), sWd dC dI A H0 (nW dA Q ea eb pr mk (sg_cA pr ct 10) wy pt wc wd kn bp bs) H locs → lv_has ls 2 [(0, .ref (Q 0))] → W p l e R s m args below meth c H locs cells slots Qp (F0 m 40 ls [])) : ∀ (n i : Nat), i ≤ 10 → 10 < i + n → ∀ (H : Heap) (locs : List Loc) (ls : Array Slot), sWd dC dI A H0 (nW dA Q ea eb pr mk (sg_cA pr ct i) wy pt wc wd kn bp bs) H locs → lv_has ls 2 [(0, .ref (Q 0)), (1, .int (nI i))] → W p l e R s m args below meth c H locs cells slots Qp (F0 m 2 ls []) := by
  have hx := X.1.1
  have hb := X.1.2.1
  have hown := X.1.2.2.2.1
  have hts := X.1.2.2.2.2
  intro n
  induction n with
  | zero => intro i h1 h2; omega
  | succ n ih =>
    intro i h1 h2 H locs ls hW hl
    obtain ⟨hP, hD, hS⟩ := hW
    generalize hg : sg_cA pr ct i = w1 at hP hD
    refine lv_iload_n hx hb dX0_countAll_2 rfl (lv_at hl 1 rfl) ?_
    refine lv_bipush (v := nI 10) hx hb dX0_countAll_3 (by decide) ?_
    refine s_cge X (x := i) (y := 10) (by omega) (by omega) (tgt := 40) dX0_countAll_5 (by decide) (fun c_1 => ?_) (fun c_1 => ?_)
    · have hi_ : i = 10 := by omega
      subst hi_
      exact K _ _ _ (by rw [hg]; exact ⟨hP, hD, hS⟩) (lv_sub hl [0] rfl)
    · have hpi := hpr i
      refine lv_aload_n hx hb dX0_countAll_8 rfl (lv_at hl 0 rfl) ?_
      refine s_get0 X hP 0 rfl 4 (by decide) q31 rfl rfl dX0_countAll_9 ?_
      refine lv_iload_n hx hb dX0_countAll_12 rfl (lv_at hl 1 rfl) ?_
      refine lv_aload_n hx hb dX0_countAll_13 rfl (lv_at hl 0 rfl) ?_
      refine s_get0 X hP 0 rfl 2 (by decide) q29 rfl rfl dX0_countAll_14 ?_
      refine lv_iload_n hx hb dX0_countAll_17 rfl (lv_at hl 1 rfl) ?_
      refine s_ild X hP 3 0 rfl rfl (k := i) (by omega) (by decide) dX0_countAll_18 ?_
      refine s_ine X (x := pr i) (by omega) (tgt := 27) dX0_countAll_19 (by decide) (fun c_2 => ?_) (fun c_2 => ?_)
      · refine lv_aload_n hx hb dX0_countAll_27 rfl (lv_at hl 0 rfl) ?_
        refine s_get0 X hP 0 rfl 2 (by decide) q29 rfl rfl dX0_countAll_28 ?_
        refine lv_iload_n hx hb dX0_countAll_31 rfl (lv_at hl 1 rfl) ?_
        refine s_ild X hP 3 0 rfl rfl (k := i) (by omega) (by decide) dX0_countAll_32 ?_
        refine s_ist X hP hD hS 4 0 rfl rfl (k := i) (v := pr i) (by omega) (by decide) dX0_countAll_33 (fun H locs hP hD hS => ?_)
        have hP : va_P (dC, dI) vwCl (nW dA Q ea eb pr mk (va_up w1 i (pr i)) wy pt wc wd kn bp bs) H := hP
        have hD : va_D A (nW dA Q ea eb pr mk (va_up w1 i (pr i)) wy pt wc wd kn bp bs) := hD
        refine lv_iinc (v := (nI (i + 1))) (lv' := [(1, .int (nI (i + 1))), (0, .ref (Q 0))]) hx hb dX0_countAll_34 hl (k := 1) rfl (nI_1 _) (by decide) rfl (fun ls hl => ?_)
        refine lv_goto (tgt := 2) hx hb dX0_countAll_37 (by decide) ?_
        exact ih (i + 1) (by omega) (by omega) _ _ _ (by rw [st_cA1 hg c_2]; exact ⟨hP, hD, hS⟩) (lv_sub hl [1, 0] rfl)
      · refine lv_ldc (v := 100000) hx hb hown (hts _ q96) dX0_countAll_22 ?_
        refine s_top (nI 100000) (by decide) ?_
        refine lv_goto (tgt := 33) hx hb dX0_countAll_24 (by decide) ?_
        refine s_ist X hP hD hS 4 0 rfl rfl (k := i) (v := 100000) (by omega) (by decide) dX0_countAll_33 (fun H locs hP hD hS => ?_)
        have hP : va_P (dC, dI) vwCl (nW dA Q ea eb pr mk (va_up w1 i 100000) wy pt wc wd kn bp bs) H := hP
        have hD : va_D A (nW dA Q ea eb pr mk (va_up w1 i 100000) wy pt wc wd kn bp bs) := hD
        refine lv_iinc (v := (nI (i + 1))) (lv' := [(1, .int (nI (i + 1))), (0, .ref (Q 0))]) hx hb dX0_countAll_34 hl (k := 1) rfl (nI_1 _) (by decide) rfl (fun ls hl => ?_)
        refine lv_goto (tgt := 2) hx hb dX0_countAll_37 (by decide) ?_
        exact ih (i + 1) (by omega) (by omega) _ _ _ (by rw [st_cA0 hg c_2]; exact ⟨hP, hD, hS⟩) (lv_sub hl [1, 0] rfl)

set_option maxHeartbeats 4000000 in
set_option maxRecDepth 100000 in
theorem met_countAll (l : Launch) (dC : Nat → ClassId) (dI : Nat → Nat → Nat) (dA dZ : ClassId) (Q : Nat → Nat) (ea eb pr : Nat → Nat) (mk : Nat) (ct wy pt : Nat → Nat) (wc : Nat) (wd : Nat → Nat) (kn : Nat) (bp : Int32) (bs : Nat) (hpr : sg_B 100 pr) : sMv l yX0_countAll cX0_countAll 2 ({ frames := 0, cells := 0, slots := 0, locals := 0 }) dC dI (tyz dA dZ) [.ref (Q 0)] (nW dA Q ea eb pr mk ct wy pt wc wd kn bp bs) (fun _ : Unit => True) (fun _ => nW dA Q ea eb pr mk (sg_cA pr ct 10) wy pt wc wd kn bp bs) := by
  refine sMv_of (by decide) (Nat.le_of_ble_eq_true rfl) ?_
  intro p e s m below meth c A ls X hr hlocks hA hP hD hS hl
  have hl : lv_has ls 2 [(0, .ref (Q 0))] := hl
  have hx := X.1.1
  have hb := X.1.2.1
  have hown := X.1.2.2.2.1
  have hts := X.1.2.2.2.2
  refine lv_iconst (v := nI 0) hx hb dX0_countAll_0 (by decide) ?_
  refine lv_istore_n (lv' := [(1, .int (nI 0)), (0, .ref (Q 0))]) hx hb dX0_countAll_1 rfl hl (by decide) rfl (fun ls hl => ?_)
  refine lp_countAll (ct := ct) X hpr (fun H locs ls hW hl => ?_) 11 0 (by omega) (by omega) _ _ _ (by rw [sg_cA_0]; exact ⟨hP, hD, hS⟩) (lv_sub hl [1, 0] rfl)
  obtain ⟨hP, hD, hS⟩ := hW
  have hP : va_P (dC, dI) vwCl (nW dA Q ea eb pr mk (sg_cA pr ct 10) wy pt wc wd kn bp bs) H := hP
  have hD : va_D A (nW dA Q ea eb pr mk (sg_cA pr ct 10) wy pt wc wd kn bp bs) := hD
  exact s_vret X hr hlocks () (trivial) hP hD hS dX0_countAll_40

end NET1
end
section
section NET1
variable {p : Program} {l : Launch} {e : Env} {R : Room} {s : State} {m : MethodId} {args : Array Value} {below : List Frame} {meth : Method} {c : Code} {cells slots : Nat} {Qp : State → Prop} {dC : Nat → ClassId} {dI : Nat → Nat → Nat} {dA dZ : ClassId} {A : Nat → Prop} {H0 : Heap} {Q : Nat → Nat}
variable {ea eb pr : Nat → Nat} {mk : Nat} {ct wy pt : Nat → Nat} {wc : Nat} {wd : Nat → Nat} {kn : Nat} {bp : Int32} {bs : Nat}
set_option maxHeartbeats 4000000 in
set_option maxRecDepth 100000 in
theorem lp_join1 (X : Cx p c cX0_joinParts 6 s m args RX0 dC dI (tyz dA dZ)) (st h : Nat) (hst : st < 64) (hh : h + 1 < st) (hxo : st ^^^ (h + 1) < 64) (hpt : sg_B 100000 pt) (K : ∀ (H : Heap) (locs : List Loc) (ls : Array Slot), sWd dC dI A H0 (nW dA Q ea eb pr mk ct wy (sg_it (sg_pJ1 st (h + 1)) 7 pt) wc wd kn bp bs) H locs → lv_has ls 6 [(0, .ref (Q 0)), (1, .int (nI st)), (2, .int (nI (h + 1)))] → W p l e R s m args below meth c H locs cells slots Qp (F0 m 95 ls [])) : ∀ (n i : Nat), i ≤ 7 → 7 < i + n → ∀ (H : Heap) (locs : List Loc) (ls : Array Slot), sWd dC dI A H0 (nW dA Q ea eb pr mk ct wy (sg_it (sg_pJ1 st (h + 1)) i pt) wc wd kn bp bs) H locs → lv_has ls 6 [(0, .ref (Q 0)), (1, .int (nI st)), (2, .int (nI (h + 1))), (3, .int (nI (st ^^^ (h + 1)))), (4, .int (nI i))] → W p l e R s m args below meth c H locs cells slots Qp (F0 m 24 ls []) := by
  have hx := X.1.1
  have hb := X.1.2.1
  have hown := X.1.2.2.2.1
  have hts := X.1.2.2.2.2
  intro n
  induction n with
  | zero => intro i h1 h2; omega
  | succ n ih =>
    intro i h1 h2 H locs ls hW hl
    obtain ⟨hP, hD, hS⟩ := hW
    generalize hg : sg_it (sg_pJ1 st (h + 1)) i pt = w1 at hP hD
    refine lv_iload hx hb dX0_joinParts_24 (lv_at hl 4 rfl) ?_
    refine lv_bipush (v := nI 7) hx hb dX0_joinParts_26 (by decide) ?_
    refine s_cge X (x := i) (y := 7) (by omega) (by omega) (tgt := 95) dX0_joinParts_28 (by decide) (fun c_1 => ?_) (fun c_1 => ?_)
    · have hi_ : i = 7 := by omega
      subst hi_
      exact K _ _ _ (by rw [hg]; exact ⟨hP, hD, hS⟩) (lv_sub hl [0, 1, 2] rfl)
    · have hB : sg_B 100000 w1 := by rw [← hg]; exact sg_pJ1i_B (s := st) (h := h + 1) hpt i
      have hb1 := hB (7 * (h + 1) + i)
      have hb2 := hB (7 * (st ^^^ (h + 1)) + i)
      have hb3 := hB (7 * st + i)
      refine lv_aload_n hx hb dX0_joinParts_31 rfl (lv_at hl 0 rfl) ?_
      refine s_get0 X hP 0 rfl 6 (by decide) q33 rfl rfl dX0_joinParts_32 ?_
      refine lv_bipush (v := nI 7) hx hb dX0_joinParts_35 (by decide) ?_
      refine lv_iload_n hx hb dX0_joinParts_37 rfl (lv_at hl 2 rfl) ?_
      refine lv_imul hx hb dX0_joinParts_38 ?_
      refine s_top (nI (7 * (h + 1))) (pk_mul _ _) ?_
      refine lv_iload hx hb dX0_joinParts_39 (lv_at hl 4 rfl) ?_
      refine lv_iadd hx hb dX0_joinParts_41 ?_
      refine s_top (nI ((7 * (h + 1)) + i)) (nI_add _ _) ?_
      refine s_ild X hP 6 0 rfl rfl (k := (7 * (h + 1)) + i) (by omega) (by decide) dX0_joinParts_42 ?_
      refine lv_aload_n hx hb dX0_joinParts_43 rfl (lv_at hl 0 rfl) ?_
      refine s_get0 X hP 0 rfl 6 (by decide) q33 rfl rfl dX0_joinParts_44 ?_
      refine lv_bipush (v := nI 7) hx hb dX0_joinParts_47 (by decide) ?_
      refine lv_iload_n hx hb dX0_joinParts_49 rfl (lv_at hl 3 rfl) ?_
      refine lv_imul hx hb dX0_joinParts_50 ?_
      refine s_top (nI (7 * (st ^^^ (h + 1)))) (pk_mul _ _) ?_
      refine lv_iload hx hb dX0_joinParts_51 (lv_at hl 4 rfl) ?_
      refine lv_iadd hx hb dX0_joinParts_53 ?_
      refine s_top (nI ((7 * (st ^^^ (h + 1))) + i)) (nI_add _ _) ?_
      refine s_ild X hP 6 0 rfl rfl (k := (7 * (st ^^^ (h + 1))) + i) (by omega) (by decide) dX0_joinParts_54 ?_
      refine lv_iadd hx hb dX0_joinParts_55 ?_
      refine s_top (nI ((w1 ((7 * (h + 1)) + i)) + (w1 ((7 * (st ^^^ (h + 1))) + i)))) (nI_add _ _) ?_
      refine lv_istore (lv' := [(5, .int (nI ((w1 ((7 * (h + 1)) + i)) + (w1 ((7 * (st ^^^ (h + 1))) + i))))), (0, .ref (Q 0)), (1, .int (nI st)), (2, .int (nI (h + 1))), (3, .int (nI (st ^^^ (h + 1)))), (4, .int (nI i))]) hx hb dX0_joinParts_56 hl (by decide) rfl (fun ls hl => ?_)
      refine lv_iload hx hb dX0_joinParts_58 (lv_at hl 0 rfl) ?_
      refine lv_aload_n hx hb dX0_joinParts_60 rfl (lv_at hl 1 rfl) ?_
      refine s_get0 X hP 0 rfl 6 (by decide) q33 rfl rfl dX0_joinParts_61 ?_
      refine lv_bipush (v := nI 7) hx hb dX0_joinParts_64 (by decide) ?_
      refine lv_iload_n hx hb dX0_joinParts_66 rfl (lv_at hl 2 rfl) ?_
      refine lv_imul hx hb dX0_joinParts_67 ?_
      refine s_top (nI (7 * st)) (pk_mul _ _) ?_
      refine lv_iload hx hb dX0_joinParts_68 (lv_at hl 5 rfl) ?_
      refine lv_iadd hx hb dX0_joinParts_70 ?_
      refine s_top (nI ((7 * st) + i)) (nI_add _ _) ?_
      refine s_ild X hP 6 0 rfl rfl (k := (7 * st) + i) (by omega) (by decide) dX0_joinParts_71 ?_
      refine s_cge X (x := (w1 ((7 * (h + 1)) + i)) + (w1 ((7 * (st ^^^ (h + 1))) + i))) (y := w1 ((7 * st) + i)) (by omega) (by omega) (tgt := 89) dX0_joinParts_72 (by decide) (fun c_2 => ?_) (fun c_2 => ?_)
      · refine lv_iinc (v := (nI (i + 1))) (lv' := [(4, .int (nI (i + 1))), (5, .int (nI ((w1 ((7 * (h + 1)) + i)) + (w1 ((7 * (st ^^^ (h + 1))) + i))))), (0, .ref (Q 0)), (1, .int (nI st)), (2, .int (nI (h + 1))), (3, .int (nI (st ^^^ (h + 1))))]) hx hb dX0_joinParts_89 hl (k := 5) rfl (nI_1 _) (by decide) rfl (fun ls hl => ?_)
        refine lv_goto (tgt := 24) hx hb dX0_joinParts_92 (by decide) ?_
        exact ih (i + 1) (by omega) (by omega) _ _ _ (by rw [st_pJ1f hg c_2]; exact ⟨hP, hD, hS⟩) (lv_sub hl [2, 3, 4, 5, 0] rfl)
      · refine lv_aload_n hx hb dX0_joinParts_75 rfl (lv_at hl 1 rfl) ?_
        refine s_get0 X hP 0 rfl 6 (by decide) q33 rfl rfl dX0_joinParts_76 ?_
        refine lv_bipush (v := nI 7) hx hb dX0_joinParts_79 (by decide) ?_
        refine lv_iload_n hx hb dX0_joinParts_81 rfl (lv_at hl 2 rfl) ?_
        refine lv_imul hx hb dX0_joinParts_82 ?_
        refine s_top (nI (7 * st)) (pk_mul _ _) ?_
        refine lv_iload hx hb dX0_joinParts_83 (lv_at hl 5 rfl) ?_
        refine lv_iadd hx hb dX0_joinParts_85 ?_
        refine s_top (nI ((7 * st) + i)) (nI_add _ _) ?_
        refine lv_iload hx hb dX0_joinParts_86 (lv_at hl 0 rfl) ?_
        refine s_ist X hP hD hS 6 0 rfl rfl (k := (7 * st) + i) (v := (w1 ((7 * (h + 1)) + i)) + (w1 ((7 * (st ^^^ (h + 1))) + i))) (by omega) (by decide) dX0_joinParts_88 (fun H locs hP hD hS => ?_)
        have hP : va_P (dC, dI) vwCl (nW dA Q ea eb pr mk ct wy (va_up w1 ((7 * st) + i) ((w1 ((7 * (h + 1)) + i)) + (w1 ((7 * (st ^^^ (h + 1))) + i)))) wc wd kn bp bs) H := hP
        have hD : va_D A (nW dA Q ea eb pr mk ct wy (va_up w1 ((7 * st) + i) ((w1 ((7 * (h + 1)) + i)) + (w1 ((7 * (st ^^^ (h + 1))) + i)))) wc wd kn bp bs) := hD
        refine lv_iinc (v := (nI (i + 1))) (lv' := [(4, .int (nI (i + 1))), (5, .int (nI ((w1 ((7 * (h + 1)) + i)) + (w1 ((7 * (st ^^^ (h + 1))) + i))))), (0, .ref (Q 0)), (1, .int (nI st)), (2, .int (nI (h + 1))), (3, .int (nI (st ^^^ (h + 1))))]) hx hb dX0_joinParts_89 hl (k := 5) rfl (nI_1 _) (by decide) rfl (fun ls hl => ?_)
        refine lv_goto (tgt := 24) hx hb dX0_joinParts_92 (by decide) ?_
        exact ih (i + 1) (by omega) (by omega) _ _ _ (by rw [st_pJ1t hg c_2]; exact ⟨hP, hD, hS⟩) (lv_sub hl [2, 3, 4, 5, 0] rfl)

set_option maxHeartbeats 4000000 in
set_option maxRecDepth 100000 in
theorem lp_join2 (X : Cx p c cX0_joinParts 6 s m args RX0 dC dI (tyz dA dZ)) (st : Nat) (hs0 : 0 < st) (hst : st < 64) (hpt : sg_B 100000 pt) (K : ∀ (H : Heap) (locs : List Loc) (ls : Array Slot), sWd dC dI A H0 (nW dA Q ea eb pr mk ct wy (sg_it (sg_pJ2 st) (st - 1) pt) wc wd kn bp bs) H locs → lv_has ls 6 [(0, .ref (Q 0))] → W p l e R s m args below meth c H locs cells slots Qp (F0 m 101 ls [])) : ∀ (n i : Nat), i ≤ st - 1 → st - 1 < i + n → ∀ (H : Heap) (locs : List Loc) (ls : Array Slot), sWd dC dI A H0 (nW dA Q ea eb pr mk ct wy (sg_it (sg_pJ2 st) i pt) wc wd kn bp bs) H locs → lv_has ls 6 [(0, .ref (Q 0)), (1, .int (nI st)), (2, .int (nI (i + 1)))] → W p l e R s m args below meth c H locs cells slots Qp (F0 m 2 ls []) := by
  have hx := X.1.1
  have hb := X.1.2.1
  have hown := X.1.2.2.2.1
  have hts := X.1.2.2.2.2
  intro n
  induction n with
  | zero => intro i h1 h2; omega
  | succ n ih =>
    intro i h1 h2 H locs ls hW hl
    obtain ⟨hP, hD, hS⟩ := hW
    generalize hg : sg_it (sg_pJ2 st) i pt = w1 at hP hD
    refine lv_iload_n hx hb dX0_joinParts_2 rfl (lv_at hl 2 rfl) ?_
    refine lv_iload_n hx hb dX0_joinParts_3 rfl (lv_at hl 1 rfl) ?_
    refine s_cge X (x := i + 1) (y := st) (by omega) (by omega) (tgt := 101) dX0_joinParts_4 (by decide) (fun c_1 => ?_) (fun c_1 => ?_)
    · have hi_ : i = st - 1 := by omega
      subst hi_
      exact K _ _ _ (by rw [hg]; exact ⟨hP, hD, hS⟩) (lv_sub hl [0] rfl)
    · refine lv_iload_n hx hb dX0_joinParts_7 rfl (lv_at hl 2 rfl) ?_
      refine lv_iload_n hx hb dX0_joinParts_8 rfl (lv_at hl 1 rfl) ?_
      refine lv_iconst (v := -1) hx hb dX0_joinParts_9 (by decide) ?_
      refine lv_ixor hx hb dX0_joinParts_10 ?_
      refine lv_iand hx hb dX0_joinParts_11 ?_
      refine s_top (nI (if (i + 1) &&& st = i + 1 then 0 else (i + 1) &&& (63 - st))) (s_sub0 hst (show i + 1 < 64 by omega)) ?_
      have hlt9 : (if (i + 1) &&& st = i + 1 then 0 else (i + 1) &&& (63 - st)) < 2 ^ 31 := by
        split
        · decide
        · exact Nat.lt_of_le_of_lt Nat.and_le_left (by omega)
      refine s_ine X (x := if (i + 1) &&& st = i + 1 then 0 else (i + 1) &&& (63 - st)) (by omega) (tgt := 95) dX0_joinParts_12 (by decide) (fun c_2 => ?_) (fun c_2 => ?_)
      · refine lv_iinc (v := (nI ((i + 1) + 1))) (lv' := [(2, .int (nI ((i + 1) + 1))), (0, .ref (Q 0)), (1, .int (nI st))]) hx hb dX0_joinParts_95 hl (k := 2) rfl (nI_1 _) (by decide) rfl (fun ls hl => ?_)
        refine lv_goto (tgt := 2) hx hb dX0_joinParts_98 (by decide) ?_
        exact ih (i + 1) (by omega) (by omega) _ _ _ (by rw [st_pJ2f hg (fun z => c_2 ((s_sub1 hst (by omega)).mpr z))]; exact ⟨hP, hD, hS⟩) (lv_sub hl [1, 2, 0] rfl)
      · refine lv_iload_n hx hb dX0_joinParts_15 rfl (lv_at hl 1 rfl) ?_
        refine lv_iload_n hx hb dX0_joinParts_16 rfl (lv_at hl 2 rfl) ?_
        refine lv_iconst (v := -1) hx hb dX0_joinParts_17 (by decide) ?_
        refine lv_ixor hx hb dX0_joinParts_18 ?_
        refine lv_iand hx hb dX0_joinParts_19 ?_
        refine s_top (nI (st ^^^ (i + 1))) (s_other hst (show i + 1 < 64 by omega) ((s_sub1 hst (show i + 1 < 64 by omega)).mp c_2)) ?_
        refine lv_istore_n (lv' := [(3, .int (nI (st ^^^ (i + 1)))), (0, .ref (Q 0)), (1, .int (nI st)), (2, .int (nI (i + 1)))]) hx hb dX0_joinParts_20 rfl hl (by decide) rfl (fun ls hl => ?_)
        refine lv_iconst (v := nI 0) hx hb dX0_joinParts_21 (by decide) ?_
        refine lv_istore (lv' := [(4, .int (nI 0)), (3, .int (nI (st ^^^ (i + 1)))), (0, .ref (Q 0)), (1, .int (nI st)), (2, .int (nI (i + 1)))]) hx hb dX0_joinParts_22 hl (by decide) rfl (fun ls hl => ?_)
        refine lp_join1 (pt := w1) X st i hst (by omega) (Nat.xor_lt_two_pow (n := 6) hst (by omega)) (by rw [← hg]; exact sg_pJi_B hpt i) (fun H locs ls hW hl => ?_) 8 0 (by omega) (by omega) _ _ _ (by rw [sg_it_0]; exact ⟨hP, hD, hS⟩) (lv_sub hl [2, 3, 4, 1, 0] rfl)
        obtain ⟨hP, hD, hS⟩ := hW
        have hP : va_P (dC, dI) vwCl (nW dA Q ea eb pr mk ct wy (sg_it (sg_pJ1 st (i + 1)) 7 w1) wc wd kn bp bs) H := hP
        have hD : va_D A (nW dA Q ea eb pr mk ct wy (sg_it (sg_pJ1 st (i + 1)) 7 w1) wc wd kn bp bs) := hD
        refine lv_iinc (v := (nI ((i + 1) + 1))) (lv' := [(2, .int (nI ((i + 1) + 1))), (0, .ref (Q 0)), (1, .int (nI st))]) hx hb dX0_joinParts_95 hl (k := 2) rfl (nI_1 _) (by decide) rfl (fun ls hl => ?_)
        refine lv_goto (tgt := 2) hx hb dX0_joinParts_98 (by decide) ?_
        exact ih (i + 1) (by omega) (by omega) _ _ _ (by rw [st_pJ2t hg ((s_sub1 hst (by omega)).mp c_2)]; exact ⟨hP, hD, hS⟩) (lv_sub hl [1, 2, 0] rfl)

set_option maxHeartbeats 4000000 in
set_option maxRecDepth 100000 in
theorem met_joinParts (l : Launch) (dC : Nat → ClassId) (dI : Nat → Nat → Nat) (dA dZ : ClassId) (Q : Nat → Nat) (ea eb pr : Nat → Nat) (mk : Nat) (ct wy pt : Nat → Nat) (wc : Nat) (wd : Nat → Nat) (kn : Nat) (bp : Int32) (bs : Nat) (st : Nat) (hs0 : 0 < st) (hst : st < 64) (hpt : sg_B 100000 pt) : sMv l yX0_joinParts cX0_joinParts 6 ({ frames := 0, cells := 0, slots := 0, locals := 0 }) dC dI (tyz dA dZ) [.ref (Q 0), .int (nI st)] (nW dA Q ea eb pr mk ct wy pt wc wd kn bp bs) (fun _ : Unit => True) (fun _ => nW dA Q ea eb pr mk ct wy (sg_pJ st pt) wc wd kn bp bs) := by
  refine sMv_of (by decide) (Nat.le_of_ble_eq_true rfl) ?_
  intro p e s m below meth c A ls X hr hlocks hA hP hD hS hl
  have hl : lv_has ls 6 [(0, .ref (Q 0)), (1, .int (nI st))] := hl
  have hx := X.1.1
  have hb := X.1.2.1
  have hown := X.1.2.2.2.1
  have hts := X.1.2.2.2.2
  refine lv_iconst (v := nI 1) hx hb dX0_joinParts_0 (by decide) ?_
  refine lv_istore_n (lv' := [(2, .int (nI 1)), (0, .ref (Q 0)), (1, .int (nI st))]) hx hb dX0_joinParts_1 rfl hl (by decide) rfl (fun ls hl => ?_)
  refine lp_join2 (pt := pt) X st hs0 hst hpt (fun H locs ls hW hl => ?_) st 0 (by omega) (by omega) _ _ _ (by rw [sg_it_0]; exact ⟨hP, hD, hS⟩) (lv_sub hl [1, 2, 0] rfl)
  obtain ⟨hP, hD, hS⟩ := hW
  have hP : va_P (dC, dI) vwCl (nW dA Q ea eb pr mk ct wy (sg_pJ st pt) wc wd kn bp bs) H := hP
  have hD : va_D A (nW dA Q ea eb pr mk ct wy (sg_pJ st pt) wc wd kn bp bs) := hD
  exact s_vret X hr hlocks () (trivial) hP hD hS dX0_joinParts_101

end NET1
end
section
section NET1
variable {p : Program} {l : Launch} {e : Env} {R : Room} {s : State} {m : MethodId} {args : Array Value} {below : List Frame} {meth : Method} {c : Code} {cells slots : Nat} {Qp : State → Prop} {dC : Nat → ClassId} {dI : Nat → Nat → Nat} {dA dZ : ClassId} {A : Nat → Prop} {H0 : Heap} {Q : Nat → Nat}
variable {ea eb pr : Nat → Nat} {mk : Nat} {ct wy pt : Nat → Nat} {wc : Nat} {wd : Nat → Nat} {kn : Nat} {bp : Int32} {bs : Nat}
set_option maxHeartbeats 4000000 in
set_option maxRecDepth 100000 in
theorem lp_shorten1 (X : Cx p c cX0_shortenOver 5 s m args RX0 dC dI (tyz dA dZ)) (md a : Nat) (hm : md < 7) (ha : a < 7) (hwy : sg_B 100000 wy) (K : ∀ (H : Heap) (locs : List Loc) (ls : Array Slot), sWd dC dI A H0 (nW dA Q ea eb pr mk ct (sg_it (sg_wS1 md a) 7 wy) pt wc wd kn bp bs) H locs → lv_has ls 5 [(0, .ref (Q 0)), (1, .int (nI md)), (2, .int (nI a))] → W p l e R s m args below meth c H locs cells slots Qp (F0 m 76 ls [])) : ∀ (n i : Nat), i ≤ 7 → 7 < i + n → ∀ (H : Heap) (locs : List Loc) (ls : Array Slot), sWd dC dI A H0 (nW dA Q ea eb pr mk ct (sg_it (sg_wS1 md a) i wy) pt wc wd kn bp bs) H locs → lv_has ls 5 [(0, .ref (Q 0)), (1, .int (nI md)), (2, .int (nI a)), (3, .int (nI i))] → W p l e R s m args below meth c H locs cells slots Qp (F0 m 10 ls []) := by
  have hx := X.1.1
  have hb := X.1.2.1
  have hown := X.1.2.2.2.1
  have hts := X.1.2.2.2.2
  intro n
  induction n with
  | zero => intro i h1 h2; omega
  | succ n ih =>
    intro i h1 h2 H locs ls hW hl
    obtain ⟨hP, hD, hS⟩ := hW
    generalize hg : sg_it (sg_wS1 md a) i wy = w1 at hP hD
    refine lv_iload_n hx hb dX0_shortenOver_10 rfl (lv_at hl 3 rfl) ?_
    refine lv_bipush (v := nI 7) hx hb dX0_shortenOver_11 (by decide) ?_
    refine s_cge X (x := i) (y := 7) (by omega) (by omega) (tgt := 76) dX0_shortenOver_13 (by decide) (fun c_1 => ?_) (fun c_1 => ?_)
    · have hi_ : i = 7 := by omega
      subst hi_
      exact K _ _ _ (by rw [hg]; exact ⟨hP, hD, hS⟩) (lv_sub hl [0, 1, 2] rfl)
    · have hB : sg_B 100000 w1 := by rw [← hg]; exact sg_B_it hwy (fun b y (h : sg_B 100000 y) => sg_wS1_B (m := md) (a := a) (b := b) h) i
      have hb1 := hB (7 * a + md)
      have hb2 := hB (7 * md + i)
      have hb3 := hB (7 * a + i)
      refine lv_aload_n hx hb dX0_shortenOver_16 rfl (lv_at hl 0 rfl) ?_
      refine s_get0 X hP 0 rfl 5 (by decide) q32 rfl rfl dX0_shortenOver_17 ?_
      refine lv_bipush (v := nI 7) hx hb dX0_shortenOver_20 (by decide) ?_
      refine lv_iload_n hx hb dX0_shortenOver_22 rfl (lv_at hl 2 rfl) ?_
      refine lv_imul hx hb dX0_shortenOver_23 ?_
      refine s_top (nI (7 * a)) (pk_mul _ _) ?_
      refine lv_iload_n hx hb dX0_shortenOver_24 rfl (lv_at hl 1 rfl) ?_
      refine lv_iadd hx hb dX0_shortenOver_25 ?_
      refine s_top (nI ((7 * a) + md)) (nI_add _ _) ?_
      refine s_ild X hP 5 0 rfl rfl (k := (7 * a) + md) (by omega) (by decide) dX0_shortenOver_26 ?_
      refine lv_aload_n hx hb dX0_shortenOver_27 rfl (lv_at hl 0 rfl) ?_
      refine s_get0 X hP 0 rfl 5 (by decide) q32 rfl rfl dX0_shortenOver_28 ?_
      refine lv_bipush (v := nI 7) hx hb dX0_shortenOver_31 (by decide) ?_
      refine lv_iload_n hx hb dX0_shortenOver_33 rfl (lv_at hl 1 rfl) ?_
      refine lv_imul hx hb dX0_shortenOver_34 ?_
      refine s_top (nI (7 * md)) (pk_mul _ _) ?_
      refine lv_iload_n hx hb dX0_shortenOver_35 rfl (lv_at hl 3 rfl) ?_
      refine lv_iadd hx hb dX0_shortenOver_36 ?_
      refine s_top (nI ((7 * md) + i)) (nI_add _ _) ?_
      refine s_ild X hP 5 0 rfl rfl (k := (7 * md) + i) (by omega) (by decide) dX0_shortenOver_37 ?_
      refine lv_iadd hx hb dX0_shortenOver_38 ?_
      refine s_top (nI ((w1 ((7 * a) + md)) + (w1 ((7 * md) + i)))) (nI_add _ _) ?_
      refine lv_istore (lv' := [(4, .int (nI ((w1 ((7 * a) + md)) + (w1 ((7 * md) + i))))), (0, .ref (Q 0)), (1, .int (nI md)), (2, .int (nI a)), (3, .int (nI i))]) hx hb dX0_shortenOver_39 hl (by decide) rfl (fun ls hl => ?_)
      refine lv_iload hx hb dX0_shortenOver_41 (lv_at hl 0 rfl) ?_
      refine lv_aload_n hx hb dX0_shortenOver_43 rfl (lv_at hl 1 rfl) ?_
      refine s_get0 X hP 0 rfl 5 (by decide) q32 rfl rfl dX0_shortenOver_44 ?_
      refine lv_bipush (v := nI 7) hx hb dX0_shortenOver_47 (by decide) ?_
      refine lv_iload_n hx hb dX0_shortenOver_49 rfl (lv_at hl 3 rfl) ?_
      refine lv_imul hx hb dX0_shortenOver_50 ?_
      refine s_top (nI (7 * a)) (pk_mul _ _) ?_
      refine lv_iload_n hx hb dX0_shortenOver_51 rfl (lv_at hl 4 rfl) ?_
      refine lv_iadd hx hb dX0_shortenOver_52 ?_
      refine s_top (nI ((7 * a) + i)) (nI_add _ _) ?_
      refine s_ild X hP 5 0 rfl rfl (k := (7 * a) + i) (by omega) (by decide) dX0_shortenOver_53 ?_
      refine s_cge X (x := (w1 ((7 * a) + md)) + (w1 ((7 * md) + i))) (y := w1 ((7 * a) + i)) (by omega) (by omega) (tgt := 70) dX0_shortenOver_54 (by decide) (fun c_2 => ?_) (fun c_2 => ?_)
      · refine lv_iinc (v := (nI (i + 1))) (lv' := [(3, .int (nI (i + 1))), (4, .int (nI ((w1 ((7 * a) + md)) + (w1 ((7 * md) + i))))), (0, .ref (Q 0)), (1, .int (nI md)), (2, .int (nI a))]) hx hb dX0_shortenOver_70 hl (k := 4) rfl (nI_1 _) (by decide) rfl (fun ls hl => ?_)
        refine lv_goto (tgt := 10) hx hb dX0_shortenOver_73 (by decide) ?_
        exact ih (i + 1) (by omega) (by omega) _ _ _ (by rw [st_wS1f hg c_2]; exact ⟨hP, hD, hS⟩) (lv_sub hl [2, 3, 4, 0] rfl)
      · refine lv_aload_n hx hb dX0_shortenOver_57 rfl (lv_at hl 1 rfl) ?_
        refine s_get0 X hP 0 rfl 5 (by decide) q32 rfl rfl dX0_shortenOver_58 ?_
        refine lv_bipush (v := nI 7) hx hb dX0_shortenOver_61 (by decide) ?_
        refine lv_iload_n hx hb dX0_shortenOver_63 rfl (lv_at hl 3 rfl) ?_
        refine lv_imul hx hb dX0_shortenOver_64 ?_
        refine s_top (nI (7 * a)) (pk_mul _ _) ?_
        refine lv_iload_n hx hb dX0_shortenOver_65 rfl (lv_at hl 4 rfl) ?_
        refine lv_iadd hx hb dX0_shortenOver_66 ?_
        refine s_top (nI ((7 * a) + i)) (nI_add _ _) ?_
        refine lv_iload hx hb dX0_shortenOver_67 (lv_at hl 0 rfl) ?_
        refine s_ist X hP hD hS 5 0 rfl rfl (k := (7 * a) + i) (v := (w1 ((7 * a) + md)) + (w1 ((7 * md) + i))) (by omega) (by decide) dX0_shortenOver_69 (fun H locs hP hD hS => ?_)
        have hP : va_P (dC, dI) vwCl (nW dA Q ea eb pr mk ct (va_up w1 ((7 * a) + i) ((w1 ((7 * a) + md)) + (w1 ((7 * md) + i)))) pt wc wd kn bp bs) H := hP
        have hD : va_D A (nW dA Q ea eb pr mk ct (va_up w1 ((7 * a) + i) ((w1 ((7 * a) + md)) + (w1 ((7 * md) + i)))) pt wc wd kn bp bs) := hD
        refine lv_iinc (v := (nI (i + 1))) (lv' := [(3, .int (nI (i + 1))), (4, .int (nI ((w1 ((7 * a) + md)) + (w1 ((7 * md) + i))))), (0, .ref (Q 0)), (1, .int (nI md)), (2, .int (nI a))]) hx hb dX0_shortenOver_70 hl (k := 4) rfl (nI_1 _) (by decide) rfl (fun ls hl => ?_)
        refine lv_goto (tgt := 10) hx hb dX0_shortenOver_73 (by decide) ?_
        exact ih (i + 1) (by omega) (by omega) _ _ _ (by rw [st_wS1t hg c_2]; exact ⟨hP, hD, hS⟩) (lv_sub hl [2, 3, 4, 0] rfl)

set_option maxHeartbeats 4000000 in
set_option maxRecDepth 100000 in
theorem lp_shorten2 (X : Cx p c cX0_shortenOver 5 s m args RX0 dC dI (tyz dA dZ)) (md : Nat) (hm : md < 7) (hwy : sg_B 100000 wy) (K : ∀ (H : Heap) (locs : List Loc) (ls : Array Slot), sWd dC dI A H0 (nW dA Q ea eb pr mk ct (sg_it (sg_wS2 md) 7 wy) pt wc wd kn bp bs) H locs → lv_has ls 5 [(0, .ref (Q 0))] → W p l e R s m args below meth c H locs cells slots Qp (F0 m 82 ls [])) : ∀ (n i : Nat), i ≤ 7 → 7 < i + n → ∀ (H : Heap) (locs : List Loc) (ls : Array Slot), sWd dC dI A H0 (nW dA Q ea eb pr mk ct (sg_it (sg_wS2 md) i wy) pt wc wd kn bp bs) H locs → lv_has ls 5 [(0, .ref (Q 0)), (1, .int (nI md)), (2, .int (nI i))] → W p l e R s m args below meth c H locs cells slots Qp (F0 m 2 ls []) := by
  have hx := X.1.1
  have hb := X.1.2.1
  have hown := X.1.2.2.2.1
  have hts := X.1.2.2.2.2
  intro n
  induction n with
  | zero => intro i h1 h2; omega
  | succ n ih =>
    intro i h1 h2 H locs ls hW hl
    obtain ⟨hP, hD, hS⟩ := hW
    generalize hg : sg_it (sg_wS2 md) i wy = w1 at hP hD
    refine lv_iload_n hx hb dX0_shortenOver_2 rfl (lv_at hl 2 rfl) ?_
    refine lv_bipush (v := nI 7) hx hb dX0_shortenOver_3 (by decide) ?_
    refine s_cge X (x := i) (y := 7) (by omega) (by omega) (tgt := 82) dX0_shortenOver_5 (by decide) (fun c_1 => ?_) (fun c_1 => ?_)
    · have hi_ : i = 7 := by omega
      subst hi_
      exact K _ _ _ (by rw [hg]; exact ⟨hP, hD, hS⟩) (lv_sub hl [0] rfl)
    · refine lv_iconst (v := nI 0) hx hb dX0_shortenOver_8 (by decide) ?_
      refine lv_istore_n (lv' := [(3, .int (nI 0)), (0, .ref (Q 0)), (1, .int (nI md)), (2, .int (nI i))]) hx hb dX0_shortenOver_9 rfl hl (by decide) rfl (fun ls hl => ?_)
      refine lp_shorten1 (wy := w1) X md i hm (by omega) (by rw [← hg]; exact sg_B_it hwy (fun b y (h : sg_B 100000 y) => sg_wS2_B (m := md) (a := b) h) i) (fun H locs ls hW hl => ?_) 8 0 (by omega) (by omega) _ _ _ (by rw [sg_it_0]; exact ⟨hP, hD, hS⟩) (lv_sub hl [1, 2, 3, 0] rfl)
      obtain ⟨hP, hD, hS⟩ := hW
      have hP : va_P (dC, dI) vwCl (nW dA Q ea eb pr mk ct (sg_it (sg_wS1 md i) 7 w1) pt wc wd kn bp bs) H := hP
      have hD : va_D A (nW dA Q ea eb pr mk ct (sg_it (sg_wS1 md i) 7 w1) pt wc wd kn bp bs) := hD
      refine lv_iinc (v := (nI (i + 1))) (lv' := [(2, .int (nI (i + 1))), (0, .ref (Q 0)), (1, .int (nI md))]) hx hb dX0_shortenOver_76 hl (k := 2) rfl (nI_1 _) (by decide) rfl (fun ls hl => ?_)
      refine lv_goto (tgt := 2) hx hb dX0_shortenOver_79 (by decide) ?_
      exact ih (i + 1) (by omega) (by omega) _ _ _ (by rw [st_wS2 hg]; exact ⟨hP, hD, hS⟩) (lv_sub hl [1, 2, 0] rfl)

set_option maxHeartbeats 4000000 in
set_option maxRecDepth 100000 in
theorem met_shortenOver (l : Launch) (dC : Nat → ClassId) (dI : Nat → Nat → Nat) (dA dZ : ClassId) (Q : Nat → Nat) (ea eb pr : Nat → Nat) (mk : Nat) (ct wy pt : Nat → Nat) (wc : Nat) (wd : Nat → Nat) (kn : Nat) (bp : Int32) (bs : Nat) (md : Nat) (hm : md < 7) (hwy : sg_B 100000 wy) : sMv l yX0_shortenOver cX0_shortenOver 5 ({ frames := 0, cells := 0, slots := 0, locals := 0 }) dC dI (tyz dA dZ) [.ref (Q 0), .int (nI md)] (nW dA Q ea eb pr mk ct wy pt wc wd kn bp bs) (fun _ : Unit => True) (fun _ => nW dA Q ea eb pr mk ct (sg_wS md wy) pt wc wd kn bp bs) := by
  refine sMv_of (by decide) (Nat.le_of_ble_eq_true rfl) ?_
  intro p e s m below meth c A ls X hr hlocks hA hP hD hS hl
  have hl : lv_has ls 5 [(0, .ref (Q 0)), (1, .int (nI md))] := hl
  have hx := X.1.1
  have hb := X.1.2.1
  have hown := X.1.2.2.2.1
  have hts := X.1.2.2.2.2
  refine lv_iconst (v := nI 0) hx hb dX0_shortenOver_0 (by decide) ?_
  refine lv_istore_n (lv' := [(2, .int (nI 0)), (0, .ref (Q 0)), (1, .int (nI md))]) hx hb dX0_shortenOver_1 rfl hl (by decide) rfl (fun ls hl => ?_)
  refine lp_shorten2 (wy := wy) X md hm hwy (fun H locs ls hW hl => ?_) 8 0 (by omega) (by omega) _ _ _ (by rw [sg_it_0]; exact ⟨hP, hD, hS⟩) (lv_sub hl [1, 2, 0] rfl)
  obtain ⟨hP, hD, hS⟩ := hW
  have hP : va_P (dC, dI) vwCl (nW dA Q ea eb pr mk ct (sg_wS md wy) pt wc wd kn bp bs) H := hP
  have hD : va_D A (nW dA Q ea eb pr mk ct (sg_wS md wy) pt wc wd kn bp bs) := hD
  exact s_vret X hr hlocks () (trivial) hP hD hS dX0_shortenOver_82

end NET1
end
section
section NET1
variable {p : Program} {l : Launch} {e : Env} {R : Room} {s : State} {m : MethodId} {args : Array Value} {below : List Frame} {meth : Method} {c : Code} {cells slots : Nat} {Qp : State → Prop} {dC : Nat → ClassId} {dI : Nat → Nat → Nat} {dA dZ : ClassId} {A : Nat → Prop} {H0 : Heap} {Q : Nat → Nat}
variable {ea eb pr : Nat → Nat} {mk : Nat} {ct wy pt : Nat → Nat} {wc : Nat} {wd : Nat → Nat} {kn : Nat} {bp : Int32} {bs : Nat}
set_option maxHeartbeats 4000000 in
set_option maxRecDepth 100000 in
theorem lp_start1 (X : Cx p c cX0_startPart 3 s m args RX0 dC dI (tyz dA dZ)) (st : Nat) (hst : st < 64) (K : ∀ (H : Heap) (locs : List Loc) (ls : Array Slot), sWd dC dI A H0 (nW dA Q ea eb pr mk ct wy (sg_it (sg_pI1 st) 7 pt) wc wd kn bp bs) H locs → lv_has ls 3 [(0, .ref (Q 0)), (1, .int (nI st))] → W p l e R s m args below meth c H locs cells slots Qp (F0 m 27 ls [])) : ∀ (n i : Nat), i ≤ 7 → 7 < i + n → ∀ (H : Heap) (locs : List Loc) (ls : Array Slot), sWd dC dI A H0 (nW dA Q ea eb pr mk ct wy (sg_it (sg_pI1 st) i pt) wc wd kn bp bs) H locs → lv_has ls 3 [(0, .ref (Q 0)), (1, .int (nI st)), (2, .int (nI i))] → W p l e R s m args below meth c H locs cells slots Qp (F0 m 2 ls []) := by
  have hx := X.1.1
  have hb := X.1.2.1
  have hown := X.1.2.2.2.1
  have hts := X.1.2.2.2.2
  intro n
  induction n with
  | zero => intro i h1 h2; omega
  | succ n ih =>
    intro i h1 h2 H locs ls hW hl
    obtain ⟨hP, hD, hS⟩ := hW
    generalize hg : sg_it (sg_pI1 st) i pt = w1 at hP hD
    refine lv_iload_n hx hb dX0_startPart_2 rfl (lv_at hl 2 rfl) ?_
    refine lv_bipush (v := nI 7) hx hb dX0_startPart_3 (by decide) ?_
    refine s_cge X (x := i) (y := 7) (by omega) (by omega) (tgt := 27) dX0_startPart_5 (by decide) (fun c_1 => ?_) (fun c_1 => ?_)
    · have hi_ : i = 7 := by omega
      subst hi_
      exact K _ _ _ (by rw [hg]; exact ⟨hP, hD, hS⟩) (lv_sub hl [0, 1] rfl)
    · refine lv_aload_n hx hb dX0_startPart_8 rfl (lv_at hl 0 rfl) ?_
      refine s_get0 X hP 0 rfl 6 (by decide) q33 rfl rfl dX0_startPart_9 ?_
      refine lv_bipush (v := nI 7) hx hb dX0_startPart_12 (by decide) ?_
      refine lv_iload_n hx hb dX0_startPart_14 rfl (lv_at hl 1 rfl) ?_
      refine lv_imul hx hb dX0_startPart_15 ?_
      refine s_top (nI (7 * st)) (pk_mul _ _) ?_
      refine lv_iload_n hx hb dX0_startPart_16 rfl (lv_at hl 2 rfl) ?_
      refine lv_iadd hx hb dX0_startPart_17 ?_
      refine s_top (nI ((7 * st) + i)) (nI_add _ _) ?_
      refine lv_ldc (v := 100000) hx hb hown (hts _ q96) dX0_startPart_18 ?_
      refine s_top (nI 100000) (by decide) ?_
      refine s_ist X hP hD hS 6 0 rfl rfl (k := (7 * st) + i) (v := 100000) (by omega) (by decide) dX0_startPart_20 (fun H locs hP hD hS => ?_)
      have hP : va_P (dC, dI) vwCl (nW dA Q ea eb pr mk ct wy (va_up w1 ((7 * st) + i) 100000) wc wd kn bp bs) H := hP
      have hD : va_D A (nW dA Q ea eb pr mk ct wy (va_up w1 ((7 * st) + i) 100000) wc wd kn bp bs) := hD
      refine lv_iinc (v := (nI (i + 1))) (lv' := [(2, .int (nI (i + 1))), (0, .ref (Q 0)), (1, .int (nI st))]) hx hb dX0_startPart_21 hl (k := 2) rfl (nI_1 _) (by decide) rfl (fun ls hl => ?_)
      refine lv_goto (tgt := 2) hx hb dX0_startPart_24 (by decide) ?_
      exact ih (i + 1) (by omega) (by omega) _ _ _ (by rw [st_pI1 hg]; exact ⟨hP, hD, hS⟩) (lv_sub hl [1, 2, 0] rfl)

set_option maxHeartbeats 4000000 in
set_option maxRecDepth 100000 in
theorem lp_start2 (X : Cx p c cX0_startPart 3 s m args RX0 dC dI (tyz dA dZ)) (st W0 : Nat) (hst : st < 64) (hW0 : W0 < 7) (hwd : ∀ k, wd k < 7) (K : ∀ (H : Heap) (locs : List Loc) (ls : Array Slot), sWd dC dI A H0 (nW dA Q ea eb pr mk ct wy (sg_it (sg_pK1 wd st) W0 pt) (W0 + 1) wd kn bp bs) H locs → lv_has ls 3 [(0, .ref (Q 0))] → W p l e R s m args below meth c H locs cells slots Qp (F0 m 69 ls [])) : ∀ (n i : Nat), i ≤ W0 → W0 < i + n → ∀ (H : Heap) (locs : List Loc) (ls : Array Slot), sWd dC dI A H0 (nW dA Q ea eb pr mk ct wy (sg_it (sg_pK1 wd st) i pt) (W0 + 1) wd kn bp bs) H locs → lv_has ls 3 [(0, .ref (Q 0)), (1, .int (nI st)), (2, .int (nI i))] → W p l e R s m args below meth c H locs cells slots Qp (F0 m 29 ls []) := by
  have hx := X.1.1
  have hb := X.1.2.1
  have hown := X.1.2.2.2.1
  have hts := X.1.2.2.2.2
  intro n
  induction n with
  | zero => intro i h1 h2; omega
  | succ n ih =>
    intro i h1 h2 H locs ls hW hl
    obtain ⟨hP, hD, hS⟩ := hW
    generalize hg : sg_it (sg_pK1 wd st) i pt = w1 at hP hD
    refine lv_iload_n hx hb dX0_startPart_29 rfl (lv_at hl 2 rfl) ?_
    refine lv_aload_n hx hb dX0_startPart_30 rfl (lv_at hl 0 rfl) ?_
    refine s_get0 X hP 0 rfl 7 (by decide) q34 rfl rfl dX0_startPart_31 ?_
    refine lv_iconst (v := nI 1) hx hb dX0_startPart_34 (by decide) ?_
    refine lv_isub hx hb dX0_startPart_35 ?_
    refine s_top (nI ((W0 + 1) - 1)) (pk_sub (by omega)) ?_
    refine s_cge X (x := i) (y := (W0 + 1) - 1) (by omega) (by omega) (tgt := 69) dX0_startPart_36 (by decide) (fun c_1 => ?_) (fun c_1 => ?_)
    · have hi_ : i = W0 := by omega
      subst hi_
      exact K _ _ _ (by rw [hg]; exact ⟨hP, hD, hS⟩) (lv_sub hl [0] rfl)
    · have hwi := hwd i
      have h2i : 2 ^ i < 2 ^ 10 := Nat.pow_lt_pow_right (by omega) (by omega)
      refine lv_iload_n hx hb dX0_startPart_39 rfl (lv_at hl 1 rfl) ?_
      refine lv_iconst (v := nI 1) hx hb dX0_startPart_40 (by decide) ?_
      refine lv_iload_n hx hb dX0_startPart_41 rfl (lv_at hl 2 rfl) ?_
      refine lv_ishl hx hb dX0_startPart_42 ?_
      refine s_top (nI (2 ^ i)) (s_shl1 (by omega)) ?_
      refine s_cne X (x := st) (y := 2 ^ i) (by omega) (by omega) (tgt := 63) dX0_startPart_43 (by decide) (fun c_2 => ?_) (fun c_2 => ?_)
      · refine lv_iinc (v := (nI (i + 1))) (lv' := [(2, .int (nI (i + 1))), (0, .ref (Q 0)), (1, .int (nI st))]) hx hb dX0_startPart_63 hl (k := 2) rfl (nI_1 _) (by decide) rfl (fun ls hl => ?_)
        refine lv_goto (tgt := 29) hx hb dX0_startPart_66 (by decide) ?_
        exact ih (i + 1) (by omega) (by omega) _ _ _ (by rw [st_pK1f hg c_2]; exact ⟨hP, hD, hS⟩) (lv_sub hl [1, 2, 0] rfl)
      · refine lv_aload_n hx hb dX0_startPart_46 rfl (lv_at hl 0 rfl) ?_
        refine s_get0 X hP 0 rfl 6 (by decide) q33 rfl rfl dX0_startPart_47 ?_
        refine lv_bipush (v := nI 7) hx hb dX0_startPart_50 (by decide) ?_
        refine lv_iload_n hx hb dX0_startPart_52 rfl (lv_at hl 1 rfl) ?_
        refine lv_imul hx hb dX0_startPart_53 ?_
        refine s_top (nI (7 * st)) (pk_mul _ _) ?_
        refine lv_aload_n hx hb dX0_startPart_54 rfl (lv_at hl 0 rfl) ?_
        refine s_get0 X hP 0 rfl 8 (by decide) q35 rfl rfl dX0_startPart_55 ?_
        refine lv_iload_n hx hb dX0_startPart_58 rfl (lv_at hl 2 rfl) ?_
        refine s_ild X hP 7 0 rfl rfl (k := i) (by omega) (by decide) dX0_startPart_59 ?_
        refine lv_iadd hx hb dX0_startPart_60 ?_
        refine s_top (nI ((7 * st) + (wd i))) (nI_add _ _) ?_
        refine lv_iconst (v := nI 0) hx hb dX0_startPart_61 (by decide) ?_
        refine s_ist X hP hD hS 6 0 rfl rfl (k := (7 * st) + (wd i)) (v := 0) (by omega) (by decide) dX0_startPart_62 (fun H locs hP hD hS => ?_)
        have hP : va_P (dC, dI) vwCl (nW dA Q ea eb pr mk ct wy (va_up w1 ((7 * st) + (wd i)) 0) (W0 + 1) wd kn bp bs) H := hP
        have hD : va_D A (nW dA Q ea eb pr mk ct wy (va_up w1 ((7 * st) + (wd i)) 0) (W0 + 1) wd kn bp bs) := hD
        refine lv_iinc (v := (nI (i + 1))) (lv' := [(2, .int (nI (i + 1))), (0, .ref (Q 0)), (1, .int (nI st))]) hx hb dX0_startPart_63 hl (k := 2) rfl (nI_1 _) (by decide) rfl (fun ls hl => ?_)
        refine lv_goto (tgt := 29) hx hb dX0_startPart_66 (by decide) ?_
        exact ih (i + 1) (by omega) (by omega) _ _ _ (by rw [st_pK1t hg c_2]; exact ⟨hP, hD, hS⟩) (lv_sub hl [1, 2, 0] rfl)

set_option maxHeartbeats 4000000 in
set_option maxRecDepth 100000 in
theorem met_startPart (l : Launch) (dC : Nat → ClassId) (dI : Nat → Nat → Nat) (dA dZ : ClassId) (Q : Nat → Nat) (ea eb pr : Nat → Nat) (mk : Nat) (ct wy pt : Nat → Nat) (wc : Nat) (wd : Nat → Nat) (kn : Nat) (bp : Int32) (bs : Nat) (st W0 : Nat) (hst : st < 64) (hW0 : W0 < 7) (hwd : ∀ k, wd k < 7) : sMv l yX0_startPart cX0_startPart 3 ({ frames := 0, cells := 0, slots := 0, locals := 0 }) dC dI (tyz dA dZ) [.ref (Q 0), .int (nI st)] (nW dA Q ea eb pr mk ct wy pt (W0 + 1) wd kn bp bs) (fun _ : Unit => True) (fun _ => nW dA Q ea eb pr mk ct wy (sg_pS wd W0 st pt) (W0 + 1) wd kn bp bs) := by
  refine sMv_of (by decide) (Nat.le_of_ble_eq_true rfl) ?_
  intro p e s m below meth c A ls X hr hlocks hA hP hD hS hl
  have hl : lv_has ls 3 [(0, .ref (Q 0)), (1, .int (nI st))] := hl
  have hx := X.1.1
  have hb := X.1.2.1
  have hown := X.1.2.2.2.1
  have hts := X.1.2.2.2.2
  refine lv_iconst (v := nI 0) hx hb dX0_startPart_0 (by decide) ?_
  refine lv_istore_n (lv' := [(2, .int (nI 0)), (0, .ref (Q 0)), (1, .int (nI st))]) hx hb dX0_startPart_1 rfl hl (by decide) rfl (fun ls hl => ?_)
  refine lp_start1 (pt := pt) X st hst (fun H locs ls hW hl => ?_) 8 0 (by omega) (by omega) _ _ _ (by rw [sg_it_0]; exact ⟨hP, hD, hS⟩) (lv_sub hl [1, 2, 0] rfl)
  obtain ⟨hP, hD, hS⟩ := hW
  have hP : va_P (dC, dI) vwCl (nW dA Q ea eb pr mk ct wy (sg_pI st pt) (W0 + 1) wd kn bp bs) H := hP
  have hD : va_D A (nW dA Q ea eb pr mk ct wy (sg_pI st pt) (W0 + 1) wd kn bp bs) := hD
  refine lv_iconst (v := nI 0) hx hb dX0_startPart_27 (by decide) ?_
  refine lv_istore_n (lv' := [(2, .int (nI 0)), (0, .ref (Q 0)), (1, .int (nI st))]) hx hb dX0_startPart_28 rfl hl (by decide) rfl (fun ls hl => ?_)
  refine lp_start2 (pt := sg_pI st pt) X st W0 hst hW0 hwd (fun H locs ls hW hl => ?_) (W0 + 1) 0 (by omega) (by omega) _ _ _ (by rw [sg_it_0]; exact ⟨hP, hD, hS⟩) (lv_sub hl [1, 2, 0] rfl)
  obtain ⟨hP, hD, hS⟩ := hW
  have hP : va_P (dC, dI) vwCl (nW dA Q ea eb pr mk ct wy (sg_pS wd W0 st pt) (W0 + 1) wd kn bp bs) H := hP
  have hD : va_D A (nW dA Q ea eb pr mk ct wy (sg_pS wd W0 st pt) (W0 + 1) wd kn bp bs) := hD
  exact s_vret X hr hlocks () (trivial) hP hD hS dX0_startPart_69

end NET1
end
section
theorem s_tb0 {b : Bool} (h : b.toNat = 0) : ¬ b = true := by cases b <;> simp_all
theorem s_tb1 {b : Bool} (h : b.toNat ≠ 0) : b = true := by cases b <;> simp_all
end
section
section NET2
variable {p : Program} {l : Launch} {e : Env} {R : Room} {s : State} {m : MethodId} {args : Array Value} {below : List Frame} {meth : Method} {c : Code} {cells slots : Nat} {Qp : State → Prop} {dC : Nat → ClassId} {dI : Nat → Nat → Nat} {dA dZ : ClassId} {A : Nat → Prop} {H0 : Heap} {Q : Nat → Nat}
variable {ea eb pr : Nat → Nat} {mk : Nat} {ct wy pt : Nat → Nat} {wc : Nat} {wd : Nat → Nat} {kn : Nat} {bp : Int32} {bs : Nat}
set_option maxHeartbeats 4000000 in
set_option maxRecDepth 100000 in
theorem lp_carryPart (X : Cx p c cX0_carryPart 3 s m args RX0 dC dI (tyz dA dZ)) (hA : ∀ q : Nat, H0.size ≤ q → A q) (st : Nat) (hst : st < 64) (hwy : sg_B 100000 wy) (hpt : sg_B 100000 pt) (K : ∀ (H : Heap) (locs : List Loc) (ls : Array Slot), sWd dC dI A H0 (nW dA Q ea eb pr mk ct wy (sg_it (sg_pC1 wy st) 7 pt) wc wd kn bp bs) H locs → lv_has ls 3 [(0, .ref (Q 0))] → W p l e (headSpec (ws_ yX0_carryPart cX0_carryPart 3 none) ({ frames := 1, cells := 0, slots := 0, locals := 25 })).room s m args below meth c H locs 0 0 Qp (F0 m 20 ls [])) : ∀ (n i : Nat), i ≤ 7 → 7 < i + n → ∀ (H : Heap) (locs : List Loc) (ls : Array Slot), sWd dC dI A H0 (nW dA Q ea eb pr mk ct wy (sg_it (sg_pC1 wy st) i pt) wc wd kn bp bs) H locs → lv_has ls 3 [(0, .ref (Q 0)), (1, .int (nI st)), (2, .int (nI i))] → W p l e (headSpec (ws_ yX0_carryPart cX0_carryPart 3 none) ({ frames := 1, cells := 0, slots := 0, locals := 25 })).room s m args below meth c H locs 0 0 Qp (F0 m 2 ls []) := by
  have hx := X.1.1
  have hb := X.1.2.1
  have hown := X.1.2.2.2.1
  have hts := X.1.2.2.2.2
  intro n
  induction n with
  | zero => intro i h1 h2; omega
  | succ n ih =>
    intro i h1 h2 H locs ls hW hl
    obtain ⟨hP, hD, hS⟩ := hW
    generalize hg : sg_it (sg_pC1 wy st) i pt = w1 at hP hD
    refine lv_iload_n hx hb dX0_carryPart_2 rfl (lv_at hl 2 rfl) ?_
    refine lv_bipush (v := nI 7) hx hb dX0_carryPart_3 (by decide) ?_
    refine s_cge X (x := i) (y := 7) (by omega) (by omega) (tgt := 20) dX0_carryPart_5 (by decide) (fun c_1 => ?_) (fun c_1 => ?_)
    · have hi_ : i = 7 := by omega
      subst hi_
      exact K _ _ _ (by rw [hg]; exact ⟨hP, hD, hS⟩) (lv_sub hl [0] rfl)
    · refine lv_aload_n hx hb dX0_carryPart_8 rfl (lv_at hl 0 rfl) ?_
      refine lv_iload_n hx hb dX0_carryPart_9 rfl (lv_at hl 1 rfl) ?_
      refine lv_iload_n hx hb dX0_carryPart_10 rfl (lv_at hl 2 rfl) ?_
      refine s_callvV (wr := []) (rest := []) X (met_carryTo l dC dI dA dZ Q ea eb pr mk ct wy w1 wc wd kn bp bs st i hst (by omega) hwy (by rw [← hg]; exact sg_pCi_B hpt i)) (cwV 2 hts (lw_V q121 q123 qs9 q17 q124) rfl rfl rfl (by decide +kernel) ⟨Nat.le_of_ble_eq_true rfl, Nat.le_of_ble_eq_true rfl⟩) ⟨Nat.zero_le _, Nat.zero_le _⟩ hP hD hS hA [0, 1, 2, 3, 4, 5, 6, 7] [] rfl rfl rfl rfl (by decide) 0 rfl rfl rfl hl.1 rfl rfl (Nat.le_of_ble_eq_true rfl) dX0_carryPart_11 (fun u H locs hpost hP hD hS => ?_)
      have hP : va_P (dC, dI) vwCl (nW dA Q ea eb pr mk ct wy (sg_pC1 wy st i w1) wc wd kn bp bs) H := hP
      have hD : va_D A (nW dA Q ea eb pr mk ct wy (sg_pC1 wy st i w1) wc wd kn bp bs) := hD
      refine lv_iinc (v := (nI (i + 1))) (lv' := [(2, .int (nI (i + 1))), (0, .ref (Q 0)), (1, .int (nI st))]) hx hb dX0_carryPart_14 hl (k := 2) rfl (nI_1 _) (by decide) rfl (fun ls hl => ?_)
      refine lv_goto (tgt := 2) hx hb dX0_carryPart_17 (by decide) ?_
      exact ih (i + 1) (by omega) (by omega) _ _ _ (by rw [st_pC1 hg]; exact ⟨hP, hD, hS⟩) (lv_sub hl [1, 2, 0] rfl)

set_option maxHeartbeats 4000000 in
set_option maxRecDepth 100000 in
theorem met_carryPart (l : Launch) (dC : Nat → ClassId) (dI : Nat → Nat → Nat) (dA dZ : ClassId) (Q : Nat → Nat) (ea eb pr : Nat → Nat) (mk : Nat) (ct wy pt : Nat → Nat) (wc : Nat) (wd : Nat → Nat) (kn : Nat) (bp : Int32) (bs : Nat) (st : Nat) (hst : st < 64) (hwy : sg_B 100000 wy) (hpt : sg_B 100000 pt) : sMv l yX0_carryPart cX0_carryPart 3 ({ frames := 1, cells := 0, slots := 0, locals := 25 }) dC dI (tyz dA dZ) [.ref (Q 0), .int (nI st)] (nW dA Q ea eb pr mk ct wy pt wc wd kn bp bs) (fun _ : Unit => True) (fun _ => nW dA Q ea eb pr mk ct wy (sg_pC wy st pt) wc wd kn bp bs) := by
  refine sMv_of (by decide) (Nat.le_of_ble_eq_true rfl) ?_
  intro p e s m below meth c A ls X hr hlocks hA hP hD hS hl
  have hl : lv_has ls 3 [(0, .ref (Q 0)), (1, .int (nI st))] := hl
  have hx := X.1.1
  have hb := X.1.2.1
  have hown := X.1.2.2.2.1
  have hts := X.1.2.2.2.2
  refine lv_iconst (v := nI 0) hx hb dX0_carryPart_0 (by decide) ?_
  refine lv_istore_n (lv' := [(2, .int (nI 0)), (0, .ref (Q 0)), (1, .int (nI st))]) hx hb dX0_carryPart_1 rfl hl (by decide) rfl (fun ls hl => ?_)
  refine lp_carryPart (pt := pt) X hA st hst hwy hpt (fun H locs ls hW hl => ?_) 8 0 (by omega) (by omega) _ _ _ (by rw [sg_it_0]; exact ⟨hP, hD, hS⟩) (lv_sub hl [1, 2, 0] rfl)
  obtain ⟨hP, hD, hS⟩ := hW
  have hP : va_P (dC, dI) vwCl (nW dA Q ea eb pr mk ct wy (sg_pC wy st pt) wc wd kn bp bs) H := hP
  have hD : va_D A (nW dA Q ea eb pr mk ct wy (sg_pC wy st pt) wc wd kn bp bs) := hD
  exact s_vret X hr hlocks () (trivial) hP hD hS dX0_carryPart_20

end NET2
end
section
section NET2
variable {p : Program} {l : Launch} {e : Env} {R : Room} {s : State} {m : MethodId} {args : Array Value} {below : List Frame} {meth : Method} {c : Code} {cells slots : Nat} {Qp : State → Prop} {dC : Nat → ClassId} {dI : Nat → Nat → Nat} {dA dZ : ClassId} {A : Nat → Prop} {H0 : Heap} {Q : Nat → Nat}
variable {ea eb pr : Nat → Nat} {mk : Nat} {ct wy pt : Nat → Nat} {wc : Nat} {wd : Nat → Nat} {kn : Nat} {bp : Int32} {bs : Nat}
set_option maxHeartbeats 4000000 in
set_option maxRecDepth 100000 in
theorem lp_ways1 (X : Cx p c cX0_findWays 4 s m args RX0 dC dI (tyz dA dZ)) (a : Nat) (ha : a < 7) (K : ∀ (H : Heap) (locs : List Loc) (ls : Array Slot), sWd dC dI A H0 (nW dA Q ea eb pr mk ct (sg_it (sg_wI1 a) 7 wy) pt wc wd kn bp bs) H locs → lv_has ls 4 [(0, .ref (Q 0)), (1, .int (nI a))] → W p l e R s m args below meth c H locs cells slots Qp (F0 m 44 ls [])) : ∀ (n i : Nat), i ≤ 7 → 7 < i + n → ∀ (H : Heap) (locs : List Loc) (ls : Array Slot), sWd dC dI A H0 (nW dA Q ea eb pr mk ct (sg_it (sg_wI1 a) i wy) pt wc wd kn bp bs) H locs → lv_has ls 4 [(0, .ref (Q 0)), (1, .int (nI a)), (2, .int (nI i))] → W p l e R s m args below meth c H locs cells slots Qp (F0 m 10 ls []) := by
  have hx := X.1.1
  have hb := X.1.2.1
  have hown := X.1.2.2.2.1
  have hts := X.1.2.2.2.2
  intro n
  induction n with
  | zero => intro i h1 h2; omega
  | succ n ih =>
    intro i h1 h2 H locs ls hW hl
    obtain ⟨hP, hD, hS⟩ := hW
    generalize hg : sg_it (sg_wI1 a) i wy = w1 at hP hD
    refine lv_iload_n hx hb dX0_findWays_10 rfl (lv_at hl 2 rfl) ?_
    refine lv_bipush (v := nI 7) hx hb dX0_findWays_11 (by decide) ?_
    refine s_cge X (x := i) (y := 7) (by omega) (by omega) (tgt := 44) dX0_findWays_13 (by decide) (fun c_1 => ?_) (fun c_1 => ?_)
    · have hi_ : i = 7 := by omega
      subst hi_
      exact K _ _ _ (by rw [hg]; exact ⟨hP, hD, hS⟩) (lv_sub hl [0, 1] rfl)
    · refine lv_aload_n hx hb dX0_findWays_16 rfl (lv_at hl 0 rfl) ?_
      refine s_get0 X hP 0 rfl 5 (by decide) q32 rfl rfl dX0_findWays_17 ?_
      refine lv_bipush (v := nI 7) hx hb dX0_findWays_20 (by decide) ?_
      refine lv_iload_n hx hb dX0_findWays_22 rfl (lv_at hl 1 rfl) ?_
      refine lv_imul hx hb dX0_findWays_23 ?_
      refine s_top (nI (7 * a)) (pk_mul _ _) ?_
      refine lv_iload_n hx hb dX0_findWays_24 rfl (lv_at hl 2 rfl) ?_
      refine lv_iadd hx hb dX0_findWays_25 ?_
      refine s_top (nI ((7 * a) + i)) (nI_add _ _) ?_
      refine lv_iload_n hx hb dX0_findWays_26 rfl (lv_at hl 1 rfl) ?_
      refine lv_iload_n hx hb dX0_findWays_27 rfl (lv_at hl 2 rfl) ?_
      refine s_cne X (x := a) (y := i) (by omega) (by omega) (tgt := 35) dX0_findWays_28 (by decide) (fun c_2 => ?_) (fun c_2 => ?_)
      · refine lv_ldc (v := 100000) hx hb hown (hts _ q96) dX0_findWays_35 ?_
        refine s_top (nI 100000) (by decide) ?_
        refine s_ist X hP hD hS 5 0 rfl rfl (k := (7 * a) + i) (v := 100000) (by omega) (by decide) dX0_findWays_37 (fun H locs hP hD hS => ?_)
        have hP : va_P (dC, dI) vwCl (nW dA Q ea eb pr mk ct (va_up w1 ((7 * a) + i) 100000) pt wc wd kn bp bs) H := hP
        have hD : va_D A (nW dA Q ea eb pr mk ct (va_up w1 ((7 * a) + i) 100000) pt wc wd kn bp bs) := hD
        refine lv_iinc (v := (nI (i + 1))) (lv' := [(2, .int (nI (i + 1))), (0, .ref (Q 0)), (1, .int (nI a))]) hx hb dX0_findWays_38 hl (k := 2) rfl (nI_1 _) (by decide) rfl (fun ls hl => ?_)
        refine lv_goto (tgt := 10) hx hb dX0_findWays_41 (by decide) ?_
        exact ih (i + 1) (by omega) (by omega) _ _ _ (by rw [st_wI1f hg c_2]; exact ⟨hP, hD, hS⟩) (lv_sub hl [1, 2, 0] rfl)
      · refine lv_iconst (v := nI 0) hx hb dX0_findWays_31 (by decide) ?_
        refine lv_goto (tgt := 37) hx hb dX0_findWays_32 (by decide) ?_
        refine s_ist X hP hD hS 5 0 rfl rfl (k := (7 * a) + i) (v := 0) (by omega) (by decide) dX0_findWays_37 (fun H locs hP hD hS => ?_)
        have hP : va_P (dC, dI) vwCl (nW dA Q ea eb pr mk ct (va_up w1 ((7 * a) + i) 0) pt wc wd kn bp bs) H := hP
        have hD : va_D A (nW dA Q ea eb pr mk ct (va_up w1 ((7 * a) + i) 0) pt wc wd kn bp bs) := hD
        refine lv_iinc (v := (nI (i + 1))) (lv' := [(2, .int (nI (i + 1))), (0, .ref (Q 0)), (1, .int (nI a))]) hx hb dX0_findWays_38 hl (k := 2) rfl (nI_1 _) (by decide) rfl (fun ls hl => ?_)
        refine lv_goto (tgt := 10) hx hb dX0_findWays_41 (by decide) ?_
        exact ih (i + 1) (by omega) (by omega) _ _ _ (by rw [st_wI1t hg c_2]; exact ⟨hP, hD, hS⟩) (lv_sub hl [1, 2, 0] rfl)

set_option maxHeartbeats 4000000 in
set_option maxRecDepth 100000 in
theorem lp_ways2 (X : Cx p c cX0_findWays 4 s m args RX0 dC dI (tyz dA dZ))  (K : ∀ (H : Heap) (locs : List Loc) (ls : Array Slot), sWd dC dI A H0 (nW dA Q ea eb pr mk ct (sg_it sg_wI2 7 wy) pt wc wd kn bp bs) H locs → lv_has ls 4 [(0, .ref (Q 0))] → W p l e R s m args below meth c H locs cells slots Qp (F0 m 50 ls [])) : ∀ (n i : Nat), i ≤ 7 → 7 < i + n → ∀ (H : Heap) (locs : List Loc) (ls : Array Slot), sWd dC dI A H0 (nW dA Q ea eb pr mk ct (sg_it sg_wI2 i wy) pt wc wd kn bp bs) H locs → lv_has ls 4 [(0, .ref (Q 0)), (1, .int (nI i))] → W p l e R s m args below meth c H locs cells slots Qp (F0 m 2 ls []) := by
  have hx := X.1.1
  have hb := X.1.2.1
  have hown := X.1.2.2.2.1
  have hts := X.1.2.2.2.2
  intro n
  induction n with
  | zero => intro i h1 h2; omega
  | succ n ih =>
    intro i h1 h2 H locs ls hW hl
    obtain ⟨hP, hD, hS⟩ := hW
    generalize hg : sg_it sg_wI2 i wy = w1 at hP hD
    refine lv_iload_n hx hb dX0_findWays_2 rfl (lv_at hl 1 rfl) ?_
    refine lv_bipush (v := nI 7) hx hb dX0_findWays_3 (by decide) ?_
    refine s_cge X (x := i) (y := 7) (by omega) (by omega) (tgt := 50) dX0_findWays_5 (by decide) (fun c_1 => ?_) (fun c_1 => ?_)
    · have hi_ : i = 7 := by omega
      subst hi_
      exact K _ _ _ (by rw [hg]; exact ⟨hP, hD, hS⟩) (lv_sub hl [0] rfl)
    · refine lv_iconst (v := nI 0) hx hb dX0_findWays_8 (by decide) ?_
      refine lv_istore_n (lv' := [(2, .int (nI 0)), (0, .ref (Q 0)), (1, .int (nI i))]) hx hb dX0_findWays_9 rfl hl (by decide) rfl (fun ls hl => ?_)
      refine lp_ways1 (wy := w1) X i (by omega) (fun H locs ls hW hl => ?_) 8 0 (by omega) (by omega) _ _ _ (by rw [sg_it_0]; exact ⟨hP, hD, hS⟩) (lv_sub hl [1, 2, 0] rfl)
      obtain ⟨hP, hD, hS⟩ := hW
      have hP : va_P (dC, dI) vwCl (nW dA Q ea eb pr mk ct (sg_it (sg_wI1 i) 7 w1) pt wc wd kn bp bs) H := hP
      have hD : va_D A (nW dA Q ea eb pr mk ct (sg_it (sg_wI1 i) 7 w1) pt wc wd kn bp bs) := hD
      refine lv_iinc (v := (nI (i + 1))) (lv' := [(1, .int (nI (i + 1))), (0, .ref (Q 0))]) hx hb dX0_findWays_44 hl (k := 1) rfl (nI_1 _) (by decide) rfl (fun ls hl => ?_)
      refine lv_goto (tgt := 2) hx hb dX0_findWays_47 (by decide) ?_
      exact ih (i + 1) (by omega) (by omega) _ _ _ (by rw [st_wI2 hg]; exact ⟨hP, hD, hS⟩) (lv_sub hl [1, 0] rfl)

set_option maxHeartbeats 4000000 in
set_option maxRecDepth 100000 in
theorem lp_ways3 (X : Cx p c cX0_findWays 4 s m args RX0 dC dI (tyz dA dZ)) (hea : ∀ k, ea k < 7) (heb : ∀ k, eb k < 7) (hct : sg_B 100000 ct) (hwy : sg_B 100000 wy) (K : ∀ (H : Heap) (locs : List Loc) (ls : Array Slot), sWd dC dI A H0 (nW dA Q ea eb pr mk ct (sg_it (sg_wL1 ea eb ct) 10 wy) pt wc wd kn bp bs) H locs → lv_has ls 4 [(0, .ref (Q 0))] → W p l e R s m args below meth c H locs cells slots Qp (F0 m 132 ls [])) : ∀ (n i : Nat), i ≤ 10 → 10 < i + n → ∀ (H : Heap) (locs : List Loc) (ls : Array Slot), sWd dC dI A H0 (nW dA Q ea eb pr mk ct (sg_it (sg_wL1 ea eb ct) i wy) pt wc wd kn bp bs) H locs → lv_has ls 4 [(0, .ref (Q 0)), (1, .int (nI i))] → W p l e R s m args below meth c H locs cells slots Qp (F0 m 52 ls []) := by
  have hx := X.1.1
  have hb := X.1.2.1
  have hown := X.1.2.2.2.1
  have hts := X.1.2.2.2.2
  intro n
  induction n with
  | zero => intro i h1 h2; omega
  | succ n ih =>
    intro i h1 h2 H locs ls hW hl
    obtain ⟨hP, hD, hS⟩ := hW
    generalize hg : sg_it (sg_wL1 ea eb ct) i wy = w1 at hP hD
    refine lv_iload_n hx hb dX0_findWays_52 rfl (lv_at hl 1 rfl) ?_
    refine lv_bipush (v := nI 10) hx hb dX0_findWays_53 (by decide) ?_
    refine s_cge X (x := i) (y := 10) (by omega) (by omega) (tgt := 132) dX0_findWays_55 (by decide) (fun c_1 => ?_) (fun c_1 => ?_)
    · have hi_ : i = 10 := by omega
      subst hi_
      exact K _ _ _ (by rw [hg]; exact ⟨hP, hD, hS⟩) (lv_sub hl [0] rfl)
    · have he1 := hea i
      have he2 := heb i
      have he3 := hct i
      have hB : sg_B 100000 w1 := by rw [← hg]; exact sg_B_it hwy (fun b y (h : sg_B 100000 y) => sg_wL1_B (ea := ea) (eb := eb) (k := b) hct h) i
      have he4 := hB (7 * ea i + eb i)
      refine lv_aload_n hx hb dX0_findWays_58 rfl (lv_at hl 0 rfl) ?_
      refine s_get0 X hP 0 rfl 0 (by decide) q27 rfl rfl dX0_findWays_59 ?_
      refine lv_iload_n hx hb dX0_findWays_62 rfl (lv_at hl 1 rfl) ?_
      refine s_ild X hP 1 0 rfl rfl (k := i) (by omega) (by decide) dX0_findWays_63 ?_
      refine lv_istore_n (lv' := [(2, .int (nI (ea i))), (0, .ref (Q 0)), (1, .int (nI i))]) hx hb dX0_findWays_64 rfl hl (by decide) rfl (fun ls hl => ?_)
      refine lv_aload_n hx hb dX0_findWays_65 rfl (lv_at hl 1 rfl) ?_
      refine s_get0 X hP 0 rfl 1 (by decide) q28 rfl rfl dX0_findWays_66 ?_
      refine lv_iload_n hx hb dX0_findWays_69 rfl (lv_at hl 2 rfl) ?_
      refine s_ild X hP 2 0 rfl rfl (k := i) (by omega) (by decide) dX0_findWays_70 ?_
      refine lv_istore_n (lv' := [(3, .int (nI (eb i))), (2, .int (nI (ea i))), (0, .ref (Q 0)), (1, .int (nI i))]) hx hb dX0_findWays_71 rfl hl (by decide) rfl (fun ls hl => ?_)
      refine lv_aload_n hx hb dX0_findWays_72 rfl (lv_at hl 2 rfl) ?_
      refine s_get0 X hP 0 rfl 4 (by decide) q31 rfl rfl dX0_findWays_73 ?_
      refine lv_iload_n hx hb dX0_findWays_76 rfl (lv_at hl 3 rfl) ?_
      refine s_ild X hP 4 0 rfl rfl (k := i) (by omega) (by decide) dX0_findWays_77 ?_
      refine lv_aload_n hx hb dX0_findWays_78 rfl (lv_at hl 2 rfl) ?_
      refine s_get0 X hP 0 rfl 5 (by decide) q32 rfl rfl dX0_findWays_79 ?_
      refine lv_bipush (v := nI 7) hx hb dX0_findWays_82 (by decide) ?_
      refine lv_iload_n hx hb dX0_findWays_84 rfl (lv_at hl 1 rfl) ?_
      refine lv_imul hx hb dX0_findWays_85 ?_
      refine s_top (nI (7 * (ea i))) (pk_mul _ _) ?_
      refine lv_iload_n hx hb dX0_findWays_86 rfl (lv_at hl 0 rfl) ?_
      refine lv_iadd hx hb dX0_findWays_87 ?_
      refine s_top (nI ((7 * (ea i)) + (eb i))) (nI_add _ _) ?_
      refine s_ild X hP 5 0 rfl rfl (k := (7 * (ea i)) + (eb i)) (by omega) (by decide) dX0_findWays_88 ?_
      refine s_cge X (x := ct i) (y := w1 ((7 * (ea i)) + (eb i))) (by omega) (by omega) (tgt := 126) dX0_findWays_89 (by decide) (fun c_2 => ?_) (fun c_2 => ?_)
      · refine lv_iinc (v := (nI (i + 1))) (lv' := [(1, .int (nI (i + 1))), (3, .int (nI (eb i))), (2, .int (nI (ea i))), (0, .ref (Q 0))]) hx hb dX0_findWays_126 hl (k := 3) rfl (nI_1 _) (by decide) rfl (fun ls hl => ?_)
        refine lv_goto (tgt := 52) hx hb dX0_findWays_129 (by decide) ?_
        exact ih (i + 1) (by omega) (by omega) _ _ _ (by rw [st_wL1f hg c_2]; exact ⟨hP, hD, hS⟩) (lv_sub hl [3, 0] rfl)
      · refine lv_aload_n hx hb dX0_findWays_92 rfl (lv_at hl 2 rfl) ?_
        refine s_get0 X hP 0 rfl 5 (by decide) q32 rfl rfl dX0_findWays_93 ?_
        refine lv_bipush (v := nI 7) hx hb dX0_findWays_96 (by decide) ?_
        refine lv_iload_n hx hb dX0_findWays_98 rfl (lv_at hl 1 rfl) ?_
        refine lv_imul hx hb dX0_findWays_99 ?_
        refine s_top (nI (7 * (ea i))) (pk_mul _ _) ?_
        refine lv_iload_n hx hb dX0_findWays_100 rfl (lv_at hl 0 rfl) ?_
        refine lv_iadd hx hb dX0_findWays_101 ?_
        refine s_top (nI ((7 * (ea i)) + (eb i))) (nI_add _ _) ?_
        refine lv_aload_n hx hb dX0_findWays_102 rfl (lv_at hl 2 rfl) ?_
        refine s_get0 X hP 0 rfl 4 (by decide) q31 rfl rfl dX0_findWays_103 ?_
        refine lv_iload_n hx hb dX0_findWays_106 rfl (lv_at hl 3 rfl) ?_
        refine s_ild X hP 4 0 rfl rfl (k := i) (by omega) (by decide) dX0_findWays_107 ?_
        refine s_ist X hP hD hS 5 0 rfl rfl (k := (7 * (ea i)) + (eb i)) (v := ct i) (by omega) (by decide) dX0_findWays_108 (fun H locs hP hD hS => ?_)
        have hP : va_P (dC, dI) vwCl (nW dA Q ea eb pr mk ct (va_up w1 ((7 * (ea i)) + (eb i)) (ct i)) pt wc wd kn bp bs) H := hP
        have hD : va_D A (nW dA Q ea eb pr mk ct (va_up w1 ((7 * (ea i)) + (eb i)) (ct i)) pt wc wd kn bp bs) := hD
        refine lv_aload_n hx hb dX0_findWays_109 rfl (lv_at hl 2 rfl) ?_
        refine s_get0 X hP 0 rfl 5 (by decide) q32 rfl rfl dX0_findWays_110 ?_
        refine lv_bipush (v := nI 7) hx hb dX0_findWays_113 (by decide) ?_
        refine lv_iload_n hx hb dX0_findWays_115 rfl (lv_at hl 0 rfl) ?_
        refine lv_imul hx hb dX0_findWays_116 ?_
        refine s_top (nI (7 * (eb i))) (pk_mul _ _) ?_
        refine lv_iload_n hx hb dX0_findWays_117 rfl (lv_at hl 1 rfl) ?_
        refine lv_iadd hx hb dX0_findWays_118 ?_
        refine s_top (nI ((7 * (eb i)) + (ea i))) (nI_add _ _) ?_
        refine lv_aload_n hx hb dX0_findWays_119 rfl (lv_at hl 2 rfl) ?_
        refine s_get0 X hP 0 rfl 4 (by decide) q31 rfl rfl dX0_findWays_120 ?_
        refine lv_iload_n hx hb dX0_findWays_123 rfl (lv_at hl 3 rfl) ?_
        refine s_ild X hP 4 0 rfl rfl (k := i) (by omega) (by decide) dX0_findWays_124 ?_
        refine s_ist X hP hD hS 5 0 rfl rfl (k := (7 * (eb i)) + (ea i)) (v := ct i) (by omega) (by decide) dX0_findWays_125 (fun H locs hP hD hS => ?_)
        have hP : va_P (dC, dI) vwCl (nW dA Q ea eb pr mk ct (va_up (va_up w1 ((7 * (ea i)) + (eb i)) (ct i)) ((7 * (eb i)) + (ea i)) (ct i)) pt wc wd kn bp bs) H := hP
        have hD : va_D A (nW dA Q ea eb pr mk ct (va_up (va_up w1 ((7 * (ea i)) + (eb i)) (ct i)) ((7 * (eb i)) + (ea i)) (ct i)) pt wc wd kn bp bs) := hD
        refine lv_iinc (v := (nI (i + 1))) (lv' := [(1, .int (nI (i + 1))), (3, .int (nI (eb i))), (2, .int (nI (ea i))), (0, .ref (Q 0))]) hx hb dX0_findWays_126 hl (k := 3) rfl (nI_1 _) (by decide) rfl (fun ls hl => ?_)
        refine lv_goto (tgt := 52) hx hb dX0_findWays_129 (by decide) ?_
        exact ih (i + 1) (by omega) (by omega) _ _ _ (by rw [st_wL1t hg c_2]; exact ⟨hP, hD, hS⟩) (lv_sub hl [3, 0] rfl)

set_option maxHeartbeats 4000000 in
set_option maxRecDepth 100000 in
theorem lp_ways4 (X : Cx p c cX0_findWays 4 s m args RX0 dC dI (tyz dA dZ)) (hA : ∀ q : Nat, H0.size ≤ q → A q) (hwy : sg_B 100000 wy) (K : ∀ (H : Heap) (locs : List Loc) (ls : Array Slot), sWd dC dI A H0 (nW dA Q ea eb pr mk ct (sg_it sg_wS 7 wy) pt wc wd kn bp bs) H locs → lv_has ls 4 [(0, .ref (Q 0))] → W p l e (headSpec (ws_ yX0_findWays cX0_findWays 4 none) ({ frames := 1, cells := 0, slots := 0, locals := 24 })).room s m args below meth c H locs 0 0 Qp (F0 m 151 ls [])) : ∀ (n i : Nat), i ≤ 7 → 7 < i + n → ∀ (H : Heap) (locs : List Loc) (ls : Array Slot), sWd dC dI A H0 (nW dA Q ea eb pr mk ct (sg_it sg_wS i wy) pt wc wd kn bp bs) H locs → lv_has ls 4 [(0, .ref (Q 0)), (1, .int (nI i))] → W p l e (headSpec (ws_ yX0_findWays cX0_findWays 4 none) ({ frames := 1, cells := 0, slots := 0, locals := 24 })).room s m args below meth c H locs 0 0 Qp (F0 m 134 ls []) := by
  have hx := X.1.1
  have hb := X.1.2.1
  have hown := X.1.2.2.2.1
  have hts := X.1.2.2.2.2
  intro n
  induction n with
  | zero => intro i h1 h2; omega
  | succ n ih =>
    intro i h1 h2 H locs ls hW hl
    obtain ⟨hP, hD, hS⟩ := hW
    generalize hg : sg_it sg_wS i wy = w1 at hP hD
    refine lv_iload_n hx hb dX0_findWays_134 rfl (lv_at hl 1 rfl) ?_
    refine lv_bipush (v := nI 7) hx hb dX0_findWays_135 (by decide) ?_
    refine s_cge X (x := i) (y := 7) (by omega) (by omega) (tgt := 151) dX0_findWays_137 (by decide) (fun c_1 => ?_) (fun c_1 => ?_)
    · have hi_ : i = 7 := by omega
      subst hi_
      exact K _ _ _ (by rw [hg]; exact ⟨hP, hD, hS⟩) (lv_sub hl [0] rfl)
    · refine lv_aload_n hx hb dX0_findWays_140 rfl (lv_at hl 0 rfl) ?_
      refine lv_iload_n hx hb dX0_findWays_141 rfl (lv_at hl 1 rfl) ?_
      refine s_callvV (wr := []) (rest := []) X (met_shortenOver l dC dI dA dZ Q ea eb pr mk ct w1 pt wc wd kn bp bs i (by omega) (by rw [← hg]; exact sg_B_it hwy (fun b y (h : sg_B 100000 y) => sg_wS_B (m := b) h) i)) (cwV 1 hts (lw_V q105 q107 qs5 q17 q108) rfl rfl rfl (by decide +kernel) ⟨Nat.le_of_ble_eq_true rfl, Nat.le_of_ble_eq_true rfl⟩) ⟨Nat.zero_le _, Nat.zero_le _⟩ hP hD hS hA [0, 1, 2, 3, 4, 5, 6, 7] [] rfl rfl rfl rfl (by decide) 0 rfl rfl rfl hl.1 rfl rfl (Nat.le_of_ble_eq_true rfl) dX0_findWays_142 (fun u H locs hpost hP hD hS => ?_)
      have hP : va_P (dC, dI) vwCl (nW dA Q ea eb pr mk ct (sg_wS i w1) pt wc wd kn bp bs) H := hP
      have hD : va_D A (nW dA Q ea eb pr mk ct (sg_wS i w1) pt wc wd kn bp bs) := hD
      refine lv_iinc (v := (nI (i + 1))) (lv' := [(1, .int (nI (i + 1))), (0, .ref (Q 0))]) hx hb dX0_findWays_145 hl (k := 1) rfl (nI_1 _) (by decide) rfl (fun ls hl => ?_)
      refine lv_goto (tgt := 134) hx hb dX0_findWays_148 (by decide) ?_
      exact ih (i + 1) (by omega) (by omega) _ _ _ (by rw [st_wS hg]; exact ⟨hP, hD, hS⟩) (lv_sub hl [1, 0] rfl)

set_option maxHeartbeats 4000000 in
set_option maxRecDepth 100000 in
theorem met_findWays (l : Launch) (dC : Nat → ClassId) (dI : Nat → Nat → Nat) (dA dZ : ClassId) (Q : Nat → Nat) (ea eb pr : Nat → Nat) (mk : Nat) (ct wy pt : Nat → Nat) (wc : Nat) (wd : Nat → Nat) (kn : Nat) (bp : Int32) (bs : Nat) (hea : ∀ k, ea k < 7) (heb : ∀ k, eb k < 7) (hct : sg_B 100000 ct) (hwy : sg_B 100000 wy) : sMv l yX0_findWays cX0_findWays 4 ({ frames := 1, cells := 0, slots := 0, locals := 24 }) dC dI (tyz dA dZ) [.ref (Q 0)] (nW dA Q ea eb pr mk ct wy pt wc wd kn bp bs) (fun _ : Unit => True) (fun _ => nW dA Q ea eb pr mk ct (sg_W ea eb ct wy) pt wc wd kn bp bs) := by
  refine sMv_of (by decide) (Nat.le_of_ble_eq_true rfl) ?_
  intro p e s m below meth c A ls X hr hlocks hA hP hD hS hl
  have hl : lv_has ls 4 [(0, .ref (Q 0))] := hl
  have hx := X.1.1
  have hb := X.1.2.1
  have hown := X.1.2.2.2.1
  have hts := X.1.2.2.2.2
  refine lv_iconst (v := nI 0) hx hb dX0_findWays_0 (by decide) ?_
  refine lv_istore_n (lv' := [(1, .int (nI 0)), (0, .ref (Q 0))]) hx hb dX0_findWays_1 rfl hl (by decide) rfl (fun ls hl => ?_)
  refine lp_ways2 (wy := wy) X  (fun H locs ls hW hl => ?_) 8 0 (by omega) (by omega) _ _ _ (by rw [sg_it_0]; exact ⟨hP, hD, hS⟩) (lv_sub hl [1, 0] rfl)
  obtain ⟨hP, hD, hS⟩ := hW
  have hP : va_P (dC, dI) vwCl (nW dA Q ea eb pr mk ct (sg_wI wy) pt wc wd kn bp bs) H := hP
  have hD : va_D A (nW dA Q ea eb pr mk ct (sg_wI wy) pt wc wd kn bp bs) := hD
  refine lv_iconst (v := nI 0) hx hb dX0_findWays_50 (by decide) ?_
  refine lv_istore_n (lv' := [(1, .int (nI 0)), (0, .ref (Q 0))]) hx hb dX0_findWays_51 rfl hl (by decide) rfl (fun ls hl => ?_)
  refine lp_ways3 (wy := sg_wI wy) X hea heb hct (sg_wI_B hwy) (fun H locs ls hW hl => ?_) 11 0 (by omega) (by omega) _ _ _ (by rw [sg_it_0]; exact ⟨hP, hD, hS⟩) (lv_sub hl [1, 0] rfl)
  obtain ⟨hP, hD, hS⟩ := hW
  have hP : va_P (dC, dI) vwCl (nW dA Q ea eb pr mk ct (sg_wL ea eb ct (sg_wI wy)) pt wc wd kn bp bs) H := hP
  have hD : va_D A (nW dA Q ea eb pr mk ct (sg_wL ea eb ct (sg_wI wy)) pt wc wd kn bp bs) := hD
  refine lv_iconst (v := nI 0) hx hb dX0_findWays_132 (by decide) ?_
  refine lv_istore_n (lv' := [(1, .int (nI 0)), (0, .ref (Q 0))]) hx hb dX0_findWays_133 rfl hl (by decide) rfl (fun ls hl => ?_)
  refine lp_ways4 (wy := sg_wL ea eb ct (sg_wI wy)) X hA (sg_wL_B hct (sg_wI_B hwy)) (fun H locs ls hW hl => ?_) 8 0 (by omega) (by omega) _ _ _ (by rw [sg_it_0]; exact ⟨hP, hD, hS⟩) (lv_sub hl [1, 0] rfl)
  obtain ⟨hP, hD, hS⟩ := hW
  have hP : va_P (dC, dI) vwCl (nW dA Q ea eb pr mk ct (sg_W ea eb ct wy) pt wc wd kn bp bs) H := hP
  have hD : va_D A (nW dA Q ea eb pr mk ct (sg_W ea eb ct wy) pt wc wd kn bp bs) := hD
  exact s_vret X hr hlocks () (trivial) hP hD hS dX0_findWays_151

end NET2
end
section
section NET2
variable {p : Program} {l : Launch} {e : Env} {R : Room} {s : State} {m : MethodId} {args : Array Value} {below : List Frame} {meth : Method} {c : Code} {cells slots : Nat} {Qp : State → Prop} {dC : Nat → ClassId} {dI : Nat → Nat → Nat} {dA dZ : ClassId} {A : Nat → Prop} {H0 : Heap} {Q : Nat → Nat}
variable {ea eb pr : Nat → Nat} {mk : Nat} {ct wy pt : Nat → Nat} {wc : Nat} {wd : Nat → Nat} {kn : Nat} {bp : Int32} {bs : Nat}
set_option maxHeartbeats 4000000 in
set_option maxRecDepth 100000 in
theorem lp_least1 (X : Cx p c cX0_leastFor 4 s m args RX0 dC dI (tyz dA dZ)) (pts : Nat) (hpts : pts < 128) (hwd : ∀ k, wd k < 7) (K : ∀ (H : Heap) (locs : List Loc) (ls : Array Slot), sWd dC dI A H0 (nW dA Q ea eb pr mk ct wy pt ((sg_q pts 7 wd).1) ((sg_q pts 7 wd).2) kn bp bs) H locs → lv_has ls 4 [(0, .ref (Q 0)), (1, .int (nI pts))] → W p l e R s m args below meth c H locs cells slots Qp (F0 m 47 ls [])) : ∀ (n i : Nat), i ≤ 7 → 7 < i + n → ∀ (H : Heap) (locs : List Loc) (ls : Array Slot), sWd dC dI A H0 (nW dA Q ea eb pr mk ct wy pt ((sg_q pts i wd).1) ((sg_q pts i wd).2) kn bp bs) H locs → lv_has ls 4 [(0, .ref (Q 0)), (1, .int (nI pts)), (2, .int (nI i))] → W p l e R s m args below meth c H locs cells slots Qp (F0 m 7 ls []) := by
  have hx := X.1.1
  have hb := X.1.2.1
  have hown := X.1.2.2.2.1
  have hts := X.1.2.2.2.2
  intro n
  induction n with
  | zero => intro i h1 h2; omega
  | succ n ih =>
    intro i h1 h2 H locs ls hW hl
    obtain ⟨hP, hD, hS⟩ := hW
    generalize hg : sg_q pts i wd = z at hP hD
    refine lv_iload_n hx hb dX0_leastFor_7 rfl (lv_at hl 2 rfl) ?_
    refine lv_bipush (v := nI 7) hx hb dX0_leastFor_8 (by decide) ?_
    refine s_cge X (x := i) (y := 7) (by omega) (by omega) (tgt := 47) dX0_leastFor_10 (by decide) (fun c_1 => ?_) (fun c_1 => ?_)
    · have hi_ : i = 7 := by omega
      subst hi_
      exact K _ _ _ (by rw [hg]; exact ⟨hP, hD, hS⟩) (lv_sub hl [0, 1] rfl)
    · have hq1 : z.1 ≤ i := by rw [← hg]; exact (sg_q_spec pts hwd i (by omega)).1
      have htb := Bool.toNat_lt (pts.testBit i)
      refine lv_iload_n hx hb dX0_leastFor_13 rfl (lv_at hl 1 rfl) ?_
      refine lv_iload_n hx hb dX0_leastFor_14 rfl (lv_at hl 2 rfl) ?_
      refine lv_iushr hx hb dX0_leastFor_15 rfl ?_
      refine lv_iconst (v := nI 1) hx hb dX0_leastFor_16 (by decide) ?_
      refine lv_iand hx hb dX0_leastFor_17 ?_
      refine s_top (nI ((pts.testBit i).toNat)) (s_bitU (by omega) (by omega)) ?_
      refine s_ieq X (x := (pts.testBit i).toNat) (by omega) (tgt := 41) dX0_leastFor_18 (by decide) (fun c_2 => ?_) (fun c_2 => ?_)
      · refine lv_iinc (v := (nI (i + 1))) (lv' := [(2, .int (nI (i + 1))), (0, .ref (Q 0)), (1, .int (nI pts))]) hx hb dX0_leastFor_41 hl (k := 2) rfl (nI_1 _) (by decide) rfl (fun ls hl => ?_)
        refine lv_goto (tgt := 7) hx hb dX0_leastFor_44 (by decide) ?_
        exact ih (i + 1) (by omega) (by omega) _ _ _ (by rw [st_q1f hg (s_tb0 c_2)]; exact ⟨hP, hD, hS⟩) (lv_sub hl [1, 2, 0] rfl)
      · refine lv_aload_n hx hb dX0_leastFor_21 rfl (lv_at hl 0 rfl) ?_
        refine s_get0 X hP 0 rfl 8 (by decide) q35 rfl rfl dX0_leastFor_22 ?_
        refine lv_aload_n hx hb dX0_leastFor_25 rfl (lv_at hl 0 rfl) ?_
        refine s_get0 X hP 0 rfl 7 (by decide) q34 rfl rfl dX0_leastFor_26 ?_
        refine lv_iload_n hx hb dX0_leastFor_29 rfl (lv_at hl 2 rfl) ?_
        refine s_ist X hP hD hS 7 0 rfl rfl (k := z.1) (v := i) (by omega) (by decide) dX0_leastFor_30 (fun H locs hP hD hS => ?_)
        have hP : va_P (dC, dI) vwCl (nW dA Q ea eb pr mk ct wy pt z.1 (va_up z.2 z.1 i) kn bp bs) H := hP
        have hD : va_D A (nW dA Q ea eb pr mk ct wy pt z.1 (va_up z.2 z.1 i) kn bp bs) := hD
        refine lv_aload_n hx hb dX0_leastFor_31 rfl (lv_at hl 0 rfl) ?_
        refine lv_dup hx hb dX0_leastFor_32 rfl ?_
        refine s_get0 X hP 0 rfl 7 (by decide) q34 rfl rfl dX0_leastFor_33 ?_
        refine lv_iconst (v := nI 1) hx hb dX0_leastFor_36 (by decide) ?_
        refine lv_iadd hx hb dX0_leastFor_37 ?_
        refine s_top (nI (z.1 + 1)) (nI_add _ _) ?_
        refine s_put0 X hP hD hS 0 rfl 7 (by decide) q34 rfl rfl rfl rfl (Nat.le_of_ble_eq_true rfl) dX0_leastFor_38 (fun H locs hP hD hS => ?_)
        have hP : va_P (dC, dI) vwCl (nW dA Q ea eb pr mk ct wy pt (z.1 + 1) (va_up z.2 z.1 i) kn bp bs) H := hP
        have hD : va_D A (nW dA Q ea eb pr mk ct wy pt (z.1 + 1) (va_up z.2 z.1 i) kn bp bs) := hD
        refine lv_iinc (v := (nI (i + 1))) (lv' := [(2, .int (nI (i + 1))), (0, .ref (Q 0)), (1, .int (nI pts))]) hx hb dX0_leastFor_41 hl (k := 2) rfl (nI_1 _) (by decide) rfl (fun ls hl => ?_)
        refine lv_goto (tgt := 7) hx hb dX0_leastFor_44 (by decide) ?_
        exact ih (i + 1) (by omega) (by omega) _ _ _ (by rw [st_q1t hg (s_tb1 c_2)]; exact ⟨hP, hD, hS⟩) (lv_sub hl [1, 2, 0] rfl)

end NET2
end
section
section NET2
variable {p : Program} {l : Launch} {e : Env} {R : Room} {s : State} {m : MethodId} {args : Array Value} {below : List Frame} {meth : Method} {c : Code} {cells slots : Nat} {Qp : State → Prop} {dC : Nat → ClassId} {dI : Nat → Nat → Nat} {dA dZ : ClassId} {A : Nat → Prop} {H0 : Heap} {Q : Nat → Nat}
variable {ea eb pr : Nat → Nat} {mk : Nat} {ct wy pt : Nat → Nat} {wc : Nat} {wd : Nat → Nat} {kn : Nat} {bp : Int32} {bs : Nat}
set_option maxHeartbeats 4000000 in
set_option maxRecDepth 100000 in
theorem lp_least2 (X : Cx p c cX0_leastFor 4 s m args RX0 dC dI (tyz dA dZ)) (hA : ∀ q : Nat, H0.size ≤ q → A q) (pts W0 : Nat) (hW0 : W0 < 7) (hwd : ∀ k, wd k < 7) (hwy : sg_B 100000 wy) (hpt : sg_B 100000 pt) (K : ∀ (H : Heap) (locs : List Loc) (ls : Array Slot), sWd dC dI A H0 (nW dA Q ea eb pr mk ct wy (sg_pA wy wd W0 (2 ^ W0 - 1) pt) (W0 + 1) wd kn bp bs) H locs → lv_has ls 4 [(0, .ref (Q 0)), (1, .int (nI pts)), (2, .int (nI (2 ^ W0)))] → W p l e (headSpec (ws_ yX0_leastFor cX0_leastFor 4 (some .int)) ({ frames := 2, cells := 0, slots := 0, locals := 47 })).room s m args below meth c H locs 0 0 Qp (F0 m 98 ls [])) : ∀ (n i : Nat), i ≤ 2 ^ W0 - 1 → 2 ^ W0 - 1 < i + n → ∀ (H : Heap) (locs : List Loc) (ls : Array Slot), sWd dC dI A H0 (nW dA Q ea eb pr mk ct wy (sg_pA wy wd W0 i pt) (W0 + 1) wd kn bp bs) H locs → lv_has ls 4 [(0, .ref (Q 0)), (1, .int (nI pts)), (2, .int (nI (2 ^ W0))), (3, .int (nI (i + 1)))] → W p l e (headSpec (ws_ yX0_leastFor cX0_leastFor 4 (some .int)) ({ frames := 2, cells := 0, slots := 0, locals := 47 })).room s m args below meth c H locs 0 0 Qp (F0 m 72 ls []) := by
  have hx := X.1.1
  have hb := X.1.2.1
  have hown := X.1.2.2.2.1
  have hts := X.1.2.2.2.2
  intro n
  induction n with
  | zero => intro i h1 h2; omega
  | succ n ih =>
    intro i h1 h2 H locs ls hW hl
    obtain ⟨hP, hD, hS⟩ := hW
    generalize hg : sg_pA wy wd W0 i pt = w1 at hP hD
    have h64 : 2 ^ W0 ≤ 2 ^ 6 := Nat.pow_le_pow_right (by omega) (by omega)
    have h1p := Nat.two_pow_pos W0
    have hB : sg_B 100000 w1 := by rw [← hg]; exact sg_pA_B hpt i
    refine lv_iload_n hx hb dX0_leastFor_72 rfl (lv_at hl 3 rfl) ?_
    refine lv_iload_n hx hb dX0_leastFor_73 rfl (lv_at hl 2 rfl) ?_
    refine s_cge X (x := i + 1) (y := 2 ^ W0) (by omega) (by omega) (tgt := 98) dX0_leastFor_74 (by decide) (fun c_1 => ?_) (fun c_1 => ?_)
    · have hi_ : i = 2 ^ W0 - 1 := by omega
      subst hi_
      exact K _ _ _ (by rw [hg]; exact ⟨hP, hD, hS⟩) (lv_sub hl [0, 1, 2] rfl)
    · refine lv_aload_n hx hb dX0_leastFor_77 rfl (lv_at hl 0 rfl) ?_
      refine lv_iload_n hx hb dX0_leastFor_78 rfl (lv_at hl 3 rfl) ?_
      refine s_callvV (wr := []) (rest := []) X (met_startPart l dC dI dA dZ Q ea eb pr mk ct wy w1 (W0 + 1) wd kn bp bs (i + 1) W0 (by omega) hW0 hwd) (cwV 1 hts (lw_V q109 q111 qs6 q17 q112) rfl rfl rfl (by decide +kernel) ⟨Nat.le_of_ble_eq_true rfl, Nat.le_of_ble_eq_true rfl⟩) ⟨Nat.zero_le _, Nat.zero_le _⟩ hP hD hS hA [0, 1, 2, 3, 4, 5, 6, 7] [] rfl rfl rfl rfl (by decide) 0 rfl rfl rfl hl.1 rfl rfl (Nat.le_of_ble_eq_true rfl) dX0_leastFor_79 (fun u H locs hpost hP hD hS => ?_)
      have hP : va_P (dC, dI) vwCl (nW dA Q ea eb pr mk ct wy (sg_pS wd W0 (i + 1) w1) (W0 + 1) wd kn bp bs) H := hP
      have hD : va_D A (nW dA Q ea eb pr mk ct wy (sg_pS wd W0 (i + 1) w1) (W0 + 1) wd kn bp bs) := hD
      refine lv_aload_n hx hb dX0_leastFor_82 rfl (lv_at hl 0 rfl) ?_
      refine lv_iload_n hx hb dX0_leastFor_83 rfl (lv_at hl 3 rfl) ?_
      refine s_callvV (wr := []) (rest := []) X (met_joinParts l dC dI dA dZ Q ea eb pr mk ct wy (sg_pS wd W0 (i + 1) w1) (W0 + 1) wd kn bp bs (i + 1) (by omega) (by omega) (sg_pS_B hB)) (cwV 1 hts (lw_V q113 q115 qs7 q17 q116) rfl rfl rfl (by decide +kernel) ⟨Nat.le_of_ble_eq_true rfl, Nat.le_of_ble_eq_true rfl⟩) ⟨Nat.zero_le _, Nat.zero_le _⟩ hP hD hS hA [0, 1, 2, 3, 4, 5, 6, 7] [] rfl rfl rfl rfl (by decide) 0 rfl rfl rfl hl.1 rfl rfl (Nat.le_of_ble_eq_true rfl) dX0_leastFor_84 (fun u H locs hpost hP hD hS => ?_)
      have hP : va_P (dC, dI) vwCl (nW dA Q ea eb pr mk ct wy (sg_pJ (i + 1) (sg_pS wd W0 (i + 1) w1)) (W0 + 1) wd kn bp bs) H := hP
      have hD : va_D A (nW dA Q ea eb pr mk ct wy (sg_pJ (i + 1) (sg_pS wd W0 (i + 1) w1)) (W0 + 1) wd kn bp bs) := hD
      refine lv_aload_n hx hb dX0_leastFor_87 rfl (lv_at hl 0 rfl) ?_
      refine lv_iload_n hx hb dX0_leastFor_88 rfl (lv_at hl 3 rfl) ?_
      refine s_callvV (wr := []) (rest := []) X (met_carryPart l dC dI dA dZ Q ea eb pr mk ct wy (sg_pJ (i + 1) (sg_pS wd W0 (i + 1) w1)) (W0 + 1) wd kn bp bs (i + 1) (by omega) hwy (sg_pJi_B (sg_pS_B hB) _)) (cwV 1 hts (lw_V q117 q119 qs8 q17 q120) rfl rfl rfl (by decide +kernel) ⟨Nat.le_of_ble_eq_true rfl, Nat.le_of_ble_eq_true rfl⟩) ⟨Nat.zero_le _, Nat.zero_le _⟩ hP hD hS hA [0, 1, 2, 3, 4, 5, 6, 7] [] rfl rfl rfl rfl (by decide) 0 rfl rfl rfl hl.1 rfl rfl (Nat.le_of_ble_eq_true rfl) dX0_leastFor_89 (fun u H locs hpost hP hD hS => ?_)
      have hP : va_P (dC, dI) vwCl (nW dA Q ea eb pr mk ct wy (sg_pC wy (i + 1) (sg_pJ (i + 1) (sg_pS wd W0 (i + 1) w1))) (W0 + 1) wd kn bp bs) H := hP
      have hD : va_D A (nW dA Q ea eb pr mk ct wy (sg_pC wy (i + 1) (sg_pJ (i + 1) (sg_pS wd W0 (i + 1) w1))) (W0 + 1) wd kn bp bs) := hD
      refine lv_iinc (v := (nI ((i + 1) + 1))) (lv' := [(3, .int (nI ((i + 1) + 1))), (0, .ref (Q 0)), (1, .int (nI pts)), (2, .int (nI (2 ^ W0)))]) hx hb dX0_leastFor_92 hl (k := 3) rfl (nI_1 _) (by decide) rfl (fun ls hl => ?_)
      refine lv_goto (tgt := 72) hx hb dX0_leastFor_95 (by decide) ?_
      exact ih (i + 1) (by omega) (by omega) _ _ _ (by rw [st_pA hg]; exact ⟨hP, hD, hS⟩) (lv_sub hl [1, 2, 3, 0] rfl)

end NET2
end
section
section NET2
variable {p : Program} {l : Launch} {e : Env} {R : Room} {s : State} {m : MethodId} {args : Array Value} {below : List Frame} {meth : Method} {c : Code} {cells slots : Nat} {Qp : State → Prop} {dC : Nat → ClassId} {dI : Nat → Nat → Nat} {dA dZ : ClassId} {A : Nat → Prop} {H0 : Heap} {Q : Nat → Nat}
variable {ea eb pr : Nat → Nat} {mk : Nat} {ct wy pt : Nat → Nat} {wc : Nat} {wd : Nat → Nat} {kn : Nat} {bp : Int32} {bs : Nat}
set_option maxHeartbeats 4000000 in
set_option maxRecDepth 100000 in
theorem met_leastFor (l : Launch) (dC : Nat → ClassId) (dI : Nat → Nat → Nat) (dA dZ : ClassId) (Q : Nat → Nat) (ea eb pr : Nat → Nat) (mk : Nat) (ct wy pt : Nat → Nat) (wc : Nat) (wd : Nat → Nat) (kn : Nat) (bp : Int32) (bs : Nat) (pts : Nat) (hpts : pts < 128) (hea : ∀ k, ea k < 7) (heb : ∀ k, eb k < 7) (hct : sg_B 100000 ct) (hwy : sg_B 100000 wy) (hpt : sg_B 100000 pt) (hwd : ∀ k, wd k < 7) : sMi l yX0_leastFor cX0_leastFor 4 (some .int) ({ frames := 2, cells := 0, slots := 0, locals := 47 }) dC dI (tyz dA dZ) [.ref (Q 0), .int (nI pts)] (nW dA Q ea eb pr mk ct wy pt wc wd kn bp bs) (fun (r : Int32) (u : (Nat → Nat) × (Nat → Nat) × Nat × (Nat → Nat)) => ∃ L, r = nI L ∧ sg_L ea eb ct pts L ∧ sg_B 100000 u.1 ∧ sg_B 100000 u.2.1 ∧ u.2.2.1 ≤ 7 ∧ ∀ k, u.2.2.2 k < 7) (fun u => nW dA Q ea eb pr mk ct u.1 u.2.1 u.2.2.1 u.2.2.2 kn bp bs) := by
  refine sMi_of (by decide) (Nat.le_of_ble_eq_true rfl) ?_
  intro p e s m below meth c A ls X hr hlocks hA hP hD hS hl
  have hl : lv_has ls 4 [(0, .ref (Q 0)), (1, .int (nI pts))] := hl
  have hx := X.1.1
  have hb := X.1.2.1
  have hown := X.1.2.2.2.1
  have hts := X.1.2.2.2.2
  refine lv_aload_n hx hb dX0_leastFor_0 rfl (lv_at hl 0 rfl) ?_
  refine lv_iconst (v := nI 0) hx hb dX0_leastFor_1 (by decide) ?_
  refine s_put0 X hP hD hS 0 rfl 7 (by decide) q34 rfl rfl rfl rfl (Nat.le_of_ble_eq_true rfl) dX0_leastFor_2 (fun H locs hP hD hS => ?_)
  have hP : va_P (dC, dI) vwCl (nW dA Q ea eb pr mk ct wy pt 0 wd kn bp bs) H := hP
  have hD : va_D A (nW dA Q ea eb pr mk ct wy pt 0 wd kn bp bs) := hD
  refine lv_iconst (v := nI 0) hx hb dX0_leastFor_5 (by decide) ?_
  refine lv_istore_n (lv' := [(2, .int (nI 0)), (0, .ref (Q 0)), (1, .int (nI pts))]) hx hb dX0_leastFor_6 rfl hl (by decide) rfl (fun ls hl => ?_)
  refine lp_least1 (wd := wd) X pts hpts hwd (fun H locs ls hW hl => ?_) 8 0 (by omega) (by omega) _ _ _ (by rw [sg_q_0]; exact ⟨hP, hD, hS⟩) (lv_sub hl [1, 2, 0] rfl)
  obtain ⟨hP, hD, hS⟩ := hW
  obtain ⟨g1, g2, g3, g4⟩ := sg_q_spec pts hwd 7 (Nat.le_refl 7)
  generalize sg_q pts 7 wd = z at hP hD g1 g2 g3 g4
  obtain ⟨wc1, wd1⟩ := z
  have g1 : wc1 ≤ 7 := g1
  have g2 : ∀ k, wd1 k < 7 := g2
  have g3 : ∀ k, k < wc1 → pts.testBit (wd1 k) = true := g3
  have g4 : ∀ p, p < 7 → pts.testBit p = true → ∃ k, k < wc1 ∧ wd1 k = p := g4
  have hP : va_P (dC, dI) vwCl (nW dA Q ea eb pr mk ct wy pt wc1 wd1 kn bp bs) H := hP
  have hD : va_D A (nW dA Q ea eb pr mk ct wy pt wc1 wd1 kn bp bs) := hD
  refine lv_aload_n hx hb dX0_leastFor_47 rfl (lv_at hl 0 rfl) ?_
  refine s_get0 X hP 0 rfl 7 (by decide) q34 rfl rfl dX0_leastFor_48 ?_
  refine lv_iconst (v := nI 2) hx hb dX0_leastFor_51 (by decide) ?_
  refine s_cge X (x := wc1) (y := 2) (by omega) (by omega) (tgt := 57) dX0_leastFor_52 (by decide) (fun c_1 => ?_) (fun c_1 => ?_)
  · obtain ⟨W0, rfl⟩ : ∃ W0, wc1 = W0 + 1 := ⟨wc1 - 1, by omega⟩
    have h64 : 2 ^ W0 ≤ 2 ^ 6 := Nat.pow_le_pow_right (by omega) (by omega)
    have h1p := Nat.two_pow_pos W0
    have hwW : wd1 W0 < 7 := g2 W0
    refine lv_aload_n hx hb dX0_leastFor_57 rfl (lv_at hl 0 rfl) ?_
    refine s_callvV (wr := []) (rest := []) X (met_findWays l dC dI dA dZ Q ea eb pr mk ct wy pt (W0 + 1) wd1 kn bp bs hea heb hct hwy) (cwV 0 hts (lw_V q101 q103 qs4 q17 q104) rfl rfl rfl (by decide +kernel) ⟨Nat.le_of_ble_eq_true rfl, Nat.le_of_ble_eq_true rfl⟩) ⟨Nat.zero_le _, Nat.zero_le _⟩ hP hD hS hA [0, 1, 2, 3, 4, 5, 6, 7] [] rfl rfl rfl rfl (by decide) 0 rfl rfl rfl hl.1 rfl rfl (Nat.le_of_ble_eq_true rfl) dX0_leastFor_58 (fun u H locs hpost hP hD hS => ?_)
    have hP : va_P (dC, dI) vwCl (nW dA Q ea eb pr mk ct (sg_W ea eb ct wy) pt (W0 + 1) wd1 kn bp bs) H := hP
    have hD : va_D A (nW dA Q ea eb pr mk ct (sg_W ea eb ct wy) pt (W0 + 1) wd1 kn bp bs) := hD
    have hWB := sg_W_B (ea := ea) (eb := eb) hct hwy
    generalize hgw : sg_W ea eb ct wy = wy1 at hP hD hWB
    refine lv_iconst (v := nI 1) hx hb dX0_leastFor_61 (by decide) ?_
    refine lv_aload_n hx hb dX0_leastFor_62 rfl (lv_at hl 0 rfl) ?_
    refine s_get0 X hP 0 rfl 7 (by decide) q34 rfl rfl dX0_leastFor_63 ?_
    refine lv_iconst (v := nI 1) hx hb dX0_leastFor_66 (by decide) ?_
    refine lv_isub hx hb dX0_leastFor_67 ?_
    refine s_top (nI W0) (pk_sub (by omega)) ?_
    refine lv_ishl hx hb dX0_leastFor_68 ?_
    refine s_top (nI (2 ^ W0)) (s_shl1 (by omega)) ?_
    refine lv_istore_n (lv' := [(2, .int (nI (2 ^ W0))), (0, .ref (Q 0)), (1, .int (nI pts))]) hx hb dX0_leastFor_69 rfl hl (by decide) rfl (fun ls hl => ?_)
    refine lv_iconst (v := nI 1) hx hb dX0_leastFor_70 (by decide) ?_
    refine lv_istore_n (lv' := [(3, .int (nI 1)), (2, .int (nI (2 ^ W0))), (0, .ref (Q 0)), (1, .int (nI pts))]) hx hb dX0_leastFor_71 rfl hl (by decide) rfl (fun ls hl => ?_)
    refine lp_least2 (pt := pt) X hA pts W0 (by omega) g2 hWB hpt (fun H locs ls hW hl => ?_) (2 ^ W0) 0 (by omega) (by omega) _ _ _ (by rw [sg_pA_0]; exact ⟨hP, hD, hS⟩) (lv_sub hl [2, 3, 1, 0] rfl)
    obtain ⟨hP, hD, hS⟩ := hW
    have hPB := sg_pA_B (wy := wy1) (wd := wd1) (W := W0) hpt (2 ^ W0 - 1)
    generalize hgp : sg_pA wy1 wd1 W0 (2 ^ W0 - 1) pt = pt1 at hP hD hPB
    have hfin : sg_L ea eb ct pts (pt1 (7 * (2 ^ W0 - 1) + wd1 W0)) := by
      rw [← hgp, ← hgw]
      exact sg_least_many hea heb hpts (by omega) g2 g3 g4 hpt
    refine lv_aload_n hx hb dX0_leastFor_98 rfl (lv_at hl 0 rfl) ?_
    refine s_get0 X hP 0 rfl 6 (by decide) q33 rfl rfl dX0_leastFor_99 ?_
    refine lv_bipush (v := nI 7) hx hb dX0_leastFor_102 (by decide) ?_
    refine lv_iload_n hx hb dX0_leastFor_104 rfl (lv_at hl 2 rfl) ?_
    refine lv_iconst (v := nI 1) hx hb dX0_leastFor_105 (by decide) ?_
    refine lv_isub hx hb dX0_leastFor_106 ?_
    refine s_top (nI ((2 ^ W0) - 1)) (pk_sub (by omega)) ?_
    refine lv_imul hx hb dX0_leastFor_107 ?_
    refine s_top (nI (7 * ((2 ^ W0) - 1))) (pk_mul _ _) ?_
    refine lv_aload_n hx hb dX0_leastFor_108 rfl (lv_at hl 0 rfl) ?_
    refine s_get0 X hP 0 rfl 8 (by decide) q35 rfl rfl dX0_leastFor_109 ?_
    refine lv_aload_n hx hb dX0_leastFor_112 rfl (lv_at hl 0 rfl) ?_
    refine s_get0 X hP 0 rfl 7 (by decide) q34 rfl rfl dX0_leastFor_113 ?_
    refine lv_iconst (v := nI 1) hx hb dX0_leastFor_116 (by decide) ?_
    refine lv_isub hx hb dX0_leastFor_117 ?_
    refine s_top (nI W0) (pk_sub (by omega)) ?_
    refine s_ild X hP 7 0 rfl rfl (k := W0) (by omega) (by decide) dX0_leastFor_118 ?_
    refine lv_iadd hx hb dX0_leastFor_119 ?_
    refine s_top (nI ((7 * ((2 ^ W0) - 1)) + (wd1 W0))) (nI_add _ _) ?_
    refine s_ild X hP 6 0 rfl rfl (k := (7 * ((2 ^ W0) - 1)) + (wd1 W0)) (by omega) (by decide) dX0_leastFor_120 ?_
    exact s_iret (r := (nI (pt1 ((7 * ((2 ^ W0) - 1)) + (wd1 W0))))) X hr hlocks (rfl) (wy1, pt1, W0 + 1, wd1) (⟨_, rfl, hfin, hWB, hPB, g1, g2⟩) hP hD hS dX0_leastFor_121
  · refine lv_iconst (v := nI 0) hx hb dX0_leastFor_55 (by decide) ?_
    exact s_iret (r := (nI 0)) X hr hlocks (rfl) (wy, pt, wc1, wd1) (⟨0, rfl, sg_least_few ea eb ct hpts c_1 g4, hwy, hpt, g1, g2⟩) hP hD hS dX0_leastFor_56

end NET2
end
section
/-! THE OPERATIONS, plain: what each answers, in the same words for the class and for the reference; each has one answer -/
abbrev aS : Type := (Nat → Nat) × (Nat → Nat) × (Nat → Nat) × Nat
abbrev nS : Type := (Nat → Nat) × (Nat → Nat) × (Nat → Nat) × Nat × (Nat → Nat) × (Nat → Nat) × (Nat → Nat) × Nat × (Nat → Nat) × Nat × Int32 × Nat
abbrev mS : Type := (Nat → Nat) × (Nat → Nat) × (Nat → Nat) × (Nat → Nat) × (Nat → Nat)
/-- what holds of the class's object between two calls -/
def nIv (ea eb pr : Nat → Nat) (mk : Nat) (ct wy pt : Nat → Nat) (wd : Nat → Nat) (kn : Nat) (bp : Int32) (bs : Nat) : Prop :=
  (∀ k, ea k < 7) ∧ (∀ k, eb k < 7) ∧ sg_B 100 pr ∧ mk < 128 ∧ sg_B 100000 ct ∧ sg_B 100000 wy ∧ sg_B 100000 pt ∧ (∀ k, wd k < 7) ∧ kn < 2 ∧ (kn = 1 → sg_BS ea eb pr mk bp bs)
def nIvU (u : nS) : Prop := nIv u.1 u.2.1 u.2.2.1 u.2.2.2.1 u.2.2.2.2.1 u.2.2.2.2.2.1 u.2.2.2.2.2.2.1 u.2.2.2.2.2.2.2.2.1 u.2.2.2.2.2.2.2.2.2.1 u.2.2.2.2.2.2.2.2.2.2.1 u.2.2.2.2.2.2.2.2.2.2.2
def nAb (u : nS) : aS := (u.1, u.2.1, u.2.2.1, u.2.2.2.1)
abbrev nWu (dA : ClassId) (Q : Nat → Nat) (u : nS) : va_W := nW dA Q u.1 u.2.1 u.2.2.1 u.2.2.2.1 u.2.2.2.2.1 u.2.2.2.2.2.1 u.2.2.2.2.2.2.1 u.2.2.2.2.2.2.2.1 u.2.2.2.2.2.2.2.2.1 u.2.2.2.2.2.2.2.2.2.1 u.2.2.2.2.2.2.2.2.2.2.1 u.2.2.2.2.2.2.2.2.2.2.2
/-- what holds of the reference's tables: they say the same lines and marks -/
def mRel (pr : Nat → Nat) (mk : Nat) (th pc mm : Nat → Nat) : Prop :=
  (∀ k, k < 10 → th k = if pr k = 0 then 0 else 1) ∧ (∀ k, k < 10 → pr k ≠ 0 → pc k = pr k) ∧ (∀ p, p < 7 → mm p = (mk.testBit p).toNat) ∧ sg_B 100 pc ∧ (∀ k, th k < 2) ∧ ∀ p, mm p < 2
def mIv (A : aS) (v : mS) : Prop := v.2.1 = A.1 ∧ v.2.2.1 = A.2.1 ∧ mRel A.2.2.1 A.2.2.2 v.1 v.2.2.2.1 v.2.2.2.2
abbrev mWv (dA dZ : ClassId) (Q : Nat → Nat) (v : mS) : va_W := mW dA dZ Q v.1 v.2.1 v.2.2.1 v.2.2.2.1 v.2.2.2.2
-- ===== a point, a line =====
def sp_T (x : Int32) (p : Nat) : Prop := p < 7 ∧ x = nI p
def sp_L (pr : Nat → Nat) (x : Int32) (k : Nat) : Prop := k < 10 ∧ x = nI k ∧ pr k ≠ 0
theorem sp_T_u {x : Int32} {p q : Nat} (h1 : sp_T x p) (h2 : sp_T x q) : p = q := by
  obtain ⟨a1, a2⟩ := h1
  obtain ⟨b1, b2⟩ := h2
  rw [a2] at b2
  exact (nI_eq (by omega) (by omega)).mp b2
theorem sp_L_u {pr : Nat → Nat} {x : Int32} {p q : Nat} (h1 : sp_L pr x p) (h2 : sp_L pr x q) : p = q := by
  obtain ⟨a1, a2, -⟩ := h1
  obtain ⟨b1, b2, -⟩ := h2
  rw [a2] at b2
  exact (nI_eq (by omega) (by omega)).mp b2
/-- -2 if it is none, else what G says of it -/
def sp_or {α : Type} (P : α → Prop) (G : α → Int32 → Prop) (r : Int32) : Prop := ((¬ ∃ k, P k) ∧ r = -2) ∨ ∃ k, P k ∧ G k r
theorem sp_or_u {α : Type} {P : α → Prop} {G : α → Int32 → Prop} {r1 r2 : Int32} (h1 : sp_or P G r1) (h2 : sp_or P G r2) (hP : ∀ k j, P k → P j → k = j) (hG : ∀ k a b, G k a → G k b → a = b) : r1 = r2 := by
  rcases h1 with ⟨a1, a2⟩ | ⟨k, a1, a2⟩
  · rcases h2 with ⟨b1, b2⟩ | ⟨j, b1, b2⟩
    · rw [a2, b2]
    · exact absurd ⟨j, b1⟩ a1
  · rcases h2 with ⟨b1, b2⟩ | ⟨j, b1, b2⟩
    · exact absurd ⟨k, a1⟩ b1
    · have e := hP k j a1 b1
      subst e
      exact hG k r1 r2 a2 b2
-- ===== line =====
def sp_V (x a b c : Int32) (j a0 b0 p0 : Nat) : Prop := j < 10 ∧ a0 < 7 ∧ b0 < 7 ∧ a0 ≠ b0 ∧ 0 < p0 ∧ p0 ≤ 100 ∧ x = nI j ∧ a = nI a0 ∧ b = nI b0 ∧ c = nI p0
def sp_line (x a b c : Int32) (A : aS) (r : Int32) (A' : aS) : Prop :=
  (∃ j a0 b0 p0, sp_V x a b c j a0 b0 p0 ∧ r = nI 0 ∧ A' = (va_up A.1 j a0, va_up A.2.1 j b0, va_up A.2.2.1 j p0, A.2.2.2)) ∨ ((¬ ∃ j a0 b0 p0, sp_V x a b c j a0 b0 p0) ∧ r = -2 ∧ A' = A)
theorem sp_line_u {x a b c : Int32} {A A1 A2 : aS} {r1 r2 : Int32} (h1 : sp_line x a b c A r1 A1) (h2 : sp_line x a b c A r2 A2) : r1 = r2 ∧ A1 = A2 := by
  rcases h1 with ⟨j, a0, b0, p0, hv, e1, e2⟩ | ⟨hn, e1, e2⟩
  · rcases h2 with ⟨j', a0', b0', p0', hv', e1', e2'⟩ | ⟨hn', e1', e2'⟩
    · obtain ⟨u1, u2, u3, u4, u5, u6, u7, u8, u9, u10⟩ := hv
      obtain ⟨v1, v2, v3, v4, v5, v6, v7, v8, v9, v10⟩ := hv'
      rw [u7] at v7; rw [u8] at v8; rw [u9] at v9; rw [u10] at v10
      have w1 := (nI_eq (by omega) (by omega)).mp v7
      have w2 := (nI_eq (by omega) (by omega)).mp v8
      have w3 := (nI_eq (by omega) (by omega)).mp v9
      have w4 := (nI_eq (by omega) (by omega)).mp v10
      subst w1; subst w2; subst w3; subst w4
      exact ⟨by rw [e1, e1'], by rw [e2, e2']⟩
    · exact absurd ⟨j, a0, b0, p0, hv⟩ hn'
  · rcases h2 with ⟨j', a0', b0', p0', hv', e1', e2'⟩ | ⟨hn', e1', e2'⟩
    · exact absurd ⟨j', a0', b0', p0', hv'⟩ hn
    · exact ⟨by rw [e1, e1'], by rw [e2, e2']⟩
section SPV
variable {x a b c : Int32} {A : aS}
theorem sp_no (h : ∀ j a0 b0 p0, ¬ sp_V x a b c j a0 b0 p0) : sp_line x a b c A (-2) A := Or.inr ⟨fun ⟨j, a0, b0, p0, z⟩ => h j a0 b0 p0 z, rfl, rfl⟩
theorem sp_no_x0 (h : x < 0) : sp_line x a b c A (-2) A := sp_no fun j a0 b0 p0 z => by
  obtain ⟨u1, u2, u3, u4, u5, u6, u7, u8, u9, u10⟩ := z
  rw [u7] at h
  exact nI_pos (by omega) h
theorem sp_no_x9 (h : nI 9 < x) : sp_line x a b c A (-2) A := sp_no fun j a0 b0 p0 z => by
  obtain ⟨u1, u2, u3, u4, u5, u6, u7, u8, u9, u10⟩ := z
  rw [u7] at h
  exact nI_nlt (a := 9) (b := j) (by omega) (by omega) h
theorem sp_no_a (h : ¬ ∃ p, sp_T a p) : sp_line x a b c A (-2) A := sp_no fun j a0 b0 p0 z => by
  obtain ⟨u1, u2, u3, u4, u5, u6, u7, u8, u9, u10⟩ := z
  exact h ⟨a0, u2, u8⟩
theorem sp_no_b (h : ¬ ∃ p, sp_T b p) : sp_line x a b c A (-2) A := sp_no fun j a0 b0 p0 z => by
  obtain ⟨u1, u2, u3, u4, u5, u6, u7, u8, u9, u10⟩ := z
  exact h ⟨b0, u3, u9⟩
theorem sp_no_ab (h : a = b) : sp_line x a b c A (-2) A := sp_no fun j a0 b0 p0 z => by
  obtain ⟨u1, u2, u3, u4, u5, u6, u7, u8, u9, u10⟩ := z
  rw [u8, u9] at h
  exact u4 ((nI_eq (by omega) (by omega)).mp h)
theorem sp_no_c1 (h : c < nI 1) : sp_line x a b c A (-2) A := sp_no fun j a0 b0 p0 z => by
  obtain ⟨u1, u2, u3, u4, u5, u6, u7, u8, u9, u10⟩ := z
  rw [u10] at h
  exact nI_nlt (a := p0) (b := 1) (by omega) (by omega) h
theorem sp_no_c100 (h : ¬ c ≤ nI 100) : sp_line x a b c A (-2) A := sp_no fun j a0 b0 p0 z => by
  obtain ⟨u1, u2, u3, u4, u5, u6, u7, u8, u9, u10⟩ := z
  rw [u10] at h
  exact h (nI_le u6 (by omega))
end SPV
theorem sp_price {c : Int32} (h1 : ¬ c < nI 1) (h2 : c ≤ nI 100) : ∃ p, 0 < p ∧ p ≤ 100 ∧ c = nI p := by
  have h0 : ¬ c < 0 := fun z => h1 (Int32.lt_trans z (by decide))
  obtain ⟨p, hp, rfl⟩ := nI_of2 (M := nI 100) (n := 100) (by decide) h0 h2
  refine ⟨p, ?_, hp, rfl⟩
  rcases Nat.eq_zero_or_pos p with z | z
  · subst z; exact absurd (by decide) h1
  · exact z
-- ===== what isPoint and badPoint say =====
theorem sp_pt {x : Int32} : (¬ x < 0 ∧ x ≤ nI 6) ↔ ∃ p, sp_T x p := by
  constructor
  · intro ⟨h1, h2⟩
    obtain ⟨p, hp, e⟩ := nI_of2 (M := nI 6) (n := 6) (by decide) h1 h2
    exact ⟨p, by omega, e⟩
  · intro ⟨p, h1, h2⟩
    rw [h2]
    exact ⟨nI_pos (by omega), nI_le (by omega) (by omega)⟩
theorem sp_ptT {x r : Int32} (h : ((¬ x < 0 ∧ x ≤ nI 6) ∧ r = nI 1) ∨ (¬ (¬ x < 0 ∧ x ≤ nI 6) ∧ r = nI 0)) (c : ¬ r = 0) : ∃ p, sp_T x p := by
  rcases h with ⟨a, -⟩ | ⟨-, b⟩
  · exact sp_pt.mp a
  · exact absurd b c
theorem sp_ptF {x r : Int32} (h : ((¬ x < 0 ∧ x ≤ nI 6) ∧ r = nI 1) ∨ (¬ (¬ x < 0 ∧ x ≤ nI 6) ∧ r = nI 0)) (c : r = 0) : ¬ ∃ p, sp_T x p := by
  rcases h with ⟨-, b⟩ | ⟨a, -⟩
  · rw [b] at c; exact absurd c (by decide)
  · exact fun z => a (sp_pt.mpr z)
theorem sp_lnT {pr : Nat → Nat} {x r : Int32} (h : ((∃ k, k < 10 ∧ x = nI k ∧ pr k ≠ 0) ∧ r = nI 1) ∨ (¬ (∃ k, k < 10 ∧ x = nI k ∧ pr k ≠ 0) ∧ r = nI 0)) (c : ¬ r = 0) : ∃ k, sp_L pr x k := by
  rcases h with ⟨a, -⟩ | ⟨-, b⟩
  · exact a
  · exact absurd b c
theorem sp_lnF {pr : Nat → Nat} {x r : Int32} (h : ((∃ k, k < 10 ∧ x = nI k ∧ pr k ≠ 0) ∧ r = nI 1) ∨ (¬ (∃ k, k < 10 ∧ x = nI k ∧ pr k ≠ 0) ∧ r = nI 0)) (c : r = 0) : ¬ ∃ k, sp_L pr x k := by
  rcases h with ⟨-, b⟩ | ⟨a, -⟩
  · rw [b] at c; exact absurd c (by decide)
  · exact a
-- ===== cut, mark =====
def sp_cut (x : Int32) (A : aS) (r : Int32) (A' : aS) : Prop := (∃ k, sp_L A.2.2.1 x k ∧ r = nI 0 ∧ A' = (A.1, A.2.1, va_up A.2.2.1 k 0, A.2.2.2)) ∨ ((¬ ∃ k, sp_L A.2.2.1 x k) ∧ r = -2 ∧ A' = A)
theorem sp_cut_u {x : Int32} {A A1 A2 : aS} {r1 r2 : Int32} (h1 : sp_cut x A r1 A1) (h2 : sp_cut x A r2 A2) : r1 = r2 ∧ A1 = A2 := by
  rcases h1 with ⟨k, a, e1, e2⟩ | ⟨hn, e1, e2⟩
  · rcases h2 with ⟨j, b, f1, f2⟩ | ⟨hn', f1, f2⟩
    · have e := sp_L_u a b
      subst e
      exact ⟨by rw [e1, f1], by rw [e2, f2]⟩
    · exact absurd ⟨k, a⟩ hn'
  · rcases h2 with ⟨j, b, f1, f2⟩ | ⟨hn', f1, f2⟩
    · exact absurd ⟨j, b⟩ hn
    · exact ⟨by rw [e1, f1], by rw [e2, f2]⟩
def sp_mark (x : Int32) (on : Nat) (A : aS) (r : Int32) (A' : aS) : Prop := (∃ p, sp_T x p ∧ r = nI ((A.2.2.2.testBit p).toNat) ∧ A' = (A.1, A.2.1, A.2.2.1, if on = 0 then A.2.2.2 &&& (127 - 2 ^ p) else A.2.2.2 ||| 2 ^ p)) ∨ ((¬ ∃ p, sp_T x p) ∧ r = -2 ∧ A' = A)
theorem sp_mark_u {x : Int32} {on : Nat} {A A1 A2 : aS} {r1 r2 : Int32} (h1 : sp_mark x on A r1 A1) (h2 : sp_mark x on A r2 A2) : r1 = r2 ∧ A1 = A2 := by
  rcases h1 with ⟨k, a, e1, e2⟩ | ⟨hn, e1, e2⟩
  · rcases h2 with ⟨j, b, f1, f2⟩ | ⟨hn', f1, f2⟩
    · have e := sp_T_u a b
      subst e
      exact ⟨by rw [e1, f1], by rw [e2, f2]⟩
    · exact absurd ⟨k, a⟩ hn'
  · rcases h2 with ⟨j, b, f1, f2⟩ | ⟨hn', f1, f2⟩
    · exact absurd ⟨j, b⟩ hn
    · exact ⟨by rw [e1, f1], by rw [e2, f2]⟩
-- ===== the questions =====
abbrev sg_no : Nat → Bool := fun _ => false
abbrev sg_at (k : Nat) : Nat → Bool := fun i => decide (i = k)
def sp_least (A : aS) (r : Int32) (A' : aS) : Prop := sg_Low A.1 A.2.1 A.2.2.1 A.2.2.2 sg_no sg_no r ∧ A' = A
def sp_ch (A : aS) (k : Nat) (r : Int32) : Prop := ((∀ n, ¬ sg_F A.1 A.2.1 A.2.2.1 A.2.2.2 sg_no sg_no n) ∧ r = -1) ∨ ∃ n, sg_Bst A.1 A.2.1 A.2.2.1 A.2.2.2 sg_no sg_no n ∧ r = nI ((n.testBit k).toNat)
def sp_chosen (x : Int32) (A : aS) (r : Int32) (A' : aS) : Prop := sp_or (sp_L A.2.2.1 x) (sp_ch A) r ∧ A' = A
def sp_with (x : Int32) (A : aS) (r : Int32) (A' : aS) : Prop := sp_or (sp_L A.2.2.1 x) (fun k => sg_Low A.1 A.2.1 A.2.2.1 A.2.2.2 (sg_at k) sg_no) r ∧ A' = A
def sp_without (x : Int32) (A : aS) (r : Int32) (A' : aS) : Prop := sp_or (sp_L A.2.2.1 x) (fun k => sg_Low A.1 A.2.1 A.2.2.1 A.2.2.2 sg_no (sg_at k)) r ∧ A' = A
def sp_including (x : Int32) (A : aS) (r : Int32) (A' : aS) : Prop := sp_or (sp_T x) (fun p => sg_Low A.1 A.2.1 A.2.2.1 (A.2.2.2 ||| 2 ^ p) sg_no sg_no) r ∧ A' = A
def sp_between (x y : Int32) (A : aS) (r : Int32) (A' : aS) : Prop := sp_or (fun q : Nat × Nat => sp_T x q.1 ∧ sp_T y q.2) (fun q => sg_Low A.1 A.2.1 A.2.2.1 (2 ^ q.1 ||| 2 ^ q.2) sg_no sg_no) r ∧ A' = A
section SPQ
variable {x y : Int32} {A A1 A2 : aS} {r1 r2 : Int32}
theorem sp_ch_u {k : Nat} (h1 : sp_ch A k r1) (h2 : sp_ch A k r2) : r1 = r2 := by
  rcases h1 with ⟨a, b⟩ | ⟨n, a, b⟩
  · rcases h2 with ⟨c, d⟩ | ⟨m, c, d⟩
    · rw [b, d]
    · exact absurd c.1 (a m)
  · rcases h2 with ⟨c, d⟩ | ⟨m, c, d⟩
    · exact absurd a.1 (c n)
    · have e := sg_Bst_u a c
      subst e
      rw [b, d]
theorem sp_least_u (h1 : sp_least A r1 A1) (h2 : sp_least A r2 A2) : r1 = r2 ∧ A1 = A2 := ⟨sg_Low_u h1.1 h2.1, h1.2.trans h2.2.symm⟩
theorem sp_chosen_u (h1 : sp_chosen x A r1 A1) (h2 : sp_chosen x A r2 A2) : r1 = r2 ∧ A1 = A2 := ⟨sp_or_u h1.1 h2.1 (fun _ _ a b => sp_L_u a b) (fun _ _ _ a b => sp_ch_u a b), h1.2.trans h2.2.symm⟩
theorem sp_with_u (h1 : sp_with x A r1 A1) (h2 : sp_with x A r2 A2) : r1 = r2 ∧ A1 = A2 := ⟨sp_or_u h1.1 h2.1 (fun _ _ a b => sp_L_u a b) (fun _ _ _ a b => sg_Low_u a b), h1.2.trans h2.2.symm⟩
theorem sp_without_u (h1 : sp_without x A r1 A1) (h2 : sp_without x A r2 A2) : r1 = r2 ∧ A1 = A2 := ⟨sp_or_u h1.1 h2.1 (fun _ _ a b => sp_L_u a b) (fun _ _ _ a b => sg_Low_u a b), h1.2.trans h2.2.symm⟩
theorem sp_including_u (h1 : sp_including x A r1 A1) (h2 : sp_including x A r2 A2) : r1 = r2 ∧ A1 = A2 := ⟨sp_or_u h1.1 h2.1 (fun _ _ a b => sp_T_u a b) (fun _ _ _ a b => sg_Low_u a b), h1.2.trans h2.2.symm⟩
theorem sp_between_u (h1 : sp_between x y A r1 A1) (h2 : sp_between x y A r2 A2) : r1 = r2 ∧ A1 = A2 := ⟨sp_or_u h1.1 h2.1 (fun _ _ a b => Prod.ext (sp_T_u a.1 b.1) (sp_T_u a.2 b.2)) (fun _ _ _ a b => sg_Low_u a b), h1.2.trans h2.2.symm⟩
end SPQ
-- ===== the class's side =====
theorem sg_P_one (pr : Nat → Nat) {k : Nat} (hk : k < 10) : sg_P pr (2 ^ k) = pr k := by
  unfold sg_P
  have e : sg_S pr (2 ^ k).testBit 10 = sg_S pr (fun j => decide (j = k)) 10 := sg_S_cg (fun i _ => by
    rw [Nat.testBit_two_pow]
    by_cases h : i = k
    · subst h; simp
    · simp [h, Ne.symm h]) (fun _ _ _ => rfl)
  rw [e, sg_S_one pr hk]
theorem sg_P_zero (pr : Nat → Nat) : sg_P pr 0 = 0 := by
  unfold sg_P
  have : sg_S pr (Nat.testBit 0) 10 = sg_S pr (fun _ => false) 10 := sg_S_cg (fun k _ => by rw [Nat.zero_testBit]) (fun _ _ _ => rfl)
  rw [this, sg_S_none]
section NLOW
variable {ea eb pr ct : Nat → Nat} {pts L : Nat}
theorem sg_cA_at (pr ct : Nat → Nat) {k : Nat} (hk : k < 10) : sg_cA pr ct 10 k = if pr k = 0 then 100000 else pr k := by rw [sg_cA_spec, if_pos hk]
theorem sg_low0 (hp : sg_B 100 pr) (hL : sg_L ea eb (sg_cA pr ct 10) pts L) : sg_Low ea eb pr pts sg_no sg_no (if L = 100000 then -1 else nI L) := by
  have h := sg_low (I := 0) (inn := sg_no) (out := sg_no) hp (fun k hk => by rw [sg_cA_at pr ct hk]; simp) (fun k _ => by simp) (fun k _ h => (by cases h)) hL
  rw [sg_P_zero] at h
  exact h
theorem sg_lowW (hp : sg_B 100 pr) {k : Nat} (hk : k < 10) (hpk : pr k ≠ 0) (hL : sg_L ea eb (va_up (sg_cA pr ct 10) k 0) pts L) : sg_Low ea eb pr pts (sg_at k) sg_no (if L = 100000 then -1 else nI (L + pr k)) := by
  have h := sg_low (I := 2 ^ k) (inn := sg_at k) (out := sg_no) hp (fun i hi => by
    by_cases h : i = k
    · subst h; rw [sg_us]; simp [hpk]
    · rw [sg_un h, sg_cA_at pr ct hi]; simp [h]) (fun i _ => by
    rw [Nat.testBit_two_pow]
    by_cases h : i = k
    · subst h; simp
    · simp [h, Ne.symm h]) (fun i _ h => ⟨by
    have : i = k := by simpa using h
    rw [this]; exact hpk, rfl⟩) hL
  rw [sg_P_one pr hk] at h
  exact h
theorem sg_lowO (hp : sg_B 100 pr) {k : Nat} (hL : sg_L ea eb (va_up (sg_cA pr ct 10) k 100000) pts L) : sg_Low ea eb pr pts sg_no (sg_at k) (if L = 100000 then -1 else nI L) := by
  have h := sg_low (I := 0) (inn := sg_no) (out := sg_at k) hp (fun i hi => by
    by_cases h : i = k
    · subst h; rw [sg_us]; simp
    · rw [sg_un h, sg_cA_at pr ct hi]; simp [h]) (fun k _ => by simp) (fun k _ h => (by cases h)) hL
  rw [sg_P_zero] at h
  exact h
end NLOW
/-- the branch 'FAR or more' -/
theorem sg_far {L : Nat} {r : Int32} (h : L ≤ 100000) (c : 100000 ≤ L) : (if L = 100000 then -1 else r) = (-1 : Int32) := if_pos (by omega)
theorem sg_near {L : Nat} {r : Int32} (c : L < 100000) : (if L = 100000 then -1 else r) = r := if_neg (by omega)
/-- counting down -/
def sg_dn (j : Nat) : Int32 := match j with
  | 0 => -1
  | k + 1 => nI k
theorem sg_dn_pred (k : Nat) : nI k + Int32.ofInt (-1) = sg_dn k := by
  cases k with
  | zero => decide
  | succ k =>
    show nI (k + 1) + -1 = nI k
    rw [← Int32.sub_eq_add_neg]
    exact nI_pred k
-- ===== the class's invariant, operation by operation =====
section NIV
variable {ea eb pr ct wy pt wd : Nat → Nat} {mk kn bs : Nat} {bp : Int32}
theorem sg_lt_up {M : Nat} {f : Nat → Nat} (h : ∀ k, f k < M) {j v : Nat} (hv : v < M) : ∀ k, va_up f j v k < M := fun k => by
  unfold va_up
  split
  · exact hv
  · exact h k
theorem nIv_line (h : nIv ea eb pr mk ct wy pt wd kn bp bs) {j a0 b0 p0 : Nat} (ha : a0 < 7) (hb : b0 < 7) (hp : p0 ≤ 100) : nIv (va_up ea j a0) (va_up eb j b0) (va_up pr j p0) mk ct wy pt wd 0 bp bs := by
  obtain ⟨h1, h2, h3, h4, h5, h6, h7, h8, h9, h10⟩ := h
  exact ⟨sg_lt_up h1 ha, sg_lt_up h2 hb, sg_B_up h3 hp, h4, h5, h6, h7, h8, by omega, fun z => absurd z (by decide)⟩
theorem nIv_cut (h : nIv ea eb pr mk ct wy pt wd kn bp bs) {k : Nat} : nIv ea eb (va_up pr k 0) mk ct wy pt wd 0 bp bs := by
  obtain ⟨h1, h2, h3, h4, h5, h6, h7, h8, h9, h10⟩ := h
  exact ⟨h1, h2, sg_B_up h3 (by omega), h4, h5, h6, h7, h8, by omega, fun z => absurd z (by decide)⟩
theorem nIv_mark (h : nIv ea eb pr mk ct wy pt wd kn bp bs) {m2 : Nat} (hm : m2 < 128) : nIv ea eb pr m2 ct wy pt wd 0 bp bs := by
  obtain ⟨h1, h2, h3, h4, h5, h6, h7, h8, h9, h10⟩ := h
  exact ⟨h1, h2, h3, hm, h5, h6, h7, h8, by omega, fun z => absurd z (by decide)⟩
theorem nIv_q (h : nIv ea eb pr mk ct wy pt wd kn bp bs) {ct2 wy2 pt2 wd2 : Nat → Nat} (h5 : sg_B 100000 ct2) (h6 : sg_B 100000 wy2) (h7 : sg_B 100000 pt2) (h8 : ∀ k, wd2 k < 7) : nIv ea eb pr mk ct2 wy2 pt2 wd2 kn bp bs := by
  obtain ⟨h1, h2, h3, h4, -, -, -, -, h9, h10⟩ := h
  exact ⟨h1, h2, h3, h4, h5, h6, h7, h8, h9, h10⟩
theorem sg_or7 {a p : Nat} (ha : a < 128) (hp : p < 7) : a ||| 2 ^ p < 128 := Nat.or_lt_two_pow (n := 7) ha (Nat.pow_lt_pow_right (by omega) hp)
theorem sg_two7 {p : Nat} (hp : p < 7) : 2 ^ p < 128 := Nat.pow_lt_pow_right (a := 2) (n := 7) (by omega) hp
theorem sg_and7 {a b : Nat} (ha : a < 128) : a &&& b < 128 := Nat.lt_of_le_of_lt Nat.and_le_left ha
theorem sp_ch_neg {k : Nat} (hpr : sg_B 100 pr) (h : sg_BS ea eb pr mk bp bs) (c : ¬ 0 ≤ bp) : sp_ch (ea, eb, pr, mk) k (-1) := by
  rcases h with ⟨a, -⟩ | ⟨-, b⟩
  · exact Or.inl ⟨a, rfl⟩
  · have := sg_P_le hpr bs
    rw [b] at c
    exact absurd (nI_pos' (by omega)) c
theorem sp_ch_pos {k : Nat} (h : sg_BS ea eb pr mk bp bs) (c : 0 ≤ bp) : sp_ch (ea, eb, pr, mk) k (nI ((bs.testBit k).toNat)) := by
  rcases h with ⟨-, b⟩ | ⟨a, -⟩
  · rw [b] at c; exact absurd c (by decide)
  · exact Or.inr ⟨bs, a, rfl⟩
theorem sg_BS_lt (h : sg_BS ea eb pr mk bp bs) (c : 0 ≤ bp) : bs < 1024 := by
  rcases h with ⟨-, b⟩ | ⟨a, -⟩
  · rw [b] at c; exact absurd c (by decide)
  · exact a.1.1
theorem sg_G_bit {best k : Nat} (h : sg_G ea eb pr mk best (k + 1) ct bs) : bs.testBit k = false := by
  cases hb : bs.testBit k with
  | false => rfl
  | true => have := (h.2.1 k hb).1; omega
theorem sg_BS_end {best : Nat} (h : sg_G ea eb pr mk best 0 ct bs) : sg_BS ea eb pr mk (nI best) bs := Or.inr ⟨(sg_G_end h).1, by rw [(sg_G_end h).2]⟩
theorem sg_BS_far {L b2 : Nat} (hp : sg_B 100 pr) (hL : sg_L ea eb (sg_cA pr ct 10) mk L) (c : 100000 ≤ L) : sg_BS ea eb pr mk (-1) b2 := by
  have e : L = 100000 := Nat.le_antisymm hL.1 c
  subst e
  exact sg_BS_none hp (fun k hk => sg_cA_at pr ct hk) hL
end NIV
end
section
section NET3
variable {p : Program} {l : Launch} {e : Env} {R : Room} {s : State} {m : MethodId} {args : Array Value} {below : List Frame} {meth : Method} {c : Code} {cells slots : Nat} {Qp : State → Prop} {dC : Nat → ClassId} {dI : Nat → Nat → Nat} {dA dZ : ClassId} {A : Nat → Prop} {H0 : Heap} {Q : Nat → Nat}
variable {ea eb pr : Nat → Nat} {mk : Nat} {ct wy pt : Nat → Nat} {wc : Nat} {wd : Nat → Nat} {kn : Nat} {bp : Int32} {bs : Nat}
set_option maxHeartbeats 4000000 in
set_option maxRecDepth 100000 in
theorem net_line (l : Launch) (dC : Nat → ClassId) (dI : Nat → Nat → Nat) (dA dZ : ClassId) (Q : Nat → Nat) (ea eb pr : Nat → Nat) (mk : Nat) (ct wy pt : Nat → Nat) (wc : Nat) (wd : Nat → Nat) (kn : Nat) (bp : Int32) (bs : Nat) (x a b pz : Int32) (hI : nIv ea eb pr mk ct wy pt wd kn bp bs) : sMi l yX0_line cX0_line 5 (some .int) ({ frames := 1, cells := 0, slots := 0, locals := 20 }) dC dI (tyz dA dZ) [.ref (Q 0), .int x, .int a, .int b, .int pz] (nW dA Q ea eb pr mk ct wy pt wc wd kn bp bs) (fun (r : Int32) (u : nS) => sp_line x a b pz (ea, eb, pr, mk) r (nAb u) ∧ nIvU u) (fun u => nWu dA Q u) := by
  refine sMi_of (by decide) (Nat.le_of_ble_eq_true rfl) ?_
  intro p e s m below meth c A ls X hr hlocks hA hP hD hS hl
  have hl : lv_has ls 5 [(0, .ref (Q 0)), (1, .int x), (2, .int a), (3, .int b), (4, .int pz)] := hl
  have hx := X.1.1
  have hb := X.1.2.1
  have hown := X.1.2.2.2.1
  have hts := X.1.2.2.2.2
  have hI9 := hI
  obtain ⟨hea, heb, hpr, hmk, hct, hwy, hpt, hwd, hkn, hbs⟩ := hI9
  refine lv_iload_n hx hb dX0_line_0 rfl (lv_at hl 1 rfl) ?_
  refine lv_if_lt (tgt := 42) hx hb dX0_line_1 (by decide) (fun c_1 => ?_) (fun c_1 => ?_)
  · refine lv_bipush (v := -2) hx hb dX0_line_42 (by decide) ?_
    exact s_iret (r := (-2)) X hr hlocks (rfl) (ea, eb, pr, mk, ct, wy, pt, wc, wd, kn, bp, bs) (⟨sp_no_x0 c_1, hI⟩) hP hD hS dX0_line_44
  · refine lv_iload_n hx hb dX0_line_4 rfl (lv_at hl 1 rfl) ?_
    refine lv_bipush (v := nI 9) hx hb dX0_line_5 (by decide) ?_
    refine lv_icmp_gt (tgt := 42) hx hb dX0_line_7 (by decide) (fun c_2 => ?_) (fun c_2 => ?_)
    · refine lv_bipush (v := -2) hx hb dX0_line_42 (by decide) ?_
      exact s_iret (r := (-2)) X hr hlocks (rfl) (ea, eb, pr, mk, ct, wy, pt, wc, wd, kn, bp, bs) (⟨sp_no_x9 c_2, hI⟩) hP hD hS dX0_line_44
    · refine lv_iload_n hx hb dX0_line_10 rfl (lv_at hl 2 rfl) ?_
      refine s_calliS (rest := []) X (met_isPoint l dC dI dA dZ a) (va_cwS 1 hts (lw_S q69 q70 q17 q71) rfl rfl rfl (by decide +kernel) ⟨Nat.le_of_ble_eq_true rfl, Nat.le_of_ble_eq_true rfl⟩) ⟨Nat.zero_le _, Nat.zero_le _⟩ hP hD hS hA hl.1 rfl rfl (Nat.le_of_ble_eq_true rfl) dX0_line_11 (fun r H locs hpost hP hD hS => ?_)
      have hq1 := hpost
      refine lv_if_eq (tgt := 42) hx hb dX0_line_14 (by decide) (fun c_3 => ?_) (fun c_3 => ?_)
      · refine lv_bipush (v := -2) hx hb dX0_line_42 (by decide) ?_
        exact s_iret (r := (-2)) X hr hlocks (rfl) (ea, eb, pr, mk, ct, wy, pt, wc, wd, kn, bp, bs) (⟨sp_no_a (sp_ptF hq1 c_3), hI⟩) hP hD hS dX0_line_44
      · refine lv_iload_n hx hb dX0_line_17 rfl (lv_at hl 3 rfl) ?_
        refine s_calliS (rest := []) X (met_isPoint l dC dI dA dZ b) (va_cwS 1 hts (lw_S q69 q70 q17 q71) rfl rfl rfl (by decide +kernel) ⟨Nat.le_of_ble_eq_true rfl, Nat.le_of_ble_eq_true rfl⟩) ⟨Nat.zero_le _, Nat.zero_le _⟩ hP hD hS hA hl.1 rfl rfl (Nat.le_of_ble_eq_true rfl) dX0_line_18 (fun r H locs hpost hP hD hS => ?_)
        have hq2 := hpost
        refine lv_if_eq (tgt := 42) hx hb dX0_line_21 (by decide) (fun c_4 => ?_) (fun c_4 => ?_)
        · refine lv_bipush (v := -2) hx hb dX0_line_42 (by decide) ?_
          exact s_iret (r := (-2)) X hr hlocks (rfl) (ea, eb, pr, mk, ct, wy, pt, wc, wd, kn, bp, bs) (⟨sp_no_b (sp_ptF hq2 c_4), hI⟩) hP hD hS dX0_line_44
        · refine lv_iload_n hx hb dX0_line_24 rfl (lv_at hl 2 rfl) ?_
          refine lv_iload_n hx hb dX0_line_25 rfl (lv_at hl 3 rfl) ?_
          refine lv_icmp_eq (tgt := 42) hx hb dX0_line_26 (by decide) (fun c_5 => ?_) (fun c_5 => ?_)
          · refine lv_bipush (v := -2) hx hb dX0_line_42 (by decide) ?_
            exact s_iret (r := (-2)) X hr hlocks (rfl) (ea, eb, pr, mk, ct, wy, pt, wc, wd, kn, bp, bs) (⟨sp_no_ab c_5, hI⟩) hP hD hS dX0_line_44
          · refine lv_iload hx hb dX0_line_29 (lv_at hl 4 rfl) ?_
            refine lv_iconst (v := nI 1) hx hb dX0_line_31 (by decide) ?_
            refine lv_icmp_lt (tgt := 42) hx hb dX0_line_32 (by decide) (fun c_6 => ?_) (fun c_6 => ?_)
            · refine lv_bipush (v := -2) hx hb dX0_line_42 (by decide) ?_
              exact s_iret (r := (-2)) X hr hlocks (rfl) (ea, eb, pr, mk, ct, wy, pt, wc, wd, kn, bp, bs) (⟨sp_no_c1 c_6, hI⟩) hP hD hS dX0_line_44
            · refine lv_iload hx hb dX0_line_35 (lv_at hl 4 rfl) ?_
              refine lv_bipush (v := nI 100) hx hb dX0_line_37 (by decide) ?_
              refine lv_icmp_le (tgt := 45) hx hb dX0_line_39 (by decide) (fun c_7 => ?_) (fun c_7 => ?_)
              · obtain ⟨j, hj, rfl⟩ := nI_of2 (M := nI 9) (n := 9) (by decide) c_1 (Int32.not_lt.mp c_2)
                obtain ⟨a0, ha0, rfl⟩ := sp_ptT hq1 c_3
                obtain ⟨b0, hb0, rfl⟩ := sp_ptT hq2 c_4
                obtain ⟨p0, hp1, hp2, rfl⟩ := sp_price c_6 c_7
                have hab : a0 ≠ b0 := fun z => c_5 (by rw [z])
                refine lv_aload_n hx hb dX0_line_45 rfl (lv_at hl 0 rfl) ?_
                refine s_get0 X hP 0 rfl 0 (by decide) q27 rfl rfl dX0_line_46 ?_
                refine lv_iload_n hx hb dX0_line_49 rfl (lv_at hl 1 rfl) ?_
                refine lv_iload_n hx hb dX0_line_50 rfl (lv_at hl 2 rfl) ?_
                refine s_ist X hP hD hS 1 0 rfl rfl (k := j) (v := a0) (by omega) (by decide) dX0_line_51 (fun H locs hP hD hS => ?_)
                have hP : va_P (dC, dI) vwCl (nW dA Q (va_up ea j a0) eb pr mk ct wy pt wc wd kn bp bs) H := hP
                have hD : va_D A (nW dA Q (va_up ea j a0) eb pr mk ct wy pt wc wd kn bp bs) := hD
                refine lv_aload_n hx hb dX0_line_52 rfl (lv_at hl 0 rfl) ?_
                refine s_get0 X hP 0 rfl 1 (by decide) q28 rfl rfl dX0_line_53 ?_
                refine lv_iload_n hx hb dX0_line_56 rfl (lv_at hl 1 rfl) ?_
                refine lv_iload_n hx hb dX0_line_57 rfl (lv_at hl 3 rfl) ?_
                refine s_ist X hP hD hS 2 0 rfl rfl (k := j) (v := b0) (by omega) (by decide) dX0_line_58 (fun H locs hP hD hS => ?_)
                have hP : va_P (dC, dI) vwCl (nW dA Q (va_up ea j a0) (va_up eb j b0) pr mk ct wy pt wc wd kn bp bs) H := hP
                have hD : va_D A (nW dA Q (va_up ea j a0) (va_up eb j b0) pr mk ct wy pt wc wd kn bp bs) := hD
                refine lv_aload_n hx hb dX0_line_59 rfl (lv_at hl 0 rfl) ?_
                refine s_get0 X hP 0 rfl 2 (by decide) q29 rfl rfl dX0_line_60 ?_
                refine lv_iload_n hx hb dX0_line_63 rfl (lv_at hl 1 rfl) ?_
                refine lv_iload hx hb dX0_line_64 (lv_at hl 4 rfl) ?_
                refine s_ist X hP hD hS 3 0 rfl rfl (k := j) (v := p0) (by omega) (by decide) dX0_line_66 (fun H locs hP hD hS => ?_)
                have hP : va_P (dC, dI) vwCl (nW dA Q (va_up ea j a0) (va_up eb j b0) (va_up pr j p0) mk ct wy pt wc wd kn bp bs) H := hP
                have hD : va_D A (nW dA Q (va_up ea j a0) (va_up eb j b0) (va_up pr j p0) mk ct wy pt wc wd kn bp bs) := hD
                refine lv_aload_n hx hb dX0_line_67 rfl (lv_at hl 0 rfl) ?_
                refine lv_iconst (v := nI 0) hx hb dX0_line_68 (by decide) ?_
                refine s_put0 X hP hD hS 0 rfl 9 (by decide) q36 rfl rfl (by decide +kernel) rfl (Nat.le_of_ble_eq_true rfl) dX0_line_69 (fun H locs hP hD hS => ?_)
                have hP : va_P (dC, dI) vwCl (nW dA Q (va_up ea j a0) (va_up eb j b0) (va_up pr j p0) mk ct wy pt wc wd 0 bp bs) H := hP
                have hD : va_D A (nW dA Q (va_up ea j a0) (va_up eb j b0) (va_up pr j p0) mk ct wy pt wc wd 0 bp bs) := hD
                refine lv_iconst (v := nI 0) hx hb dX0_line_72 (by decide) ?_
                exact s_iret (r := (nI 0)) X hr hlocks (rfl) (va_up ea j a0, va_up eb j b0, va_up pr j p0, mk, ct, wy, pt, wc, wd, 0, bp, bs) (⟨Or.inl ⟨j, a0, b0, p0, ⟨by omega, ha0, hb0, hab, hp1, hp2, rfl, rfl, rfl, rfl⟩, rfl, rfl⟩, nIv_line hI ha0 hb0 hp2⟩) hP hD hS dX0_line_73
              · refine lv_bipush (v := -2) hx hb dX0_line_42 (by decide) ?_
                exact s_iret (r := (-2)) X hr hlocks (rfl) (ea, eb, pr, mk, ct, wy, pt, wc, wd, kn, bp, bs) (⟨sp_no_c100 c_7, hI⟩) hP hD hS dX0_line_44

set_option maxHeartbeats 4000000 in
set_option maxRecDepth 100000 in
theorem net_cut (l : Launch) (dC : Nat → ClassId) (dI : Nat → Nat → Nat) (dA dZ : ClassId) (Q : Nat → Nat) (ea eb pr : Nat → Nat) (mk : Nat) (ct wy pt : Nat → Nat) (wc : Nat) (wd : Nat → Nat) (kn : Nat) (bp : Int32) (bs : Nat) (x : Int32) (hI : nIv ea eb pr mk ct wy pt wd kn bp bs) : sMi l yX0_cut cX0_cut 2 (some .int) ({ frames := 1, cells := 0, slots := 0, locals := 21 }) dC dI (tyz dA dZ) [.ref (Q 0), .int x] (nW dA Q ea eb pr mk ct wy pt wc wd kn bp bs) (fun (r : Int32) (u : nS) => sp_cut x (ea, eb, pr, mk) r (nAb u) ∧ nIvU u) (fun u => nWu dA Q u) := by
  refine sMi_of (by decide) (Nat.le_of_ble_eq_true rfl) ?_
  intro p e s m below meth c A ls X hr hlocks hA hP hD hS hl
  have hl : lv_has ls 2 [(0, .ref (Q 0)), (1, .int x)] := hl
  have hx := X.1.1
  have hb := X.1.2.1
  have hown := X.1.2.2.2.1
  have hts := X.1.2.2.2.2
  have hI9 := hI
  obtain ⟨hea, heb, hpr, hmk, hct, hwy, hpt, hwd, hkn, hbs⟩ := hI9
  refine lv_aload_n hx hb dX0_cut_0 rfl (lv_at hl 0 rfl) ?_
  refine lv_iload_n hx hb dX0_cut_1 rfl (lv_at hl 1 rfl) ?_
  refine s_calliV (wr := []) (rest := []) X (met_isLine l dC dI dA dZ Q ea eb pr mk ct wy pt wc wd kn bp bs x hpr) (cwV 1 hts (lw_V q76 q78 qs0 q17 q79) rfl rfl rfl (by decide +kernel) ⟨Nat.le_of_ble_eq_true rfl, Nat.le_of_ble_eq_true rfl⟩) ⟨Nat.zero_le _, Nat.zero_le _⟩ hP hD hS hA [0, 1, 2, 3, 4, 5, 6, 7] [] rfl rfl rfl rfl (by decide) 0 rfl rfl rfl hl.1 rfl rfl (Nat.le_of_ble_eq_true rfl) dX0_cut_2 (fun r u H locs hpost hP hD hS => ?_)
  have hq1 := hpost
  have hP : va_P (dC, dI) vwCl (nW dA Q ea eb pr mk ct wy pt wc wd kn bp bs) H := hP
  have hD : va_D A (nW dA Q ea eb pr mk ct wy pt wc wd kn bp bs) := hD
  refine lv_if_ne (tgt := 11) hx hb dX0_cut_5 (by decide) (fun c_1 => ?_) (fun c_1 => ?_)
  · obtain ⟨k, hk, rfl, hpk⟩ := sp_lnT hq1 c_1
    have hpk9 := hpr k
    refine lv_aload_n hx hb dX0_cut_11 rfl (lv_at hl 0 rfl) ?_
    refine s_get0 X hP 0 rfl 2 (by decide) q29 rfl rfl dX0_cut_12 ?_
    refine lv_iload_n hx hb dX0_cut_15 rfl (lv_at hl 1 rfl) ?_
    refine lv_iconst (v := nI 0) hx hb dX0_cut_16 (by decide) ?_
    refine s_ist X hP hD hS 3 0 rfl rfl (k := k) (v := 0) (by omega) (by decide) dX0_cut_17 (fun H locs hP hD hS => ?_)
    have hP : va_P (dC, dI) vwCl (nW dA Q ea eb (va_up pr k 0) mk ct wy pt wc wd kn bp bs) H := hP
    have hD : va_D A (nW dA Q ea eb (va_up pr k 0) mk ct wy pt wc wd kn bp bs) := hD
    refine lv_aload_n hx hb dX0_cut_18 rfl (lv_at hl 0 rfl) ?_
    refine lv_iconst (v := nI 0) hx hb dX0_cut_19 (by decide) ?_
    refine s_put0 X hP hD hS 0 rfl 9 (by decide) q36 rfl rfl (by decide +kernel) rfl (Nat.le_of_ble_eq_true rfl) dX0_cut_20 (fun H locs hP hD hS => ?_)
    have hP : va_P (dC, dI) vwCl (nW dA Q ea eb (va_up pr k 0) mk ct wy pt wc wd 0 bp bs) H := hP
    have hD : va_D A (nW dA Q ea eb (va_up pr k 0) mk ct wy pt wc wd 0 bp bs) := hD
    refine lv_iconst (v := nI 0) hx hb dX0_cut_23 (by decide) ?_
    exact s_iret (r := (nI 0)) X hr hlocks (rfl) (ea, eb, va_up pr k 0, mk, ct, wy, pt, wc, wd, 0, bp, bs) (⟨Or.inl ⟨k, ⟨hk, rfl, hpk⟩, rfl, rfl⟩, nIv_cut hI⟩) hP hD hS dX0_cut_24
  · refine lv_bipush (v := -2) hx hb dX0_cut_8 (by decide) ?_
    exact s_iret (r := (-2)) X hr hlocks (rfl) (ea, eb, pr, mk, ct, wy, pt, wc, wd, kn, bp, bs) (⟨Or.inr ⟨sp_lnF hq1 c_1, rfl, rfl⟩, hI⟩) hP hD hS dX0_cut_10

set_option maxHeartbeats 4000000 in
set_option maxRecDepth 100000 in
theorem net_mark (l : Launch) (dC : Nat → ClassId) (dI : Nat → Nat → Nat) (dA dZ : ClassId) (Q : Nat → Nat) (ea eb pr : Nat → Nat) (mk : Nat) (ct wy pt : Nat → Nat) (wc : Nat) (wd : Nat → Nat) (kn : Nat) (bp : Int32) (bs : Nat) (x : Int32) (on : Nat) (hon : on < 2) (hI : nIv ea eb pr mk ct wy pt wd kn bp bs) : sMi l yX0_mark cX0_mark 4 (some .int) ({ frames := 1, cells := 0, slots := 0, locals := 20 }) dC dI (tyz dA dZ) [.ref (Q 0), .int x, .int (nI on)] (nW dA Q ea eb pr mk ct wy pt wc wd kn bp bs) (fun (r : Int32) (u : nS) => sp_mark x on (ea, eb, pr, mk) r (nAb u) ∧ nIvU u) (fun u => nWu dA Q u) := by
  refine sMi_of (by decide) (Nat.le_of_ble_eq_true rfl) ?_
  intro p e s m below meth c A ls X hr hlocks hA hP hD hS hl
  have hl : lv_has ls 4 [(0, .ref (Q 0)), (1, .int x), (2, .int (nI on))] := hl
  have hx := X.1.1
  have hb := X.1.2.1
  have hown := X.1.2.2.2.1
  have hts := X.1.2.2.2.2
  have hI9 := hI
  obtain ⟨hea, heb, hpr, hmk, hct, hwy, hpt, hwd, hkn, hbs⟩ := hI9
  refine lv_iload_n hx hb dX0_mark_0 rfl (lv_at hl 1 rfl) ?_
  refine s_calliS (rest := []) X (met_isPoint l dC dI dA dZ x) (va_cwS 1 hts (lw_S q69 q70 q17 q71) rfl rfl rfl (by decide +kernel) ⟨Nat.le_of_ble_eq_true rfl, Nat.le_of_ble_eq_true rfl⟩) ⟨Nat.zero_le _, Nat.zero_le _⟩ hP hD hS hA hl.1 rfl rfl (Nat.le_of_ble_eq_true rfl) dX0_mark_1 (fun r H locs hpost hP hD hS => ?_)
  have hq1 := hpost
  refine lv_if_ne (tgt := 10) hx hb dX0_mark_4 (by decide) (fun c_1 => ?_) (fun c_1 => ?_)
  · obtain ⟨p0, hp0, rfl⟩ := sp_ptT hq1 c_1
    refine lv_aload_n hx hb dX0_mark_10 rfl (lv_at hl 0 rfl) ?_
    refine s_get0 X hP 0 rfl 3 (by decide) q30 rfl rfl dX0_mark_11 ?_
    refine lv_iload_n hx hb dX0_mark_14 rfl (lv_at hl 1 rfl) ?_
    refine lv_iushr hx hb dX0_mark_15 rfl ?_
    refine lv_iconst (v := nI 1) hx hb dX0_mark_16 (by decide) ?_
    refine lv_iand hx hb dX0_mark_17 ?_
    refine s_top (nI ((mk.testBit p0).toNat)) (s_bitU (by omega) (by omega)) ?_
    refine lv_istore_n (lv' := [(3, .int (nI ((mk.testBit p0).toNat))), (0, .ref (Q 0)), (1, .int (nI p0)), (2, .int (nI on))]) hx hb dX0_mark_18 rfl hl (by decide) rfl (fun ls hl => ?_)
    refine lv_aload_n hx hb dX0_mark_19 rfl (lv_at hl 1 rfl) ?_
    refine lv_iload_n hx hb dX0_mark_20 rfl (lv_at hl 3 rfl) ?_
    refine s_ieq X (x := on) (by omega) (tgt := 35) dX0_mark_21 (by decide) (fun c_2 => ?_) (fun c_2 => ?_)
    · refine lv_aload_n hx hb dX0_mark_35 rfl (lv_at hl 1 rfl) ?_
      refine s_get0 X hP 0 rfl 3 (by decide) q30 rfl rfl dX0_mark_36 ?_
      refine lv_iconst (v := nI 1) hx hb dX0_mark_39 (by decide) ?_
      refine lv_iload_n hx hb dX0_mark_40 rfl (lv_at hl 2 rfl) ?_
      refine lv_ishl hx hb dX0_mark_41 ?_
      refine s_top (nI (2 ^ p0)) (s_shl1 (by omega)) ?_
      refine lv_iconst (v := -1) hx hb dX0_mark_42 (by decide) ?_
      refine lv_ixor hx hb dX0_mark_43 ?_
      refine lv_iand hx hb dX0_mark_44 ?_
      refine s_top (nI (mk &&& (127 - 2 ^ p0))) (s_clear hmk hp0) ?_
      refine s_put0 X hP hD hS 0 rfl 3 (by decide) q30 rfl rfl rfl rfl (Nat.le_of_ble_eq_true rfl) dX0_mark_45 (fun H locs hP hD hS => ?_)
      have hP : va_P (dC, dI) vwCl (nW dA Q ea eb pr (mk &&& (127 - 2 ^ p0)) ct wy pt wc wd kn bp bs) H := hP
      have hD : va_D A (nW dA Q ea eb pr (mk &&& (127 - 2 ^ p0)) ct wy pt wc wd kn bp bs) := hD
      refine lv_aload_n hx hb dX0_mark_48 rfl (lv_at hl 1 rfl) ?_
      refine lv_iconst (v := nI 0) hx hb dX0_mark_49 (by decide) ?_
      refine s_put0 X hP hD hS 0 rfl 9 (by decide) q36 rfl rfl (by decide +kernel) rfl (Nat.le_of_ble_eq_true rfl) dX0_mark_50 (fun H locs hP hD hS => ?_)
      have hP : va_P (dC, dI) vwCl (nW dA Q ea eb pr (mk &&& (127 - 2 ^ p0)) ct wy pt wc wd 0 bp bs) H := hP
      have hD : va_D A (nW dA Q ea eb pr (mk &&& (127 - 2 ^ p0)) ct wy pt wc wd 0 bp bs) := hD
      refine lv_iload_n hx hb dX0_mark_53 rfl (lv_at hl 0 rfl) ?_
      exact s_iret (r := (nI ((mk.testBit p0).toNat))) X hr hlocks (rfl) (ea, eb, pr, mk &&& (127 - 2 ^ p0), ct, wy, pt, wc, wd, 0, bp, bs) (⟨Or.inl ⟨p0, ⟨hp0, rfl⟩, rfl, by rw [if_pos c_2]; rfl⟩, nIv_mark hI (sg_and7 hmk)⟩) hP hD hS dX0_mark_54
    · refine lv_aload_n hx hb dX0_mark_24 rfl (lv_at hl 1 rfl) ?_
      refine s_get0 X hP 0 rfl 3 (by decide) q30 rfl rfl dX0_mark_25 ?_
      refine lv_iconst (v := nI 1) hx hb dX0_mark_28 (by decide) ?_
      refine lv_iload_n hx hb dX0_mark_29 rfl (lv_at hl 2 rfl) ?_
      refine lv_ishl hx hb dX0_mark_30 ?_
      refine s_top (nI (2 ^ p0)) (s_shl1 (by omega)) ?_
      refine lv_ior hx hb dX0_mark_31 ?_
      refine s_top (nI (mk ||| (2 ^ p0))) (s_or _ _) ?_
      refine lv_goto (tgt := 45) hx hb dX0_mark_32 (by decide) ?_
      refine s_put0 X hP hD hS 0 rfl 3 (by decide) q30 rfl rfl rfl rfl (Nat.le_of_ble_eq_true rfl) dX0_mark_45 (fun H locs hP hD hS => ?_)
      have hP : va_P (dC, dI) vwCl (nW dA Q ea eb pr (mk ||| (2 ^ p0)) ct wy pt wc wd kn bp bs) H := hP
      have hD : va_D A (nW dA Q ea eb pr (mk ||| (2 ^ p0)) ct wy pt wc wd kn bp bs) := hD
      refine lv_aload_n hx hb dX0_mark_48 rfl (lv_at hl 1 rfl) ?_
      refine lv_iconst (v := nI 0) hx hb dX0_mark_49 (by decide) ?_
      refine s_put0 X hP hD hS 0 rfl 9 (by decide) q36 rfl rfl (by decide +kernel) rfl (Nat.le_of_ble_eq_true rfl) dX0_mark_50 (fun H locs hP hD hS => ?_)
      have hP : va_P (dC, dI) vwCl (nW dA Q ea eb pr (mk ||| (2 ^ p0)) ct wy pt wc wd 0 bp bs) H := hP
      have hD : va_D A (nW dA Q ea eb pr (mk ||| (2 ^ p0)) ct wy pt wc wd 0 bp bs) := hD
      refine lv_iload_n hx hb dX0_mark_53 rfl (lv_at hl 0 rfl) ?_
      exact s_iret (r := (nI ((mk.testBit p0).toNat))) X hr hlocks (rfl) (ea, eb, pr, mk ||| (2 ^ p0), ct, wy, pt, wc, wd, 0, bp, bs) (⟨Or.inl ⟨p0, ⟨hp0, rfl⟩, rfl, by rw [if_neg c_2]; rfl⟩, nIv_mark hI (sg_or7 hmk hp0)⟩) hP hD hS dX0_mark_54
  · refine lv_bipush (v := -2) hx hb dX0_mark_7 (by decide) ?_
    exact s_iret (r := (-2)) X hr hlocks (rfl) (ea, eb, pr, mk, ct, wy, pt, wc, wd, kn, bp, bs) (⟨Or.inr ⟨sp_ptF hq1 c_1, rfl, rfl⟩, hI⟩) hP hD hS dX0_mark_9

end NET3
end
section
section NET3
variable {p : Program} {l : Launch} {e : Env} {R : Room} {s : State} {m : MethodId} {args : Array Value} {below : List Frame} {meth : Method} {c : Code} {cells slots : Nat} {Qp : State → Prop} {dC : Nat → ClassId} {dI : Nat → Nat → Nat} {dA dZ : ClassId} {A : Nat → Prop} {H0 : Heap} {Q : Nat → Nat}
variable {ea eb pr : Nat → Nat} {mk : Nat} {ct wy pt : Nat → Nat} {wc : Nat} {wd : Nat → Nat} {kn : Nat} {bp : Int32} {bs : Nat}
set_option maxHeartbeats 4000000 in
set_option maxRecDepth 100000 in
theorem lp_best (X : Cx p c cX0_findBest 5 s m args RX0 dC dI (tyz dA dZ)) (hA : ∀ q : Nat, H0.size ≤ q → A q) (hea : ∀ k, ea k < 7) (heb : ∀ k, eb k < 7) (hpr : sg_B 100 pr) (hmk : mk < 128) (best : Nat) (hbst : best < 100000)
    (K : ∀ (ct wy pt : Nat → Nat) (wc : Nat) (wd : Nat → Nat) (bs : Nat) (H : Heap) (locs : List Loc) (ls : Array Slot), sg_G ea eb pr mk best 0 ct bs → sg_B 100000 ct → sg_B 100000 wy → sg_B 100000 pt → (∀ k, wd k < 7) → sWd dC dI A H0 (nW dA Q ea eb pr mk ct wy pt wc wd 1 bp bs) H locs → lv_has ls 5 [(0, .ref (Q 0))] → W p l e (headSpec (ws_ yX0_findBest cX0_findBest 5 none) ({ frames := 3, cells := 0, slots := 0, locals := 70 })).room s m args below meth c H locs 0 0 Qp (F0 m 131 ls [])) :
    ∀ (j : Nat), j ≤ 10 → ∀ (ct wy pt : Nat → Nat) (wc : Nat) (wd : Nat → Nat) (bs : Nat) (H : Heap) (locs : List Loc) (ls : Array Slot), sg_G ea eb pr mk best j ct bs → sg_B 100000 ct → sg_B 100000 wy → sg_B 100000 pt → (∀ k, wd k < 7) → sWd dC dI A H0 (nW dA Q ea eb pr mk ct wy pt wc wd 1 bp bs) H locs → lv_has ls 5 [(0, .ref (Q 0)), (1, .int (nI best)), (2, .int (nI (sg_P pr bs))), (3, .int (sg_dn j))] → W p l e (headSpec (ws_ yX0_findBest cX0_findBest 5 none) ({ frames := 3, cells := 0, slots := 0, locals := 70 })).room s m args below meth c H locs 0 0 Qp (F0 m 58 ls []) := by
  have hx := X.1.1
  have hb := X.1.2.1
  have hown := X.1.2.2.2.1
  have hts := X.1.2.2.2.2
  intro j
  induction j with
  | zero =>
    intro hj ct wy pt wc wd bs H locs ls hG hct hwy hpt hwd hW hl
    obtain ⟨hP, hD, hS⟩ := hW
    have hl : lv_has ls 5 [(0, .ref (Q 0)), (1, .int (nI best)), (2, .int (nI (sg_P pr bs))), (3, .int (-1))] := hl
    refine lv_iload_n hx hb dX0_findBest_58 rfl (lv_at hl 3 rfl) ?_
    refine lv_if_lt (tgt := 131) hx hb dX0_findBest_59 (by decide) (fun c_z1 => ?_) (fun c_z1 => ?_)
    · exact K _ _ _ _ _ _ _ _ _ hG hct hwy hpt hwd ⟨hP, hD, hS⟩ (lv_sub hl [0] rfl)
    · exact absurd (by decide) c_z1
  | succ k ih =>
    intro hj ct wy pt wc wd bs H locs ls hG hct hwy hpt hwd hW hl
    obtain ⟨hP, hD, hS⟩ := hW
    have hl : lv_has ls 5 [(0, .ref (Q 0)), (1, .int (nI best)), (2, .int (nI (sg_P pr bs))), (3, .int (nI k))] := hl
    have hpk := hpr k
    have hPb := sg_P_le hpr bs
    refine lv_iload_n hx hb dX0_findBest_58 rfl (lv_at hl 3 rfl) ?_
    refine lv_if_lt (tgt := 131) hx hb dX0_findBest_59 (by decide) (fun c_1 => ?_) (fun c_1 => ?_)
    · exact absurd c_1 (nI_pos (by omega))
    · refine lv_aload_n hx hb dX0_findBest_62 rfl (lv_at hl 0 rfl) ?_
      refine s_get0 X hP 0 rfl 2 (by decide) q29 rfl rfl dX0_findBest_63 ?_
      refine lv_iload_n hx hb dX0_findBest_66 rfl (lv_at hl 3 rfl) ?_
      refine s_ild X hP 3 0 rfl rfl (k := k) (by omega) (by decide) dX0_findBest_67 ?_
      refine s_ile X (x := pr k) (by omega) (tgt := 125) dX0_findBest_68 (by decide) (fun c_2 => ?_) (fun c_2 => ?_)
      · refine lv_iinc (v := (sg_dn k)) (lv' := [(3, .int (sg_dn k)), (0, .ref (Q 0)), (1, .int (nI best)), (2, .int (nI (sg_P pr bs)))]) hx hb dX0_findBest_125 hl (k := 3) rfl (sg_dn_pred k) (by decide) rfl (fun ls hl => ?_)
        refine lv_goto (tgt := 58) hx hb dX0_findBest_128 (by decide) ?_
        exact ih (by omega) _ _ _ _ _ _ _ _ _ (sg_G_no (by omega) hG c_2) hct hwy hpt hwd ⟨hP, hD, hS⟩ (lv_sub hl [1, 2, 3, 0] rfl)
      · refine lv_aload_n hx hb dX0_findBest_71 rfl (lv_at hl 0 rfl) ?_
        refine s_get0 X hP 0 rfl 4 (by decide) q31 rfl rfl dX0_findBest_72 ?_
        refine lv_iload_n hx hb dX0_findBest_75 rfl (lv_at hl 3 rfl) ?_
        refine lv_ldc (v := 100000) hx hb hown (hts _ q96) dX0_findBest_76 ?_
        refine s_top (nI 100000) (by decide) ?_
        refine s_ist X hP hD hS 4 0 rfl rfl (k := k) (v := 100000) (by omega) (by decide) dX0_findBest_78 (fun H locs hP hD hS => ?_)
        have hP : va_P (dC, dI) vwCl (nW dA Q ea eb pr mk (va_up ct k 100000) wy pt wc wd 1 bp bs) H := hP
        have hD : va_D A (nW dA Q ea eb pr mk (va_up ct k 100000) wy pt wc wd 1 bp bs) := hD
        refine lv_aload_n hx hb dX0_findBest_79 rfl (lv_at hl 0 rfl) ?_
        refine lv_aload_n hx hb dX0_findBest_80 rfl (lv_at hl 0 rfl) ?_
        refine s_get0 X hP 0 rfl 3 (by decide) q30 rfl rfl dX0_findBest_81 ?_
        refine s_calliV (wr := []) (rest := []) X (met_leastFor l dC dI dA dZ Q ea eb pr mk (va_up ct k 100000) wy pt wc wd 1 bp bs (mk) hmk hea heb (sg_B_up hct (Nat.le_refl _)) hwy hpt hwd) (cwV 1 hts (lw_V q97 q99 qs3 q17 q100) rfl rfl rfl (by decide +kernel) ⟨Nat.le_of_ble_eq_true rfl, Nat.le_of_ble_eq_true rfl⟩) ⟨Nat.zero_le _, Nat.zero_le _⟩ hP hD hS hA [0, 1, 2, 3, 4, 5, 6, 7] [] rfl rfl rfl rfl (by decide) 0 rfl rfl rfl hl.1 rfl rfl (Nat.le_of_ble_eq_true rfl) dX0_findBest_84 (fun r u H locs hpost hP hD hS => ?_)
        obtain ⟨wy1, pt1, wc1, wd1⟩ := u
        obtain ⟨L1, rfl, hL1, hwy1, hpt1, hwc1, hwd1⟩ := hpost
        have hwy1 : sg_B 100000 wy1 := hwy1
        have hpt1 : sg_B 100000 pt1 := hpt1
        have hwd1 : ∀ k, wd1 k < 7 := hwd1
        have hLb1 := hL1.1
        have hP : va_P (dC, dI) vwCl (nW dA Q ea eb pr mk (va_up ct k 100000) wy1 pt1 wc1 wd1 1 bp bs) H := hP
        have hD : va_D A (nW dA Q ea eb pr mk (va_up ct k 100000) wy1 pt1 wc1 wd1 1 bp bs) := hD
        refine lv_istore (lv' := [(4, .int (nI L1)), (0, .ref (Q 0)), (1, .int (nI best)), (2, .int (nI (sg_P pr bs))), (3, .int (nI k))]) hx hb dX0_findBest_87 hl (by decide) rfl (fun ls hl => ?_)
        refine lv_iload hx hb dX0_findBest_89 (lv_at hl 0 rfl) ?_
        refine lv_iload_n hx hb dX0_findBest_91 rfl (lv_at hl 3 rfl) ?_
        refine lv_iadd hx hb dX0_findBest_92 ?_
        refine s_top (nI (L1 + (sg_P pr bs))) (nI_add _ _) ?_
        refine lv_iload_n hx hb dX0_findBest_93 rfl (lv_at hl 2 rfl) ?_
        refine s_ceq X (x := L1 + (sg_P pr bs)) (y := best) (by omega) (by omega) (tgt := 125) dX0_findBest_94 (by decide) (fun c_3 => ?_) (fun c_3 => ?_)
        · refine lv_iinc (v := (sg_dn k)) (lv' := [(3, .int (sg_dn k)), (4, .int (nI L1)), (0, .ref (Q 0)), (1, .int (nI best)), (2, .int (nI (sg_P pr bs)))]) hx hb dX0_findBest_125 hl (k := 4) rfl (sg_dn_pred k) (by decide) rfl (fun ls hl => ?_)
          refine lv_goto (tgt := 58) hx hb dX0_findBest_128 (by decide) ?_
          exact ih (by omega) _ _ _ _ _ _ _ _ _ (sg_G_out hpr hbst (by omega) c_2 hG hL1 c_3) (sg_B_up hct (Nat.le_refl _)) hwy1 hpt1 hwd1 ⟨hP, hD, hS⟩ (lv_sub hl [2, 3, 4, 0] rfl)
        · refine lv_aload_n hx hb dX0_findBest_97 rfl (lv_at hl 1 rfl) ?_
          refine s_get0 X hP 0 rfl 4 (by decide) q31 rfl rfl dX0_findBest_98 ?_
          refine lv_iload_n hx hb dX0_findBest_101 rfl (lv_at hl 4 rfl) ?_
          refine lv_iconst (v := nI 0) hx hb dX0_findBest_102 (by decide) ?_
          refine s_ist X hP hD hS 4 0 rfl rfl (k := k) (v := 0) (by omega) (by decide) dX0_findBest_103 (fun H locs hP hD hS => ?_)
          have hP : va_P (dC, dI) vwCl (nW dA Q ea eb pr mk (va_up (va_up ct k 100000) k 0) wy1 pt1 wc1 wd1 1 bp bs) H := hP
          have hD : va_D A (nW dA Q ea eb pr mk (va_up (va_up ct k 100000) k 0) wy1 pt1 wc1 wd1 1 bp bs) := hD
          refine lv_iload_n hx hb dX0_findBest_104 rfl (lv_at hl 3 rfl) ?_
          refine lv_aload_n hx hb dX0_findBest_105 rfl (lv_at hl 1 rfl) ?_
          refine s_get0 X hP 0 rfl 2 (by decide) q29 rfl rfl dX0_findBest_106 ?_
          refine lv_iload_n hx hb dX0_findBest_109 rfl (lv_at hl 4 rfl) ?_
          refine s_ild X hP 3 0 rfl rfl (k := k) (by omega) (by decide) dX0_findBest_110 ?_
          refine lv_iadd hx hb dX0_findBest_111 ?_
          refine s_top (nI ((sg_P pr bs) + (pr k))) (nI_add _ _) ?_
          refine lv_istore_n (lv' := [(2, .int (nI ((sg_P pr bs) + (pr k)))), (4, .int (nI L1)), (0, .ref (Q 0)), (1, .int (nI best)), (3, .int (nI k))]) hx hb dX0_findBest_112 rfl hl (by decide) rfl (fun ls hl => ?_)
          refine lv_aload_n hx hb dX0_findBest_113 rfl (lv_at hl 2 rfl) ?_
          refine lv_dup hx hb dX0_findBest_114 rfl ?_
          refine s_get0 X hP 0 rfl 11 (by decide) q38 rfl rfl dX0_findBest_115 ?_
          refine lv_iconst (v := nI 1) hx hb dX0_findBest_118 (by decide) ?_
          refine lv_iload_n hx hb dX0_findBest_119 rfl (lv_at hl 4 rfl) ?_
          refine lv_ishl hx hb dX0_findBest_120 ?_
          refine s_top (nI (2 ^ k)) (s_shl1 (by omega)) ?_
          refine lv_ior hx hb dX0_findBest_121 ?_
          refine s_top (nI (bs ||| (2 ^ k))) (s_or _ _) ?_
          refine s_put0 X hP hD hS 0 rfl 11 (by decide) q38 rfl rfl rfl rfl (Nat.le_of_ble_eq_true rfl) dX0_findBest_122 (fun H locs hP hD hS => ?_)
          have hP : va_P (dC, dI) vwCl (nW dA Q ea eb pr mk (va_up (va_up ct k 100000) k 0) wy1 pt1 wc1 wd1 1 bp (bs ||| (2 ^ k))) H := hP
          have hD : va_D A (nW dA Q ea eb pr mk (va_up (va_up ct k 100000) k 0) wy1 pt1 wc1 wd1 1 bp (bs ||| (2 ^ k))) := hD
          refine lv_iinc (v := (sg_dn k)) (lv' := [(3, .int (sg_dn k)), (2, .int (nI ((sg_P pr bs) + (pr k)))), (4, .int (nI L1)), (0, .ref (Q 0)), (1, .int (nI best))]) hx hb dX0_findBest_125 hl (k := 4) rfl (sg_dn_pred k) (by decide) rfl (fun ls hl => ?_)
          refine lv_goto (tgt := 58) hx hb dX0_findBest_128 (by decide) ?_
          exact ih (by omega) _ _ _ _ _ _ _ _ _ (sg_G_in hpr hbst (by omega) c_2 hG hL1 c_3) (sg_B_up (sg_B_up hct (Nat.le_refl _)) (by omega)) hwy1 hpt1 hwd1 ⟨hP, hD, hS⟩ (by rw [sg_P_or (by omega) (sg_G_bit hG)]; exact lv_sub hl [3, 4, 1, 0] rfl)

end NET3
end
section
section NET3
variable {p : Program} {l : Launch} {e : Env} {R : Room} {s : State} {m : MethodId} {args : Array Value} {below : List Frame} {meth : Method} {c : Code} {cells slots : Nat} {Qp : State → Prop} {dC : Nat → ClassId} {dI : Nat → Nat → Nat} {dA dZ : ClassId} {A : Nat → Prop} {H0 : Heap} {Q : Nat → Nat}
variable {ea eb pr : Nat → Nat} {mk : Nat} {ct wy pt : Nat → Nat} {wc : Nat} {wd : Nat → Nat} {kn : Nat} {bp : Int32} {bs : Nat}
set_option maxHeartbeats 4000000 in
set_option maxRecDepth 100000 in
theorem met_findBest (l : Launch) (dC : Nat → ClassId) (dI : Nat → Nat → Nat) (dA dZ : ClassId) (Q : Nat → Nat) (ea eb pr : Nat → Nat) (mk : Nat) (ct wy pt : Nat → Nat) (wc : Nat) (wd : Nat → Nat) (kn : Nat) (bp : Int32) (bs : Nat) (hI : nIv ea eb pr mk ct wy pt wd kn bp bs) : sMv l yX0_findBest cX0_findBest 5 ({ frames := 3, cells := 0, slots := 0, locals := 70 }) dC dI (tyz dA dZ) [.ref (Q 0)] (nW dA Q ea eb pr mk ct wy pt wc wd kn bp bs) (fun (u : (Nat → Nat) × (Nat → Nat) × (Nat → Nat) × Nat × (Nat → Nat) × Int32 × Nat) => nIv ea eb pr mk u.1 u.2.1 u.2.2.1 u.2.2.2.2.1 1 u.2.2.2.2.2.1 u.2.2.2.2.2.2) (fun u => nW dA Q ea eb pr mk u.1 u.2.1 u.2.2.1 u.2.2.2.1 u.2.2.2.2.1 1 u.2.2.2.2.2.1 u.2.2.2.2.2.2) := by
  refine sMv_of (by decide) (Nat.le_of_ble_eq_true rfl) ?_
  intro p e s m below meth c A ls X hr hlocks hA hP hD hS hl
  have hl : lv_has ls 5 [(0, .ref (Q 0))] := hl
  have hx := X.1.1
  have hb := X.1.2.1
  have hown := X.1.2.2.2.1
  have hts := X.1.2.2.2.2
  have hI9 := hI
  obtain ⟨hea, heb, hpr, hmk, hct, hwy, hpt, hwd, hkn, hbs⟩ := hI9
  refine lv_aload_n hx hb dX0_findBest_0 rfl (lv_at hl 0 rfl) ?_
  refine s_get0 X hP 0 rfl 9 (by decide) q36 rfl rfl dX0_findBest_1 ?_
  refine s_ieq X (x := kn) (by omega) (tgt := 8) dX0_findBest_4 (by decide) (fun c_1 => ?_) (fun c_1 => ?_)
  · refine lv_aload_n hx hb dX0_findBest_8 rfl (lv_at hl 0 rfl) ?_
    refine lv_iconst (v := nI 1) hx hb dX0_findBest_9 (by decide) ?_
    refine s_put0 X hP hD hS 0 rfl 9 (by decide) q36 rfl rfl (by decide +kernel) rfl (Nat.le_of_ble_eq_true rfl) dX0_findBest_10 (fun H locs hP hD hS => ?_)
    have hP : va_P (dC, dI) vwCl (nW dA Q ea eb pr mk ct wy pt wc wd 1 bp bs) H := hP
    have hD : va_D A (nW dA Q ea eb pr mk ct wy pt wc wd 1 bp bs) := hD
    refine lv_aload_n hx hb dX0_findBest_13 rfl (lv_at hl 0 rfl) ?_
    refine lv_iconst (v := nI 0) hx hb dX0_findBest_14 (by decide) ?_
    refine s_put0 X hP hD hS 0 rfl 11 (by decide) q38 rfl rfl rfl rfl (Nat.le_of_ble_eq_true rfl) dX0_findBest_15 (fun H locs hP hD hS => ?_)
    have hP : va_P (dC, dI) vwCl (nW dA Q ea eb pr mk ct wy pt wc wd 1 bp 0) H := hP
    have hD : va_D A (nW dA Q ea eb pr mk ct wy pt wc wd 1 bp 0) := hD
    refine lv_aload_n hx hb dX0_findBest_18 rfl (lv_at hl 0 rfl) ?_
    refine s_callvV (wr := []) (rest := []) X (met_countAll l dC dI dA dZ Q ea eb pr mk ct wy pt wc wd 1 bp 0 hpr) (cwV 0 hts (lw_V q92 q94 qs2 q17 q95) rfl rfl rfl (by decide +kernel) ⟨Nat.le_of_ble_eq_true rfl, Nat.le_of_ble_eq_true rfl⟩) ⟨Nat.zero_le _, Nat.zero_le _⟩ hP hD hS hA [0, 1, 2, 3, 4, 5, 6, 7] [] rfl rfl rfl rfl (by decide) 0 rfl rfl rfl hl.1 rfl rfl (Nat.le_of_ble_eq_true rfl) dX0_findBest_19 (fun u H locs hpost hP hD hS => ?_)
    have hP : va_P (dC, dI) vwCl (nW dA Q ea eb pr mk (sg_cA pr ct 10) wy pt wc wd 1 bp 0) H := hP
    have hD : va_D A (nW dA Q ea eb pr mk (sg_cA pr ct 10) wy pt wc wd 1 bp 0) := hD
    refine lv_aload_n hx hb dX0_findBest_22 rfl (lv_at hl 0 rfl) ?_
    refine lv_aload_n hx hb dX0_findBest_23 rfl (lv_at hl 0 rfl) ?_
    refine s_get0 X hP 0 rfl 3 (by decide) q30 rfl rfl dX0_findBest_24 ?_
    refine s_calliV (wr := []) (rest := []) X (met_leastFor l dC dI dA dZ Q ea eb pr mk (sg_cA pr ct 10) wy pt wc wd 1 bp 0 (mk) hmk hea heb (sg_cA_B hpr hct 10) hwy hpt hwd) (cwV 1 hts (lw_V q97 q99 qs3 q17 q100) rfl rfl rfl (by decide +kernel) ⟨Nat.le_of_ble_eq_true rfl, Nat.le_of_ble_eq_true rfl⟩) ⟨Nat.zero_le _, Nat.zero_le _⟩ hP hD hS hA [0, 1, 2, 3, 4, 5, 6, 7] [] rfl rfl rfl rfl (by decide) 0 rfl rfl rfl hl.1 rfl rfl (Nat.le_of_ble_eq_true rfl) dX0_findBest_27 (fun r u H locs hpost hP hD hS => ?_)
    obtain ⟨wy1, pt1, wc1, wd1⟩ := u
    obtain ⟨L1, rfl, hL1, hwy1, hpt1, hwc1, hwd1⟩ := hpost
    have hwy1 : sg_B 100000 wy1 := hwy1
    have hpt1 : sg_B 100000 pt1 := hpt1
    have hwd1 : ∀ k, wd1 k < 7 := hwd1
    have hLb1 := hL1.1
    have hP : va_P (dC, dI) vwCl (nW dA Q ea eb pr mk (sg_cA pr ct 10) wy1 pt1 wc1 wd1 1 bp 0) H := hP
    have hD : va_D A (nW dA Q ea eb pr mk (sg_cA pr ct 10) wy1 pt1 wc1 wd1 1 bp 0) := hD
    refine lv_istore_n (lv' := [(1, .int (nI L1)), (0, .ref (Q 0))]) hx hb dX0_findBest_30 rfl hl (by decide) rfl (fun ls hl => ?_)
    refine lv_aload_n hx hb dX0_findBest_31 rfl (lv_at hl 1 rfl) ?_
    refine lv_iload_n hx hb dX0_findBest_32 rfl (lv_at hl 0 rfl) ?_
    refine lv_ldc (v := 100000) hx hb hown (hts _ q96) dX0_findBest_33 ?_
    refine s_top (nI 100000) (by decide) ?_
    refine s_clt X (x := L1) (y := 100000) (by omega) (by omega) (tgt := 42) dX0_findBest_35 (by decide) (fun c_2 => ?_) (fun c_2 => ?_)
    · refine lv_iload_n hx hb dX0_findBest_42 rfl (lv_at hl 0 rfl) ?_
      refine s_put0 X hP hD hS 0 rfl 10 (by decide) q37 rfl rfl rfl rfl (Nat.le_of_ble_eq_true rfl) dX0_findBest_43 (fun H locs hP hD hS => ?_)
      have hP : va_P (dC, dI) vwCl (nW dA Q ea eb pr mk (sg_cA pr ct 10) wy1 pt1 wc1 wd1 1 (nI L1) 0) H := hP
      have hD : va_D A (nW dA Q ea eb pr mk (sg_cA pr ct 10) wy1 pt1 wc1 wd1 1 (nI L1) 0) := hD
      refine lv_iload_n hx hb dX0_findBest_46 rfl (lv_at hl 0 rfl) ?_
      refine lv_ldc (v := 100000) hx hb hown (hts _ q96) dX0_findBest_47 ?_
      refine s_top (nI 100000) (by decide) ?_
      refine s_clt X (x := L1) (y := 100000) (by omega) (by omega) (tgt := 53) dX0_findBest_49 (by decide) (fun c_3 => ?_) (fun c_3 => ?_)
      · refine lv_iconst (v := nI 0) hx hb dX0_findBest_53 (by decide) ?_
        refine lv_istore_n (lv' := [(2, .int (nI 0)), (1, .int (nI L1)), (0, .ref (Q 0))]) hx hb dX0_findBest_54 rfl hl (by decide) rfl (fun ls hl => ?_)
        refine lv_bipush (v := nI 9) hx hb dX0_findBest_55 (by decide) ?_
        refine lv_istore_n (lv' := [(3, .int (nI 9)), (2, .int (nI 0)), (1, .int (nI L1)), (0, .ref (Q 0))]) hx hb dX0_findBest_57 rfl hl (by decide) rfl (fun ls hl => ?_)
        refine lp_best (l := l) X hA hea heb hpr hmk L1 c_3 (fun ct2 wy2 pt2 wc2 wd2 bs2 H locs ls hG hct2 hwy2 hpt2 hwd2 hW hl => ?_) 10 (by omega) (sg_cA pr ct 10) wy1 pt1 wc1 wd1 0 _ _ _ (sg_G_start hpr (fun k hk => sg_cA_at pr ct hk) hL1 (by omega)) (sg_cA_B hpr hct 10) hwy1 hpt1 hwd1 ⟨hP, hD, hS⟩ (by rw [sg_P_zero]; exact lv_sub hl [3, 2, 1, 0] rfl)
        obtain ⟨hP, hD, hS⟩ := hW
        exact s_vret X hr hlocks (ct2, wy2, pt2, wc2, wd2, (nI L1), bs2) (⟨hea, heb, hpr, hmk, hct2, hwy2, hpt2, hwd2, by decide, fun _ => sg_BS_end hG⟩) hP hD hS dX0_findBest_131
      · exact absurd c_3 (by omega)
    · refine lv_iconst (v := -1) hx hb dX0_findBest_38 (by decide) ?_
      refine lv_goto (tgt := 43) hx hb dX0_findBest_39 (by decide) ?_
      refine s_put0 X hP hD hS 0 rfl 10 (by decide) q37 rfl rfl rfl rfl (Nat.le_of_ble_eq_true rfl) dX0_findBest_43 (fun H locs hP hD hS => ?_)
      have hP : va_P (dC, dI) vwCl (nW dA Q ea eb pr mk (sg_cA pr ct 10) wy1 pt1 wc1 wd1 1 (-1) 0) H := hP
      have hD : va_D A (nW dA Q ea eb pr mk (sg_cA pr ct 10) wy1 pt1 wc1 wd1 1 (-1) 0) := hD
      refine lv_iload_n hx hb dX0_findBest_46 rfl (lv_at hl 0 rfl) ?_
      refine lv_ldc (v := 100000) hx hb hown (hts _ q96) dX0_findBest_47 ?_
      refine s_top (nI 100000) (by decide) ?_
      refine s_clt X (x := L1) (y := 100000) (by omega) (by omega) (tgt := 53) dX0_findBest_49 (by decide) (fun c_4 => ?_) (fun c_4 => ?_)
      · exact absurd c_4 (by omega)
      · exact s_vret X hr hlocks (sg_cA pr ct 10, wy1, pt1, wc1, wd1, (-1), 0) (⟨hea, heb, hpr, hmk, sg_cA_B hpr hct 10, hwy1, hpt1, hwd1, by decide, fun _ => sg_BS_far hpr hL1 c_2⟩) hP hD hS dX0_findBest_52
  · obtain rfl : kn = 1 := by omega
    exact s_vret X hr hlocks (ct, wy, pt, wc, wd, bp, bs) (hI) hP hD hS dX0_findBest_7

end NET3
end
section
section NET3
variable {p : Program} {l : Launch} {e : Env} {R : Room} {s : State} {m : MethodId} {args : Array Value} {below : List Frame} {meth : Method} {c : Code} {cells slots : Nat} {Qp : State → Prop} {dC : Nat → ClassId} {dI : Nat → Nat → Nat} {dA dZ : ClassId} {A : Nat → Prop} {H0 : Heap} {Q : Nat → Nat}
variable {ea eb pr : Nat → Nat} {mk : Nat} {ct wy pt : Nat → Nat} {wc : Nat} {wd : Nat → Nat} {kn : Nat} {bp : Int32} {bs : Nat}
set_option maxHeartbeats 4000000 in
set_option maxRecDepth 100000 in
theorem net_least (l : Launch) (dC : Nat → ClassId) (dI : Nat → Nat → Nat) (dA dZ : ClassId) (Q : Nat → Nat) (ea eb pr : Nat → Nat) (mk : Nat) (ct wy pt : Nat → Nat) (wc : Nat) (wd : Nat → Nat) (kn : Nat) (bp : Int32) (bs : Nat) (hI : nIv ea eb pr mk ct wy pt wd kn bp bs) : sMi l yX0_least cX0_least 1 (some .int) ({ frames := 4, cells := 0, slots := 0, locals := 94 }) dC dI (tyz dA dZ) [.ref (Q 0)] (nW dA Q ea eb pr mk ct wy pt wc wd kn bp bs) (fun (r : Int32) (u : nS) => sp_least (ea, eb, pr, mk) r (nAb u) ∧ nIvU u) (fun u => nWu dA Q u) := by
  refine sMi_of (by decide) (Nat.le_of_ble_eq_true rfl) ?_
  intro p e s m below meth c A ls X hr hlocks hA hP hD hS hl
  have hl : lv_has ls 1 [(0, .ref (Q 0))] := hl
  have hx := X.1.1
  have hb := X.1.2.1
  have hown := X.1.2.2.2.1
  have hts := X.1.2.2.2.2
  have hI9 := hI
  obtain ⟨hea, heb, hpr, hmk, hct, hwy, hpt, hwd, hkn, hbs⟩ := hI9
  refine lv_aload_n hx hb dX0_least_0 rfl (lv_at hl 0 rfl) ?_
  refine s_callvV (wr := []) (rest := []) X (met_findBest l dC dI dA dZ Q ea eb pr mk ct wy pt wc wd kn bp bs hI) (cwV 0 hts (lw_V q88 q90 qs1 q17 q91) rfl rfl rfl (by decide +kernel) ⟨Nat.le_of_ble_eq_true rfl, Nat.le_of_ble_eq_true rfl⟩) ⟨Nat.zero_le _, Nat.zero_le _⟩ hP hD hS hA [0, 1, 2, 3, 4, 5, 6, 7] [] rfl rfl rfl rfl (by decide) 0 rfl rfl rfl hl.1 rfl rfl (Nat.le_of_ble_eq_true rfl) dX0_least_1 (fun u H locs hpost hP hD hS => ?_)
  obtain ⟨ct3, wy3, pt3, wc3, wd3, bp3, bs3⟩ := u
  have hI3 : nIv ea eb pr mk ct3 wy3 pt3 wd3 1 bp3 bs3 := hpost
  have hbs3 := hI3.2.2.2.2.2.2.2.2.2 rfl
  have hP : va_P (dC, dI) vwCl (nW dA Q ea eb pr mk ct3 wy3 pt3 wc3 wd3 1 bp3 bs3) H := hP
  have hD : va_D A (nW dA Q ea eb pr mk ct3 wy3 pt3 wc3 wd3 1 bp3 bs3) := hD
  refine lv_aload_n hx hb dX0_least_4 rfl (lv_at hl 0 rfl) ?_
  refine s_get0 X hP 0 rfl 10 (by decide) q37 rfl rfl dX0_least_5 ?_
  exact s_iret (r := bp3) X hr hlocks (rfl) (ea, eb, pr, mk, ct3, wy3, pt3, wc3, wd3, 1, bp3, bs3) (⟨⟨sg_BS_Low hbs3, rfl⟩, hI3⟩) hP hD hS dX0_least_8

set_option maxHeartbeats 4000000 in
set_option maxRecDepth 100000 in
theorem net_chosen (l : Launch) (dC : Nat → ClassId) (dI : Nat → Nat → Nat) (dA dZ : ClassId) (Q : Nat → Nat) (ea eb pr : Nat → Nat) (mk : Nat) (ct wy pt : Nat → Nat) (wc : Nat) (wd : Nat → Nat) (kn : Nat) (bp : Int32) (bs : Nat) (x : Int32) (hI : nIv ea eb pr mk ct wy pt wd kn bp bs) : sMi l yX0_chosen cX0_chosen 2 (some .int) ({ frames := 4, cells := 0, slots := 0, locals := 94 }) dC dI (tyz dA dZ) [.ref (Q 0), .int x] (nW dA Q ea eb pr mk ct wy pt wc wd kn bp bs) (fun (r : Int32) (u : nS) => sp_chosen x (ea, eb, pr, mk) r (nAb u) ∧ nIvU u) (fun u => nWu dA Q u) := by
  refine sMi_of (by decide) (Nat.le_of_ble_eq_true rfl) ?_
  intro p e s m below meth c A ls X hr hlocks hA hP hD hS hl
  have hl : lv_has ls 2 [(0, .ref (Q 0)), (1, .int x)] := hl
  have hx := X.1.1
  have hb := X.1.2.1
  have hown := X.1.2.2.2.1
  have hts := X.1.2.2.2.2
  have hI9 := hI
  obtain ⟨hea, heb, hpr, hmk, hct, hwy, hpt, hwd, hkn, hbs⟩ := hI9
  refine lv_aload_n hx hb dX0_chosen_0 rfl (lv_at hl 0 rfl) ?_
  refine lv_iload_n hx hb dX0_chosen_1 rfl (lv_at hl 1 rfl) ?_
  refine s_calliV (wr := []) (rest := []) X (met_isLine l dC dI dA dZ Q ea eb pr mk ct wy pt wc wd kn bp bs x hpr) (cwV 1 hts (lw_V q76 q78 qs0 q17 q79) rfl rfl rfl (by decide +kernel) ⟨Nat.le_of_ble_eq_true rfl, Nat.le_of_ble_eq_true rfl⟩) ⟨Nat.zero_le _, Nat.zero_le _⟩ hP hD hS hA [0, 1, 2, 3, 4, 5, 6, 7] [] rfl rfl rfl rfl (by decide) 0 rfl rfl rfl hl.1 rfl rfl (Nat.le_of_ble_eq_true rfl) dX0_chosen_2 (fun r u H locs hpost hP hD hS => ?_)
  have hq1 := hpost
  have hP : va_P (dC, dI) vwCl (nW dA Q ea eb pr mk ct wy pt wc wd kn bp bs) H := hP
  have hD : va_D A (nW dA Q ea eb pr mk ct wy pt wc wd kn bp bs) := hD
  refine lv_if_ne (tgt := 11) hx hb dX0_chosen_5 (by decide) (fun c_1 => ?_) (fun c_1 => ?_)
  · obtain ⟨k, hk, rfl, hpk⟩ := sp_lnT hq1 c_1
    have hpk9 := hpr k
    refine lv_aload_n hx hb dX0_chosen_11 rfl (lv_at hl 0 rfl) ?_
    refine s_callvV (wr := []) (rest := []) X (met_findBest l dC dI dA dZ Q ea eb pr mk ct wy pt wc wd kn bp bs hI) (cwV 0 hts (lw_V q88 q90 qs1 q17 q91) rfl rfl rfl (by decide +kernel) ⟨Nat.le_of_ble_eq_true rfl, Nat.le_of_ble_eq_true rfl⟩) ⟨Nat.zero_le _, Nat.zero_le _⟩ hP hD hS hA [0, 1, 2, 3, 4, 5, 6, 7] [] rfl rfl rfl rfl (by decide) 0 rfl rfl rfl hl.1 rfl rfl (Nat.le_of_ble_eq_true rfl) dX0_chosen_12 (fun u H locs hpost hP hD hS => ?_)
    obtain ⟨ct3, wy3, pt3, wc3, wd3, bp3, bs3⟩ := u
    have hI3 : nIv ea eb pr mk ct3 wy3 pt3 wd3 1 bp3 bs3 := hpost
    have hbs3 := hI3.2.2.2.2.2.2.2.2.2 rfl
    have hP : va_P (dC, dI) vwCl (nW dA Q ea eb pr mk ct3 wy3 pt3 wc3 wd3 1 bp3 bs3) H := hP
    have hD : va_D A (nW dA Q ea eb pr mk ct3 wy3 pt3 wc3 wd3 1 bp3 bs3) := hD
    refine lv_aload_n hx hb dX0_chosen_15 rfl (lv_at hl 0 rfl) ?_
    refine s_get0 X hP 0 rfl 10 (by decide) q37 rfl rfl dX0_chosen_16 ?_
    refine lv_if_ge (tgt := 26) hx hb dX0_chosen_19 (by decide) (fun c_2 => ?_) (fun c_2 => ?_)
    · have hb9 := sg_BS_lt hbs3 c_2
      refine lv_aload_n hx hb dX0_chosen_26 rfl (lv_at hl 0 rfl) ?_
      refine s_get0 X hP 0 rfl 11 (by decide) q38 rfl rfl dX0_chosen_27 ?_
      refine lv_iload_n hx hb dX0_chosen_30 rfl (lv_at hl 1 rfl) ?_
      refine lv_iushr hx hb dX0_chosen_31 rfl ?_
      refine lv_iconst (v := nI 1) hx hb dX0_chosen_32 (by decide) ?_
      refine lv_iand hx hb dX0_chosen_33 ?_
      refine s_top (nI ((bs3.testBit k).toNat)) (s_bitU (by omega) (by omega)) ?_
      exact s_iret (r := (nI ((bs3.testBit k).toNat))) X hr hlocks (rfl) (ea, eb, pr, mk, ct3, wy3, pt3, wc3, wd3, 1, bp3, bs3) (⟨⟨Or.inr ⟨k, ⟨hk, rfl, hpk⟩, sp_ch_pos hbs3 c_2⟩, rfl⟩, hI3⟩) hP hD hS dX0_chosen_34
    · refine lv_iconst (v := -1) hx hb dX0_chosen_22 (by decide) ?_
      refine lv_goto (tgt := 34) hx hb dX0_chosen_23 (by decide) ?_
      exact s_iret (r := (-1)) X hr hlocks (rfl) (ea, eb, pr, mk, ct3, wy3, pt3, wc3, wd3, 1, bp3, bs3) (⟨⟨Or.inr ⟨k, ⟨hk, rfl, hpk⟩, sp_ch_neg hpr hbs3 c_2⟩, rfl⟩, hI3⟩) hP hD hS dX0_chosen_34
  · refine lv_bipush (v := -2) hx hb dX0_chosen_8 (by decide) ?_
    exact s_iret (r := (-2)) X hr hlocks (rfl) (ea, eb, pr, mk, ct, wy, pt, wc, wd, kn, bp, bs) (⟨⟨Or.inl ⟨sp_lnF hq1 c_1, rfl⟩, rfl⟩, hI⟩) hP hD hS dX0_chosen_10

end NET3
end
section
section NET3
variable {p : Program} {l : Launch} {e : Env} {R : Room} {s : State} {m : MethodId} {args : Array Value} {below : List Frame} {meth : Method} {c : Code} {cells slots : Nat} {Qp : State → Prop} {dC : Nat → ClassId} {dI : Nat → Nat → Nat} {dA dZ : ClassId} {A : Nat → Prop} {H0 : Heap} {Q : Nat → Nat}
variable {ea eb pr : Nat → Nat} {mk : Nat} {ct wy pt : Nat → Nat} {wc : Nat} {wd : Nat → Nat} {kn : Nat} {bp : Int32} {bs : Nat}
set_option maxHeartbeats 4000000 in
set_option maxRecDepth 100000 in
theorem net_with (l : Launch) (dC : Nat → ClassId) (dI : Nat → Nat → Nat) (dA dZ : ClassId) (Q : Nat → Nat) (ea eb pr : Nat → Nat) (mk : Nat) (ct wy pt : Nat → Nat) (wc : Nat) (wd : Nat → Nat) (kn : Nat) (bp : Int32) (bs : Nat) (x : Int32) (hI : nIv ea eb pr mk ct wy pt wd kn bp bs) : sMi l yX0_with cX0_with 3 (some .int) ({ frames := 3, cells := 0, slots := 0, locals := 70 }) dC dI (tyz dA dZ) [.ref (Q 0), .int x] (nW dA Q ea eb pr mk ct wy pt wc wd kn bp bs) (fun (r : Int32) (u : nS) => sp_with x (ea, eb, pr, mk) r (nAb u) ∧ nIvU u) (fun u => nWu dA Q u) := by
  refine sMi_of (by decide) (Nat.le_of_ble_eq_true rfl) ?_
  intro p e s m below meth c A ls X hr hlocks hA hP hD hS hl
  have hl : lv_has ls 3 [(0, .ref (Q 0)), (1, .int x)] := hl
  have hx := X.1.1
  have hb := X.1.2.1
  have hown := X.1.2.2.2.1
  have hts := X.1.2.2.2.2
  have hI9 := hI
  obtain ⟨hea, heb, hpr, hmk, hct, hwy, hpt, hwd, hkn, hbs⟩ := hI9
  refine lv_aload_n hx hb dX0_with_0 rfl (lv_at hl 0 rfl) ?_
  refine lv_iload_n hx hb dX0_with_1 rfl (lv_at hl 1 rfl) ?_
  refine s_calliV (wr := []) (rest := []) X (met_isLine l dC dI dA dZ Q ea eb pr mk ct wy pt wc wd kn bp bs x hpr) (cwV 1 hts (lw_V q76 q78 qs0 q17 q79) rfl rfl rfl (by decide +kernel) ⟨Nat.le_of_ble_eq_true rfl, Nat.le_of_ble_eq_true rfl⟩) ⟨Nat.zero_le _, Nat.zero_le _⟩ hP hD hS hA [0, 1, 2, 3, 4, 5, 6, 7] [] rfl rfl rfl rfl (by decide) 0 rfl rfl rfl hl.1 rfl rfl (Nat.le_of_ble_eq_true rfl) dX0_with_2 (fun r u H locs hpost hP hD hS => ?_)
  have hq1 := hpost
  have hP : va_P (dC, dI) vwCl (nW dA Q ea eb pr mk ct wy pt wc wd kn bp bs) H := hP
  have hD : va_D A (nW dA Q ea eb pr mk ct wy pt wc wd kn bp bs) := hD
  refine lv_if_ne (tgt := 11) hx hb dX0_with_5 (by decide) (fun c_1 => ?_) (fun c_1 => ?_)
  · obtain ⟨k, hk, rfl, hpk⟩ := sp_lnT hq1 c_1
    have hpk9 := hpr k
    refine lv_aload_n hx hb dX0_with_11 rfl (lv_at hl 0 rfl) ?_
    refine s_callvV (wr := []) (rest := []) X (met_countAll l dC dI dA dZ Q ea eb pr mk ct wy pt wc wd kn bp bs hpr) (cwV 0 hts (lw_V q92 q94 qs2 q17 q95) rfl rfl rfl (by decide +kernel) ⟨Nat.le_of_ble_eq_true rfl, Nat.le_of_ble_eq_true rfl⟩) ⟨Nat.zero_le _, Nat.zero_le _⟩ hP hD hS hA [0, 1, 2, 3, 4, 5, 6, 7] [] rfl rfl rfl rfl (by decide) 0 rfl rfl rfl hl.1 rfl rfl (Nat.le_of_ble_eq_true rfl) dX0_with_12 (fun u H locs hpost hP hD hS => ?_)
    have hP : va_P (dC, dI) vwCl (nW dA Q ea eb pr mk (sg_cA pr ct 10) wy pt wc wd kn bp bs) H := hP
    have hD : va_D A (nW dA Q ea eb pr mk (sg_cA pr ct 10) wy pt wc wd kn bp bs) := hD
    refine lv_aload_n hx hb dX0_with_15 rfl (lv_at hl 0 rfl) ?_
    refine s_get0 X hP 0 rfl 4 (by decide) q31 rfl rfl dX0_with_16 ?_
    refine lv_iload_n hx hb dX0_with_19 rfl (lv_at hl 1 rfl) ?_
    refine lv_iconst (v := nI 0) hx hb dX0_with_20 (by decide) ?_
    refine s_ist X hP hD hS 4 0 rfl rfl (k := k) (v := 0) (by omega) (by decide) dX0_with_21 (fun H locs hP hD hS => ?_)
    have hP : va_P (dC, dI) vwCl (nW dA Q ea eb pr mk (va_up (sg_cA pr ct 10) k 0) wy pt wc wd kn bp bs) H := hP
    have hD : va_D A (nW dA Q ea eb pr mk (va_up (sg_cA pr ct 10) k 0) wy pt wc wd kn bp bs) := hD
    refine lv_aload_n hx hb dX0_with_22 rfl (lv_at hl 0 rfl) ?_
    refine lv_aload_n hx hb dX0_with_23 rfl (lv_at hl 0 rfl) ?_
    refine s_get0 X hP 0 rfl 3 (by decide) q30 rfl rfl dX0_with_24 ?_
    refine s_calliV (wr := []) (rest := []) X (met_leastFor l dC dI dA dZ Q ea eb pr mk (va_up (sg_cA pr ct 10) k 0) wy pt wc wd kn bp bs (mk) hmk hea heb (sg_B_up (sg_cA_B hpr hct 10) (by omega)) hwy hpt hwd) (cwV 1 hts (lw_V q97 q99 qs3 q17 q100) rfl rfl rfl (by decide +kernel) ⟨Nat.le_of_ble_eq_true rfl, Nat.le_of_ble_eq_true rfl⟩) ⟨Nat.zero_le _, Nat.zero_le _⟩ hP hD hS hA [0, 1, 2, 3, 4, 5, 6, 7] [] rfl rfl rfl rfl (by decide) 0 rfl rfl rfl hl.1 rfl rfl (Nat.le_of_ble_eq_true rfl) dX0_with_27 (fun r u H locs hpost hP hD hS => ?_)
    obtain ⟨wy1, pt1, wc1, wd1⟩ := u
    obtain ⟨L1, rfl, hL1, hwy1, hpt1, hwc1, hwd1⟩ := hpost
    have hwy1 : sg_B 100000 wy1 := hwy1
    have hpt1 : sg_B 100000 pt1 := hpt1
    have hwd1 : ∀ k, wd1 k < 7 := hwd1
    have hLb1 := hL1.1
    have hP : va_P (dC, dI) vwCl (nW dA Q ea eb pr mk (va_up (sg_cA pr ct 10) k 0) wy1 pt1 wc1 wd1 kn bp bs) H := hP
    have hD : va_D A (nW dA Q ea eb pr mk (va_up (sg_cA pr ct 10) k 0) wy1 pt1 wc1 wd1 kn bp bs) := hD
    refine lv_istore_n (lv' := [(2, .int (nI L1)), (0, .ref (Q 0)), (1, .int (nI k))]) hx hb dX0_with_30 rfl hl (by decide) rfl (fun ls hl => ?_)
    refine lv_iload_n hx hb dX0_with_31 rfl (lv_at hl 0 rfl) ?_
    refine lv_ldc (v := 100000) hx hb hown (hts _ q96) dX0_with_32 ?_
    refine s_top (nI 100000) (by decide) ?_
    refine s_clt X (x := L1) (y := 100000) (by omega) (by omega) (tgt := 41) dX0_with_34 (by decide) (fun c_2 => ?_) (fun c_2 => ?_)
    · refine lv_iload_n hx hb dX0_with_41 rfl (lv_at hl 0 rfl) ?_
      refine lv_aload_n hx hb dX0_with_42 rfl (lv_at hl 1 rfl) ?_
      refine s_get0 X hP 0 rfl 2 (by decide) q29 rfl rfl dX0_with_43 ?_
      refine lv_iload_n hx hb dX0_with_46 rfl (lv_at hl 2 rfl) ?_
      refine s_ild X hP 3 0 rfl rfl (k := k) (by omega) (by decide) dX0_with_47 ?_
      refine lv_iadd hx hb dX0_with_48 ?_
      refine s_top (nI (L1 + (pr k))) (nI_add _ _) ?_
      exact s_iret (r := (nI (L1 + (pr k)))) X hr hlocks (rfl) (ea, eb, pr, mk, va_up (sg_cA pr ct 10) k 0, wy1, pt1, wc1, wd1, kn, bp, bs) (⟨⟨Or.inr ⟨k, ⟨hk, rfl, hpk⟩, by have h := sg_lowW hpr hk hpk hL1; rw [sg_near c_2] at h; exact h⟩, rfl⟩, nIv_q hI (sg_B_up (sg_cA_B hpr hct 10) (by omega)) hwy1 hpt1 hwd1⟩) hP hD hS dX0_with_49
    · refine lv_iconst (v := -1) hx hb dX0_with_37 (by decide) ?_
      refine lv_goto (tgt := 49) hx hb dX0_with_38 (by decide) ?_
      exact s_iret (r := (-1)) X hr hlocks (rfl) (ea, eb, pr, mk, va_up (sg_cA pr ct 10) k 0, wy1, pt1, wc1, wd1, kn, bp, bs) (⟨⟨Or.inr ⟨k, ⟨hk, rfl, hpk⟩, by have h := sg_lowW hpr hk hpk hL1; rw [sg_far hLb1 c_2] at h; exact h⟩, rfl⟩, nIv_q hI (sg_B_up (sg_cA_B hpr hct 10) (by omega)) hwy1 hpt1 hwd1⟩) hP hD hS dX0_with_49
  · refine lv_bipush (v := -2) hx hb dX0_with_8 (by decide) ?_
    exact s_iret (r := (-2)) X hr hlocks (rfl) (ea, eb, pr, mk, ct, wy, pt, wc, wd, kn, bp, bs) (⟨⟨Or.inl ⟨sp_lnF hq1 c_1, rfl⟩, rfl⟩, hI⟩) hP hD hS dX0_with_10

set_option maxHeartbeats 4000000 in
set_option maxRecDepth 100000 in
theorem net_without (l : Launch) (dC : Nat → ClassId) (dI : Nat → Nat → Nat) (dA dZ : ClassId) (Q : Nat → Nat) (ea eb pr : Nat → Nat) (mk : Nat) (ct wy pt : Nat → Nat) (wc : Nat) (wd : Nat → Nat) (kn : Nat) (bp : Int32) (bs : Nat) (x : Int32) (hI : nIv ea eb pr mk ct wy pt wd kn bp bs) : sMi l yX0_without cX0_without 3 (some .int) ({ frames := 3, cells := 0, slots := 0, locals := 70 }) dC dI (tyz dA dZ) [.ref (Q 0), .int x] (nW dA Q ea eb pr mk ct wy pt wc wd kn bp bs) (fun (r : Int32) (u : nS) => sp_without x (ea, eb, pr, mk) r (nAb u) ∧ nIvU u) (fun u => nWu dA Q u) := by
  refine sMi_of (by decide) (Nat.le_of_ble_eq_true rfl) ?_
  intro p e s m below meth c A ls X hr hlocks hA hP hD hS hl
  have hl : lv_has ls 3 [(0, .ref (Q 0)), (1, .int x)] := hl
  have hx := X.1.1
  have hb := X.1.2.1
  have hown := X.1.2.2.2.1
  have hts := X.1.2.2.2.2
  have hI9 := hI
  obtain ⟨hea, heb, hpr, hmk, hct, hwy, hpt, hwd, hkn, hbs⟩ := hI9
  refine lv_aload_n hx hb dX0_without_0 rfl (lv_at hl 0 rfl) ?_
  refine lv_iload_n hx hb dX0_without_1 rfl (lv_at hl 1 rfl) ?_
  refine s_calliV (wr := []) (rest := []) X (met_isLine l dC dI dA dZ Q ea eb pr mk ct wy pt wc wd kn bp bs x hpr) (cwV 1 hts (lw_V q76 q78 qs0 q17 q79) rfl rfl rfl (by decide +kernel) ⟨Nat.le_of_ble_eq_true rfl, Nat.le_of_ble_eq_true rfl⟩) ⟨Nat.zero_le _, Nat.zero_le _⟩ hP hD hS hA [0, 1, 2, 3, 4, 5, 6, 7] [] rfl rfl rfl rfl (by decide) 0 rfl rfl rfl hl.1 rfl rfl (Nat.le_of_ble_eq_true rfl) dX0_without_2 (fun r u H locs hpost hP hD hS => ?_)
  have hq1 := hpost
  have hP : va_P (dC, dI) vwCl (nW dA Q ea eb pr mk ct wy pt wc wd kn bp bs) H := hP
  have hD : va_D A (nW dA Q ea eb pr mk ct wy pt wc wd kn bp bs) := hD
  refine lv_if_ne (tgt := 11) hx hb dX0_without_5 (by decide) (fun c_1 => ?_) (fun c_1 => ?_)
  · obtain ⟨k, hk, rfl, hpk⟩ := sp_lnT hq1 c_1
    have hpk9 := hpr k
    refine lv_aload_n hx hb dX0_without_11 rfl (lv_at hl 0 rfl) ?_
    refine s_callvV (wr := []) (rest := []) X (met_countAll l dC dI dA dZ Q ea eb pr mk ct wy pt wc wd kn bp bs hpr) (cwV 0 hts (lw_V q92 q94 qs2 q17 q95) rfl rfl rfl (by decide +kernel) ⟨Nat.le_of_ble_eq_true rfl, Nat.le_of_ble_eq_true rfl⟩) ⟨Nat.zero_le _, Nat.zero_le _⟩ hP hD hS hA [0, 1, 2, 3, 4, 5, 6, 7] [] rfl rfl rfl rfl (by decide) 0 rfl rfl rfl hl.1 rfl rfl (Nat.le_of_ble_eq_true rfl) dX0_without_12 (fun u H locs hpost hP hD hS => ?_)
    have hP : va_P (dC, dI) vwCl (nW dA Q ea eb pr mk (sg_cA pr ct 10) wy pt wc wd kn bp bs) H := hP
    have hD : va_D A (nW dA Q ea eb pr mk (sg_cA pr ct 10) wy pt wc wd kn bp bs) := hD
    refine lv_aload_n hx hb dX0_without_15 rfl (lv_at hl 0 rfl) ?_
    refine s_get0 X hP 0 rfl 4 (by decide) q31 rfl rfl dX0_without_16 ?_
    refine lv_iload_n hx hb dX0_without_19 rfl (lv_at hl 1 rfl) ?_
    refine lv_ldc (v := 100000) hx hb hown (hts _ q96) dX0_without_20 ?_
    refine s_top (nI 100000) (by decide) ?_
    refine s_ist X hP hD hS 4 0 rfl rfl (k := k) (v := 100000) (by omega) (by decide) dX0_without_22 (fun H locs hP hD hS => ?_)
    have hP : va_P (dC, dI) vwCl (nW dA Q ea eb pr mk (va_up (sg_cA pr ct 10) k 100000) wy pt wc wd kn bp bs) H := hP
    have hD : va_D A (nW dA Q ea eb pr mk (va_up (sg_cA pr ct 10) k 100000) wy pt wc wd kn bp bs) := hD
    refine lv_aload_n hx hb dX0_without_23 rfl (lv_at hl 0 rfl) ?_
    refine lv_aload_n hx hb dX0_without_24 rfl (lv_at hl 0 rfl) ?_
    refine s_get0 X hP 0 rfl 3 (by decide) q30 rfl rfl dX0_without_25 ?_
    refine s_calliV (wr := []) (rest := []) X (met_leastFor l dC dI dA dZ Q ea eb pr mk (va_up (sg_cA pr ct 10) k 100000) wy pt wc wd kn bp bs (mk) hmk hea heb (sg_B_up (sg_cA_B hpr hct 10) (Nat.le_refl _)) hwy hpt hwd) (cwV 1 hts (lw_V q97 q99 qs3 q17 q100) rfl rfl rfl (by decide +kernel) ⟨Nat.le_of_ble_eq_true rfl, Nat.le_of_ble_eq_true rfl⟩) ⟨Nat.zero_le _, Nat.zero_le _⟩ hP hD hS hA [0, 1, 2, 3, 4, 5, 6, 7] [] rfl rfl rfl rfl (by decide) 0 rfl rfl rfl hl.1 rfl rfl (Nat.le_of_ble_eq_true rfl) dX0_without_28 (fun r u H locs hpost hP hD hS => ?_)
    obtain ⟨wy1, pt1, wc1, wd1⟩ := u
    obtain ⟨L1, rfl, hL1, hwy1, hpt1, hwc1, hwd1⟩ := hpost
    have hwy1 : sg_B 100000 wy1 := hwy1
    have hpt1 : sg_B 100000 pt1 := hpt1
    have hwd1 : ∀ k, wd1 k < 7 := hwd1
    have hLb1 := hL1.1
    have hP : va_P (dC, dI) vwCl (nW dA Q ea eb pr mk (va_up (sg_cA pr ct 10) k 100000) wy1 pt1 wc1 wd1 kn bp bs) H := hP
    have hD : va_D A (nW dA Q ea eb pr mk (va_up (sg_cA pr ct 10) k 100000) wy1 pt1 wc1 wd1 kn bp bs) := hD
    refine lv_istore_n (lv' := [(2, .int (nI L1)), (0, .ref (Q 0)), (1, .int (nI k))]) hx hb dX0_without_31 rfl hl (by decide) rfl (fun ls hl => ?_)
    refine lv_iload_n hx hb dX0_without_32 rfl (lv_at hl 0 rfl) ?_
    refine lv_ldc (v := 100000) hx hb hown (hts _ q96) dX0_without_33 ?_
    refine s_top (nI 100000) (by decide) ?_
    refine s_clt X (x := L1) (y := 100000) (by omega) (by omega) (tgt := 42) dX0_without_35 (by decide) (fun c_2 => ?_) (fun c_2 => ?_)
    · refine lv_iload_n hx hb dX0_without_42 rfl (lv_at hl 0 rfl) ?_
      exact s_iret (r := (nI L1)) X hr hlocks (rfl) (ea, eb, pr, mk, va_up (sg_cA pr ct 10) k 100000, wy1, pt1, wc1, wd1, kn, bp, bs) (⟨⟨Or.inr ⟨k, ⟨hk, rfl, hpk⟩, by have h := sg_lowO hpr hL1; rw [sg_near c_2] at h; exact h⟩, rfl⟩, nIv_q hI (sg_B_up (sg_cA_B hpr hct 10) (Nat.le_refl _)) hwy1 hpt1 hwd1⟩) hP hD hS dX0_without_43
    · refine lv_iconst (v := -1) hx hb dX0_without_38 (by decide) ?_
      refine lv_goto (tgt := 43) hx hb dX0_without_39 (by decide) ?_
      exact s_iret (r := (-1)) X hr hlocks (rfl) (ea, eb, pr, mk, va_up (sg_cA pr ct 10) k 100000, wy1, pt1, wc1, wd1, kn, bp, bs) (⟨⟨Or.inr ⟨k, ⟨hk, rfl, hpk⟩, by have h := sg_lowO hpr hL1; rw [sg_far hLb1 c_2] at h; exact h⟩, rfl⟩, nIv_q hI (sg_B_up (sg_cA_B hpr hct 10) (Nat.le_refl _)) hwy1 hpt1 hwd1⟩) hP hD hS dX0_without_43
  · refine lv_bipush (v := -2) hx hb dX0_without_8 (by decide) ?_
    exact s_iret (r := (-2)) X hr hlocks (rfl) (ea, eb, pr, mk, ct, wy, pt, wc, wd, kn, bp, bs) (⟨⟨Or.inl ⟨sp_lnF hq1 c_1, rfl⟩, rfl⟩, hI⟩) hP hD hS dX0_without_10

end NET3
end
section
section NET3
variable {p : Program} {l : Launch} {e : Env} {R : Room} {s : State} {m : MethodId} {args : Array Value} {below : List Frame} {meth : Method} {c : Code} {cells slots : Nat} {Qp : State → Prop} {dC : Nat → ClassId} {dI : Nat → Nat → Nat} {dA dZ : ClassId} {A : Nat → Prop} {H0 : Heap} {Q : Nat → Nat}
variable {ea eb pr : Nat → Nat} {mk : Nat} {ct wy pt : Nat → Nat} {wc : Nat} {wd : Nat → Nat} {kn : Nat} {bp : Int32} {bs : Nat}
set_option maxHeartbeats 4000000 in
set_option maxRecDepth 100000 in
theorem net_including (l : Launch) (dC : Nat → ClassId) (dI : Nat → Nat → Nat) (dA dZ : ClassId) (Q : Nat → Nat) (ea eb pr : Nat → Nat) (mk : Nat) (ct wy pt : Nat → Nat) (wc : Nat) (wd : Nat → Nat) (kn : Nat) (bp : Int32) (bs : Nat) (x : Int32) (hI : nIv ea eb pr mk ct wy pt wd kn bp bs) : sMi l yX0_including cX0_including 3 (some .int) ({ frames := 3, cells := 0, slots := 0, locals := 70 }) dC dI (tyz dA dZ) [.ref (Q 0), .int x] (nW dA Q ea eb pr mk ct wy pt wc wd kn bp bs) (fun (r : Int32) (u : nS) => sp_including x (ea, eb, pr, mk) r (nAb u) ∧ nIvU u) (fun u => nWu dA Q u) := by
  refine sMi_of (by decide) (Nat.le_of_ble_eq_true rfl) ?_
  intro p e s m below meth c A ls X hr hlocks hA hP hD hS hl
  have hl : lv_has ls 3 [(0, .ref (Q 0)), (1, .int x)] := hl
  have hx := X.1.1
  have hb := X.1.2.1
  have hown := X.1.2.2.2.1
  have hts := X.1.2.2.2.2
  have hI9 := hI
  obtain ⟨hea, heb, hpr, hmk, hct, hwy, hpt, hwd, hkn, hbs⟩ := hI9
  refine lv_iload_n hx hb dX0_including_0 rfl (lv_at hl 1 rfl) ?_
  refine s_calliS (rest := []) X (met_isPoint l dC dI dA dZ x) (va_cwS 1 hts (lw_S q69 q70 q17 q71) rfl rfl rfl (by decide +kernel) ⟨Nat.le_of_ble_eq_true rfl, Nat.le_of_ble_eq_true rfl⟩) ⟨Nat.zero_le _, Nat.zero_le _⟩ hP hD hS hA hl.1 rfl rfl (Nat.le_of_ble_eq_true rfl) dX0_including_1 (fun r H locs hpost hP hD hS => ?_)
  have hq1 := hpost
  refine lv_if_ne (tgt := 10) hx hb dX0_including_4 (by decide) (fun c_1 => ?_) (fun c_1 => ?_)
  · obtain ⟨p0, hp0, rfl⟩ := sp_ptT hq1 c_1
    refine lv_aload_n hx hb dX0_including_10 rfl (lv_at hl 0 rfl) ?_
    refine s_callvV (wr := []) (rest := []) X (met_countAll l dC dI dA dZ Q ea eb pr mk ct wy pt wc wd kn bp bs hpr) (cwV 0 hts (lw_V q92 q94 qs2 q17 q95) rfl rfl rfl (by decide +kernel) ⟨Nat.le_of_ble_eq_true rfl, Nat.le_of_ble_eq_true rfl⟩) ⟨Nat.zero_le _, Nat.zero_le _⟩ hP hD hS hA [0, 1, 2, 3, 4, 5, 6, 7] [] rfl rfl rfl rfl (by decide) 0 rfl rfl rfl hl.1 rfl rfl (Nat.le_of_ble_eq_true rfl) dX0_including_11 (fun u H locs hpost hP hD hS => ?_)
    have hP : va_P (dC, dI) vwCl (nW dA Q ea eb pr mk (sg_cA pr ct 10) wy pt wc wd kn bp bs) H := hP
    have hD : va_D A (nW dA Q ea eb pr mk (sg_cA pr ct 10) wy pt wc wd kn bp bs) := hD
    refine lv_aload_n hx hb dX0_including_14 rfl (lv_at hl 0 rfl) ?_
    refine lv_aload_n hx hb dX0_including_15 rfl (lv_at hl 0 rfl) ?_
    refine s_get0 X hP 0 rfl 3 (by decide) q30 rfl rfl dX0_including_16 ?_
    refine lv_iconst (v := nI 1) hx hb dX0_including_19 (by decide) ?_
    refine lv_iload_n hx hb dX0_including_20 rfl (lv_at hl 1 rfl) ?_
    refine lv_ishl hx hb dX0_including_21 ?_
    refine s_top (nI (2 ^ p0)) (s_shl1 (by omega)) ?_
    refine lv_ior hx hb dX0_including_22 ?_
    refine s_top (nI (mk ||| (2 ^ p0))) (s_or _ _) ?_
    refine s_calliV (wr := []) (rest := []) X (met_leastFor l dC dI dA dZ Q ea eb pr mk (sg_cA pr ct 10) wy pt wc wd kn bp bs (mk ||| 2 ^ p0) (sg_or7 hmk hp0) hea heb (sg_cA_B hpr hct 10) hwy hpt hwd) (cwV 1 hts (lw_V q97 q99 qs3 q17 q100) rfl rfl rfl (by decide +kernel) ⟨Nat.le_of_ble_eq_true rfl, Nat.le_of_ble_eq_true rfl⟩) ⟨Nat.zero_le _, Nat.zero_le _⟩ hP hD hS hA [0, 1, 2, 3, 4, 5, 6, 7] [] rfl rfl rfl rfl (by decide) 0 rfl rfl rfl hl.1 rfl rfl (Nat.le_of_ble_eq_true rfl) dX0_including_23 (fun r u H locs hpost hP hD hS => ?_)
    obtain ⟨wy1, pt1, wc1, wd1⟩ := u
    obtain ⟨L1, rfl, hL1, hwy1, hpt1, hwc1, hwd1⟩ := hpost
    have hwy1 : sg_B 100000 wy1 := hwy1
    have hpt1 : sg_B 100000 pt1 := hpt1
    have hwd1 : ∀ k, wd1 k < 7 := hwd1
    have hLb1 := hL1.1
    have hP : va_P (dC, dI) vwCl (nW dA Q ea eb pr mk (sg_cA pr ct 10) wy1 pt1 wc1 wd1 kn bp bs) H := hP
    have hD : va_D A (nW dA Q ea eb pr mk (sg_cA pr ct 10) wy1 pt1 wc1 wd1 kn bp bs) := hD
    refine lv_istore_n (lv' := [(2, .int (nI L1)), (0, .ref (Q 0)), (1, .int (nI p0))]) hx hb dX0_including_26 rfl hl (by decide) rfl (fun ls hl => ?_)
    refine lv_iload_n hx hb dX0_including_27 rfl (lv_at hl 0 rfl) ?_
    refine lv_ldc (v := 100000) hx hb hown (hts _ q96) dX0_including_28 ?_
    refine s_top (nI 100000) (by decide) ?_
    refine s_clt X (x := L1) (y := 100000) (by omega) (by omega) (tgt := 37) dX0_including_30 (by decide) (fun c_2 => ?_) (fun c_2 => ?_)
    · refine lv_iload_n hx hb dX0_including_37 rfl (lv_at hl 0 rfl) ?_
      exact s_iret (r := (nI L1)) X hr hlocks (rfl) (ea, eb, pr, mk, sg_cA pr ct 10, wy1, pt1, wc1, wd1, kn, bp, bs) (⟨⟨Or.inr ⟨p0, ⟨hp0, rfl⟩, by have h := sg_low0 hpr hL1; rw [sg_near c_2] at h; exact h⟩, rfl⟩, nIv_q hI (sg_cA_B hpr hct 10) hwy1 hpt1 hwd1⟩) hP hD hS dX0_including_38
    · refine lv_iconst (v := -1) hx hb dX0_including_33 (by decide) ?_
      refine lv_goto (tgt := 38) hx hb dX0_including_34 (by decide) ?_
      exact s_iret (r := (-1)) X hr hlocks (rfl) (ea, eb, pr, mk, sg_cA pr ct 10, wy1, pt1, wc1, wd1, kn, bp, bs) (⟨⟨Or.inr ⟨p0, ⟨hp0, rfl⟩, by have h := sg_low0 hpr hL1; rw [sg_far hLb1 c_2] at h; exact h⟩, rfl⟩, nIv_q hI (sg_cA_B hpr hct 10) hwy1 hpt1 hwd1⟩) hP hD hS dX0_including_38
  · refine lv_bipush (v := -2) hx hb dX0_including_7 (by decide) ?_
    exact s_iret (r := (-2)) X hr hlocks (rfl) (ea, eb, pr, mk, ct, wy, pt, wc, wd, kn, bp, bs) (⟨⟨Or.inl ⟨sp_ptF hq1 c_1, rfl⟩, rfl⟩, hI⟩) hP hD hS dX0_including_9

set_option maxHeartbeats 4000000 in
set_option maxRecDepth 100000 in
theorem net_between (l : Launch) (dC : Nat → ClassId) (dI : Nat → Nat → Nat) (dA dZ : ClassId) (Q : Nat → Nat) (ea eb pr : Nat → Nat) (mk : Nat) (ct wy pt : Nat → Nat) (wc : Nat) (wd : Nat → Nat) (kn : Nat) (bp : Int32) (bs : Nat) (x y : Int32) (hI : nIv ea eb pr mk ct wy pt wd kn bp bs) : sMi l yX0_between cX0_between 4 (some .int) ({ frames := 3, cells := 0, slots := 0, locals := 70 }) dC dI (tyz dA dZ) [.ref (Q 0), .int x, .int y] (nW dA Q ea eb pr mk ct wy pt wc wd kn bp bs) (fun (r : Int32) (u : nS) => sp_between x y (ea, eb, pr, mk) r (nAb u) ∧ nIvU u) (fun u => nWu dA Q u) := by
  refine sMi_of (by decide) (Nat.le_of_ble_eq_true rfl) ?_
  intro p e s m below meth c A ls X hr hlocks hA hP hD hS hl
  have hl : lv_has ls 4 [(0, .ref (Q 0)), (1, .int x), (2, .int y)] := hl
  have hx := X.1.1
  have hb := X.1.2.1
  have hown := X.1.2.2.2.1
  have hts := X.1.2.2.2.2
  have hI9 := hI
  obtain ⟨hea, heb, hpr, hmk, hct, hwy, hpt, hwd, hkn, hbs⟩ := hI9
  refine lv_iload_n hx hb dX0_between_0 rfl (lv_at hl 1 rfl) ?_
  refine s_calliS (rest := []) X (met_isPoint l dC dI dA dZ x) (va_cwS 1 hts (lw_S q69 q70 q17 q71) rfl rfl rfl (by decide +kernel) ⟨Nat.le_of_ble_eq_true rfl, Nat.le_of_ble_eq_true rfl⟩) ⟨Nat.zero_le _, Nat.zero_le _⟩ hP hD hS hA hl.1 rfl rfl (Nat.le_of_ble_eq_true rfl) dX0_between_1 (fun r H locs hpost hP hD hS => ?_)
  have hq1 := hpost
  refine lv_if_eq (tgt := 14) hx hb dX0_between_4 (by decide) (fun c_1 => ?_) (fun c_1 => ?_)
  · refine lv_bipush (v := -2) hx hb dX0_between_14 (by decide) ?_
    exact s_iret (r := (-2)) X hr hlocks (rfl) (ea, eb, pr, mk, ct, wy, pt, wc, wd, kn, bp, bs) (⟨⟨Or.inl ⟨fun ⟨q, h1, _⟩ => sp_ptF hq1 c_1 ⟨q.1, h1⟩, rfl⟩, rfl⟩, hI⟩) hP hD hS dX0_between_16
  · refine lv_iload_n hx hb dX0_between_7 rfl (lv_at hl 2 rfl) ?_
    refine s_calliS (rest := []) X (met_isPoint l dC dI dA dZ y) (va_cwS 1 hts (lw_S q69 q70 q17 q71) rfl rfl rfl (by decide +kernel) ⟨Nat.le_of_ble_eq_true rfl, Nat.le_of_ble_eq_true rfl⟩) ⟨Nat.zero_le _, Nat.zero_le _⟩ hP hD hS hA hl.1 rfl rfl (Nat.le_of_ble_eq_true rfl) dX0_between_8 (fun r H locs hpost hP hD hS => ?_)
    have hq2 := hpost
    refine lv_if_ne (tgt := 17) hx hb dX0_between_11 (by decide) (fun c_2 => ?_) (fun c_2 => ?_)
    · obtain ⟨p0, hp0, rfl⟩ := sp_ptT hq1 c_1
      obtain ⟨q0, hq0, rfl⟩ := sp_ptT hq2 c_2
      refine lv_aload_n hx hb dX0_between_17 rfl (lv_at hl 0 rfl) ?_
      refine s_callvV (wr := []) (rest := []) X (met_countAll l dC dI dA dZ Q ea eb pr mk ct wy pt wc wd kn bp bs hpr) (cwV 0 hts (lw_V q92 q94 qs2 q17 q95) rfl rfl rfl (by decide +kernel) ⟨Nat.le_of_ble_eq_true rfl, Nat.le_of_ble_eq_true rfl⟩) ⟨Nat.zero_le _, Nat.zero_le _⟩ hP hD hS hA [0, 1, 2, 3, 4, 5, 6, 7] [] rfl rfl rfl rfl (by decide) 0 rfl rfl rfl hl.1 rfl rfl (Nat.le_of_ble_eq_true rfl) dX0_between_18 (fun u H locs hpost hP hD hS => ?_)
      have hP : va_P (dC, dI) vwCl (nW dA Q ea eb pr mk (sg_cA pr ct 10) wy pt wc wd kn bp bs) H := hP
      have hD : va_D A (nW dA Q ea eb pr mk (sg_cA pr ct 10) wy pt wc wd kn bp bs) := hD
      refine lv_aload_n hx hb dX0_between_21 rfl (lv_at hl 0 rfl) ?_
      refine lv_iconst (v := nI 1) hx hb dX0_between_22 (by decide) ?_
      refine lv_iload_n hx hb dX0_between_23 rfl (lv_at hl 1 rfl) ?_
      refine lv_ishl hx hb dX0_between_24 ?_
      refine s_top (nI (2 ^ p0)) (s_shl1 (by omega)) ?_
      refine lv_iconst (v := nI 1) hx hb dX0_between_25 (by decide) ?_
      refine lv_iload_n hx hb dX0_between_26 rfl (lv_at hl 2 rfl) ?_
      refine lv_ishl hx hb dX0_between_27 ?_
      refine s_top (nI (2 ^ q0)) (s_shl1 (by omega)) ?_
      refine lv_ior hx hb dX0_between_28 ?_
      refine s_top (nI ((2 ^ p0) ||| (2 ^ q0))) (s_or _ _) ?_
      refine s_calliV (wr := []) (rest := []) X (met_leastFor l dC dI dA dZ Q ea eb pr mk (sg_cA pr ct 10) wy pt wc wd kn bp bs (2 ^ p0 ||| 2 ^ q0) (sg_or7 (sg_two7 hp0) hq0) hea heb (sg_cA_B hpr hct 10) hwy hpt hwd) (cwV 1 hts (lw_V q97 q99 qs3 q17 q100) rfl rfl rfl (by decide +kernel) ⟨Nat.le_of_ble_eq_true rfl, Nat.le_of_ble_eq_true rfl⟩) ⟨Nat.zero_le _, Nat.zero_le _⟩ hP hD hS hA [0, 1, 2, 3, 4, 5, 6, 7] [] rfl rfl rfl rfl (by decide) 0 rfl rfl rfl hl.1 rfl rfl (Nat.le_of_ble_eq_true rfl) dX0_between_29 (fun r u H locs hpost hP hD hS => ?_)
      obtain ⟨wy1, pt1, wc1, wd1⟩ := u
      obtain ⟨L1, rfl, hL1, hwy1, hpt1, hwc1, hwd1⟩ := hpost
      have hwy1 : sg_B 100000 wy1 := hwy1
      have hpt1 : sg_B 100000 pt1 := hpt1
      have hwd1 : ∀ k, wd1 k < 7 := hwd1
      have hLb1 := hL1.1
      have hP : va_P (dC, dI) vwCl (nW dA Q ea eb pr mk (sg_cA pr ct 10) wy1 pt1 wc1 wd1 kn bp bs) H := hP
      have hD : va_D A (nW dA Q ea eb pr mk (sg_cA pr ct 10) wy1 pt1 wc1 wd1 kn bp bs) := hD
      refine lv_istore_n (lv' := [(3, .int (nI L1)), (0, .ref (Q 0)), (1, .int (nI p0)), (2, .int (nI q0))]) hx hb dX0_between_32 rfl hl (by decide) rfl (fun ls hl => ?_)
      refine lv_iload_n hx hb dX0_between_33 rfl (lv_at hl 0 rfl) ?_
      refine lv_ldc (v := 100000) hx hb hown (hts _ q96) dX0_between_34 ?_
      refine s_top (nI 100000) (by decide) ?_
      refine s_clt X (x := L1) (y := 100000) (by omega) (by omega) (tgt := 43) dX0_between_36 (by decide) (fun c_3 => ?_) (fun c_3 => ?_)
      · refine lv_iload_n hx hb dX0_between_43 rfl (lv_at hl 0 rfl) ?_
        exact s_iret (r := (nI L1)) X hr hlocks (rfl) (ea, eb, pr, mk, sg_cA pr ct 10, wy1, pt1, wc1, wd1, kn, bp, bs) (⟨⟨Or.inr ⟨(p0, q0), ⟨⟨hp0, rfl⟩, hq0, rfl⟩, by have h := sg_low0 hpr hL1; rw [sg_near c_3] at h; exact h⟩, rfl⟩, nIv_q hI (sg_cA_B hpr hct 10) hwy1 hpt1 hwd1⟩) hP hD hS dX0_between_44
      · refine lv_iconst (v := -1) hx hb dX0_between_39 (by decide) ?_
        refine lv_goto (tgt := 44) hx hb dX0_between_40 (by decide) ?_
        exact s_iret (r := (-1)) X hr hlocks (rfl) (ea, eb, pr, mk, sg_cA pr ct 10, wy1, pt1, wc1, wd1, kn, bp, bs) (⟨⟨Or.inr ⟨(p0, q0), ⟨⟨hp0, rfl⟩, hq0, rfl⟩, by have h := sg_low0 hpr hL1; rw [sg_far hLb1 c_3] at h; exact h⟩, rfl⟩, nIv_q hI (sg_cA_B hpr hct 10) hwy1 hpt1 hwd1⟩) hP hD hS dX0_between_44
    · refine lv_bipush (v := -2) hx hb dX0_between_14 (by decide) ?_
      exact s_iret (r := (-2)) X hr hlocks (rfl) (ea, eb, pr, mk, ct, wy, pt, wc, wd, kn, bp, bs) (⟨⟨Or.inl ⟨fun ⟨q, _, h2⟩ => sp_ptF hq2 c_2 ⟨q.2, h2⟩, rfl⟩, rfl⟩, hI⟩) hP hD hS dX0_between_16

end NET3
end
section
/-! THE REFERENCE, plain: its tables against the lines and marks; steps of its loops -/
section MREL
variable {pr th pc mm : Nat → Nat} {mk : Nat}
theorem mR_th (h : mRel pr mk th pc mm) {k : Nat} (hk : k < 10) : th k ≠ 0 ↔ pr k ≠ 0 := by
  rw [h.1 k hk]
  by_cases h0 : pr k = 0
  · simp [h0]
  · simp [h0]
theorem mR_th0 (h : mRel pr mk th pc mm) {k : Nat} (hk : k < 10) (h0 : th k = 0) : pr k = 0 := Classical.byContradiction fun z => (mR_th h hk).mpr z h0
theorem mR_line (h : mRel pr mk th pc mm) {j p0 : Nat} (h1 : 0 < p0) (h2 : p0 ≤ 100) : mRel (va_up pr j p0) mk (va_up th j 1) (va_up pc j p0) mm := by
  obtain ⟨a, b, c, d, e, f⟩ := h
  refine ⟨fun k hk => ?_, fun k hk hp => ?_, c, sg_B_up d h2, sg_lt_up e (by omega), f⟩
  · by_cases hkj : k = j
    · subst hkj
      rw [sg_us, sg_us, if_neg (by omega)]
    · rw [sg_un hkj, sg_un hkj]
      exact a k hk
  · by_cases hkj : k = j
    · subst hkj
      rw [sg_us, sg_us]
    · rw [sg_un hkj] at hp
      rw [sg_un hkj, sg_un hkj]
      exact b k hk hp
theorem mR_cut (h : mRel pr mk th pc mm) {j : Nat} : mRel (va_up pr j 0) mk (va_up th j 0) pc mm := by
  obtain ⟨a, b, c, d, e, f⟩ := h
  refine ⟨fun k hk => ?_, fun k hk hp => ?_, c, d, sg_lt_up e (by omega), f⟩
  · by_cases hkj : k = j
    · subst hkj
      rw [sg_us, sg_us, if_pos rfl]
    · rw [sg_un hkj, sg_un hkj]
      exact a k hk
  · by_cases hkj : k = j
    · subst hkj
      rw [sg_us] at hp
      exact absurd rfl hp
    · rw [sg_un hkj] at hp
      rw [sg_un hkj]
      exact b k hk hp
theorem mR_mark (h : mRel pr mk th pc mm) (hmk : mk < 128) {p0 on : Nat} (hp0 : p0 < 7) (hon : on < 2) : mRel pr (if on = 0 then mk &&& (127 - 2 ^ p0) else mk ||| 2 ^ p0) th pc (va_up mm p0 on) := by
  obtain ⟨a, b, c, d, e, f⟩ := h
  refine ⟨a, b, fun p hp => ?_, d, e, sg_lt_up f hon⟩
  by_cases h0 : on = 0
  · rw [if_pos h0, s_clear_bit hmk hp0]
    by_cases hpp : p = p0
    · subst hpp
      rw [sg_us, if_pos rfl, h0]; rfl
    · rw [sg_un hpp, if_neg hpp]
      exact c p hp
  · rw [if_neg h0, Nat.testBit_or, Nat.testBit_two_pow]
    by_cases hpp : p = p0
    · subst hpp
      rw [sg_us]
      have : on = 1 := by omega
      rw [this]; simp
    · rw [sg_un hpp, c p hp]
      simp [Ne.symm hpp]
theorem mR_b0 (h : mRel pr mk th pc mm) {p : Nat} (hp : p < 7) (h0 : mm p = 0) : nI 0 = nI ((mk.testBit p).toNat) := by rw [← h.2.2.1 p hp, h0]
theorem mR_b1 (h : mRel pr mk th pc mm) {p : Nat} (hp : p < 7) (h0 : mm p ≠ 0) : nI 1 = nI ((mk.testBit p).toNat) := by
  have h1 := h.2.2.1 p hp
  have h2 := h.2.2.2.2.2 p
  rw [← h1, show mm p = 1 by omega]
theorem mR_bit (h : mRel pr mk th pc mm) {p : Nat} (hp : p < 7) (h0 : mm p ≠ 0) : mk.testBit p = true := by
  have h1 := h.2.2.1 p hp
  rw [h1] at h0
  exact s_tb1 h0
theorem mR_nbit (h : mRel pr mk th pc mm) {p : Nat} (hp : p < 7) (h0 : mm p = 0) : mk.testBit p = false := by
  have h1 := h.2.2.1 p hp
  rw [h1] at h0
  have := s_tb0 h0
  simpa using this
end MREL
-- ===== badPoint, badLine =====
theorem sp_bpT {x r : Int32} (h : ((¬ x < 0 ∧ x ≤ nI 6) ∧ r = nI 0) ∨ (¬ (¬ x < 0 ∧ x ≤ nI 6) ∧ r = nI 1)) (c : r = 0) : ∃ p, sp_T x p := by
  rcases h with ⟨a, -⟩ | ⟨-, b⟩
  · exact sp_pt.mp a
  · rw [b] at c; exact absurd c (by decide)
theorem sp_bpF {x r : Int32} (h : ((¬ x < 0 ∧ x ≤ nI 6) ∧ r = nI 0) ∨ (¬ (¬ x < 0 ∧ x ≤ nI 6) ∧ r = nI 1)) (c : ¬ r = 0) : ¬ ∃ p, sp_T x p := by
  rcases h with ⟨-, b⟩ | ⟨a, -⟩
  · exact absurd b c
  · exact fun z => a (sp_pt.mpr z)
theorem sp_blT {pr : Nat → Nat} {x r : Int32} (h : ((∃ k, sp_L pr x k) ∧ r = nI 0) ∨ ((¬ ∃ k, sp_L pr x k) ∧ r = nI 1)) (c : r = 0) : ∃ k, sp_L pr x k := by
  rcases h with ⟨a, -⟩ | ⟨-, b⟩
  · exact a
  · rw [b] at c; exact absurd c (by decide)
theorem sp_blF {pr : Nat → Nat} {x r : Int32} (h : ((∃ k, sp_L pr x k) ∧ r = nI 0) ∨ ((¬ ∃ k, sp_L pr x k) ∧ r = nI 1)) (c : ¬ r = 0) : ¬ ∃ k, sp_L pr x k := by
  rcases h with ⟨-, b⟩ | ⟨a, -⟩
  · exact absurd b c
  · exact a
-- ===== marks =====
theorem st_mk1 {mk i : Nat} (hmk : mk < 128) (hi : i < 7) (h : mk.testBit i = true) : mk % 2 ^ (i + 1) = mk % 2 ^ i ||| 2 ^ i := by
  have h2 : ∀ a : Fin 128, ∀ j : Fin 7, a.val.testBit j.val = true → a.val % 2 ^ (j.val + 1) = a.val % 2 ^ j.val ||| 2 ^ j.val := by decide +kernel
  exact h2 ⟨mk, hmk⟩ ⟨i, hi⟩ h
theorem st_mk0 {mk i : Nat} (hmk : mk < 128) (hi : i < 7) (h : mk.testBit i = false) : mk % 2 ^ (i + 1) = mk % 2 ^ i := by
  have h2 : ∀ a : Fin 128, ∀ j : Fin 7, a.val.testBit j.val = false → a.val % 2 ^ (j.val + 1) = a.val % 2 ^ j.val := by decide +kernel
  exact h2 ⟨mk, hmk⟩ ⟨i, hi⟩ h
-- ===== priceOf =====
theorem s_t1 {b : Bool} (h : b.toNat = 1) : b = true := by cases b <;> simp_all
theorem s_t1n {b : Bool} (h : b.toNat ≠ 1) : b = false := by cases b <;> simp_all
theorem st_S1 {w : Nat → Nat} {c : Nat → Bool} {i l1 : Nat} (hg : sg_S w c i = l1) (h : c i = true) : sg_S w c (i + 1) = l1 + w i := by
  subst hg
  simp only [sg_S]
  rw [if_pos h]
theorem st_S0 {w : Nat → Nat} {c : Nat → Bool} {i l1 : Nat} (hg : sg_S w c i = l1) (h : c i = false) : sg_S w c (i + 1) = l1 := by
  subst hg
  simp only [sg_S]
  rw [h, if_neg (by decide)]
  rfl
/-- the price of a choice, -1 if a line of it isn't there -/
def sp_pr (pr : Nat → Nat) (n : Nat) (r : Int32) : Prop := ((∃ k, k < 10 ∧ n.testBit k = true ∧ pr k = 0) ∧ r = -1) ∨ ((∀ k, k < 10 → n.testBit k = true → pr k ≠ 0) ∧ r = nI (sg_P pr n))
theorem sp_pr_no {pr th pc mm : Nat → Nat} {mk n k : Nat} (h : mRel pr mk th pc mm) (hk : k < 10) (hb : n.testBit k = true) (h0 : th k = 0) : sp_pr pr n (-1) := Or.inl ⟨⟨k, hk, hb, mR_th0 h hk h0⟩, rfl⟩
theorem sp_pr_yes {pr th pc mm : Nat → Nat} {mk n : Nat} (h : mRel pr mk th pc mm) (hv : ∀ k, k < 10 → n.testBit k = true → th k ≠ 0) : sp_pr pr n (nI (sg_S pc n.testBit 10)) := by
  refine Or.inr ⟨fun k hk hb => (mR_th h hk).mp (hv k hk hb), ?_⟩
  unfold sg_P
  rw [sg_S_cg (w := pc) (v := pr) (fun _ _ => rfl) (fun k hk hb => h.2.1 k hk ((mR_th h hk).mp (hv k hk hb)))]
theorem sp_pr_lt {pr : Nat → Nat} {n : Nat} {r : Int32} (hp : sg_B 100 pr) (h : sp_pr pr n r) (c : r < 0) : ∃ k, k < 10 ∧ n.testBit k = true ∧ pr k = 0 := by
  rcases h with ⟨a, -⟩ | ⟨-, b⟩
  · exact a
  · have := sg_P_le hp n
    rw [b] at c
    exact absurd c (nI_pos (by omega))
theorem sp_pr_ge {pr : Nat → Nat} {n : Nat} {r : Int32} (h : sp_pr pr n r) (c : ¬ r < 0) : (∀ k, k < 10 → n.testBit k = true → pr k ≠ 0) ∧ r = nI (sg_P pr n) := by
  rcases h with ⟨-, b⟩ | h
  · rw [b] at c; exact absurd (by decide) c
  · exact h
-- ===== joins =====
section STJ
variable {ea eb : Nat → Nat} {n k r l1 : Nat}
theorem st_j1t (hg : sg_it (sg_j1 ea eb n) k r = l1) (h1 : n.testBit k = true) (h2 : l1 &&& (2 ^ ea k ||| 2 ^ eb k) ≠ 0) : sg_it (sg_j1 ea eb n) (k + 1) r = l1 ||| (2 ^ ea k ||| 2 ^ eb k) := by
  rw [sg_it_s, hg]
  unfold sg_j1 sg_en; rw [if_pos ⟨h1, h2⟩]
theorem st_j1f (hg : sg_it (sg_j1 ea eb n) k r = l1) (h1 : n.testBit k = false) : sg_it (sg_j1 ea eb n) (k + 1) r = l1 := by
  rw [sg_it_s, hg]
  unfold sg_j1; rw [if_neg (fun z => by rw [h1] at z; exact absurd z.1 (by decide))]
theorem st_j1z (hg : sg_it (sg_j1 ea eb n) k r = l1) (h2 : l1 &&& (2 ^ ea k ||| 2 ^ eb k) = 0) : sg_it (sg_j1 ea eb n) (k + 1) r = l1 := by
  rw [sg_it_s, hg]
  unfold sg_j1; rw [if_neg (fun z => z.2 h2)]
theorem st_j2 (hg : sg_it (fun _ r => sg_j2 ea eb n r) k r = l1) : sg_it (fun _ r => sg_j2 ea eb n r) (k + 1) r = sg_it (sg_j1 ea eb n) 10 l1 := by
  rw [sg_it_s, hg]
  rfl
end STJ
-- ===== best =====
def sg_bI (b : Option Nat) : Int32 := match b with
  | none => -1
  | some n => nI n
def sg_bL (pr : Nat → Nat) (b : Option Nat) : Nat := match b with
  | none => 0
  | some n => sg_P pr n
theorem sg_bL_le {pr : Nat → Nat} (hp : sg_B 100 pr) (b : Option Nat) : sg_bL pr b ≤ 1000 := by
  cases b with
  | none => exact Nat.zero_le _
  | some n => exact sg_P_le hp n
section SBB
variable {ea eb pr : Nat → Nat} {pts i : Nat} {inn out : Nat} {b : Option Nat}
theorem sg_bI_none (hM : sg_M ea eb pr pts inn.testBit out.testBit i b) (hi : i ≤ 1024) (c : sg_bI b < 0) : b = none := by
  cases b with
  | none => rfl
  | some n =>
    have := hM.1
    exact absurd c (nI_pos (by omega))
theorem sg_bI_some (c : ¬ sg_bI b < 0) : ∃ n, b = some n := by
  cases b with
  | none => exact absurd (by decide) c
  | some n => exact ⟨n, rfl⟩
theorem sg_M_inn (hM : sg_M ea eb pr pts inn.testBit out.testBit i b) (hinn : inn < 1024) (c : i &&& inn ≠ inn) : sg_M ea eb pr pts inn.testBit out.testBit (i + 1) b := sg_M_skip hM (fun hF => by
  exfalso
  apply c
  rw [Nat.and_comm]
  refine sg_and_of_bits (fun k hk => hF.2.1 k (sg_bit_lt (w := 10) hinn hk) hk))
theorem sg_M_out (hM : sg_M ea eb pr pts inn.testBit out.testBit i b) (hout : out < 1024) (c : i &&& out ≠ 0) : sg_M ea eb pr pts inn.testBit out.testBit (i + 1) b := sg_M_skip hM (fun hF => by
  exfalso
  obtain ⟨k, hk⟩ := sg_bit_of_ne c
  rw [Nat.testBit_and, Bool.and_eq_true] at hk
  have := hF.2.2.1 k (sg_bit_lt (w := 10) hout hk.2) hk.2
  rw [this] at hk
  exact absurd hk.1 (by decide))
theorem sg_M_gone (hM : sg_M ea eb pr pts inn.testBit out.testBit i b) (c : ∃ k, k < 10 ∧ i.testBit k = true ∧ pr k = 0) : sg_M ea eb pr pts inn.testBit out.testBit (i + 1) b := sg_M_skip hM (fun hF => by
  obtain ⟨k, hk, h1, h2⟩ := c
  exact absurd h2 (hF.2.2.2.1 k hk h1))
theorem sg_M_dear (hM : sg_M ea eb pr pts inn.testBit out.testBit i b) (c1 : ¬ sg_bI b < 0) (c2 : sg_bL pr b ≤ sg_P pr i) : sg_M ea eb pr pts inn.testBit out.testBit (i + 1) b := sg_M_skip hM (fun _ => by
  obtain ⟨n, rfl⟩ := sg_bI_some c1
  exact ⟨n, rfl, c2⟩)
theorem sg_M_apart (hM : sg_M ea eb pr pts inn.testBit out.testBit i b) (c : ¬ sg_J ea eb i.testBit pts) : sg_M ea eb pr pts inn.testBit out.testBit (i + 1) b := sg_M_skip hM (fun hF => absurd hF.2.2.2.2 c)
theorem sg_F_of (hi : i < 1024) (c1 : i &&& inn = inn) (c2 : i &&& out = 0) (c3 : ∀ k, k < 10 → i.testBit k = true → pr k ≠ 0) (c4 : sg_J ea eb i.testBit pts) : sg_F ea eb pr pts inn.testBit out.testBit i := by
  refine ⟨hi, fun k _ hk => ?_, fun k _ hk => ?_, c3, c4⟩
  · exact sg_bits_of_and (b := i) (by rw [Nat.and_comm]; exact c1) k hk
  · cases hb : i.testBit k with
    | false => rfl
    | true =>
      have : (i &&& out).testBit k = true := by rw [Nat.testBit_and, hb, hk]; rfl
      rw [c2, Nat.zero_testBit] at this
      cases this
theorem sg_M_first (hM : sg_M ea eb pr pts inn.testBit out.testBit i b) (hi : i < 1024) (hF : sg_F ea eb pr pts inn.testBit out.testBit i) (c : sg_bI b < 0) : sg_M ea eb pr pts inn.testBit out.testBit (i + 1) (some i) := sg_M_take hM hF (fun n hn => by
  rw [sg_bI_none hM (by omega) c] at hn
  cases hn)
theorem sg_M_better (hM : sg_M ea eb pr pts inn.testBit out.testBit i b) (hF : sg_F ea eb pr pts inn.testBit out.testBit i) (c : sg_P pr i < sg_bL pr b) : sg_M ea eb pr pts inn.testBit out.testBit (i + 1) (some i) := sg_M_take hM hF (fun n hn => by
  subst hn
  exact c)
end SBB
/-- what best answers -/
def sp_best (ea eb pr : Nat → Nat) (pts inn out : Nat) (r : Int32) : Prop := ((∀ n, ¬ sg_F ea eb pr pts inn.testBit out.testBit n) ∧ r = -1) ∨ ∃ n, sg_Bst ea eb pr pts inn.testBit out.testBit n ∧ r = nI n
theorem sp_best_end {ea eb pr : Nat → Nat} {pts inn out : Nat} {b : Option Nat} (h : sg_M ea eb pr pts inn.testBit out.testBit 1024 b) : sp_best ea eb pr pts inn out (sg_bI b) := by
  rcases sg_M_end h with ⟨rfl, a⟩ | ⟨n, rfl, a⟩
  · exact Or.inl ⟨a, rfl⟩
  · exact Or.inr ⟨n, a, rfl⟩
theorem sp_best_neg {ea eb pr : Nat → Nat} {pts inn out : Nat} {r : Int32} (h : sp_best ea eb pr pts inn out r) (c : ¬ 0 ≤ r) : ∀ n, ¬ sg_F ea eb pr pts inn.testBit out.testBit n := by
  rcases h with ⟨a, -⟩ | ⟨n, a, b⟩
  · exact a
  · have := a.1.1
    rw [b] at c
    exact absurd (nI_pos' (by omega)) c
theorem sp_best_pos {ea eb pr : Nat → Nat} {pts inn out : Nat} {r : Int32} (h : sp_best ea eb pr pts inn out r) (c : 0 ≤ r) : ∃ n, n < 1024 ∧ sg_Bst ea eb pr pts inn.testBit out.testBit n ∧ r = nI n := by
  rcases h with ⟨-, b⟩ | ⟨n, a, b⟩
  · rw [b] at c; exact absurd c (by decide)
  · exact ⟨n, a.1.1, a, b⟩
theorem sp_low_neg {ea eb pr : Nat → Nat} {pts inn out : Nat} {r : Int32} (h : sp_best ea eb pr pts inn out r) (c : ¬ 0 ≤ r) : sg_Low ea eb pr pts inn.testBit out.testBit (-1) := Or.inl ⟨sp_best_neg h c, rfl⟩
theorem sp_low_pos {ea eb pr : Nat → Nat} {pts inn out n : Nat} {r : Int32} (h : sg_Bst ea eb pr pts inn.testBit out.testBit n) (hr : sp_pr pr n r) : sg_Low ea eb pr pts inn.testBit out.testBit r := by
  rcases hr with ⟨⟨k, hk, h1, h2⟩, -⟩ | ⟨-, b⟩
  · exact absurd h2 (h.1.2.2.2.1 k hk h1)
  · rw [b]; exact sg_Bst_Low h
-- ===== the sets of lines as numbers =====
theorem tb_zero : Nat.testBit 0 = sg_no := by funext k; rw [Nat.zero_testBit]
theorem tb_one (k : Nat) : Nat.testBit (2 ^ k) = sg_at k := by
  funext i
  rw [Nat.testBit_two_pow]
  by_cases h : i = k
  · subst h; simp
  · simp [h, Ne.symm h]
theorem sg_two10 {k : Nat} (hk : k < 10) : 2 ^ k < 1024 := Nat.pow_lt_pow_right (a := 2) (n := 10) (by omega) hk
theorem sp_mch {ea eb pr : Nat → Nat} {mk k : Nat} {r : Int32} (h : sp_best ea eb pr mk 0 0 r) (c : ¬ 0 ≤ r) : sp_ch (ea, eb, pr, mk) k (-1) := by
  have := sp_best_neg h c
  rw [tb_zero] at this
  exact Or.inl ⟨this, rfl⟩
theorem sp_mchp {ea eb pr : Nat → Nat} {mk k n : Nat} (h : sg_Bst ea eb pr mk (Nat.testBit 0) (Nat.testBit 0) n) : sp_ch (ea, eb, pr, mk) k (nI ((n.testBit k).toNat)) := by
  rw [tb_zero] at h
  exact Or.inr ⟨n, h, rfl⟩
end
section
section MOD1
variable {p : Program} {l : Launch} {e : Env} {R : Room} {s : State} {m : MethodId} {args : Array Value} {below : List Frame} {meth : Method} {c : Code} {cells slots : Nat} {Qp : State → Prop} {dC : Nat → ClassId} {dI : Nat → Nat → Nat} {dA dZ : ClassId} {A : Nat → Prop} {H0 : Heap} {Q : Nat → Nat}
variable {ea eb pr : Nat → Nat} {mk : Nat} {ct wy pt : Nat → Nat} {wc : Nat} {wd : Nat → Nat} {kn : Nat} {bp : Int32} {bs : Nat}
variable {th pc mm : Nat → Nat}
set_option maxHeartbeats 4000000 in
set_option maxRecDepth 100000 in
theorem mod_badPoint (l : Launch) (dC : Nat → ClassId) (dI : Nat → Nat → Nat) (dA dZ : ClassId) (x : Int32) : sMi l yX1_badPoint cX1_badPoint 1 (some .boolean) ({ frames := 0, cells := 0, slots := 0, locals := 0 }) dC dI (tyz dA dZ) [.int x] [] (fun (r : Int32) (_ : Unit) => ((¬ x < 0 ∧ x ≤ nI 6) ∧ r = nI 0) ∨ (¬ (¬ x < 0 ∧ x ≤ nI 6) ∧ r = nI 1)) (fun _ => []) := by
  refine sMi_of (by decide) (Nat.le_of_ble_eq_true rfl) ?_
  intro p e s m below meth c A ls X hr hlocks hA hP hD hS hl
  have hl : lv_has ls 1 [(0, .int x)] := hl
  have hx := X.1.1
  have hb := X.1.2.1
  have hown := X.1.2.2.2.1
  have hts := X.1.2.2.2.2
  refine lv_iload_n hx hb dX1_badPoint_0 rfl (lv_at hl 0 rfl) ?_
  refine lv_if_lt (tgt := 10) hx hb dX1_badPoint_1 (by decide) (fun c_1 => ?_) (fun c_1 => ?_)
  · refine lv_iconst (v := nI 1) hx hb dX1_badPoint_10 (by decide) ?_
    refine lv_goto (tgt := 15) hx hb dX1_badPoint_11 (by decide) ?_
    exact s_iret (r := (nI 1)) X hr hlocks (by decide +kernel) () (Or.inr ⟨fun z => absurd c_1 z.1, rfl⟩) hP hD hS dX1_badPoint_15
  · refine lv_iload_n hx hb dX1_badPoint_4 rfl (lv_at hl 0 rfl) ?_
    refine lv_bipush (v := nI 6) hx hb dX1_badPoint_5 (by decide) ?_
    refine lv_icmp_le (tgt := 14) hx hb dX1_badPoint_7 (by decide) (fun c_2 => ?_) (fun c_2 => ?_)
    · refine lv_iconst (v := nI 0) hx hb dX1_badPoint_14 (by decide) ?_
      exact s_iret (r := (nI 0)) X hr hlocks (by decide +kernel) () (Or.inl ⟨⟨c_1, c_2⟩, rfl⟩) hP hD hS dX1_badPoint_15
    · refine lv_iconst (v := nI 1) hx hb dX1_badPoint_10 (by decide) ?_
      refine lv_goto (tgt := 15) hx hb dX1_badPoint_11 (by decide) ?_
      exact s_iret (r := (nI 1)) X hr hlocks (by decide +kernel) () (Or.inr ⟨fun z => absurd z.2 c_2, rfl⟩) hP hD hS dX1_badPoint_15

set_option maxHeartbeats 4000000 in
set_option maxRecDepth 100000 in
theorem mod_badLine (l : Launch) (dC : Nat → ClassId) (dI : Nat → Nat → Nat) (dA dZ : ClassId) (Q : Nat → Nat) (th ea eb pc mm : Nat → Nat) (pr : Nat → Nat) (mk : Nat) (hR : mRel pr mk th pc mm) (x : Int32) : sMi l yX1_badLine cX1_badLine 2 (some .boolean) ({ frames := 0, cells := 0, slots := 0, locals := 0 }) dC dI (tyz dA dZ) [.ref (Q 0), .int x] (mW dA dZ Q th ea eb pc mm) (fun (r : Int32) (_ : Unit) => ((∃ k, sp_L pr x k) ∧ r = nI 0) ∨ ((¬ ∃ k, sp_L pr x k) ∧ r = nI 1)) (fun _ => mW dA dZ Q th ea eb pc mm) := by
  refine sMi_of (by decide) (Nat.le_of_ble_eq_true rfl) ?_
  intro p e s m below meth c A ls X hr hlocks hA hP hD hS hl
  have hl : lv_has ls 2 [(0, .ref (Q 0)), (1, .int x)] := hl
  have hx := X.1.1
  have hb := X.1.2.1
  have hown := X.1.2.2.2.1
  have hts := X.1.2.2.2.2
  refine lv_iload_n hx hb dX1_badLine_0 rfl (lv_at hl 1 rfl) ?_
  refine lv_if_lt (tgt := 19) hx hb dX1_badLine_1 (by decide) (fun c_1 => ?_) (fun c_1 => ?_)
  · refine lv_iconst (v := nI 1) hx hb dX1_badLine_19 (by decide) ?_
    refine lv_goto (tgt := 24) hx hb dX1_badLine_20 (by decide) ?_
    exact s_iret (r := (nI 1)) X hr hlocks (by decide +kernel) () (Or.inr ⟨fun ⟨k, hk, e1, _⟩ => absurd c_1 (by rw [e1]; exact nI_pos (by omega)), rfl⟩) hP hD hS dX1_badLine_24
  · refine lv_iload_n hx hb dX1_badLine_4 rfl (lv_at hl 1 rfl) ?_
    refine lv_bipush (v := nI 9) hx hb dX1_badLine_5 (by decide) ?_
    refine lv_icmp_gt (tgt := 19) hx hb dX1_badLine_7 (by decide) (fun c_2 => ?_) (fun c_2 => ?_)
    · refine lv_iconst (v := nI 1) hx hb dX1_badLine_19 (by decide) ?_
      refine lv_goto (tgt := 24) hx hb dX1_badLine_20 (by decide) ?_
      exact s_iret (r := (nI 1)) X hr hlocks (by decide +kernel) () (Or.inr ⟨fun ⟨k, hk, e1, _⟩ => absurd c_2 (by rw [e1]; exact nI_nlt (a := 9) (b := k) (by omega) (by omega)), rfl⟩) hP hD hS dX1_badLine_24
    · obtain ⟨j, hj, rfl⟩ := nI_of2 (M := nI 9) (n := 9) (by decide) c_1 (Int32.not_lt.mp c_2)
      have htj := hR.2.2.2.2.1 j
      refine lv_aload_n hx hb dX1_badLine_10 rfl (lv_at hl 0 rfl) ?_
      refine s_get1 X hP 0 rfl 0 (by decide) q151 rfl rfl dX1_badLine_11 ?_
      refine lv_iload_n hx hb dX1_badLine_14 rfl (lv_at hl 1 rfl) ?_
      refine s_zld X hP 1 1 rfl rfl (k := j) (by omega) (by decide) dX1_badLine_15 ?_
      refine s_ine X (x := th j) (by omega) (tgt := 23) dX1_badLine_16 (by decide) (fun c_3 => ?_) (fun c_3 => ?_)
      · refine lv_iconst (v := nI 0) hx hb dX1_badLine_23 (by decide) ?_
        exact s_iret (r := (nI 0)) X hr hlocks (by decide +kernel) () (Or.inl ⟨⟨j, by omega, rfl, (mR_th hR (by omega)).mp c_3⟩, rfl⟩) hP hD hS dX1_badLine_24
      · refine lv_iconst (v := nI 1) hx hb dX1_badLine_19 (by decide) ?_
        refine lv_goto (tgt := 24) hx hb dX1_badLine_20 (by decide) ?_
        exact s_iret (r := (nI 1)) X hr hlocks (by decide +kernel) () (Or.inr ⟨fun ⟨k, hk, e1, e2⟩ => e2 (by rw [← (nI_eq (by omega) (by omega)).mp e1]; exact mR_th0 hR (by omega) c_3), rfl⟩) hP hD hS dX1_badLine_24

set_option maxHeartbeats 4000000 in
set_option maxRecDepth 100000 in
theorem lp_marks (X : Cx p c cX1_marks 3 s m args RX1 dC dI (tyz dA dZ)) (hR : mRel pr mk th pc mm) (hmk : mk < 128) (K : ∀ (H : Heap) (locs : List Loc) (ls : Array Slot), sWd dC dI A H0 (mW dA dZ Q th ea eb pc mm) H locs → lv_has ls 3 [(0, .ref (Q 0)), (1, .int (nI (mk % 2 ^ 7)))] → W p l e R s m args below meth c H locs cells slots Qp (F0 m 31 ls [])) : ∀ (n i : Nat), i ≤ 7 → 7 < i + n → ∀ (H : Heap) (locs : List Loc) (ls : Array Slot), sWd dC dI A H0 (mW dA dZ Q th ea eb pc mm) H locs → lv_has ls 3 [(0, .ref (Q 0)), (1, .int (nI (mk % 2 ^ i))), (2, .int (nI i))] → W p l e R s m args below meth c H locs cells slots Qp (F0 m 4 ls []) := by
  have hx := X.1.1
  have hb := X.1.2.1
  have hown := X.1.2.2.2.1
  have hts := X.1.2.2.2.2
  intro n
  induction n with
  | zero => intro i h1 h2; omega
  | succ n ih =>
    intro i h1 h2 H locs ls hW hl
    obtain ⟨hP, hD, hS⟩ := hW
    refine lv_iload_n hx hb dX1_marks_4 rfl (lv_at hl 2 rfl) ?_
    refine lv_bipush (v := nI 7) hx hb dX1_marks_5 (by decide) ?_
    refine s_cge X (x := i) (y := 7) (by omega) (by omega) (tgt := 31) dX1_marks_7 (by decide) (fun c_1 => ?_) (fun c_1 => ?_)
    · have hi_ : i = 7 := by omega
      subst hi_
      exact K _ _ _ ⟨hP, hD, hS⟩ (lv_sub hl [0, 1] rfl)
    · have hmi := hR.2.2.2.2.2 i
      refine lv_aload_n hx hb dX1_marks_10 rfl (lv_at hl 0 rfl) ?_
      refine s_get1 X hP 0 rfl 4 (by decide) q155 rfl rfl dX1_marks_11 ?_
      refine lv_iload_n hx hb dX1_marks_14 rfl (lv_at hl 2 rfl) ?_
      refine s_zld X hP 5 1 rfl rfl (k := i) (by omega) (by decide) dX1_marks_15 ?_
      refine s_ieq X (x := mm i) (by omega) (tgt := 25) dX1_marks_16 (by decide) (fun c_2 => ?_) (fun c_2 => ?_)
      · refine lv_iinc (v := (nI (i + 1))) (lv' := [(2, .int (nI (i + 1))), (0, .ref (Q 0)), (1, .int (nI (mk % 2 ^ i)))]) hx hb dX1_marks_25 hl (k := 2) rfl (nI_1 _) (by decide) rfl (fun ls hl => ?_)
        refine lv_goto (tgt := 4) hx hb dX1_marks_28 (by decide) ?_
        exact ih (i + 1) (by omega) (by omega) _ _ _ ⟨hP, hD, hS⟩ (by rw [st_mk0 hmk (by omega) (mR_nbit hR (by omega) c_2)]; exact lv_sub hl [1, 2, 0] rfl)
      · refine lv_iload_n hx hb dX1_marks_19 rfl (lv_at hl 1 rfl) ?_
        refine lv_iconst (v := nI 1) hx hb dX1_marks_20 (by decide) ?_
        refine lv_iload_n hx hb dX1_marks_21 rfl (lv_at hl 2 rfl) ?_
        refine lv_ishl hx hb dX1_marks_22 ?_
        refine s_top (nI (2 ^ i)) (s_shl1 (by omega)) ?_
        refine lv_ior hx hb dX1_marks_23 ?_
        refine s_top (nI ((mk % 2 ^ i) ||| (2 ^ i))) (s_or _ _) ?_
        refine lv_istore_n (lv' := [(1, .int (nI ((mk % 2 ^ i) ||| (2 ^ i)))), (0, .ref (Q 0)), (2, .int (nI i))]) hx hb dX1_marks_24 rfl hl (by decide) rfl (fun ls hl => ?_)
        refine lv_iinc (v := (nI (i + 1))) (lv' := [(2, .int (nI (i + 1))), (1, .int (nI ((mk % 2 ^ i) ||| (2 ^ i)))), (0, .ref (Q 0))]) hx hb dX1_marks_25 hl (k := 2) rfl (nI_1 _) (by decide) rfl (fun ls hl => ?_)
        refine lv_goto (tgt := 4) hx hb dX1_marks_28 (by decide) ?_
        exact ih (i + 1) (by omega) (by omega) _ _ _ ⟨hP, hD, hS⟩ (by rw [st_mk1 hmk (by omega) (mR_bit hR (by omega) c_2)]; exact lv_sub hl [2, 1, 0] rfl)

set_option maxHeartbeats 4000000 in
set_option maxRecDepth 100000 in
theorem mod_marks (l : Launch) (dC : Nat → ClassId) (dI : Nat → Nat → Nat) (dA dZ : ClassId) (Q : Nat → Nat) (th ea eb pc mm : Nat → Nat) (pr : Nat → Nat) (mk : Nat) (hR : mRel pr mk th pc mm) (hmk : mk < 128) : sMi l yX1_marks cX1_marks 3 (some .int) ({ frames := 0, cells := 0, slots := 0, locals := 0 }) dC dI (tyz dA dZ) [.ref (Q 0)] (mW dA dZ Q th ea eb pc mm) (fun (r : Int32) (_ : Unit) => r = nI mk) (fun _ => mW dA dZ Q th ea eb pc mm) := by
  refine sMi_of (by decide) (Nat.le_of_ble_eq_true rfl) ?_
  intro p e s m below meth c A ls X hr hlocks hA hP hD hS hl
  have hl : lv_has ls 3 [(0, .ref (Q 0))] := hl
  have hx := X.1.1
  have hb := X.1.2.1
  have hown := X.1.2.2.2.1
  have hts := X.1.2.2.2.2
  refine lv_iconst (v := nI 0) hx hb dX1_marks_0 (by decide) ?_
  refine lv_istore_n (lv' := [(1, .int (nI 0)), (0, .ref (Q 0))]) hx hb dX1_marks_1 rfl hl (by decide) rfl (fun ls hl => ?_)
  refine lv_iconst (v := nI 0) hx hb dX1_marks_2 (by decide) ?_
  refine lv_istore_n (lv' := [(2, .int (nI 0)), (1, .int (nI 0)), (0, .ref (Q 0))]) hx hb dX1_marks_3 rfl hl (by decide) rfl (fun ls hl => ?_)
  refine lp_marks X hR hmk (fun H locs ls hW hl => ?_) 8 0 (by omega) (by omega) _ _ _ ⟨hP, hD, hS⟩ (by rw [show (mk % 2 ^ 0) = 0 from Nat.mod_one mk]; exact lv_sub hl [2, 1, 0] rfl)
  obtain ⟨hP, hD, hS⟩ := hW
  have hP : va_P (dC, dI) vwCl (mW dA dZ Q th ea eb pc mm) H := hP
  have hD : va_D A (mW dA dZ Q th ea eb pc mm) := hD
  refine lv_iload_n hx hb dX1_marks_31 rfl (lv_at hl 1 rfl) ?_
  exact s_iret (r := (nI (mk % 2 ^ 7))) X hr hlocks (rfl) () (by rw [Nat.mod_eq_of_lt hmk]) hP hD hS dX1_marks_32

end MOD1
end
section
section MOD1
variable {p : Program} {l : Launch} {e : Env} {R : Room} {s : State} {m : MethodId} {args : Array Value} {below : List Frame} {meth : Method} {c : Code} {cells slots : Nat} {Qp : State → Prop} {dC : Nat → ClassId} {dI : Nat → Nat → Nat} {dA dZ : ClassId} {A : Nat → Prop} {H0 : Heap} {Q : Nat → Nat}
variable {ea eb pr : Nat → Nat} {mk : Nat} {ct wy pt : Nat → Nat} {wc : Nat} {wd : Nat → Nat} {kn : Nat} {bp : Int32} {bs : Nat}
variable {th pc mm : Nat → Nat}
set_option maxHeartbeats 4000000 in
set_option maxRecDepth 100000 in
theorem lp_priceOf (X : Cx p c cX1_priceOf 4 s m args RX1 dC dI (tyz dA dZ)) (hR : mRel pr mk th pc mm) (n : Nat) (hn : n < 1024) (K2 : ∀ (H : Heap) (locs : List Loc) (ls : Array Slot) (k : Nat), k < 10 → n.testBit k = true → th k = 0 → sWd dC dI A H0 (mW dA dZ Q th ea eb pc mm) H locs → lv_has ls 4 [(0, .ref (Q 0))] → W p l e R s m args below meth c H locs cells slots Qp (F0 m 28 ls [])) (K : ∀ (H : Heap) (locs : List Loc) (ls : Array Slot), (∀ k, k < 10 → n.testBit k = true → th k ≠ 0) → sWd dC dI A H0 (mW dA dZ Q th ea eb pc mm) H locs → lv_has ls 4 [(0, .ref (Q 0)), (2, .int (nI (sg_S pc n.testBit 10)))] → W p l e R s m args below meth c H locs cells slots Qp (F0 m 45 ls [])) : ∀ (fu i : Nat), i ≤ 10 → 10 < i + fu → ∀ (H : Heap) (locs : List Loc) (ls : Array Slot), (∀ k, k < i → n.testBit k = true → th k ≠ 0) → sWd dC dI A H0 (mW dA dZ Q th ea eb pc mm) H locs → lv_has ls 4 [(0, .ref (Q 0)), (1, .int (nI n)), (2, .int (nI (sg_S pc n.testBit i))), (3, .int (nI i))] → W p l e R s m args below meth c H locs cells slots Qp (F0 m 4 ls []) := by
  have hx := X.1.1
  have hb := X.1.2.1
  have hown := X.1.2.2.2.1
  have hts := X.1.2.2.2.2
  intro fu
  induction fu with
  | zero => intro i h1 h2; omega
  | succ fu ih =>
    intro i h1 h2 H locs ls hv hW hl
    obtain ⟨hP, hD, hS⟩ := hW
    generalize hg : sg_S pc n.testBit i = l1 at hl
    refine lv_iload_n hx hb dX1_priceOf_4 rfl (lv_at hl 3 rfl) ?_
    refine lv_bipush (v := nI 10) hx hb dX1_priceOf_5 (by decide) ?_
    refine s_cge X (x := i) (y := 10) (by omega) (by omega) (tgt := 45) dX1_priceOf_7 (by decide) (fun c_1 => ?_) (fun c_1 => ?_)
    · have hi_ : i = 10 := by omega
      subst hi_
      exact K _ _ _ hv ⟨hP, hD, hS⟩ (by rw [hg]; exact lv_sub hl [0, 2] rfl)
    · have hti := hR.2.2.2.2.1 i
      have htb := Bool.toNat_lt (n.testBit i)
      refine lv_iload_n hx hb dX1_priceOf_10 rfl (lv_at hl 1 rfl) ?_
      refine lv_iload_n hx hb dX1_priceOf_11 rfl (lv_at hl 3 rfl) ?_
      refine lv_ishr hx hb dX1_priceOf_12 ?_
      refine lv_iconst (v := nI 1) hx hb dX1_priceOf_13 (by decide) ?_
      refine lv_iand hx hb dX1_priceOf_14 ?_
      refine s_top (nI ((n.testBit i).toNat)) (s_bitS (by omega) (by omega)) ?_
      refine lv_iconst (v := nI 1) hx hb dX1_priceOf_15 (by decide) ?_
      refine s_cne X (x := (n.testBit i).toNat) (y := 1) (by omega) (by omega) (tgt := 39) dX1_priceOf_16 (by decide) (fun c_2 => ?_) (fun c_2 => ?_)
      · refine lv_iinc (v := (nI (i + 1))) (lv' := [(3, .int (nI (i + 1))), (0, .ref (Q 0)), (1, .int (nI n)), (2, .int (nI l1))]) hx hb dX1_priceOf_39 hl (k := 3) rfl (nI_1 _) (by decide) rfl (fun ls hl => ?_)
        refine lv_goto (tgt := 4) hx hb dX1_priceOf_42 (by decide) ?_
        exact ih (i + 1) (by omega) (by omega) _ _ _ (fun k hk hb => by rcases Nat.lt_succ_iff_lt_or_eq.mp hk with z | z; exact hv k z hb; exact absurd hb (by rw [z, s_t1n c_2]; decide)) ⟨hP, hD, hS⟩ (by rw [st_S0 hg (s_t1n c_2)]; exact lv_sub hl [1, 2, 3, 0] rfl)
      · refine lv_aload_n hx hb dX1_priceOf_19 rfl (lv_at hl 0 rfl) ?_
        refine s_get1 X hP 0 rfl 0 (by decide) q151 rfl rfl dX1_priceOf_20 ?_
        refine lv_iload_n hx hb dX1_priceOf_23 rfl (lv_at hl 3 rfl) ?_
        refine s_zld X hP 1 1 rfl rfl (k := i) (by omega) (by decide) dX1_priceOf_24 ?_
        refine s_ine X (x := th i) (by omega) (tgt := 30) dX1_priceOf_25 (by decide) (fun c_3 => ?_) (fun c_3 => ?_)
        · refine lv_iload_n hx hb dX1_priceOf_30 rfl (lv_at hl 2 rfl) ?_
          refine lv_aload_n hx hb dX1_priceOf_31 rfl (lv_at hl 0 rfl) ?_
          refine s_get1 X hP 0 rfl 3 (by decide) q154 rfl rfl dX1_priceOf_32 ?_
          refine lv_iload_n hx hb dX1_priceOf_35 rfl (lv_at hl 3 rfl) ?_
          refine s_ild X hP 4 0 rfl rfl (k := i) (by omega) (by decide) dX1_priceOf_36 ?_
          refine lv_iadd hx hb dX1_priceOf_37 ?_
          refine s_top (nI (l1 + (pc i))) (nI_add _ _) ?_
          refine lv_istore_n (lv' := [(2, .int (nI (l1 + (pc i)))), (0, .ref (Q 0)), (1, .int (nI n)), (3, .int (nI i))]) hx hb dX1_priceOf_38 rfl hl (by decide) rfl (fun ls hl => ?_)
          refine lv_iinc (v := (nI (i + 1))) (lv' := [(3, .int (nI (i + 1))), (2, .int (nI (l1 + (pc i)))), (0, .ref (Q 0)), (1, .int (nI n))]) hx hb dX1_priceOf_39 hl (k := 3) rfl (nI_1 _) (by decide) rfl (fun ls hl => ?_)
          refine lv_goto (tgt := 4) hx hb dX1_priceOf_42 (by decide) ?_
          exact ih (i + 1) (by omega) (by omega) _ _ _ (fun k hk hb => by rcases Nat.lt_succ_iff_lt_or_eq.mp hk with z | z; exact hv k z hb; rw [z]; exact c_3) ⟨hP, hD, hS⟩ (by rw [st_S1 hg (s_t1 c_2)]; exact lv_sub hl [2, 3, 1, 0] rfl)
        · exact K2 _ _ _ i (by omega) (s_t1 c_2) c_3 ⟨hP, hD, hS⟩ (lv_sub hl [0] rfl)

set_option maxHeartbeats 4000000 in
set_option maxRecDepth 100000 in
theorem mod_priceOf (l : Launch) (dC : Nat → ClassId) (dI : Nat → Nat → Nat) (dA dZ : ClassId) (Q : Nat → Nat) (th ea eb pc mm : Nat → Nat) (pr : Nat → Nat) (mk : Nat) (hR : mRel pr mk th pc mm) (n : Nat) (hn : n < 1024) : sMi l yX1_priceOf cX1_priceOf 4 (some .int) ({ frames := 0, cells := 0, slots := 0, locals := 0 }) dC dI (tyz dA dZ) [.ref (Q 0), .int (nI n)] (mW dA dZ Q th ea eb pc mm) (fun (r : Int32) (_ : Unit) => sp_pr pr n r) (fun _ => mW dA dZ Q th ea eb pc mm) := by
  refine sMi_of (by decide) (Nat.le_of_ble_eq_true rfl) ?_
  intro p e s m below meth c A ls X hr hlocks hA hP hD hS hl
  have hl : lv_has ls 4 [(0, .ref (Q 0)), (1, .int (nI n))] := hl
  have hx := X.1.1
  have hb := X.1.2.1
  have hown := X.1.2.2.2.1
  have hts := X.1.2.2.2.2
  refine lv_iconst (v := nI 0) hx hb dX1_priceOf_0 (by decide) ?_
  refine lv_istore_n (lv' := [(2, .int (nI 0)), (0, .ref (Q 0)), (1, .int (nI n))]) hx hb dX1_priceOf_1 rfl hl (by decide) rfl (fun ls hl => ?_)
  refine lv_iconst (v := nI 0) hx hb dX1_priceOf_2 (by decide) ?_
  refine lv_istore_n (lv' := [(3, .int (nI 0)), (2, .int (nI 0)), (0, .ref (Q 0)), (1, .int (nI n))]) hx hb dX1_priceOf_3 rfl hl (by decide) rfl (fun ls hl => ?_)
  refine lp_priceOf X hR n hn (fun H locs ls k hk hb0 h0 hW hl => ?_) (fun H locs ls hv hW hl => ?_) 11 0 (by omega) (by omega) _ _ _ (fun k hk => absurd hk (by omega)) ⟨hP, hD, hS⟩ (lv_sub hl [2, 3, 1, 0] rfl)
  · obtain ⟨hP, hD, hS⟩ := hW
    refine lv_iconst (v := -1) hx hb dX1_priceOf_28 (by decide) ?_
    exact s_iret (r := (-1)) X hr hlocks (rfl) () (sp_pr_no hR hk hb0 h0) hP hD hS dX1_priceOf_29
  · obtain ⟨hP, hD, hS⟩ := hW
    refine lv_iload_n hx hb dX1_priceOf_45 rfl (lv_at hl 1 rfl) ?_
    exact s_iret (r := (nI (sg_S pc n.testBit 10))) X hr hlocks (rfl) () (sp_pr_yes hR hv) hP hD hS dX1_priceOf_46

end MOD1
end
section
section MOD1
variable {p : Program} {l : Launch} {e : Env} {R : Room} {s : State} {m : MethodId} {args : Array Value} {below : List Frame} {meth : Method} {c : Code} {cells slots : Nat} {Qp : State → Prop} {dC : Nat → ClassId} {dI : Nat → Nat → Nat} {dA dZ : ClassId} {A : Nat → Prop} {H0 : Heap} {Q : Nat → Nat}
variable {ea eb pr : Nat → Nat} {mk : Nat} {ct wy pt : Nat → Nat} {wc : Nat} {wd : Nat → Nat} {kn : Nat} {bp : Int32} {bs : Nat}
variable {th pc mm : Nat → Nat}
set_option maxHeartbeats 4000000 in
set_option maxRecDepth 100000 in
theorem lp_joins1 (X : Cx p c cX1_joins 7 s m args RX1 dC dI (tyz dA dZ)) (hea : ∀ k, ea k < 7) (heb : ∀ k, eb k < 7) (cn st r0 : Nat) (hn : cn < 1024) (hst : st < 128) (hr0 : r0 < 128) (rd : Nat) (K : ∀ (H : Heap) (locs : List Loc) (ls : Array Slot), sWd dC dI A H0 (mW dA dZ Q th ea eb pc mm) H locs → lv_has ls 7 [(0, .ref (Q 0)), (1, .int (nI cn)), (2, .int (nI st)), (3, .int (nI (sg_it (sg_j1 ea eb cn) 10 r0))), (4, .int (nI rd))] → W p l e R s m args below meth c H locs cells slots Qp (F0 m 74 ls [])) : ∀ (n i : Nat), i ≤ 10 → 10 < i + n → ∀ (H : Heap) (locs : List Loc) (ls : Array Slot), sWd dC dI A H0 (mW dA dZ Q th ea eb pc mm) H locs → lv_has ls 7 [(0, .ref (Q 0)), (1, .int (nI cn)), (2, .int (nI st)), (3, .int (nI (sg_it (sg_j1 ea eb cn) i r0))), (4, .int (nI rd)), (5, .int (nI i))] → W p l e R s m args below meth c H locs cells slots Qp (F0 m 18 ls []) := by
  have hx := X.1.1
  have hb := X.1.2.1
  have hown := X.1.2.2.2.1
  have hts := X.1.2.2.2.2
  intro n
  induction n with
  | zero => intro i h1 h2; omega
  | succ n ih =>
    intro i h1 h2 H locs ls hW hl
    obtain ⟨hP, hD, hS⟩ := hW
    generalize hg : sg_it (sg_j1 ea eb cn) i r0 = l1 at hl
    refine lv_iload hx hb dX1_joins_18 (lv_at hl 5 rfl) ?_
    refine lv_bipush (v := nI 10) hx hb dX1_joins_20 (by decide) ?_
    refine s_cge X (x := i) (y := 10) (by omega) (by omega) (tgt := 74) dX1_joins_22 (by decide) (fun c_1 => ?_) (fun c_1 => ?_)
    · have hi_ : i = 10 := by omega
      subst hi_
      exact K _ _ _ ⟨hP, hD, hS⟩ (by rw [hg]; exact lv_sub hl [0, 1, 2, 3, 4] rfl)
    · have he1 := hea i
      have he2 := heb i
      have hl1 : l1 < 128 := by rw [← hg]; exact sg_j1i_lt hea heb hr0 i
      have htb := Bool.toNat_lt (cn.testBit i)
      refine lv_iconst (v := nI 1) hx hb dX1_joins_25 (by decide) ?_
      refine lv_aload_n hx hb dX1_joins_26 rfl (lv_at hl 0 rfl) ?_
      refine s_get1 X hP 0 rfl 1 (by decide) q152 rfl rfl dX1_joins_27 ?_
      refine lv_iload hx hb dX1_joins_30 (lv_at hl 5 rfl) ?_
      refine s_ild X hP 2 0 rfl rfl (k := i) (by omega) (by decide) dX1_joins_32 ?_
      refine lv_ishl hx hb dX1_joins_33 ?_
      refine s_top (nI (2 ^ (ea i))) (s_shl1 (by omega)) ?_
      refine lv_iconst (v := nI 1) hx hb dX1_joins_34 (by decide) ?_
      refine lv_aload_n hx hb dX1_joins_35 rfl (lv_at hl 0 rfl) ?_
      refine s_get1 X hP 0 rfl 2 (by decide) q153 rfl rfl dX1_joins_36 ?_
      refine lv_iload hx hb dX1_joins_39 (lv_at hl 5 rfl) ?_
      refine s_ild X hP 3 0 rfl rfl (k := i) (by omega) (by decide) dX1_joins_41 ?_
      refine lv_ishl hx hb dX1_joins_42 ?_
      refine s_top (nI (2 ^ (eb i))) (s_shl1 (by omega)) ?_
      refine lv_ior hx hb dX1_joins_43 ?_
      refine s_top (nI ((2 ^ (ea i)) ||| (2 ^ (eb i)))) (s_or _ _) ?_
      refine lv_istore (lv' := [(6, .int (nI ((2 ^ (ea i)) ||| (2 ^ (eb i))))), (0, .ref (Q 0)), (1, .int (nI cn)), (2, .int (nI st)), (3, .int (nI l1)), (4, .int (nI rd)), (5, .int (nI i))]) hx hb dX1_joins_44 hl (by decide) rfl (fun ls hl => ?_)
      refine lv_iload_n hx hb dX1_joins_46 rfl (lv_at hl 2 rfl) ?_
      refine lv_iload hx hb dX1_joins_47 (lv_at hl 6 rfl) ?_
      refine lv_ishr hx hb dX1_joins_49 ?_
      refine lv_iconst (v := nI 1) hx hb dX1_joins_50 (by decide) ?_
      refine lv_iand hx hb dX1_joins_51 ?_
      refine s_top (nI ((cn.testBit i).toNat)) (s_bitS (by omega) (by omega)) ?_
      refine lv_iconst (v := nI 1) hx hb dX1_joins_52 (by decide) ?_
      refine s_cne X (x := (cn.testBit i).toNat) (y := 1) (by omega) (by omega) (tgt := 68) dX1_joins_53 (by decide) (fun c_2 => ?_) (fun c_2 => ?_)
      · refine lv_iinc (v := (nI (i + 1))) (lv' := [(5, .int (nI (i + 1))), (6, .int (nI ((2 ^ (ea i)) ||| (2 ^ (eb i))))), (0, .ref (Q 0)), (1, .int (nI cn)), (2, .int (nI st)), (3, .int (nI l1)), (4, .int (nI rd))]) hx hb dX1_joins_68 hl (k := 6) rfl (nI_1 _) (by decide) rfl (fun ls hl => ?_)
        refine lv_goto (tgt := 18) hx hb dX1_joins_71 (by decide) ?_
        exact ih (i + 1) (by omega) (by omega) _ _ _ ⟨hP, hD, hS⟩ (by rw [st_j1f hg (s_t1n c_2)]; exact lv_sub hl [2, 3, 4, 5, 6, 0] rfl)
      · refine lv_iload_n hx hb dX1_joins_56 rfl (lv_at hl 4 rfl) ?_
        refine lv_iload hx hb dX1_joins_57 (lv_at hl 0 rfl) ?_
        refine lv_iand hx hb dX1_joins_59 ?_
        refine s_top (nI (l1 &&& ((2 ^ (ea i)) ||| (2 ^ (eb i))))) (s_and _ _) ?_
        have hlt9 : l1 &&& ((2 ^ (ea i)) ||| (2 ^ (eb i))) < 2 ^ 31 := Nat.lt_of_le_of_lt Nat.and_le_left (by omega)
        refine s_ieq X (x := l1 &&& ((2 ^ (ea i)) ||| (2 ^ (eb i)))) (by omega) (tgt := 68) dX1_joins_60 (by decide) (fun c_3 => ?_) (fun c_3 => ?_)
        · refine lv_iinc (v := (nI (i + 1))) (lv' := [(5, .int (nI (i + 1))), (6, .int (nI ((2 ^ (ea i)) ||| (2 ^ (eb i))))), (0, .ref (Q 0)), (1, .int (nI cn)), (2, .int (nI st)), (3, .int (nI l1)), (4, .int (nI rd))]) hx hb dX1_joins_68 hl (k := 6) rfl (nI_1 _) (by decide) rfl (fun ls hl => ?_)
          refine lv_goto (tgt := 18) hx hb dX1_joins_71 (by decide) ?_
          exact ih (i + 1) (by omega) (by omega) _ _ _ ⟨hP, hD, hS⟩ (by rw [st_j1z hg c_3]; exact lv_sub hl [2, 3, 4, 5, 6, 0] rfl)
        · refine lv_iload_n hx hb dX1_joins_63 rfl (lv_at hl 4 rfl) ?_
          refine lv_iload hx hb dX1_joins_64 (lv_at hl 0 rfl) ?_
          refine lv_ior hx hb dX1_joins_66 ?_
          refine s_top (nI (l1 ||| ((2 ^ (ea i)) ||| (2 ^ (eb i))))) (s_or _ _) ?_
          refine lv_istore_n (lv' := [(3, .int (nI (l1 ||| ((2 ^ (ea i)) ||| (2 ^ (eb i)))))), (6, .int (nI ((2 ^ (ea i)) ||| (2 ^ (eb i))))), (0, .ref (Q 0)), (1, .int (nI cn)), (2, .int (nI st)), (4, .int (nI rd)), (5, .int (nI i))]) hx hb dX1_joins_67 rfl hl (by decide) rfl (fun ls hl => ?_)
          refine lv_iinc (v := (nI (i + 1))) (lv' := [(5, .int (nI (i + 1))), (3, .int (nI (l1 ||| ((2 ^ (ea i)) ||| (2 ^ (eb i)))))), (6, .int (nI ((2 ^ (ea i)) ||| (2 ^ (eb i))))), (0, .ref (Q 0)), (1, .int (nI cn)), (2, .int (nI st)), (4, .int (nI rd))]) hx hb dX1_joins_68 hl (k := 6) rfl (nI_1 _) (by decide) rfl (fun ls hl => ?_)
          refine lv_goto (tgt := 18) hx hb dX1_joins_71 (by decide) ?_
          exact ih (i + 1) (by omega) (by omega) _ _ _ ⟨hP, hD, hS⟩ (by rw [st_j1t hg (s_t1 c_2) c_3]; exact lv_sub hl [3, 4, 5, 1, 6, 0] rfl)

set_option maxHeartbeats 4000000 in
set_option maxRecDepth 100000 in
theorem lp_joins2 (X : Cx p c cX1_joins 7 s m args RX1 dC dI (tyz dA dZ)) (hea : ∀ k, ea k < 7) (heb : ∀ k, eb k < 7) (cn st r0 : Nat) (hn : cn < 1024) (hst : st < 128) (hr0 : r0 < 128) (K : ∀ (H : Heap) (locs : List Loc) (ls : Array Slot), sWd dC dI A H0 (mW dA dZ Q th ea eb pc mm) H locs → lv_has ls 7 [(0, .ref (Q 0)), (1, .int (nI cn)), (2, .int (nI st)), (3, .int (nI (sg_it (fun _ r => sg_j2 ea eb cn r) 6 r0)))] → W p l e R s m args below meth c H locs cells slots Qp (F0 m 80 ls [])) : ∀ (n i : Nat), i ≤ 6 → 6 < i + n → ∀ (H : Heap) (locs : List Loc) (ls : Array Slot), sWd dC dI A H0 (mW dA dZ Q th ea eb pc mm) H locs → lv_has ls 7 [(0, .ref (Q 0)), (1, .int (nI cn)), (2, .int (nI st)), (3, .int (nI (sg_it (fun _ r => sg_j2 ea eb cn r) i r0))), (4, .int (nI i))] → W p l e R s m args below meth c H locs cells slots Qp (F0 m 8 ls []) := by
  have hx := X.1.1
  have hb := X.1.2.1
  have hown := X.1.2.2.2.1
  have hts := X.1.2.2.2.2
  intro n
  induction n with
  | zero => intro i h1 h2; omega
  | succ n ih =>
    intro i h1 h2 H locs ls hW hl
    obtain ⟨hP, hD, hS⟩ := hW
    generalize hg : sg_it (fun _ r => sg_j2 ea eb cn r) i r0 = l1 at hl
    refine lv_iload hx hb dX1_joins_8 (lv_at hl 4 rfl) ?_
    refine lv_bipush (v := nI 6) hx hb dX1_joins_10 (by decide) ?_
    refine s_cge X (x := i) (y := 6) (by omega) (by omega) (tgt := 80) dX1_joins_12 (by decide) (fun c_1 => ?_) (fun c_1 => ?_)
    · have hi_ : i = 6 := by omega
      subst hi_
      exact K _ _ _ ⟨hP, hD, hS⟩ (by rw [hg]; exact lv_sub hl [0, 1, 2, 3] rfl)
    · refine lv_iconst (v := nI 0) hx hb dX1_joins_15 (by decide) ?_
      refine lv_istore (lv' := [(5, .int (nI 0)), (0, .ref (Q 0)), (1, .int (nI cn)), (2, .int (nI st)), (3, .int (nI l1)), (4, .int (nI i))]) hx hb dX1_joins_16 hl (by decide) rfl (fun ls hl => ?_)
      refine lp_joins1 X hea heb cn st l1 hn hst (by rw [← hg]; exact sg_ji_lt hea heb hr0 i) i (fun H locs ls hW hl => ?_) 11 0 (by omega) (by omega) _ _ _ ⟨hP, hD, hS⟩ (by rw [sg_it_0]; exact lv_sub hl [1, 2, 3, 4, 5, 0] rfl)
      obtain ⟨hP, hD, hS⟩ := hW
      refine lv_iinc (v := (nI (i + 1))) (lv' := [(4, .int (nI (i + 1))), (0, .ref (Q 0)), (1, .int (nI cn)), (2, .int (nI st)), (3, .int (nI (sg_it (sg_j1 ea eb cn) 10 l1)))]) hx hb dX1_joins_74 hl (k := 4) rfl (nI_1 _) (by decide) rfl (fun ls hl => ?_)
      refine lv_goto (tgt := 8) hx hb dX1_joins_77 (by decide) ?_
      exact ih (i + 1) (by omega) (by omega) _ _ _ ⟨hP, hD, hS⟩ (by rw [st_j2 hg]; exact lv_sub hl [1, 2, 3, 4, 0] rfl)

set_option maxHeartbeats 4000000 in
set_option maxRecDepth 100000 in
theorem mod_joins (l : Launch) (dC : Nat → ClassId) (dI : Nat → Nat → Nat) (dA dZ : ClassId) (Q : Nat → Nat) (th ea eb pc mm : Nat → Nat) (hea : ∀ k, ea k < 7) (heb : ∀ k, eb k < 7) (cn st : Nat) (hn : cn < 1024) (hst : st < 128) : sMi l yX1_joins cX1_joins 7 (some .boolean) ({ frames := 0, cells := 0, slots := 0, locals := 0 }) dC dI (tyz dA dZ) [.ref (Q 0), .int (nI cn), .int (nI st)] (mW dA dZ Q th ea eb pc mm) (fun (r : Int32) (_ : Unit) => (sg_J ea eb cn.testBit st ∧ r = nI 1) ∨ (¬ sg_J ea eb cn.testBit st ∧ r = nI 0)) (fun _ => mW dA dZ Q th ea eb pc mm) := by
  refine sMi_of (by decide) (Nat.le_of_ble_eq_true rfl) ?_
  intro p e s m below meth c A ls X hr hlocks hA hP hD hS hl
  have hl : lv_has ls 7 [(0, .ref (Q 0)), (1, .int (nI cn)), (2, .int (nI st))] := hl
  have hx := X.1.1
  have hb := X.1.2.1
  have hown := X.1.2.2.2.1
  have hts := X.1.2.2.2.2
  obtain ⟨r0, er0, hr0, hor⟩ := s_low hst
  refine lv_iload_n hx hb dX1_joins_0 rfl (lv_at hl 2 rfl) ?_
  refine lv_iload_n hx hb dX1_joins_1 rfl (lv_at hl 2 rfl) ?_
  refine lv_ineg hx hb dX1_joins_2 ?_
  refine lv_iand hx hb dX1_joins_3 ?_
  refine s_top (nI r0) er0 ?_
  refine lv_istore_n (lv' := [(3, .int (nI r0)), (0, .ref (Q 0)), (1, .int (nI cn)), (2, .int (nI st))]) hx hb dX1_joins_4 rfl hl (by decide) rfl (fun ls hl => ?_)
  refine lv_iconst (v := nI 0) hx hb dX1_joins_5 (by decide) ?_
  refine lv_istore (lv' := [(4, .int (nI 0)), (3, .int (nI r0)), (0, .ref (Q 0)), (1, .int (nI cn)), (2, .int (nI st))]) hx hb dX1_joins_6 hl (by decide) rfl (fun ls hl => ?_)
  refine lp_joins2 X hea heb cn st r0 hn hst hr0 (fun H locs ls hW hl => ?_) 7 0 (by omega) (by omega) _ _ _ ⟨hP, hD, hS⟩ (by rw [sg_it_0]; exact lv_sub hl [2, 3, 4, 1, 0] rfl)
  obtain ⟨hP, hD, hS⟩ := hW
  have hjj := sg_joins hea heb cn hor
  unfold sg_j at hjj
  generalize sg_it (fun _ r => sg_j2 ea eb cn r) 6 r0 = rj at hl hjj
  have hrj : rj &&& st < 128 := Nat.lt_of_le_of_lt Nat.and_le_right hst
  refine lv_iload_n hx hb dX1_joins_80 rfl (lv_at hl 3 rfl) ?_
  refine lv_iload_n hx hb dX1_joins_81 rfl (lv_at hl 2 rfl) ?_
  refine lv_iand hx hb dX1_joins_82 ?_
  refine s_top (nI (rj &&& st)) (s_and _ _) ?_
  refine lv_iload_n hx hb dX1_joins_83 rfl (lv_at hl 2 rfl) ?_
  refine s_cne X (x := rj &&& st) (y := st) (by omega) (by omega) (tgt := 91) dX1_joins_84 (by decide) (fun c_1 => ?_) (fun c_1 => ?_)
  · refine lv_iconst (v := nI 0) hx hb dX1_joins_91 (by decide) ?_
    exact s_iret (r := (nI 0)) X hr hlocks (by decide +kernel) () (Or.inr ⟨fun z => c_1 (hjj.mpr z), rfl⟩) hP hD hS dX1_joins_92
  · refine lv_iconst (v := nI 1) hx hb dX1_joins_87 (by decide) ?_
    refine lv_goto (tgt := 92) hx hb dX1_joins_88 (by decide) ?_
    exact s_iret (r := (nI 1)) X hr hlocks (by decide +kernel) () (Or.inl ⟨hjj.mp c_1, rfl⟩) hP hD hS dX1_joins_92

end MOD1
end
section
section MOD1
variable {p : Program} {l : Launch} {e : Env} {R : Room} {s : State} {m : MethodId} {args : Array Value} {below : List Frame} {meth : Method} {c : Code} {cells slots : Nat} {Qp : State → Prop} {dC : Nat → ClassId} {dI : Nat → Nat → Nat} {dA dZ : ClassId} {A : Nat → Prop} {H0 : Heap} {Q : Nat → Nat}
variable {ea eb pr : Nat → Nat} {mk : Nat} {ct wy pt : Nat → Nat} {wc : Nat} {wd : Nat → Nat} {kn : Nat} {bp : Int32} {bs : Nat}
variable {th pc mm : Nat → Nat}
theorem sp_joT {P : Prop} {r : Int32} (h : (P ∧ r = nI 1) ∨ (¬ P ∧ r = nI 0)) (c : ¬ r = 0) : P := by
  rcases h with ⟨a, -⟩ | ⟨-, b⟩
  · exact a
  · exact absurd b c
theorem sp_joF {P : Prop} {r : Int32} (h : (P ∧ r = nI 1) ∨ (¬ P ∧ r = nI 0)) (c : r = 0) : ¬ P := by
  rcases h with ⟨-, b⟩ | ⟨a, -⟩
  · rw [b] at c; exact absurd c (by decide)
  · exact a
set_option maxHeartbeats 4000000 in
set_option maxRecDepth 100000 in
theorem lp_mbest (X : Cx p c cX1_best 8 s m args RX1 dC dI (tyz dA dZ)) (hA : ∀ q : Nat, H0.size ≤ q → A q) (hea : ∀ k, ea k < 7) (heb : ∀ k, eb k < 7) (hpr : sg_B 100 pr) (hR : mRel pr mk th pc mm) (pts inn out : Nat) (hpts : pts < 128) (hinn : inn < 1024) (hout : out < 1024)
    (K : ∀ (b : Option Nat) (H : Heap) (locs : List Loc) (ls : Array Slot), sg_M ea eb pr pts inn.testBit out.testBit 1024 b → sWd dC dI A H0 (mW dA dZ Q th ea eb pc mm) H locs → lv_has ls 8 [(0, .ref (Q 0)), (4, .int (sg_bI b))] → W p l e (headSpec (ws_ yX1_best cX1_best 8 (some .int)) ({ frames := 1, cells := 0, slots := 0, locals := 26 })).room s m args below meth c H locs 0 0 Qp (F0 m 81 ls [])) :
    ∀ (fu i : Nat), i ≤ 1024 → 1024 < i + fu → ∀ (b : Option Nat) (H : Heap) (locs : List Loc) (ls : Array Slot), sg_M ea eb pr pts inn.testBit out.testBit i b → sWd dC dI A H0 (mW dA dZ Q th ea eb pc mm) H locs → lv_has ls 8 [(0, .ref (Q 0)), (1, .int (nI pts)), (2, .int (nI inn)), (3, .int (nI out)), (4, .int (sg_bI b)), (5, .int (nI (sg_bL pr b))), (6, .int (nI i))] → W p l e (headSpec (ws_ yX1_best cX1_best 8 (some .int)) ({ frames := 1, cells := 0, slots := 0, locals := 26 })).room s m args below meth c H locs 0 0 Qp (F0 m 9 ls []) := by
  have hx := X.1.1
  have hb := X.1.2.1
  have hown := X.1.2.2.2.1
  have hts := X.1.2.2.2.2
  intro fu
  induction fu with
  | zero => intro i h1 h2; omega
  | succ fu ih =>
    intro i h1 h2 b H locs ls hM hW hl
    obtain ⟨hP, hD, hS⟩ := hW
    have hP1 := sg_P_le hpr i
    have hP2 := sg_bL_le hpr b
    have hn1 : i &&& inn ≤ inn := Nat.and_le_right
    have hn2 : i &&& out ≤ out := Nat.and_le_right
    refine lv_iload hx hb dX1_best_9 (lv_at hl 6 rfl) ?_
    refine lv_sipush (v := nI 1024) hx hb dX1_best_11 (by decide) ?_
    refine s_cge X (x := i) (y := 1024) (by omega) (by omega) (tgt := 81) dX1_best_14 (by decide) (fun c_1 => ?_) (fun c_1 => ?_)
    · have hi_ : i = 1024 := by omega
      subst hi_
      exact K _ _ _ _ hM ⟨hP, hD, hS⟩ (lv_sub hl [0, 4] rfl)
    · refine lv_iload hx hb dX1_best_17 (lv_at hl 6 rfl) ?_
      refine lv_iload_n hx hb dX1_best_19 rfl (lv_at hl 2 rfl) ?_
      refine lv_iand hx hb dX1_best_20 ?_
      refine s_top (nI (i &&& inn)) (s_and _ _) ?_
      refine lv_iload_n hx hb dX1_best_21 rfl (lv_at hl 2 rfl) ?_
      refine s_cne X (x := i &&& inn) (y := inn) (by omega) (by omega) (tgt := 75) dX1_best_22 (by decide) (fun c_2 => ?_) (fun c_2 => ?_)
      · refine lv_iinc (v := (nI (i + 1))) (lv' := [(6, .int (nI (i + 1))), (0, .ref (Q 0)), (1, .int (nI pts)), (2, .int (nI inn)), (3, .int (nI out)), (4, .int (sg_bI b)), (5, .int (nI (sg_bL pr b)))]) hx hb dX1_best_75 hl (k := 6) rfl (nI_1 _) (by decide) rfl (fun ls hl => ?_)
        refine lv_goto (tgt := 9) hx hb dX1_best_78 (by decide) ?_
        exact ih (i + 1) (by omega) (by omega) _ _ _ _ (sg_M_inn hM hinn c_2) ⟨hP, hD, hS⟩ (lv_sub hl [1, 2, 3, 4, 5, 6, 0] rfl)
      · refine lv_iload hx hb dX1_best_25 (lv_at hl 6 rfl) ?_
        refine lv_iload_n hx hb dX1_best_27 rfl (lv_at hl 3 rfl) ?_
        refine lv_iand hx hb dX1_best_28 ?_
        refine s_top (nI (i &&& out)) (s_and _ _) ?_
        refine s_ine X (x := i &&& out) (by omega) (tgt := 75) dX1_best_29 (by decide) (fun c_3 => ?_) (fun c_3 => ?_)
        · refine lv_iinc (v := (nI (i + 1))) (lv' := [(6, .int (nI (i + 1))), (0, .ref (Q 0)), (1, .int (nI pts)), (2, .int (nI inn)), (3, .int (nI out)), (4, .int (sg_bI b)), (5, .int (nI (sg_bL pr b)))]) hx hb dX1_best_75 hl (k := 6) rfl (nI_1 _) (by decide) rfl (fun ls hl => ?_)
          refine lv_goto (tgt := 9) hx hb dX1_best_78 (by decide) ?_
          exact ih (i + 1) (by omega) (by omega) _ _ _ _ (sg_M_out hM hout c_3) ⟨hP, hD, hS⟩ (lv_sub hl [1, 2, 3, 4, 5, 6, 0] rfl)
        · refine lv_aload_n hx hb dX1_best_32 rfl (lv_at hl 0 rfl) ?_
          refine lv_iload hx hb dX1_best_33 (lv_at hl 6 rfl) ?_
          refine s_calliV (wr := []) (rest := []) X (mod_priceOf l dC dI dA dZ Q th ea eb pc mm pr mk hR i (by omega)) (cwV 1 hts (lw_V q203 q205 qs14 q18 q206) rfl rfl rfl (by decide +kernel) ⟨Nat.le_of_ble_eq_true rfl, Nat.le_of_ble_eq_true rfl⟩) ⟨Nat.zero_le _, Nat.zero_le _⟩ hP hD hS hA [0, 1, 2, 3, 4, 5] [] rfl rfl rfl rfl (by decide) 1 rfl rfl rfl hl.1 rfl rfl (Nat.le_of_ble_eq_true rfl) dX1_best_35 (fun rp u H locs hpost hP hD hS => ?_)
          have hpr1 := hpost
          have hP : va_P (dC, dI) vwCl (mW dA dZ Q th ea eb pc mm) H := hP
          have hD : va_D A (mW dA dZ Q th ea eb pc mm) := hD
          refine lv_istore (lv' := [(7, .int rp), (0, .ref (Q 0)), (1, .int (nI pts)), (2, .int (nI inn)), (3, .int (nI out)), (4, .int (sg_bI b)), (5, .int (nI (sg_bL pr b))), (6, .int (nI i))]) hx hb dX1_best_38 hl (by decide) rfl (fun ls hl => ?_)
          refine lv_iload hx hb dX1_best_40 (lv_at hl 0 rfl) ?_
          refine lv_if_lt (tgt := 75) hx hb dX1_best_42 (by decide) (fun c_4 => ?_) (fun c_4 => ?_)
          · refine lv_iinc (v := (nI (i + 1))) (lv' := [(6, .int (nI (i + 1))), (7, .int rp), (0, .ref (Q 0)), (1, .int (nI pts)), (2, .int (nI inn)), (3, .int (nI out)), (4, .int (sg_bI b)), (5, .int (nI (sg_bL pr b)))]) hx hb dX1_best_75 hl (k := 7) rfl (nI_1 _) (by decide) rfl (fun ls hl => ?_)
            refine lv_goto (tgt := 9) hx hb dX1_best_78 (by decide) ?_
            exact ih (i + 1) (by omega) (by omega) _ _ _ _ (sg_M_gone hM (sp_pr_lt hpr hpr1 c_4)) ⟨hP, hD, hS⟩ (lv_sub hl [2, 3, 4, 5, 6, 7, 0] rfl)
          · obtain ⟨hall, rfl⟩ := sp_pr_ge hpr1 c_4
            refine lv_iload hx hb dX1_best_45 (lv_at hl 5 rfl) ?_
            refine lv_if_lt (tgt := 57) hx hb dX1_best_47 (by decide) (fun c_5 => ?_) (fun c_5 => ?_)
            · refine lv_aload_n hx hb dX1_best_57 rfl (lv_at hl 1 rfl) ?_
              refine lv_iload hx hb dX1_best_58 (lv_at hl 7 rfl) ?_
              refine lv_iload_n hx hb dX1_best_60 rfl (lv_at hl 2 rfl) ?_
              refine s_calliV (wr := []) (rest := []) X (mod_joins l dC dI dA dZ Q th ea eb pc mm hea heb i pts (by omega) hpts) (cwV 2 hts (lw_V q207 q209 qs15 q18 q210) rfl rfl rfl (by decide +kernel) ⟨Nat.le_of_ble_eq_true rfl, Nat.le_of_ble_eq_true rfl⟩) ⟨Nat.zero_le _, Nat.zero_le _⟩ hP hD hS hA [0, 1, 2, 3, 4, 5] [] rfl rfl rfl rfl (by decide) 1 rfl rfl rfl hl.1 rfl rfl (Nat.le_of_ble_eq_true rfl) dX1_best_61 (fun rj u H locs hpost hP hD hS => ?_)
              have hjo1 := hpost
              have hP : va_P (dC, dI) vwCl (mW dA dZ Q th ea eb pc mm) H := hP
              have hD : va_D A (mW dA dZ Q th ea eb pc mm) := hD
              refine lv_if_eq (tgt := 75) hx hb dX1_best_64 (by decide) (fun c_6 => ?_) (fun c_6 => ?_)
              · refine lv_iinc (v := (nI (i + 1))) (lv' := [(6, .int (nI (i + 1))), (7, .int (nI (sg_P pr i))), (0, .ref (Q 0)), (1, .int (nI pts)), (2, .int (nI inn)), (3, .int (nI out)), (4, .int (sg_bI b)), (5, .int (nI (sg_bL pr b)))]) hx hb dX1_best_75 hl (k := 7) rfl (nI_1 _) (by decide) rfl (fun ls hl => ?_)
                refine lv_goto (tgt := 9) hx hb dX1_best_78 (by decide) ?_
                exact ih (i + 1) (by omega) (by omega) _ _ _ _ (sg_M_apart hM (sp_joF hjo1 c_6)) ⟨hP, hD, hS⟩ (lv_sub hl [2, 3, 4, 5, 6, 7, 0] rfl)
              · refine lv_iload hx hb dX1_best_67 (lv_at hl 7 rfl) ?_
                refine lv_istore (lv' := [(4, .int (nI i)), (7, .int (nI (sg_P pr i))), (0, .ref (Q 0)), (1, .int (nI pts)), (2, .int (nI inn)), (3, .int (nI out)), (5, .int (nI (sg_bL pr b))), (6, .int (nI i))]) hx hb dX1_best_69 hl (by decide) rfl (fun ls hl => ?_)
                refine lv_iload hx hb dX1_best_71 (lv_at hl 1 rfl) ?_
                refine lv_istore (lv' := [(5, .int (nI (sg_P pr i))), (4, .int (nI i)), (7, .int (nI (sg_P pr i))), (0, .ref (Q 0)), (1, .int (nI pts)), (2, .int (nI inn)), (3, .int (nI out)), (6, .int (nI i))]) hx hb dX1_best_73 hl (by decide) rfl (fun ls hl => ?_)
                refine lv_iinc (v := (nI (i + 1))) (lv' := [(6, .int (nI (i + 1))), (5, .int (nI (sg_P pr i))), (4, .int (nI i)), (7, .int (nI (sg_P pr i))), (0, .ref (Q 0)), (1, .int (nI pts)), (2, .int (nI inn)), (3, .int (nI out))]) hx hb dX1_best_75 hl (k := 7) rfl (nI_1 _) (by decide) rfl (fun ls hl => ?_)
                refine lv_goto (tgt := 9) hx hb dX1_best_78 (by decide) ?_
                exact ih (i + 1) (by omega) (by omega) (some i) _ _ _ (sg_M_first hM (by omega) (sg_F_of (by omega) c_2 c_3 hall (sp_joT hjo1 c_6)) c_5) ⟨hP, hD, hS⟩ (lv_sub hl [4, 5, 6, 7, 2, 1, 0] rfl)
            · refine lv_iload hx hb dX1_best_50 (lv_at hl 0 rfl) ?_
              refine lv_iload hx hb dX1_best_52 (lv_at hl 6 rfl) ?_
              refine s_cge X (x := sg_P pr i) (y := sg_bL pr b) (by omega) (by omega) (tgt := 75) dX1_best_54 (by decide) (fun c_7 => ?_) (fun c_7 => ?_)
              · refine lv_iinc (v := (nI (i + 1))) (lv' := [(6, .int (nI (i + 1))), (7, .int (nI (sg_P pr i))), (0, .ref (Q 0)), (1, .int (nI pts)), (2, .int (nI inn)), (3, .int (nI out)), (4, .int (sg_bI b)), (5, .int (nI (sg_bL pr b)))]) hx hb dX1_best_75 hl (k := 7) rfl (nI_1 _) (by decide) rfl (fun ls hl => ?_)
                refine lv_goto (tgt := 9) hx hb dX1_best_78 (by decide) ?_
                exact ih (i + 1) (by omega) (by omega) _ _ _ _ (sg_M_dear hM c_5 c_7) ⟨hP, hD, hS⟩ (lv_sub hl [2, 3, 4, 5, 6, 7, 0] rfl)
              · refine lv_aload_n hx hb dX1_best_57 rfl (lv_at hl 1 rfl) ?_
                refine lv_iload hx hb dX1_best_58 (lv_at hl 7 rfl) ?_
                refine lv_iload_n hx hb dX1_best_60 rfl (lv_at hl 2 rfl) ?_
                refine s_calliV (wr := []) (rest := []) X (mod_joins l dC dI dA dZ Q th ea eb pc mm hea heb i pts (by omega) hpts) (cwV 2 hts (lw_V q207 q209 qs15 q18 q210) rfl rfl rfl (by decide +kernel) ⟨Nat.le_of_ble_eq_true rfl, Nat.le_of_ble_eq_true rfl⟩) ⟨Nat.zero_le _, Nat.zero_le _⟩ hP hD hS hA [0, 1, 2, 3, 4, 5] [] rfl rfl rfl rfl (by decide) 1 rfl rfl rfl hl.1 rfl rfl (Nat.le_of_ble_eq_true rfl) dX1_best_61 (fun rj u H locs hpost hP hD hS => ?_)
                have hjo1 := hpost
                have hP : va_P (dC, dI) vwCl (mW dA dZ Q th ea eb pc mm) H := hP
                have hD : va_D A (mW dA dZ Q th ea eb pc mm) := hD
                refine lv_if_eq (tgt := 75) hx hb dX1_best_64 (by decide) (fun c_8 => ?_) (fun c_8 => ?_)
                · refine lv_iinc (v := (nI (i + 1))) (lv' := [(6, .int (nI (i + 1))), (7, .int (nI (sg_P pr i))), (0, .ref (Q 0)), (1, .int (nI pts)), (2, .int (nI inn)), (3, .int (nI out)), (4, .int (sg_bI b)), (5, .int (nI (sg_bL pr b)))]) hx hb dX1_best_75 hl (k := 7) rfl (nI_1 _) (by decide) rfl (fun ls hl => ?_)
                  refine lv_goto (tgt := 9) hx hb dX1_best_78 (by decide) ?_
                  exact ih (i + 1) (by omega) (by omega) _ _ _ _ (sg_M_apart hM (sp_joF hjo1 c_8)) ⟨hP, hD, hS⟩ (lv_sub hl [2, 3, 4, 5, 6, 7, 0] rfl)
                · refine lv_iload hx hb dX1_best_67 (lv_at hl 7 rfl) ?_
                  refine lv_istore (lv' := [(4, .int (nI i)), (7, .int (nI (sg_P pr i))), (0, .ref (Q 0)), (1, .int (nI pts)), (2, .int (nI inn)), (3, .int (nI out)), (5, .int (nI (sg_bL pr b))), (6, .int (nI i))]) hx hb dX1_best_69 hl (by decide) rfl (fun ls hl => ?_)
                  refine lv_iload hx hb dX1_best_71 (lv_at hl 1 rfl) ?_
                  refine lv_istore (lv' := [(5, .int (nI (sg_P pr i))), (4, .int (nI i)), (7, .int (nI (sg_P pr i))), (0, .ref (Q 0)), (1, .int (nI pts)), (2, .int (nI inn)), (3, .int (nI out)), (6, .int (nI i))]) hx hb dX1_best_73 hl (by decide) rfl (fun ls hl => ?_)
                  refine lv_iinc (v := (nI (i + 1))) (lv' := [(6, .int (nI (i + 1))), (5, .int (nI (sg_P pr i))), (4, .int (nI i)), (7, .int (nI (sg_P pr i))), (0, .ref (Q 0)), (1, .int (nI pts)), (2, .int (nI inn)), (3, .int (nI out))]) hx hb dX1_best_75 hl (k := 7) rfl (nI_1 _) (by decide) rfl (fun ls hl => ?_)
                  refine lv_goto (tgt := 9) hx hb dX1_best_78 (by decide) ?_
                  exact ih (i + 1) (by omega) (by omega) (some i) _ _ _ (sg_M_better hM (sg_F_of (by omega) c_2 c_3 hall (sp_joT hjo1 c_8)) c_7) ⟨hP, hD, hS⟩ (lv_sub hl [4, 5, 6, 7, 2, 1, 0] rfl)

set_option maxHeartbeats 4000000 in
set_option maxRecDepth 100000 in
theorem mod_best (l : Launch) (dC : Nat → ClassId) (dI : Nat → Nat → Nat) (dA dZ : ClassId) (Q : Nat → Nat) (th ea eb pc mm : Nat → Nat) (hea : ∀ k, ea k < 7) (heb : ∀ k, eb k < 7) (pr : Nat → Nat) (mk : Nat) (hpr : sg_B 100 pr) (hR : mRel pr mk th pc mm) (pts inn out : Nat) (hpts : pts < 128) (hinn : inn < 1024) (hout : out < 1024) : sMi l yX1_best cX1_best 8 (some .int) ({ frames := 1, cells := 0, slots := 0, locals := 26 }) dC dI (tyz dA dZ) [.ref (Q 0), .int (nI pts), .int (nI inn), .int (nI out)] (mW dA dZ Q th ea eb pc mm) (fun (r : Int32) (_ : Unit) => sp_best ea eb pr pts inn out r) (fun _ => mW dA dZ Q th ea eb pc mm) := by
  refine sMi_of (by decide) (Nat.le_of_ble_eq_true rfl) ?_
  intro p e s m below meth c A ls X hr hlocks hA hP hD hS hl
  have hl : lv_has ls 8 [(0, .ref (Q 0)), (1, .int (nI pts)), (2, .int (nI inn)), (3, .int (nI out))] := hl
  have hx := X.1.1
  have hb := X.1.2.1
  have hown := X.1.2.2.2.1
  have hts := X.1.2.2.2.2
  refine lv_iconst (v := -1) hx hb dX1_best_0 (by decide) ?_
  refine lv_istore (lv' := [(4, .int (-1)), (0, .ref (Q 0)), (1, .int (nI pts)), (2, .int (nI inn)), (3, .int (nI out))]) hx hb dX1_best_1 hl (by decide) rfl (fun ls hl => ?_)
  refine lv_iconst (v := nI 0) hx hb dX1_best_3 (by decide) ?_
  refine lv_istore (lv' := [(5, .int (nI 0)), (4, .int (-1)), (0, .ref (Q 0)), (1, .int (nI pts)), (2, .int (nI inn)), (3, .int (nI out))]) hx hb dX1_best_4 hl (by decide) rfl (fun ls hl => ?_)
  refine lv_iconst (v := nI 0) hx hb dX1_best_6 (by decide) ?_
  refine lv_istore (lv' := [(6, .int (nI 0)), (5, .int (nI 0)), (4, .int (-1)), (0, .ref (Q 0)), (1, .int (nI pts)), (2, .int (nI inn)), (3, .int (nI out))]) hx hb dX1_best_7 hl (by decide) rfl (fun ls hl => ?_)
  refine lp_mbest (l := l) X hA hea heb hpr hR pts inn out hpts hinn hout (fun b H locs ls hM hW hl => ?_) 1025 0 (by omega) (by omega) none _ _ _ (sg_M_0 ea eb pr pts inn.testBit out.testBit) ⟨hP, hD, hS⟩ (lv_sub hl [3, 4, 5, 6, 2, 1, 0] rfl)
  obtain ⟨hP, hD, hS⟩ := hW
  refine lv_iload hx hb dX1_best_81 (lv_at hl 1 rfl) ?_
  exact s_iret (r := (sg_bI b)) X hr hlocks (rfl) () (sp_best_end hM) hP hD hS dX1_best_83

end MOD1
end
section
section MOD1
variable {p : Program} {l : Launch} {e : Env} {R : Room} {s : State} {m : MethodId} {args : Array Value} {below : List Frame} {meth : Method} {c : Code} {cells slots : Nat} {Qp : State → Prop} {dC : Nat → ClassId} {dI : Nat → Nat → Nat} {dA dZ : ClassId} {A : Nat → Prop} {H0 : Heap} {Q : Nat → Nat}
variable {ea eb pr : Nat → Nat} {mk : Nat} {ct wy pt : Nat → Nat} {wc : Nat} {wd : Nat → Nat} {kn : Nat} {bp : Int32} {bs : Nat}
variable {th pc mm : Nat → Nat}
set_option maxHeartbeats 4000000 in
set_option maxRecDepth 100000 in
theorem mod_lowest (l : Launch) (dC : Nat → ClassId) (dI : Nat → Nat → Nat) (dA dZ : ClassId) (Q : Nat → Nat) (th ea eb pc mm : Nat → Nat) (hea : ∀ k, ea k < 7) (heb : ∀ k, eb k < 7) (pr : Nat → Nat) (mk : Nat) (hpr : sg_B 100 pr) (hR : mRel pr mk th pc mm) (pts inn out : Nat) (hpts : pts < 128) (hinn : inn < 1024) (hout : out < 1024) : sMi l yX1_lowest cX1_lowest 5 (some .int) ({ frames := 2, cells := 0, slots := 0, locals := 53 }) dC dI (tyz dA dZ) [.ref (Q 0), .int (nI pts), .int (nI inn), .int (nI out)] (mW dA dZ Q th ea eb pc mm) (fun (r : Int32) (_ : Unit) => sg_Low ea eb pr pts inn.testBit out.testBit r) (fun _ => mW dA dZ Q th ea eb pc mm) := by
  refine sMi_of (by decide) (Nat.le_of_ble_eq_true rfl) ?_
  intro p e s m below meth c A ls X hr hlocks hA hP hD hS hl
  have hl : lv_has ls 5 [(0, .ref (Q 0)), (1, .int (nI pts)), (2, .int (nI inn)), (3, .int (nI out))] := hl
  have hx := X.1.1
  have hb := X.1.2.1
  have hown := X.1.2.2.2.1
  have hts := X.1.2.2.2.2
  refine lv_aload_n hx hb dX1_lowest_0 rfl (lv_at hl 0 rfl) ?_
  refine lv_iload_n hx hb dX1_lowest_1 rfl (lv_at hl 1 rfl) ?_
  refine lv_iload_n hx hb dX1_lowest_2 rfl (lv_at hl 2 rfl) ?_
  refine lv_iload_n hx hb dX1_lowest_3 rfl (lv_at hl 3 rfl) ?_
  refine s_calliV (wr := []) (rest := []) X (mod_best l dC dI dA dZ Q th ea eb pc mm hea heb pr mk hpr hR pts inn out hpts hinn hout) (cwV 3 hts (lw_V q199 q201 qs13 q18 q202) rfl rfl rfl (by decide +kernel) ⟨Nat.le_of_ble_eq_true rfl, Nat.le_of_ble_eq_true rfl⟩) ⟨Nat.zero_le _, Nat.zero_le _⟩ hP hD hS hA [0, 1, 2, 3, 4, 5] [] rfl rfl rfl rfl (by decide) 1 rfl rfl rfl hl.1 rfl rfl (Nat.le_of_ble_eq_true rfl) dX1_lowest_4 (fun rb u H locs hpost hP hD hS => ?_)
  have hbe := hpost
  have hP : va_P (dC, dI) vwCl (mW dA dZ Q th ea eb pc mm) H := hP
  have hD : va_D A (mW dA dZ Q th ea eb pc mm) := hD
  refine lv_istore (lv' := [(4, .int rb), (0, .ref (Q 0)), (1, .int (nI pts)), (2, .int (nI inn)), (3, .int (nI out))]) hx hb dX1_lowest_7 hl (by decide) rfl (fun ls hl => ?_)
  refine lv_iload hx hb dX1_lowest_9 (lv_at hl 0 rfl) ?_
  refine lv_if_ge (tgt := 18) hx hb dX1_lowest_11 (by decide) (fun c_1 => ?_) (fun c_1 => ?_)
  · obtain ⟨n, hn, hB, rfl⟩ := sp_best_pos hbe c_1
    refine lv_aload_n hx hb dX1_lowest_18 rfl (lv_at hl 1 rfl) ?_
    refine lv_iload hx hb dX1_lowest_19 (lv_at hl 0 rfl) ?_
    refine s_calliV (wr := []) (rest := []) X (mod_priceOf l dC dI dA dZ Q th ea eb pc mm pr mk hR n hn) (cwV 1 hts (lw_V q203 q205 qs14 q18 q206) rfl rfl rfl (by decide +kernel) ⟨Nat.le_of_ble_eq_true rfl, Nat.le_of_ble_eq_true rfl⟩) ⟨Nat.zero_le _, Nat.zero_le _⟩ hP hD hS hA [0, 1, 2, 3, 4, 5] [] rfl rfl rfl rfl (by decide) 1 rfl rfl rfl hl.1 rfl rfl (Nat.le_of_ble_eq_true rfl) dX1_lowest_21 (fun rp u H locs hpost hP hD hS => ?_)
    have hpr2 := hpost
    have hP : va_P (dC, dI) vwCl (mW dA dZ Q th ea eb pc mm) H := hP
    have hD : va_D A (mW dA dZ Q th ea eb pc mm) := hD
    exact s_iret (r := rp) X hr hlocks (rfl) () (sp_low_pos hB hpr2) hP hD hS dX1_lowest_24
  · refine lv_iconst (v := -1) hx hb dX1_lowest_14 (by decide) ?_
    refine lv_goto (tgt := 24) hx hb dX1_lowest_15 (by decide) ?_
    exact s_iret (r := (-1)) X hr hlocks (rfl) () (sp_low_neg hbe c_1) hP hD hS dX1_lowest_24

end MOD1
end
section
section MOD2
variable {p : Program} {l : Launch} {e : Env} {R : Room} {s : State} {m : MethodId} {args : Array Value} {below : List Frame} {meth : Method} {c : Code} {cells slots : Nat} {Qp : State → Prop} {dC : Nat → ClassId} {dI : Nat → Nat → Nat} {dA dZ : ClassId} {A : Nat → Prop} {H0 : Heap} {Q : Nat → Nat}
variable {ea eb pr : Nat → Nat} {mk : Nat} {ct wy pt : Nat → Nat} {wc : Nat} {wd : Nat → Nat} {kn : Nat} {bp : Int32} {bs : Nat}
variable {th pc mm : Nat → Nat}
set_option maxHeartbeats 4000000 in
set_option maxRecDepth 100000 in
theorem mod_line (l : Launch) (dC : Nat → ClassId) (dI : Nat → Nat → Nat) (dA dZ : ClassId) (Q : Nat → Nat) (th ea eb pc mm : Nat → Nat) (x a b pz : Int32) (hea : ∀ k, ea k < 7) (heb : ∀ k, eb k < 7) (pr : Nat → Nat) (mk : Nat) (hpr : sg_B 100 pr) (hmk : mk < 128) (hR : mRel pr mk th pc mm) : sMi l yX1_line cX1_line 5 (some .int) ({ frames := 1, cells := 0, slots := 0, locals := 20 }) dC dI (tyz dA dZ) [.ref (Q 0), .int x, .int a, .int b, .int pz] (mW dA dZ Q th ea eb pc mm) (fun (r : Int32) (v : mS) => ∃ A' : aS, sp_line x a b pz (ea, eb, pr, mk) r A' ∧ mIv A' v) (fun v => mWv dA dZ Q v) := by
  refine sMi_of (by decide) (Nat.le_of_ble_eq_true rfl) ?_
  intro p e s m below meth c A ls X hr hlocks hA hP hD hS hl
  have hl : lv_has ls 5 [(0, .ref (Q 0)), (1, .int x), (2, .int a), (3, .int b), (4, .int pz)] := hl
  have hx := X.1.1
  have hb := X.1.2.1
  have hown := X.1.2.2.2.1
  have hts := X.1.2.2.2.2
  refine lv_iload_n hx hb dX1_line_0 rfl (lv_at hl 1 rfl) ?_
  refine lv_if_lt (tgt := 42) hx hb dX1_line_1 (by decide) (fun c_1 => ?_) (fun c_1 => ?_)
  · refine lv_bipush (v := -2) hx hb dX1_line_42 (by decide) ?_
    exact s_iret (r := (-2)) X hr hlocks (rfl) (th, ea, eb, pc, mm) (⟨(ea, eb, pr, mk), sp_no_x0 c_1, rfl, rfl, hR⟩) hP hD hS dX1_line_44
  · refine lv_iload_n hx hb dX1_line_4 rfl (lv_at hl 1 rfl) ?_
    refine lv_bipush (v := nI 9) hx hb dX1_line_5 (by decide) ?_
    refine lv_icmp_gt (tgt := 42) hx hb dX1_line_7 (by decide) (fun c_2 => ?_) (fun c_2 => ?_)
    · refine lv_bipush (v := -2) hx hb dX1_line_42 (by decide) ?_
      exact s_iret (r := (-2)) X hr hlocks (rfl) (th, ea, eb, pc, mm) (⟨(ea, eb, pr, mk), sp_no_x9 c_2, rfl, rfl, hR⟩) hP hD hS dX1_line_44
    · refine lv_iload_n hx hb dX1_line_10 rfl (lv_at hl 2 rfl) ?_
      refine s_calliS (rest := []) X (mod_badPoint l dC dI dA dZ a) (va_cwS 1 hts (lw_S q172 q173 q18 q174) rfl rfl rfl (by decide +kernel) ⟨Nat.le_of_ble_eq_true rfl, Nat.le_of_ble_eq_true rfl⟩) ⟨Nat.zero_le _, Nat.zero_le _⟩ hP hD hS hA hl.1 rfl rfl (Nat.le_of_ble_eq_true rfl) dX1_line_11 (fun r H locs hpost hP hD hS => ?_)
      have hq1 := hpost
      refine lv_if_ne (tgt := 42) hx hb dX1_line_14 (by decide) (fun c_3 => ?_) (fun c_3 => ?_)
      · refine lv_bipush (v := -2) hx hb dX1_line_42 (by decide) ?_
        exact s_iret (r := (-2)) X hr hlocks (rfl) (th, ea, eb, pc, mm) (⟨(ea, eb, pr, mk), sp_no_a (sp_bpF hq1 c_3), rfl, rfl, hR⟩) hP hD hS dX1_line_44
      · refine lv_iload_n hx hb dX1_line_17 rfl (lv_at hl 3 rfl) ?_
        refine s_calliS (rest := []) X (mod_badPoint l dC dI dA dZ b) (va_cwS 1 hts (lw_S q172 q173 q18 q174) rfl rfl rfl (by decide +kernel) ⟨Nat.le_of_ble_eq_true rfl, Nat.le_of_ble_eq_true rfl⟩) ⟨Nat.zero_le _, Nat.zero_le _⟩ hP hD hS hA hl.1 rfl rfl (Nat.le_of_ble_eq_true rfl) dX1_line_18 (fun r H locs hpost hP hD hS => ?_)
        have hq2 := hpost
        refine lv_if_ne (tgt := 42) hx hb dX1_line_21 (by decide) (fun c_4 => ?_) (fun c_4 => ?_)
        · refine lv_bipush (v := -2) hx hb dX1_line_42 (by decide) ?_
          exact s_iret (r := (-2)) X hr hlocks (rfl) (th, ea, eb, pc, mm) (⟨(ea, eb, pr, mk), sp_no_b (sp_bpF hq2 c_4), rfl, rfl, hR⟩) hP hD hS dX1_line_44
        · refine lv_iload_n hx hb dX1_line_24 rfl (lv_at hl 2 rfl) ?_
          refine lv_iload_n hx hb dX1_line_25 rfl (lv_at hl 3 rfl) ?_
          refine lv_icmp_eq (tgt := 42) hx hb dX1_line_26 (by decide) (fun c_5 => ?_) (fun c_5 => ?_)
          · refine lv_bipush (v := -2) hx hb dX1_line_42 (by decide) ?_
            exact s_iret (r := (-2)) X hr hlocks (rfl) (th, ea, eb, pc, mm) (⟨(ea, eb, pr, mk), sp_no_ab c_5, rfl, rfl, hR⟩) hP hD hS dX1_line_44
          · refine lv_iload hx hb dX1_line_29 (lv_at hl 4 rfl) ?_
            refine lv_iconst (v := nI 1) hx hb dX1_line_31 (by decide) ?_
            refine lv_icmp_lt (tgt := 42) hx hb dX1_line_32 (by decide) (fun c_6 => ?_) (fun c_6 => ?_)
            · refine lv_bipush (v := -2) hx hb dX1_line_42 (by decide) ?_
              exact s_iret (r := (-2)) X hr hlocks (rfl) (th, ea, eb, pc, mm) (⟨(ea, eb, pr, mk), sp_no_c1 c_6, rfl, rfl, hR⟩) hP hD hS dX1_line_44
            · refine lv_iload hx hb dX1_line_35 (lv_at hl 4 rfl) ?_
              refine lv_bipush (v := nI 100) hx hb dX1_line_37 (by decide) ?_
              refine lv_icmp_le (tgt := 45) hx hb dX1_line_39 (by decide) (fun c_7 => ?_) (fun c_7 => ?_)
              · obtain ⟨j, hj, rfl⟩ := nI_of2 (M := nI 9) (n := 9) (by decide) c_1 (Int32.not_lt.mp c_2)
                obtain ⟨a0, ha0, rfl⟩ := sp_bpT hq1 c_3
                obtain ⟨b0, hb0, rfl⟩ := sp_bpT hq2 c_4
                obtain ⟨p0, hp1, hp2, rfl⟩ := sp_price c_6 c_7
                have hab : a0 ≠ b0 := fun z => c_5 (by rw [z])
                refine lv_aload_n hx hb dX1_line_45 rfl (lv_at hl 0 rfl) ?_
                refine s_get1 X hP 0 rfl 0 (by decide) q151 rfl rfl dX1_line_46 ?_
                refine lv_iload_n hx hb dX1_line_49 rfl (lv_at hl 1 rfl) ?_
                refine lv_iconst (v := nI 1) hx hb dX1_line_50 (by decide) ?_
                refine s_zst X hP hD hS 1 1 rfl rfl (k := j) (v := 1) (by omega) (by omega) (by decide) dX1_line_51 (fun H locs hP hD hS => ?_)
                have hP : va_P (dC, dI) vwCl (mW dA dZ Q (va_up th j 1) ea eb pc mm) H := hP
                have hD : va_D A (mW dA dZ Q (va_up th j 1) ea eb pc mm) := hD
                refine lv_aload_n hx hb dX1_line_52 rfl (lv_at hl 0 rfl) ?_
                refine s_get1 X hP 0 rfl 1 (by decide) q152 rfl rfl dX1_line_53 ?_
                refine lv_iload_n hx hb dX1_line_56 rfl (lv_at hl 1 rfl) ?_
                refine lv_iload_n hx hb dX1_line_57 rfl (lv_at hl 2 rfl) ?_
                refine s_ist X hP hD hS 2 0 rfl rfl (k := j) (v := a0) (by omega) (by decide) dX1_line_58 (fun H locs hP hD hS => ?_)
                have hP : va_P (dC, dI) vwCl (mW dA dZ Q (va_up th j 1) (va_up ea j a0) eb pc mm) H := hP
                have hD : va_D A (mW dA dZ Q (va_up th j 1) (va_up ea j a0) eb pc mm) := hD
                refine lv_aload_n hx hb dX1_line_59 rfl (lv_at hl 0 rfl) ?_
                refine s_get1 X hP 0 rfl 2 (by decide) q153 rfl rfl dX1_line_60 ?_
                refine lv_iload_n hx hb dX1_line_63 rfl (lv_at hl 1 rfl) ?_
                refine lv_iload_n hx hb dX1_line_64 rfl (lv_at hl 3 rfl) ?_
                refine s_ist X hP hD hS 3 0 rfl rfl (k := j) (v := b0) (by omega) (by decide) dX1_line_65 (fun H locs hP hD hS => ?_)
                have hP : va_P (dC, dI) vwCl (mW dA dZ Q (va_up th j 1) (va_up ea j a0) (va_up eb j b0) pc mm) H := hP
                have hD : va_D A (mW dA dZ Q (va_up th j 1) (va_up ea j a0) (va_up eb j b0) pc mm) := hD
                refine lv_aload_n hx hb dX1_line_66 rfl (lv_at hl 0 rfl) ?_
                refine s_get1 X hP 0 rfl 3 (by decide) q154 rfl rfl dX1_line_67 ?_
                refine lv_iload_n hx hb dX1_line_70 rfl (lv_at hl 1 rfl) ?_
                refine lv_iload hx hb dX1_line_71 (lv_at hl 4 rfl) ?_
                refine s_ist X hP hD hS 4 0 rfl rfl (k := j) (v := p0) (by omega) (by decide) dX1_line_73 (fun H locs hP hD hS => ?_)
                have hP : va_P (dC, dI) vwCl (mW dA dZ Q (va_up th j 1) (va_up ea j a0) (va_up eb j b0) (va_up pc j p0) mm) H := hP
                have hD : va_D A (mW dA dZ Q (va_up th j 1) (va_up ea j a0) (va_up eb j b0) (va_up pc j p0) mm) := hD
                refine lv_iconst (v := nI 0) hx hb dX1_line_74 (by decide) ?_
                exact s_iret (r := (nI 0)) X hr hlocks (rfl) (va_up th j 1, va_up ea j a0, va_up eb j b0, va_up pc j p0, mm) (⟨_, Or.inl ⟨j, a0, b0, p0, ⟨by omega, ha0, hb0, hab, hp1, hp2, rfl, rfl, rfl, rfl⟩, rfl, rfl⟩, rfl, rfl, mR_line hR hp1 hp2⟩) hP hD hS dX1_line_75
              · refine lv_bipush (v := -2) hx hb dX1_line_42 (by decide) ?_
                exact s_iret (r := (-2)) X hr hlocks (rfl) (th, ea, eb, pc, mm) (⟨(ea, eb, pr, mk), sp_no_c100 c_7, rfl, rfl, hR⟩) hP hD hS dX1_line_44

set_option maxHeartbeats 4000000 in
set_option maxRecDepth 100000 in
theorem mod_cut (l : Launch) (dC : Nat → ClassId) (dI : Nat → Nat → Nat) (dA dZ : ClassId) (Q : Nat → Nat) (th ea eb pc mm : Nat → Nat) (x : Int32) (hea : ∀ k, ea k < 7) (heb : ∀ k, eb k < 7) (pr : Nat → Nat) (mk : Nat) (hpr : sg_B 100 pr) (hmk : mk < 128) (hR : mRel pr mk th pc mm) : sMi l yX1_cut cX1_cut 2 (some .int) ({ frames := 1, cells := 0, slots := 0, locals := 21 }) dC dI (tyz dA dZ) [.ref (Q 0), .int x] (mW dA dZ Q th ea eb pc mm) (fun (r : Int32) (v : mS) => ∃ A' : aS, sp_cut x (ea, eb, pr, mk) r A' ∧ mIv A' v) (fun v => mWv dA dZ Q v) := by
  refine sMi_of (by decide) (Nat.le_of_ble_eq_true rfl) ?_
  intro p e s m below meth c A ls X hr hlocks hA hP hD hS hl
  have hl : lv_has ls 2 [(0, .ref (Q 0)), (1, .int x)] := hl
  have hx := X.1.1
  have hb := X.1.2.1
  have hown := X.1.2.2.2.1
  have hts := X.1.2.2.2.2
  refine lv_aload_n hx hb dX1_cut_0 rfl (lv_at hl 0 rfl) ?_
  refine lv_iload_n hx hb dX1_cut_1 rfl (lv_at hl 1 rfl) ?_
  refine s_calliV (wr := []) (rest := []) X (mod_badLine l dC dI dA dZ Q th ea eb pc mm pr mk hR x) (cwV 1 hts (lw_V q179 q181 qs10 q18 q182) rfl rfl rfl (by decide +kernel) ⟨Nat.le_of_ble_eq_true rfl, Nat.le_of_ble_eq_true rfl⟩) ⟨Nat.zero_le _, Nat.zero_le _⟩ hP hD hS hA [0, 1, 2, 3, 4, 5] [] rfl rfl rfl rfl (by decide) 1 rfl rfl rfl hl.1 rfl rfl (Nat.le_of_ble_eq_true rfl) dX1_cut_2 (fun r u H locs hpost hP hD hS => ?_)
  have hq1 := hpost
  have hP : va_P (dC, dI) vwCl (mW dA dZ Q th ea eb pc mm) H := hP
  have hD : va_D A (mW dA dZ Q th ea eb pc mm) := hD
  refine lv_if_eq (tgt := 11) hx hb dX1_cut_5 (by decide) (fun c_1 => ?_) (fun c_1 => ?_)
  · obtain ⟨k, hk, rfl, hpk⟩ := sp_blT hq1 c_1
    refine lv_aload_n hx hb dX1_cut_11 rfl (lv_at hl 0 rfl) ?_
    refine s_get1 X hP 0 rfl 0 (by decide) q151 rfl rfl dX1_cut_12 ?_
    refine lv_iload_n hx hb dX1_cut_15 rfl (lv_at hl 1 rfl) ?_
    refine lv_iconst (v := nI 0) hx hb dX1_cut_16 (by decide) ?_
    refine s_zst X hP hD hS 1 1 rfl rfl (k := k) (v := 0) (by omega) (by omega) (by decide) dX1_cut_17 (fun H locs hP hD hS => ?_)
    have hP : va_P (dC, dI) vwCl (mW dA dZ Q (va_up th k 0) ea eb pc mm) H := hP
    have hD : va_D A (mW dA dZ Q (va_up th k 0) ea eb pc mm) := hD
    refine lv_iconst (v := nI 0) hx hb dX1_cut_18 (by decide) ?_
    exact s_iret (r := (nI 0)) X hr hlocks (rfl) (va_up th k 0, ea, eb, pc, mm) (⟨_, Or.inl ⟨k, ⟨hk, rfl, hpk⟩, rfl, rfl⟩, rfl, rfl, mR_cut hR⟩) hP hD hS dX1_cut_19
  · refine lv_bipush (v := -2) hx hb dX1_cut_8 (by decide) ?_
    exact s_iret (r := (-2)) X hr hlocks (rfl) (th, ea, eb, pc, mm) (⟨(ea, eb, pr, mk), Or.inr ⟨sp_blF hq1 c_1, rfl, rfl⟩, rfl, rfl, hR⟩) hP hD hS dX1_cut_10

set_option maxHeartbeats 4000000 in
set_option maxRecDepth 100000 in
theorem mod_mark (l : Launch) (dC : Nat → ClassId) (dI : Nat → Nat → Nat) (dA dZ : ClassId) (Q : Nat → Nat) (th ea eb pc mm : Nat → Nat) (x : Int32) (on : Nat) (hon : on < 2) (hea : ∀ k, ea k < 7) (heb : ∀ k, eb k < 7) (pr : Nat → Nat) (mk : Nat) (hpr : sg_B 100 pr) (hmk : mk < 128) (hR : mRel pr mk th pc mm) : sMi l yX1_mark cX1_mark 4 (some .int) ({ frames := 1, cells := 0, slots := 0, locals := 20 }) dC dI (tyz dA dZ) [.ref (Q 0), .int x, .int (nI on)] (mW dA dZ Q th ea eb pc mm) (fun (r : Int32) (v : mS) => ∃ A' : aS, sp_mark x on (ea, eb, pr, mk) r A' ∧ mIv A' v) (fun v => mWv dA dZ Q v) := by
  refine sMi_of (by decide) (Nat.le_of_ble_eq_true rfl) ?_
  intro p e s m below meth c A ls X hr hlocks hA hP hD hS hl
  have hl : lv_has ls 4 [(0, .ref (Q 0)), (1, .int x), (2, .int (nI on))] := hl
  have hx := X.1.1
  have hb := X.1.2.1
  have hown := X.1.2.2.2.1
  have hts := X.1.2.2.2.2
  refine lv_iload_n hx hb dX1_mark_0 rfl (lv_at hl 1 rfl) ?_
  refine s_calliS (rest := []) X (mod_badPoint l dC dI dA dZ x) (va_cwS 1 hts (lw_S q172 q173 q18 q174) rfl rfl rfl (by decide +kernel) ⟨Nat.le_of_ble_eq_true rfl, Nat.le_of_ble_eq_true rfl⟩) ⟨Nat.zero_le _, Nat.zero_le _⟩ hP hD hS hA hl.1 rfl rfl (Nat.le_of_ble_eq_true rfl) dX1_mark_1 (fun r H locs hpost hP hD hS => ?_)
  have hq1 := hpost
  refine lv_if_eq (tgt := 10) hx hb dX1_mark_4 (by decide) (fun c_1 => ?_) (fun c_1 => ?_)
  · obtain ⟨p0, hp0, rfl⟩ := sp_bpT hq1 c_1
    have hmp := hR.2.2.2.2.2 p0
    refine lv_aload_n hx hb dX1_mark_10 rfl (lv_at hl 0 rfl) ?_
    refine s_get1 X hP 0 rfl 4 (by decide) q155 rfl rfl dX1_mark_11 ?_
    refine lv_iload_n hx hb dX1_mark_14 rfl (lv_at hl 1 rfl) ?_
    refine s_zld X hP 5 1 rfl rfl (k := p0) (by omega) (by decide) dX1_mark_15 ?_
    refine s_ieq X (x := mm p0) (by omega) (tgt := 23) dX1_mark_16 (by decide) (fun c_2 => ?_) (fun c_2 => ?_)
    · refine lv_iconst (v := nI 0) hx hb dX1_mark_23 (by decide) ?_
      refine lv_istore_n (lv' := [(3, .int (nI 0)), (0, .ref (Q 0)), (1, .int (nI p0)), (2, .int (nI on))]) hx hb dX1_mark_24 rfl hl (by decide) rfl (fun ls hl => ?_)
      refine lv_aload_n hx hb dX1_mark_25 rfl (lv_at hl 1 rfl) ?_
      refine s_get1 X hP 0 rfl 4 (by decide) q155 rfl rfl dX1_mark_26 ?_
      refine lv_iload_n hx hb dX1_mark_29 rfl (lv_at hl 2 rfl) ?_
      refine lv_iload_n hx hb dX1_mark_30 rfl (lv_at hl 3 rfl) ?_
      refine s_zst X hP hD hS 5 1 rfl rfl (k := p0) (v := on) (by omega) (by omega) (by decide) dX1_mark_31 (fun H locs hP hD hS => ?_)
      have hP : va_P (dC, dI) vwCl (mW dA dZ Q th ea eb pc (va_up mm p0 on)) H := hP
      have hD : va_D A (mW dA dZ Q th ea eb pc (va_up mm p0 on)) := hD
      refine lv_iload_n hx hb dX1_mark_32 rfl (lv_at hl 0 rfl) ?_
      exact s_iret (r := (nI 0)) X hr hlocks (rfl) (th, ea, eb, pc, va_up mm p0 on) (⟨_, Or.inl ⟨p0, ⟨hp0, rfl⟩, mR_b0 hR hp0 c_2, rfl⟩, rfl, rfl, mR_mark hR hmk hp0 hon⟩) hP hD hS dX1_mark_33
    · refine lv_iconst (v := nI 1) hx hb dX1_mark_19 (by decide) ?_
      refine lv_goto (tgt := 24) hx hb dX1_mark_20 (by decide) ?_
      refine lv_istore_n (lv' := [(3, .int (nI 1)), (0, .ref (Q 0)), (1, .int (nI p0)), (2, .int (nI on))]) hx hb dX1_mark_24 rfl hl (by decide) rfl (fun ls hl => ?_)
      refine lv_aload_n hx hb dX1_mark_25 rfl (lv_at hl 1 rfl) ?_
      refine s_get1 X hP 0 rfl 4 (by decide) q155 rfl rfl dX1_mark_26 ?_
      refine lv_iload_n hx hb dX1_mark_29 rfl (lv_at hl 2 rfl) ?_
      refine lv_iload_n hx hb dX1_mark_30 rfl (lv_at hl 3 rfl) ?_
      refine s_zst X hP hD hS 5 1 rfl rfl (k := p0) (v := on) (by omega) (by omega) (by decide) dX1_mark_31 (fun H locs hP hD hS => ?_)
      have hP : va_P (dC, dI) vwCl (mW dA dZ Q th ea eb pc (va_up mm p0 on)) H := hP
      have hD : va_D A (mW dA dZ Q th ea eb pc (va_up mm p0 on)) := hD
      refine lv_iload_n hx hb dX1_mark_32 rfl (lv_at hl 0 rfl) ?_
      exact s_iret (r := (nI 1)) X hr hlocks (rfl) (th, ea, eb, pc, va_up mm p0 on) (⟨_, Or.inl ⟨p0, ⟨hp0, rfl⟩, mR_b1 hR hp0 c_2, rfl⟩, rfl, rfl, mR_mark hR hmk hp0 hon⟩) hP hD hS dX1_mark_33
  · refine lv_bipush (v := -2) hx hb dX1_mark_7 (by decide) ?_
    exact s_iret (r := (-2)) X hr hlocks (rfl) (th, ea, eb, pc, mm) (⟨(ea, eb, pr, mk), Or.inr ⟨sp_bpF hq1 c_1, rfl, rfl⟩, rfl, rfl, hR⟩) hP hD hS dX1_mark_9

end MOD2
end
section
section MOD2
variable {p : Program} {l : Launch} {e : Env} {R : Room} {s : State} {m : MethodId} {args : Array Value} {below : List Frame} {meth : Method} {c : Code} {cells slots : Nat} {Qp : State → Prop} {dC : Nat → ClassId} {dI : Nat → Nat → Nat} {dA dZ : ClassId} {A : Nat → Prop} {H0 : Heap} {Q : Nat → Nat}
variable {ea eb pr : Nat → Nat} {mk : Nat} {ct wy pt : Nat → Nat} {wc : Nat} {wd : Nat → Nat} {kn : Nat} {bp : Int32} {bs : Nat}
variable {th pc mm : Nat → Nat}
set_option maxHeartbeats 4000000 in
set_option maxRecDepth 100000 in
theorem mod_least (l : Launch) (dC : Nat → ClassId) (dI : Nat → Nat → Nat) (dA dZ : ClassId) (Q : Nat → Nat) (th ea eb pc mm : Nat → Nat) (hea : ∀ k, ea k < 7) (heb : ∀ k, eb k < 7) (pr : Nat → Nat) (mk : Nat) (hpr : sg_B 100 pr) (hmk : mk < 128) (hR : mRel pr mk th pc mm) : sMi l yX1_least cX1_least 2 (some .int) ({ frames := 3, cells := 0, slots := 0, locals := 77 }) dC dI (tyz dA dZ) [.ref (Q 0)] (mW dA dZ Q th ea eb pc mm) (fun (r : Int32) (v : mS) => ∃ A' : aS, sp_least (ea, eb, pr, mk) r A' ∧ mIv A' v) (fun v => mWv dA dZ Q v) := by
  refine sMi_of (by decide) (Nat.le_of_ble_eq_true rfl) ?_
  intro p e s m below meth c A ls X hr hlocks hA hP hD hS hl
  have hl : lv_has ls 2 [(0, .ref (Q 0))] := hl
  have hx := X.1.1
  have hb := X.1.2.1
  have hown := X.1.2.2.2.1
  have hts := X.1.2.2.2.2
  refine lv_aload_n hx hb dX1_least_0 rfl (lv_at hl 0 rfl) ?_
  refine s_calliV (wr := []) (rest := []) X (mod_marks l dC dI dA dZ Q th ea eb pc mm pr mk hR hmk) (cwV 0 hts (lw_V q191 q193 qs11 q18 q194) rfl rfl rfl (by decide +kernel) ⟨Nat.le_of_ble_eq_true rfl, Nat.le_of_ble_eq_true rfl⟩) ⟨Nat.zero_le _, Nat.zero_le _⟩ hP hD hS hA [0, 1, 2, 3, 4, 5] [] rfl rfl rfl rfl (by decide) 1 rfl rfl rfl hl.1 rfl rfl (Nat.le_of_ble_eq_true rfl) dX1_least_1 (fun r u H locs hpost hP hD hS => ?_)
  subst hpost
  have hP : va_P (dC, dI) vwCl (mW dA dZ Q th ea eb pc mm) H := hP
  have hD : va_D A (mW dA dZ Q th ea eb pc mm) := hD
  refine lv_istore_n (lv' := [(1, .int (nI mk)), (0, .ref (Q 0))]) hx hb dX1_least_4 rfl hl (by decide) rfl (fun ls hl => ?_)
  refine lv_aload_n hx hb dX1_least_5 rfl (lv_at hl 1 rfl) ?_
  refine lv_iload_n hx hb dX1_least_6 rfl (lv_at hl 0 rfl) ?_
  refine lv_iconst (v := nI 0) hx hb dX1_least_7 (by decide) ?_
  refine lv_iconst (v := nI 0) hx hb dX1_least_8 (by decide) ?_
  refine s_calliV (wr := []) (rest := []) X (mod_lowest l dC dI dA dZ Q th ea eb pc mm hea heb pr mk hpr hR mk 0 0 hmk (by omega) (by omega)) (cwV 3 hts (lw_V q195 q197 qs12 q18 q198) rfl rfl rfl (by decide +kernel) ⟨Nat.le_of_ble_eq_true rfl, Nat.le_of_ble_eq_true rfl⟩) ⟨Nat.zero_le _, Nat.zero_le _⟩ hP hD hS hA [0, 1, 2, 3, 4, 5] [] rfl rfl rfl rfl (by decide) 1 rfl rfl rfl hl.1 rfl rfl (Nat.le_of_ble_eq_true rfl) dX1_least_9 (fun rl u H locs hpost hP hD hS => ?_)
  have hlo := hpost
  have hP : va_P (dC, dI) vwCl (mW dA dZ Q th ea eb pc mm) H := hP
  have hD : va_D A (mW dA dZ Q th ea eb pc mm) := hD
  exact s_iret (r := rl) X hr hlocks (rfl) (th, ea, eb, pc, mm) (⟨(ea, eb, pr, mk), ⟨by have h := hlo; rw [tb_zero] at h; exact h, rfl⟩, rfl, rfl, hR⟩) hP hD hS dX1_least_12

set_option maxHeartbeats 4000000 in
set_option maxRecDepth 100000 in
theorem mod_chosen (l : Launch) (dC : Nat → ClassId) (dI : Nat → Nat → Nat) (dA dZ : ClassId) (Q : Nat → Nat) (th ea eb pc mm : Nat → Nat) (x : Int32) (hea : ∀ k, ea k < 7) (heb : ∀ k, eb k < 7) (pr : Nat → Nat) (mk : Nat) (hpr : sg_B 100 pr) (hmk : mk < 128) (hR : mRel pr mk th pc mm) : sMi l yX1_chosen cX1_chosen 4 (some .int) ({ frames := 2, cells := 0, slots := 0, locals := 53 }) dC dI (tyz dA dZ) [.ref (Q 0), .int x] (mW dA dZ Q th ea eb pc mm) (fun (r : Int32) (v : mS) => ∃ A' : aS, sp_chosen x (ea, eb, pr, mk) r A' ∧ mIv A' v) (fun v => mWv dA dZ Q v) := by
  refine sMi_of (by decide) (Nat.le_of_ble_eq_true rfl) ?_
  intro p e s m below meth c A ls X hr hlocks hA hP hD hS hl
  have hl : lv_has ls 4 [(0, .ref (Q 0)), (1, .int x)] := hl
  have hx := X.1.1
  have hb := X.1.2.1
  have hown := X.1.2.2.2.1
  have hts := X.1.2.2.2.2
  refine lv_aload_n hx hb dX1_chosen_0 rfl (lv_at hl 0 rfl) ?_
  refine lv_iload_n hx hb dX1_chosen_1 rfl (lv_at hl 1 rfl) ?_
  refine s_calliV (wr := []) (rest := []) X (mod_badLine l dC dI dA dZ Q th ea eb pc mm pr mk hR x) (cwV 1 hts (lw_V q179 q181 qs10 q18 q182) rfl rfl rfl (by decide +kernel) ⟨Nat.le_of_ble_eq_true rfl, Nat.le_of_ble_eq_true rfl⟩) ⟨Nat.zero_le _, Nat.zero_le _⟩ hP hD hS hA [0, 1, 2, 3, 4, 5] [] rfl rfl rfl rfl (by decide) 1 rfl rfl rfl hl.1 rfl rfl (Nat.le_of_ble_eq_true rfl) dX1_chosen_2 (fun r u H locs hpost hP hD hS => ?_)
  have hq1 := hpost
  have hP : va_P (dC, dI) vwCl (mW dA dZ Q th ea eb pc mm) H := hP
  have hD : va_D A (mW dA dZ Q th ea eb pc mm) := hD
  refine lv_if_eq (tgt := 11) hx hb dX1_chosen_5 (by decide) (fun c_1 => ?_) (fun c_1 => ?_)
  · obtain ⟨k, hk, rfl, hpk⟩ := sp_blT hq1 c_1
    refine lv_aload_n hx hb dX1_chosen_11 rfl (lv_at hl 0 rfl) ?_
    refine s_calliV (wr := []) (rest := []) X (mod_marks l dC dI dA dZ Q th ea eb pc mm pr mk hR hmk) (cwV 0 hts (lw_V q191 q193 qs11 q18 q194) rfl rfl rfl (by decide +kernel) ⟨Nat.le_of_ble_eq_true rfl, Nat.le_of_ble_eq_true rfl⟩) ⟨Nat.zero_le _, Nat.zero_le _⟩ hP hD hS hA [0, 1, 2, 3, 4, 5] [] rfl rfl rfl rfl (by decide) 1 rfl rfl rfl hl.1 rfl rfl (Nat.le_of_ble_eq_true rfl) dX1_chosen_12 (fun r u H locs hpost hP hD hS => ?_)
    subst hpost
    have hP : va_P (dC, dI) vwCl (mW dA dZ Q th ea eb pc mm) H := hP
    have hD : va_D A (mW dA dZ Q th ea eb pc mm) := hD
    refine lv_istore_n (lv' := [(2, .int (nI mk)), (0, .ref (Q 0)), (1, .int (nI k))]) hx hb dX1_chosen_15 rfl hl (by decide) rfl (fun ls hl => ?_)
    refine lv_aload_n hx hb dX1_chosen_16 rfl (lv_at hl 1 rfl) ?_
    refine lv_iload_n hx hb dX1_chosen_17 rfl (lv_at hl 0 rfl) ?_
    refine lv_iconst (v := nI 0) hx hb dX1_chosen_18 (by decide) ?_
    refine lv_iconst (v := nI 0) hx hb dX1_chosen_19 (by decide) ?_
    refine s_calliV (wr := []) (rest := []) X (mod_best l dC dI dA dZ Q th ea eb pc mm hea heb pr mk hpr hR mk 0 0 hmk (by omega) (by omega)) (cwV 3 hts (lw_V q199 q201 qs13 q18 q202) rfl rfl rfl (by decide +kernel) ⟨Nat.le_of_ble_eq_true rfl, Nat.le_of_ble_eq_true rfl⟩) ⟨Nat.zero_le _, Nat.zero_le _⟩ hP hD hS hA [0, 1, 2, 3, 4, 5] [] rfl rfl rfl rfl (by decide) 1 rfl rfl rfl hl.1 rfl rfl (Nat.le_of_ble_eq_true rfl) dX1_chosen_20 (fun rb u H locs hpost hP hD hS => ?_)
    have hbe := hpost
    have hP : va_P (dC, dI) vwCl (mW dA dZ Q th ea eb pc mm) H := hP
    have hD : va_D A (mW dA dZ Q th ea eb pc mm) := hD
    refine lv_istore_n (lv' := [(3, .int rb), (2, .int (nI mk)), (0, .ref (Q 0)), (1, .int (nI k))]) hx hb dX1_chosen_23 rfl hl (by decide) rfl (fun ls hl => ?_)
    refine lv_iload_n hx hb dX1_chosen_24 rfl (lv_at hl 0 rfl) ?_
    refine lv_if_ge (tgt := 32) hx hb dX1_chosen_25 (by decide) (fun c_2 => ?_) (fun c_2 => ?_)
    · obtain ⟨n, hn, hB, rfl⟩ := sp_best_pos hbe c_2
      refine lv_iload_n hx hb dX1_chosen_32 rfl (lv_at hl 0 rfl) ?_
      refine lv_iload_n hx hb dX1_chosen_33 rfl (lv_at hl 3 rfl) ?_
      refine lv_ishr hx hb dX1_chosen_34 ?_
      refine lv_iconst (v := nI 1) hx hb dX1_chosen_35 (by decide) ?_
      refine lv_iand hx hb dX1_chosen_36 ?_
      refine s_top (nI ((n.testBit k).toNat)) (s_bitS (by omega) (by omega)) ?_
      exact s_iret (r := (nI ((n.testBit k).toNat))) X hr hlocks (rfl) (th, ea, eb, pc, mm) (⟨(ea, eb, pr, mk), ⟨Or.inr ⟨k, ⟨hk, rfl, hpk⟩, sp_mchp hB⟩, rfl⟩, rfl, rfl, hR⟩) hP hD hS dX1_chosen_37
    · refine lv_iconst (v := -1) hx hb dX1_chosen_28 (by decide) ?_
      refine lv_goto (tgt := 37) hx hb dX1_chosen_29 (by decide) ?_
      exact s_iret (r := (-1)) X hr hlocks (rfl) (th, ea, eb, pc, mm) (⟨(ea, eb, pr, mk), ⟨Or.inr ⟨k, ⟨hk, rfl, hpk⟩, sp_mch hbe c_2⟩, rfl⟩, rfl, rfl, hR⟩) hP hD hS dX1_chosen_37
  · refine lv_bipush (v := -2) hx hb dX1_chosen_8 (by decide) ?_
    exact s_iret (r := (-2)) X hr hlocks (rfl) (th, ea, eb, pc, mm) (⟨(ea, eb, pr, mk), ⟨Or.inl ⟨sp_blF hq1 c_1, rfl⟩, rfl⟩, rfl, rfl, hR⟩) hP hD hS dX1_chosen_10

end MOD2
end
section
section MOD2
variable {p : Program} {l : Launch} {e : Env} {R : Room} {s : State} {m : MethodId} {args : Array Value} {below : List Frame} {meth : Method} {c : Code} {cells slots : Nat} {Qp : State → Prop} {dC : Nat → ClassId} {dI : Nat → Nat → Nat} {dA dZ : ClassId} {A : Nat → Prop} {H0 : Heap} {Q : Nat → Nat}
variable {ea eb pr : Nat → Nat} {mk : Nat} {ct wy pt : Nat → Nat} {wc : Nat} {wd : Nat → Nat} {kn : Nat} {bp : Int32} {bs : Nat}
variable {th pc mm : Nat → Nat}
set_option maxHeartbeats 4000000 in
set_option maxRecDepth 100000 in
theorem mod_with (l : Launch) (dC : Nat → ClassId) (dI : Nat → Nat → Nat) (dA dZ : ClassId) (Q : Nat → Nat) (th ea eb pc mm : Nat → Nat) (x : Int32) (hea : ∀ k, ea k < 7) (heb : ∀ k, eb k < 7) (pr : Nat → Nat) (mk : Nat) (hpr : sg_B 100 pr) (hmk : mk < 128) (hR : mRel pr mk th pc mm) : sMi l yX1_with cX1_with 3 (some .int) ({ frames := 3, cells := 0, slots := 0, locals := 77 }) dC dI (tyz dA dZ) [.ref (Q 0), .int x] (mW dA dZ Q th ea eb pc mm) (fun (r : Int32) (v : mS) => ∃ A' : aS, sp_with x (ea, eb, pr, mk) r A' ∧ mIv A' v) (fun v => mWv dA dZ Q v) := by
  refine sMi_of (by decide) (Nat.le_of_ble_eq_true rfl) ?_
  intro p e s m below meth c A ls X hr hlocks hA hP hD hS hl
  have hl : lv_has ls 3 [(0, .ref (Q 0)), (1, .int x)] := hl
  have hx := X.1.1
  have hb := X.1.2.1
  have hown := X.1.2.2.2.1
  have hts := X.1.2.2.2.2
  refine lv_aload_n hx hb dX1_with_0 rfl (lv_at hl 0 rfl) ?_
  refine lv_iload_n hx hb dX1_with_1 rfl (lv_at hl 1 rfl) ?_
  refine s_calliV (wr := []) (rest := []) X (mod_badLine l dC dI dA dZ Q th ea eb pc mm pr mk hR x) (cwV 1 hts (lw_V q179 q181 qs10 q18 q182) rfl rfl rfl (by decide +kernel) ⟨Nat.le_of_ble_eq_true rfl, Nat.le_of_ble_eq_true rfl⟩) ⟨Nat.zero_le _, Nat.zero_le _⟩ hP hD hS hA [0, 1, 2, 3, 4, 5] [] rfl rfl rfl rfl (by decide) 1 rfl rfl rfl hl.1 rfl rfl (Nat.le_of_ble_eq_true rfl) dX1_with_2 (fun r u H locs hpost hP hD hS => ?_)
  have hq1 := hpost
  have hP : va_P (dC, dI) vwCl (mW dA dZ Q th ea eb pc mm) H := hP
  have hD : va_D A (mW dA dZ Q th ea eb pc mm) := hD
  refine lv_if_eq (tgt := 11) hx hb dX1_with_5 (by decide) (fun c_1 => ?_) (fun c_1 => ?_)
  · obtain ⟨k, hk, rfl, hpk⟩ := sp_blT hq1 c_1
    refine lv_aload_n hx hb dX1_with_11 rfl (lv_at hl 0 rfl) ?_
    refine s_calliV (wr := []) (rest := []) X (mod_marks l dC dI dA dZ Q th ea eb pc mm pr mk hR hmk) (cwV 0 hts (lw_V q191 q193 qs11 q18 q194) rfl rfl rfl (by decide +kernel) ⟨Nat.le_of_ble_eq_true rfl, Nat.le_of_ble_eq_true rfl⟩) ⟨Nat.zero_le _, Nat.zero_le _⟩ hP hD hS hA [0, 1, 2, 3, 4, 5] [] rfl rfl rfl rfl (by decide) 1 rfl rfl rfl hl.1 rfl rfl (Nat.le_of_ble_eq_true rfl) dX1_with_12 (fun r u H locs hpost hP hD hS => ?_)
    subst hpost
    have hP : va_P (dC, dI) vwCl (mW dA dZ Q th ea eb pc mm) H := hP
    have hD : va_D A (mW dA dZ Q th ea eb pc mm) := hD
    refine lv_istore_n (lv' := [(2, .int (nI mk)), (0, .ref (Q 0)), (1, .int (nI k))]) hx hb dX1_with_15 rfl hl (by decide) rfl (fun ls hl => ?_)
    refine lv_aload_n hx hb dX1_with_16 rfl (lv_at hl 1 rfl) ?_
    refine lv_iload_n hx hb dX1_with_17 rfl (lv_at hl 0 rfl) ?_
    refine lv_iconst (v := nI 1) hx hb dX1_with_18 (by decide) ?_
    refine lv_iload_n hx hb dX1_with_19 rfl (lv_at hl 2 rfl) ?_
    refine lv_ishl hx hb dX1_with_20 ?_
    refine s_top (nI (2 ^ k)) (s_shl1 (by omega)) ?_
    refine lv_iconst (v := nI 0) hx hb dX1_with_21 (by decide) ?_
    refine s_calliV (wr := []) (rest := []) X (mod_lowest l dC dI dA dZ Q th ea eb pc mm hea heb pr mk hpr hR mk (2 ^ k) 0 hmk (sg_two10 hk) (by omega)) (cwV 3 hts (lw_V q195 q197 qs12 q18 q198) rfl rfl rfl (by decide +kernel) ⟨Nat.le_of_ble_eq_true rfl, Nat.le_of_ble_eq_true rfl⟩) ⟨Nat.zero_le _, Nat.zero_le _⟩ hP hD hS hA [0, 1, 2, 3, 4, 5] [] rfl rfl rfl rfl (by decide) 1 rfl rfl rfl hl.1 rfl rfl (Nat.le_of_ble_eq_true rfl) dX1_with_22 (fun rl u H locs hpost hP hD hS => ?_)
    have hlo := hpost
    have hP : va_P (dC, dI) vwCl (mW dA dZ Q th ea eb pc mm) H := hP
    have hD : va_D A (mW dA dZ Q th ea eb pc mm) := hD
    exact s_iret (r := rl) X hr hlocks (rfl) (th, ea, eb, pc, mm) (⟨(ea, eb, pr, mk), ⟨Or.inr ⟨k, ⟨hk, rfl, hpk⟩, by have h := hlo; rw [tb_one, tb_zero] at h; exact h⟩, rfl⟩, rfl, rfl, hR⟩) hP hD hS dX1_with_25
  · refine lv_bipush (v := -2) hx hb dX1_with_8 (by decide) ?_
    exact s_iret (r := (-2)) X hr hlocks (rfl) (th, ea, eb, pc, mm) (⟨(ea, eb, pr, mk), ⟨Or.inl ⟨sp_blF hq1 c_1, rfl⟩, rfl⟩, rfl, rfl, hR⟩) hP hD hS dX1_with_10

set_option maxHeartbeats 4000000 in
set_option maxRecDepth 100000 in
theorem mod_without (l : Launch) (dC : Nat → ClassId) (dI : Nat → Nat → Nat) (dA dZ : ClassId) (Q : Nat → Nat) (th ea eb pc mm : Nat → Nat) (x : Int32) (hea : ∀ k, ea k < 7) (heb : ∀ k, eb k < 7) (pr : Nat → Nat) (mk : Nat) (hpr : sg_B 100 pr) (hmk : mk < 128) (hR : mRel pr mk th pc mm) : sMi l yX1_without cX1_without 3 (some .int) ({ frames := 3, cells := 0, slots := 0, locals := 77 }) dC dI (tyz dA dZ) [.ref (Q 0), .int x] (mW dA dZ Q th ea eb pc mm) (fun (r : Int32) (v : mS) => ∃ A' : aS, sp_without x (ea, eb, pr, mk) r A' ∧ mIv A' v) (fun v => mWv dA dZ Q v) := by
  refine sMi_of (by decide) (Nat.le_of_ble_eq_true rfl) ?_
  intro p e s m below meth c A ls X hr hlocks hA hP hD hS hl
  have hl : lv_has ls 3 [(0, .ref (Q 0)), (1, .int x)] := hl
  have hx := X.1.1
  have hb := X.1.2.1
  have hown := X.1.2.2.2.1
  have hts := X.1.2.2.2.2
  refine lv_aload_n hx hb dX1_without_0 rfl (lv_at hl 0 rfl) ?_
  refine lv_iload_n hx hb dX1_without_1 rfl (lv_at hl 1 rfl) ?_
  refine s_calliV (wr := []) (rest := []) X (mod_badLine l dC dI dA dZ Q th ea eb pc mm pr mk hR x) (cwV 1 hts (lw_V q179 q181 qs10 q18 q182) rfl rfl rfl (by decide +kernel) ⟨Nat.le_of_ble_eq_true rfl, Nat.le_of_ble_eq_true rfl⟩) ⟨Nat.zero_le _, Nat.zero_le _⟩ hP hD hS hA [0, 1, 2, 3, 4, 5] [] rfl rfl rfl rfl (by decide) 1 rfl rfl rfl hl.1 rfl rfl (Nat.le_of_ble_eq_true rfl) dX1_without_2 (fun r u H locs hpost hP hD hS => ?_)
  have hq1 := hpost
  have hP : va_P (dC, dI) vwCl (mW dA dZ Q th ea eb pc mm) H := hP
  have hD : va_D A (mW dA dZ Q th ea eb pc mm) := hD
  refine lv_if_eq (tgt := 11) hx hb dX1_without_5 (by decide) (fun c_1 => ?_) (fun c_1 => ?_)
  · obtain ⟨k, hk, rfl, hpk⟩ := sp_blT hq1 c_1
    refine lv_aload_n hx hb dX1_without_11 rfl (lv_at hl 0 rfl) ?_
    refine s_calliV (wr := []) (rest := []) X (mod_marks l dC dI dA dZ Q th ea eb pc mm pr mk hR hmk) (cwV 0 hts (lw_V q191 q193 qs11 q18 q194) rfl rfl rfl (by decide +kernel) ⟨Nat.le_of_ble_eq_true rfl, Nat.le_of_ble_eq_true rfl⟩) ⟨Nat.zero_le _, Nat.zero_le _⟩ hP hD hS hA [0, 1, 2, 3, 4, 5] [] rfl rfl rfl rfl (by decide) 1 rfl rfl rfl hl.1 rfl rfl (Nat.le_of_ble_eq_true rfl) dX1_without_12 (fun r u H locs hpost hP hD hS => ?_)
    subst hpost
    have hP : va_P (dC, dI) vwCl (mW dA dZ Q th ea eb pc mm) H := hP
    have hD : va_D A (mW dA dZ Q th ea eb pc mm) := hD
    refine lv_istore_n (lv' := [(2, .int (nI mk)), (0, .ref (Q 0)), (1, .int (nI k))]) hx hb dX1_without_15 rfl hl (by decide) rfl (fun ls hl => ?_)
    refine lv_aload_n hx hb dX1_without_16 rfl (lv_at hl 1 rfl) ?_
    refine lv_iload_n hx hb dX1_without_17 rfl (lv_at hl 0 rfl) ?_
    refine lv_iconst (v := nI 0) hx hb dX1_without_18 (by decide) ?_
    refine lv_iconst (v := nI 1) hx hb dX1_without_19 (by decide) ?_
    refine lv_iload_n hx hb dX1_without_20 rfl (lv_at hl 2 rfl) ?_
    refine lv_ishl hx hb dX1_without_21 ?_
    refine s_top (nI (2 ^ k)) (s_shl1 (by omega)) ?_
    refine s_calliV (wr := []) (rest := []) X (mod_lowest l dC dI dA dZ Q th ea eb pc mm hea heb pr mk hpr hR mk 0 (2 ^ k) hmk (by omega) (sg_two10 hk)) (cwV 3 hts (lw_V q195 q197 qs12 q18 q198) rfl rfl rfl (by decide +kernel) ⟨Nat.le_of_ble_eq_true rfl, Nat.le_of_ble_eq_true rfl⟩) ⟨Nat.zero_le _, Nat.zero_le _⟩ hP hD hS hA [0, 1, 2, 3, 4, 5] [] rfl rfl rfl rfl (by decide) 1 rfl rfl rfl hl.1 rfl rfl (Nat.le_of_ble_eq_true rfl) dX1_without_22 (fun rl u H locs hpost hP hD hS => ?_)
    have hlo := hpost
    have hP : va_P (dC, dI) vwCl (mW dA dZ Q th ea eb pc mm) H := hP
    have hD : va_D A (mW dA dZ Q th ea eb pc mm) := hD
    exact s_iret (r := rl) X hr hlocks (rfl) (th, ea, eb, pc, mm) (⟨(ea, eb, pr, mk), ⟨Or.inr ⟨k, ⟨hk, rfl, hpk⟩, by have h := hlo; rw [tb_zero, tb_one] at h; exact h⟩, rfl⟩, rfl, rfl, hR⟩) hP hD hS dX1_without_25
  · refine lv_bipush (v := -2) hx hb dX1_without_8 (by decide) ?_
    exact s_iret (r := (-2)) X hr hlocks (rfl) (th, ea, eb, pc, mm) (⟨(ea, eb, pr, mk), ⟨Or.inl ⟨sp_blF hq1 c_1, rfl⟩, rfl⟩, rfl, rfl, hR⟩) hP hD hS dX1_without_10

set_option maxHeartbeats 4000000 in
set_option maxRecDepth 100000 in
theorem mod_including (l : Launch) (dC : Nat → ClassId) (dI : Nat → Nat → Nat) (dA dZ : ClassId) (Q : Nat → Nat) (th ea eb pc mm : Nat → Nat) (x : Int32) (hea : ∀ k, ea k < 7) (heb : ∀ k, eb k < 7) (pr : Nat → Nat) (mk : Nat) (hpr : sg_B 100 pr) (hmk : mk < 128) (hR : mRel pr mk th pc mm) : sMi l yX1_including cX1_including 3 (some .int) ({ frames := 3, cells := 0, slots := 0, locals := 77 }) dC dI (tyz dA dZ) [.ref (Q 0), .int x] (mW dA dZ Q th ea eb pc mm) (fun (r : Int32) (v : mS) => ∃ A' : aS, sp_including x (ea, eb, pr, mk) r A' ∧ mIv A' v) (fun v => mWv dA dZ Q v) := by
  refine sMi_of (by decide) (Nat.le_of_ble_eq_true rfl) ?_
  intro p e s m below meth c A ls X hr hlocks hA hP hD hS hl
  have hl : lv_has ls 3 [(0, .ref (Q 0)), (1, .int x)] := hl
  have hx := X.1.1
  have hb := X.1.2.1
  have hown := X.1.2.2.2.1
  have hts := X.1.2.2.2.2
  refine lv_iload_n hx hb dX1_including_0 rfl (lv_at hl 1 rfl) ?_
  refine s_calliS (rest := []) X (mod_badPoint l dC dI dA dZ x) (va_cwS 1 hts (lw_S q172 q173 q18 q174) rfl rfl rfl (by decide +kernel) ⟨Nat.le_of_ble_eq_true rfl, Nat.le_of_ble_eq_true rfl⟩) ⟨Nat.zero_le _, Nat.zero_le _⟩ hP hD hS hA hl.1 rfl rfl (Nat.le_of_ble_eq_true rfl) dX1_including_1 (fun r H locs hpost hP hD hS => ?_)
  have hq1 := hpost
  refine lv_if_eq (tgt := 10) hx hb dX1_including_4 (by decide) (fun c_1 => ?_) (fun c_1 => ?_)
  · obtain ⟨p0, hp0, rfl⟩ := sp_bpT hq1 c_1
    refine lv_aload_n hx hb dX1_including_10 rfl (lv_at hl 0 rfl) ?_
    refine s_calliV (wr := []) (rest := []) X (mod_marks l dC dI dA dZ Q th ea eb pc mm pr mk hR hmk) (cwV 0 hts (lw_V q191 q193 qs11 q18 q194) rfl rfl rfl (by decide +kernel) ⟨Nat.le_of_ble_eq_true rfl, Nat.le_of_ble_eq_true rfl⟩) ⟨Nat.zero_le _, Nat.zero_le _⟩ hP hD hS hA [0, 1, 2, 3, 4, 5] [] rfl rfl rfl rfl (by decide) 1 rfl rfl rfl hl.1 rfl rfl (Nat.le_of_ble_eq_true rfl) dX1_including_11 (fun r u H locs hpost hP hD hS => ?_)
    subst hpost
    have hP : va_P (dC, dI) vwCl (mW dA dZ Q th ea eb pc mm) H := hP
    have hD : va_D A (mW dA dZ Q th ea eb pc mm) := hD
    refine lv_istore_n (lv' := [(2, .int (nI mk)), (0, .ref (Q 0)), (1, .int (nI p0))]) hx hb dX1_including_14 rfl hl (by decide) rfl (fun ls hl => ?_)
    refine lv_aload_n hx hb dX1_including_15 rfl (lv_at hl 1 rfl) ?_
    refine lv_iload_n hx hb dX1_including_16 rfl (lv_at hl 0 rfl) ?_
    refine lv_iconst (v := nI 1) hx hb dX1_including_17 (by decide) ?_
    refine lv_iload_n hx hb dX1_including_18 rfl (lv_at hl 2 rfl) ?_
    refine lv_ishl hx hb dX1_including_19 ?_
    refine s_top (nI (2 ^ p0)) (s_shl1 (by omega)) ?_
    refine lv_ior hx hb dX1_including_20 ?_
    refine s_top (nI (mk ||| (2 ^ p0))) (s_or _ _) ?_
    refine lv_iconst (v := nI 0) hx hb dX1_including_21 (by decide) ?_
    refine lv_iconst (v := nI 0) hx hb dX1_including_22 (by decide) ?_
    refine s_calliV (wr := []) (rest := []) X (mod_lowest l dC dI dA dZ Q th ea eb pc mm hea heb pr mk hpr hR (mk ||| 2 ^ p0) 0 0 (sg_or7 hmk hp0) (by omega) (by omega)) (cwV 3 hts (lw_V q195 q197 qs12 q18 q198) rfl rfl rfl (by decide +kernel) ⟨Nat.le_of_ble_eq_true rfl, Nat.le_of_ble_eq_true rfl⟩) ⟨Nat.zero_le _, Nat.zero_le _⟩ hP hD hS hA [0, 1, 2, 3, 4, 5] [] rfl rfl rfl rfl (by decide) 1 rfl rfl rfl hl.1 rfl rfl (Nat.le_of_ble_eq_true rfl) dX1_including_23 (fun rl u H locs hpost hP hD hS => ?_)
    have hlo := hpost
    have hP : va_P (dC, dI) vwCl (mW dA dZ Q th ea eb pc mm) H := hP
    have hD : va_D A (mW dA dZ Q th ea eb pc mm) := hD
    exact s_iret (r := rl) X hr hlocks (rfl) (th, ea, eb, pc, mm) (⟨(ea, eb, pr, mk), ⟨Or.inr ⟨p0, ⟨hp0, rfl⟩, by have h := hlo; rw [tb_zero] at h; exact h⟩, rfl⟩, rfl, rfl, hR⟩) hP hD hS dX1_including_26
  · refine lv_bipush (v := -2) hx hb dX1_including_7 (by decide) ?_
    exact s_iret (r := (-2)) X hr hlocks (rfl) (th, ea, eb, pc, mm) (⟨(ea, eb, pr, mk), ⟨Or.inl ⟨sp_bpF hq1 c_1, rfl⟩, rfl⟩, rfl, rfl, hR⟩) hP hD hS dX1_including_9

set_option maxHeartbeats 4000000 in
set_option maxRecDepth 100000 in
theorem mod_between (l : Launch) (dC : Nat → ClassId) (dI : Nat → Nat → Nat) (dA dZ : ClassId) (Q : Nat → Nat) (th ea eb pc mm : Nat → Nat) (x y : Int32) (hea : ∀ k, ea k < 7) (heb : ∀ k, eb k < 7) (pr : Nat → Nat) (mk : Nat) (hpr : sg_B 100 pr) (hmk : mk < 128) (hR : mRel pr mk th pc mm) : sMi l yX1_between cX1_between 3 (some .int) ({ frames := 3, cells := 0, slots := 0, locals := 77 }) dC dI (tyz dA dZ) [.ref (Q 0), .int x, .int y] (mW dA dZ Q th ea eb pc mm) (fun (r : Int32) (v : mS) => ∃ A' : aS, sp_between x y (ea, eb, pr, mk) r A' ∧ mIv A' v) (fun v => mWv dA dZ Q v) := by
  refine sMi_of (by decide) (Nat.le_of_ble_eq_true rfl) ?_
  intro p e s m below meth c A ls X hr hlocks hA hP hD hS hl
  have hl : lv_has ls 3 [(0, .ref (Q 0)), (1, .int x), (2, .int y)] := hl
  have hx := X.1.1
  have hb := X.1.2.1
  have hown := X.1.2.2.2.1
  have hts := X.1.2.2.2.2
  refine lv_iload_n hx hb dX1_between_0 rfl (lv_at hl 1 rfl) ?_
  refine s_calliS (rest := []) X (mod_badPoint l dC dI dA dZ x) (va_cwS 1 hts (lw_S q172 q173 q18 q174) rfl rfl rfl (by decide +kernel) ⟨Nat.le_of_ble_eq_true rfl, Nat.le_of_ble_eq_true rfl⟩) ⟨Nat.zero_le _, Nat.zero_le _⟩ hP hD hS hA hl.1 rfl rfl (Nat.le_of_ble_eq_true rfl) dX1_between_1 (fun r H locs hpost hP hD hS => ?_)
  have hq1 := hpost
  refine lv_if_ne (tgt := 14) hx hb dX1_between_4 (by decide) (fun c_1 => ?_) (fun c_1 => ?_)
  · refine lv_bipush (v := -2) hx hb dX1_between_14 (by decide) ?_
    exact s_iret (r := (-2)) X hr hlocks (rfl) (th, ea, eb, pc, mm) (⟨(ea, eb, pr, mk), ⟨Or.inl ⟨fun ⟨q, h1, _⟩ => sp_bpF hq1 c_1 ⟨q.1, h1⟩, rfl⟩, rfl⟩, rfl, rfl, hR⟩) hP hD hS dX1_between_16
  · refine lv_iload_n hx hb dX1_between_7 rfl (lv_at hl 2 rfl) ?_
    refine s_calliS (rest := []) X (mod_badPoint l dC dI dA dZ y) (va_cwS 1 hts (lw_S q172 q173 q18 q174) rfl rfl rfl (by decide +kernel) ⟨Nat.le_of_ble_eq_true rfl, Nat.le_of_ble_eq_true rfl⟩) ⟨Nat.zero_le _, Nat.zero_le _⟩ hP hD hS hA hl.1 rfl rfl (Nat.le_of_ble_eq_true rfl) dX1_between_8 (fun r H locs hpost hP hD hS => ?_)
    have hq2 := hpost
    refine lv_if_eq (tgt := 17) hx hb dX1_between_11 (by decide) (fun c_2 => ?_) (fun c_2 => ?_)
    · obtain ⟨p0, hp0, rfl⟩ := sp_bpT hq1 c_1
      obtain ⟨q0, hq0, rfl⟩ := sp_bpT hq2 c_2
      refine lv_aload_n hx hb dX1_between_17 rfl (lv_at hl 0 rfl) ?_
      refine lv_iconst (v := nI 1) hx hb dX1_between_18 (by decide) ?_
      refine lv_iload_n hx hb dX1_between_19 rfl (lv_at hl 1 rfl) ?_
      refine lv_ishl hx hb dX1_between_20 ?_
      refine s_top (nI (2 ^ p0)) (s_shl1 (by omega)) ?_
      refine lv_iconst (v := nI 1) hx hb dX1_between_21 (by decide) ?_
      refine lv_iload_n hx hb dX1_between_22 rfl (lv_at hl 2 rfl) ?_
      refine lv_ishl hx hb dX1_between_23 ?_
      refine s_top (nI (2 ^ q0)) (s_shl1 (by omega)) ?_
      refine lv_ior hx hb dX1_between_24 ?_
      refine s_top (nI ((2 ^ p0) ||| (2 ^ q0))) (s_or _ _) ?_
      refine lv_iconst (v := nI 0) hx hb dX1_between_25 (by decide) ?_
      refine lv_iconst (v := nI 0) hx hb dX1_between_26 (by decide) ?_
      refine s_calliV (wr := []) (rest := []) X (mod_lowest l dC dI dA dZ Q th ea eb pc mm hea heb pr mk hpr hR (2 ^ p0 ||| 2 ^ q0) 0 0 (sg_or7 (sg_two7 hp0) hq0) (by omega) (by omega)) (cwV 3 hts (lw_V q195 q197 qs12 q18 q198) rfl rfl rfl (by decide +kernel) ⟨Nat.le_of_ble_eq_true rfl, Nat.le_of_ble_eq_true rfl⟩) ⟨Nat.zero_le _, Nat.zero_le _⟩ hP hD hS hA [0, 1, 2, 3, 4, 5] [] rfl rfl rfl rfl (by decide) 1 rfl rfl rfl hl.1 rfl rfl (Nat.le_of_ble_eq_true rfl) dX1_between_27 (fun rl u H locs hpost hP hD hS => ?_)
      have hlo := hpost
      have hP : va_P (dC, dI) vwCl (mW dA dZ Q th ea eb pc mm) H := hP
      have hD : va_D A (mW dA dZ Q th ea eb pc mm) := hD
      exact s_iret (r := rl) X hr hlocks (rfl) (th, ea, eb, pc, mm) (⟨(ea, eb, pr, mk), ⟨Or.inr ⟨(p0, q0), ⟨⟨hp0, rfl⟩, hq0, rfl⟩, by have h := hlo; rw [tb_zero] at h; exact h⟩, rfl⟩, rfl, rfl, hR⟩) hP hD hS dX1_between_30
    · refine lv_bipush (v := -2) hx hb dX1_between_14 (by decide) ?_
      exact s_iret (r := (-2)) X hr hlocks (rfl) (th, ea, eb, pc, mm) (⟨(ea, eb, pr, mk), ⟨Or.inl ⟨fun ⟨q, _, h2⟩ => sp_bpF hq2 c_2 ⟨q.2, h2⟩, rfl⟩, rfl⟩, rfl, rfl, hR⟩) hP hD hS dX1_between_16

end MOD2
end
section
/-! ROWS for the constructors: new tables, final fields; and rows for the law's script -/
section SNEW
variable {p : Program} {l : Launch} {e : Env} {R : Room} {s : State} {m : MethodId} {args : Array Value} {below : List Frame} {meth : Method} {c : Code} {H : Heap} {locs : List Loc} {cells slots : Nat} {Q : State → Prop}
variable {cc : ByteArray} {pc nL : Nat} {ls : Array Slot} {rest : List Value} {own : String} {dC : Nat → ClassId} {dI : Nat → Nat → Nat} {dA dZ : ClassId} {tys : List (ClassId × FieldType)} {ws : va_W} {A : Nat → Prop} {a : Nat} {H0 : Heap}
theorem s_newI (X : Cx p c cc nL s m args own dC dI (tyz dA dZ)) (hP : va_P (dC, dI) vwCl ws H) (hD : va_D A ws) (hS : va_S A H0 H locs) (hA : ∀ q : Nat, H0.size ≤ q → A q) {N : Nat} (hN : N < 1000) (hcells : cells + 1 ≤ R.cells) (hslots : slots + N ≤ R.slots) (hdg : decode cc pc = .ok (.newarray .int, 2))
    (kk : ∀ (q : Nat) (H1 : Heap), va_P (dC, dI) vwCl (ws ++ [(q, .inl (dA, N, .inl (sA (fun _ => 0))))]) H1 → va_D A (ws ++ [(q, .inl (dA, N, .inl (sA (fun _ => 0))))]) → va_S A H0 H1 locs → W p l e R s m args below meth c H1 locs (cells + 1) (slots + N) Q (F0 m (pc + 2) ls (.ref q :: rest))) : W p l e R s m args below meth c H locs cells slots Q (F0 m pc ls (.int (nI N) :: rest)) := by
  obtain ⟨⟨hx, hb, hml, hown, hts⟩, hK⟩ := X
  refine va_newa (atype := .int) (ty := .int) (a0 := (N, .inl (sA (fun _ => 0)))) hx hb (hts _ q64) rfl hK hP hD hS hA (fun cA => rfl) (nI_pos (by omega)) (nI_clamp (by omega)) (by show N * 4 ≤ 536870912; omega) hcells hslots hdg (fun q cA H1 hK1 hP1 hD1 hS1 => ?_)
  have h1 := va_nm_int (hK1.2 2 _ rfl).2
  have h2 := va_nm_int (hK.2 0 _ rfl).2
  have e1 : dA = cA := Option.some.inj (h2.symm.trans h1)
  subst e1
  exact kk q H1 hP1 hD1 hS1
theorem s_newZ (X : Cx p c cc nL s m args own dC dI (tyz dA dZ)) (hP : va_P (dC, dI) vwCl ws H) (hD : va_D A ws) (hS : va_S A H0 H locs) (hA : ∀ q : Nat, H0.size ≤ q → A q) {N : Nat} (hN : N < 1000) (hcells : cells + 1 ≤ R.cells) (hslots : slots + N ≤ R.slots) (hdg : decode cc pc = .ok (.newarray .boolean, 2))
    (kk : ∀ (q : Nat) (H1 : Heap), va_P (dC, dI) vwCl (ws ++ [(q, .inl (dZ, N, .inl (sA (fun _ => 0))))]) H1 → va_D A (ws ++ [(q, .inl (dZ, N, .inl (sA (fun _ => 0))))]) → va_S A H0 H1 locs → W p l e R s m args below meth c H1 locs (cells + 1) (slots + N) Q (F0 m (pc + 2) ls (.ref q :: rest))) : W p l e R s m args below meth c H locs cells slots Q (F0 m pc ls (.int (nI N) :: rest)) := by
  obtain ⟨⟨hx, hb, hml, hown, hts⟩, hK⟩ := X
  refine va_newa (atype := .boolean) (ty := .boolean) (a0 := (N, .inl (sA (fun _ => 0)))) hx hb (hts _ q167) rfl hK hP hD hS hA (fun cA => rfl) (nI_pos (by omega)) (nI_clamp (by omega)) (by show N * 1 ≤ 536870912; omega) hcells hslots hdg (fun q cA H1 hK1 hP1 hD1 hS1 => ?_)
  have h1 := va_nm_boolean (hK1.2 2 _ rfl).2
  have h2 := va_nm_boolean (hK.2 1 _ rfl).2
  have e1 : dZ = cA := Option.some.inj (h2.symm.trans h1)
  subst e1
  exact kk q H1 hP1 hD1 hS1
theorem s_putF0 (X : Cx p c cc nL s m args RX0 dC dI tys) (hin : meth.name = "<init>") (hP : va_P (dC, dI) vwCl ws H) (hD : va_D A ws) (hS : va_S A H0 H locs) (q0 : Nat) {fs : List Value} (he : ws[q0]? = some (a, .inr (0, fs))) (k : Nat) (hk : k < 12) {idx : Nat} (hl : Cond.fieldLink RX0 idx RX0 (TX0 k).2.1 (TX0 k).2.2.1 ∈ lw_all) (hsame : (TX0 k).1 = RX0) (hfin : (TX0 k).2.2.2 = true) {v : Value} (hn : narrow (tyX0 k) v = v) (hfit : fits (tyX0 k) v = true) (hlen : k < fs.length) (hdg : decode cc pc = .ok (.putfield idx, 3))
    (kk : ∀ (H1 : Heap) (locs1 : List Loc), va_P (dC, dI) vwCl (ws.set q0 (a, .inr (0, fs.set k v))) H1 → va_D A (ws.set q0 (a, .inr (0, fs.set k v))) → va_S A H0 H1 locs1 → W p l e R s m args below meth c H1 locs1 cells slots Q (F0 m (pc + 3) ls rest)) : W p l e R s m args below meth c H locs cells slots Q (F0 m pc ls (v :: .ref a :: rest)) := by
  obtain ⟨⟨hx, hb, hml, hown, hts⟩, hK⟩ := X
  exact va_putF (D := (dC, dI)) (ci := 0) (C := RX0) (T := TX0) (N := 12) (ref := RX0) hx hb hts in_X0 tyX0 tyX0_ok nmX0 hown hK hP hD hS q0 he rfl k hk (hts _ hl) (fun _ h9 => by rw [hsame] at h9; exact h9) hfin hin hsame (tyX0_ok k hk) hn hfit hlen hdg kk
theorem s_putF1 (X : Cx p c cc nL s m args RX1 dC dI tys) (hin : meth.name = "<init>") (hP : va_P (dC, dI) vwCl ws H) (hD : va_D A ws) (hS : va_S A H0 H locs) (q0 : Nat) {fs : List Value} (he : ws[q0]? = some (a, .inr (1, fs))) (k : Nat) (hk : k < 5) {idx : Nat} (hl : Cond.fieldLink RX1 idx RX1 (TX1 k).2.1 (TX1 k).2.2.1 ∈ lw_all) (hsame : (TX1 k).1 = RX1) (hfin : (TX1 k).2.2.2 = true) {v : Value} (hn : narrow (tyX1 k) v = v) (hfit : fits (tyX1 k) v = true) (hlen : k < fs.length) (hdg : decode cc pc = .ok (.putfield idx, 3))
    (kk : ∀ (H1 : Heap) (locs1 : List Loc), va_P (dC, dI) vwCl (ws.set q0 (a, .inr (1, fs.set k v))) H1 → va_D A (ws.set q0 (a, .inr (1, fs.set k v))) → va_S A H0 H1 locs1 → W p l e R s m args below meth c H1 locs1 cells slots Q (F0 m (pc + 3) ls rest)) : W p l e R s m args below meth c H locs cells slots Q (F0 m pc ls (v :: .ref a :: rest)) := by
  obtain ⟨⟨hx, hb, hml, hown, hts⟩, hK⟩ := X
  exact va_putF (D := (dC, dI)) (ci := 1) (C := RX1) (T := TX1) (N := 5) (ref := RX1) hx hb hts in_X1 tyX1 tyX1_ok nmX1 hown hK hP hD hS q0 he rfl k hk (hts _ hl) (fun _ h9 => by rw [hsame] at h9; exact h9) hfin hin hsame (tyX1_ok k hk) hn hfit hlen hdg kk
-- ===== the law's script =====
theorem s_sld {xs : Nat → Int32} {b L k : Nat} (X : Cx p c cc nL s m args own dC dI tys) (hX : va_X b L xs s H0) (hbl : b < H0.size) (hbA : ¬ A b) (hS : va_S A H0 H locs) (hL : L ≤ 320) (hk : k < L) (hdg : decode cc pc = .ok (.iaload, 1))
    (kk : W p l e R s m args below meth c H locs cells slots Q (F0 m (pc + 1) ls (.int (xs k) :: rest))) : W p l e R s m args below meth c H locs cells slots Q (F0 m pc ls (.int (nI k) :: .ref b :: rest)) := by
  obtain ⟨⟨hx, hb, hml, hown, hts⟩, hK⟩ := X
  refine va_sld hx hb hX hbl hbA hS (vp_in_nI hk (by omega)) hdg ?_
  rw [nI_clamp (by omega)]
  exact kk
theorem s_slen {xs : Nat → Int32} {b L : Nat} (X : Cx p c cc nL s m args own dC dI tys) (hX : va_X b L xs s H0) (hbl : b < H0.size) (hbA : ¬ A b) (hS : va_S A H0 H locs) (hdg : decode cc pc = .ok (.arraylength, 1))
    (kk : W p l e R s m args below meth c H locs cells slots Q (F0 m (pc + 1) ls (.int (nI L) :: rest))) : W p l e R s m args below meth c H locs cells slots Q (F0 m pc ls (.ref b :: rest)) := by
  obtain ⟨⟨hx, hb, hml, hown, hts⟩, hK⟩ := X
  exact va_slen hx hb hX hbl hbA hS hdg kk
end SNEW
theorem s_and15 (x : Int32) : ∃ v, v < 16 ∧ x &&& nI 15 = nI v := by
  refine ⟨x.toBitVec.toNat % 16, by omega, ?_⟩
  apply Int32.toBitVec_inj.mp
  show x.toBitVec &&& BitVec.ofNat 32 15 = BitVec.ofNat 32 (x.toBitVec.toNat % 16)
  apply BitVec.eq_of_toNat_eq
  rw [BitVec.toNat_and, BitVec.toNat_ofNat, BitVec.toNat_ofNat]
  rw [show (15 % 2 ^ 32 : Nat) = 2 ^ 4 - 1 from rfl, Nat.and_two_pow_sub_one_eq_mod]
  exact (Nat.mod_eq_of_lt (by omega)).symm
/-- five ints are left -/
theorem s_left {L i : Nat} (hL : L ≤ 320) (hi : i ≤ L) (h : ¬ nI L - nI 5 < nI i) : i + 5 ≤ L := by
  by_cases h5 : 5 ≤ L
  · rw [pk_sub h5] at h
    have h2 : ¬ L - 5 < i := fun z => h ((nI_ltI (by omega) (by omega)).mpr z)
    omega
  · exfalso
    apply h
    have h0 : nI L - nI 5 < 0 := by
      rcases (show L = 0 ∨ L = 1 ∨ L = 2 ∨ L = 3 ∨ L = 4 by omega) with z | z | z | z | z <;> subst z <;> decide
    exact Int32.lt_of_lt_of_le h0 (nI_pos' (by omega))
end
section
section INI
variable {p : Program} {l : Launch} {e : Env} {R : Room} {s : State} {m : MethodId} {args : Array Value} {below : List Frame} {meth : Method} {c : Code} {cells slots : Nat} {Qp : State → Prop} {dC : Nat → ClassId} {dI : Nat → Nat → Nat} {dA dZ : ClassId} {A : Nat → Prop} {H0 : Heap} {Q : Nat → Nat}
variable {ea eb pr : Nat → Nat} {mk : Nat} {ct wy pt : Nat → Nat} {wc : Nat} {wd : Nat → Nat} {kn : Nat} {bp : Int32} {bs : Nat}
set_option maxHeartbeats 4000000 in
set_option maxRecDepth 100000 in
theorem net_init (l : Launch) (dC : Nat → ClassId) (dI : Nat → Nat → Nat) (dA dZ : ClassId) (h0 sz : Nat) : Met l yX0_init (ws_ yX0_init cX0_init 1 none) ({ frames := 1, cells := 7, slots := 544, locals := 12 }) (sPc dC dI (tyz dA dZ) [.ref h0] [(h0, .inr (0, [.null, .null, .null, .int 0, .null, .null, .null, .int 0, .null, .int 0, .int 0, .int 0]))] sz) (va_Qv (fun Q : Nat → Nat => Q 0 = h0) (fun Q t => sB dC dI (va_A [(h0, .inr (0, [.null, .null, .null, .int 0, .null, .null, .null, .int 0, .null, .int 0, .int 0, .int 0]))] sz) (nW dA Q (fun _ => 0) (fun _ => 0) (fun _ => 0) 0 (fun _ => 0) (fun _ => 0) (fun _ => 0) 0 (fun _ => 0) 0 0 0) t) (va_A [(h0, .inr (0, [.null, .null, .null, .int 0, .null, .null, .null, .int 0, .null, .int 0, .int 0, .int 0]))] sz)) 7 544 (va_A [(h0, .inr (0, [.null, .null, .null, .int 0, .null, .null, .null, .int 0, .null, .int 0, .int 0, .int 0]))] sz) := by
  refine Met.ofW (cc := cX0_init) (maxL := 1) (ret := none) (by decide) rfl ?_
  intro p e s m args below meth c s₁ B hml hv
  obtain ⟨rfl, hsz, hP, hK, hD0⟩ := hv
  have hx := B.exec
  have hb := B.bytes
  have hr := B.returns
  have hts := atoms_spec (ws := ws_ yX0_init cX0_init 1 none) B.pre
  have hts : ∀ w ∈ lw_all, w.before _ s = true := fun w h => hts w (List.mem_cons_of_mem _ h)
  have hown : s.vm.findClass RX0 = some m.cls := findClass_of_methodNamed B.named
  have hlocks := B.notSynchronized
  have hin : meth.name = "<init>" := (name_of_methodNamed B.named B.method).1
  subst hsz
  have hD := hD0.self (sz := s.heap.size)
  generalize hAe : va_A [(h0, .inr (0, [.null, .null, .null, .int 0, .null, .null, .null, .int 0, .null, .int 0, .int 0, .int 0]))] s.heap.size = A at hD ⊢
  have hA : ∀ q : Nat, s.heap.size ≤ q → A q := fun q h => by rw [← hAe]; exact Or.inr h
  have hS : va_S A s.heap s.heap [] := va_S.rf
  have X : Cx p c cX0_init 1 s m ([.ref h0] : List Value).toArray RX0 dC dI (tyz dA dZ) := ⟨⟨hx, hb, hml, hown, hts⟩, hK⟩
  have hl := lv_entry ([.ref h0]) (n := 1) (Nat.le_of_ble_eq_true rfl)
  rw [lg_entry_eq]
  generalize (lg_sl ([.ref h0]) ++ List.replicate (1 - (lg_sl ([.ref h0])).length) Slot.unset).toArray = ls at hl ⊢
  have hl : lv_has ls 1 [(0, .ref h0)] := hl
  refine lv_aload_n hx hb dX0_init_0 rfl (lv_at hl 0 rfl) ?_
  refine W.objInit hx hb hown (hts _ q24) (hts _ q25) (hts _ q26) rfl (by rw [hml]; exact hl.1) rfl dX0_init_1 (Nat.le_of_ble_eq_true rfl) (Nat.le_of_ble_eq_true rfl) ?_
  refine W.eq (g2 := F0 m 4 ls []) rfl ?_
  refine lv_aload_n hx hb dX0_init_4 rfl (lv_at hl 0 rfl) ?_
  refine lv_bipush (v := nI 10) hx hb dX0_init_5 (by decide) ?_
  refine s_newI (N := 10) X hP hD hS hA (by decide) (Nat.le_of_ble_eq_true rfl) (Nat.le_of_ble_eq_true rfl) dX0_init_7 (fun q1 H hP hD hS => ?_)
  have hP : va_P (dC, dI) vwCl [(h0, .inr (0, [.null, .null, .null, .int 0, .null, .null, .null, .int 0, .null, .int 0, .int 0, .int 0])), (q1, .inl (dA, 10, .inl (sA (fun _ => 0))))] H := hP
  have hD : va_D A [(h0, .inr (0, [.null, .null, .null, .int 0, .null, .null, .null, .int 0, .null, .int 0, .int 0, .int 0])), (q1, .inl (dA, 10, .inl (sA (fun _ => 0))))] := hD
  refine W.widen (k := 1) (n := 10) (by decide) (by decide) ?_
  refine s_putF0 X hin hP hD hS 0 rfl 0 (by decide) q27 rfl rfl rfl rfl (Nat.le_of_ble_eq_true rfl) dX0_init_9 (fun H locs hP hD hS => ?_)
  have hP : va_P (dC, dI) vwCl [(h0, .inr (0, [.ref q1, .null, .null, .int 0, .null, .null, .null, .int 0, .null, .int 0, .int 0, .int 0])), (q1, .inl (dA, 10, .inl (sA (fun _ => 0))))] H := hP
  have hD : va_D A [(h0, .inr (0, [.ref q1, .null, .null, .int 0, .null, .null, .null, .int 0, .null, .int 0, .int 0, .int 0])), (q1, .inl (dA, 10, .inl (sA (fun _ => 0))))] := hD
  refine lv_aload_n hx hb dX0_init_12 rfl (lv_at hl 0 rfl) ?_
  refine lv_bipush (v := nI 10) hx hb dX0_init_13 (by decide) ?_
  refine s_newI (N := 10) X hP hD hS hA (by decide) (Nat.le_of_ble_eq_true rfl) (Nat.le_of_ble_eq_true rfl) dX0_init_15 (fun q2 H hP hD hS => ?_)
  have hP : va_P (dC, dI) vwCl [(h0, .inr (0, [.ref q1, .null, .null, .int 0, .null, .null, .null, .int 0, .null, .int 0, .int 0, .int 0])), (q1, .inl (dA, 10, .inl (sA (fun _ => 0)))), (q2, .inl (dA, 10, .inl (sA (fun _ => 0))))] H := hP
  have hD : va_D A [(h0, .inr (0, [.ref q1, .null, .null, .int 0, .null, .null, .null, .int 0, .null, .int 0, .int 0, .int 0])), (q1, .inl (dA, 10, .inl (sA (fun _ => 0)))), (q2, .inl (dA, 10, .inl (sA (fun _ => 0))))] := hD
  refine W.widen (k := 2) (n := 20) (by decide) (by decide) ?_
  refine s_putF0 X hin hP hD hS 0 rfl 1 (by decide) q28 rfl rfl rfl rfl (Nat.le_of_ble_eq_true rfl) dX0_init_17 (fun H locs hP hD hS => ?_)
  have hP : va_P (dC, dI) vwCl [(h0, .inr (0, [.ref q1, .ref q2, .null, .int 0, .null, .null, .null, .int 0, .null, .int 0, .int 0, .int 0])), (q1, .inl (dA, 10, .inl (sA (fun _ => 0)))), (q2, .inl (dA, 10, .inl (sA (fun _ => 0))))] H := hP
  have hD : va_D A [(h0, .inr (0, [.ref q1, .ref q2, .null, .int 0, .null, .null, .null, .int 0, .null, .int 0, .int 0, .int 0])), (q1, .inl (dA, 10, .inl (sA (fun _ => 0)))), (q2, .inl (dA, 10, .inl (sA (fun _ => 0))))] := hD
  refine lv_aload_n hx hb dX0_init_20 rfl (lv_at hl 0 rfl) ?_
  refine lv_bipush (v := nI 10) hx hb dX0_init_21 (by decide) ?_
  refine s_newI (N := 10) X hP hD hS hA (by decide) (Nat.le_of_ble_eq_true rfl) (Nat.le_of_ble_eq_true rfl) dX0_init_23 (fun q3 H hP hD hS => ?_)
  have hP : va_P (dC, dI) vwCl [(h0, .inr (0, [.ref q1, .ref q2, .null, .int 0, .null, .null, .null, .int 0, .null, .int 0, .int 0, .int 0])), (q1, .inl (dA, 10, .inl (sA (fun _ => 0)))), (q2, .inl (dA, 10, .inl (sA (fun _ => 0)))), (q3, .inl (dA, 10, .inl (sA (fun _ => 0))))] H := hP
  have hD : va_D A [(h0, .inr (0, [.ref q1, .ref q2, .null, .int 0, .null, .null, .null, .int 0, .null, .int 0, .int 0, .int 0])), (q1, .inl (dA, 10, .inl (sA (fun _ => 0)))), (q2, .inl (dA, 10, .inl (sA (fun _ => 0)))), (q3, .inl (dA, 10, .inl (sA (fun _ => 0))))] := hD
  refine W.widen (k := 3) (n := 30) (by decide) (by decide) ?_
  refine s_putF0 X hin hP hD hS 0 rfl 2 (by decide) q29 rfl rfl rfl rfl (Nat.le_of_ble_eq_true rfl) dX0_init_25 (fun H locs hP hD hS => ?_)
  have hP : va_P (dC, dI) vwCl [(h0, .inr (0, [.ref q1, .ref q2, .ref q3, .int 0, .null, .null, .null, .int 0, .null, .int 0, .int 0, .int 0])), (q1, .inl (dA, 10, .inl (sA (fun _ => 0)))), (q2, .inl (dA, 10, .inl (sA (fun _ => 0)))), (q3, .inl (dA, 10, .inl (sA (fun _ => 0))))] H := hP
  have hD : va_D A [(h0, .inr (0, [.ref q1, .ref q2, .ref q3, .int 0, .null, .null, .null, .int 0, .null, .int 0, .int 0, .int 0])), (q1, .inl (dA, 10, .inl (sA (fun _ => 0)))), (q2, .inl (dA, 10, .inl (sA (fun _ => 0)))), (q3, .inl (dA, 10, .inl (sA (fun _ => 0))))] := hD
  refine lv_aload_n hx hb dX0_init_28 rfl (lv_at hl 0 rfl) ?_
  refine lv_bipush (v := nI 10) hx hb dX0_init_29 (by decide) ?_
  refine s_newI (N := 10) X hP hD hS hA (by decide) (Nat.le_of_ble_eq_true rfl) (Nat.le_of_ble_eq_true rfl) dX0_init_31 (fun q4 H hP hD hS => ?_)
  have hP : va_P (dC, dI) vwCl [(h0, .inr (0, [.ref q1, .ref q2, .ref q3, .int 0, .null, .null, .null, .int 0, .null, .int 0, .int 0, .int 0])), (q1, .inl (dA, 10, .inl (sA (fun _ => 0)))), (q2, .inl (dA, 10, .inl (sA (fun _ => 0)))), (q3, .inl (dA, 10, .inl (sA (fun _ => 0)))), (q4, .inl (dA, 10, .inl (sA (fun _ => 0))))] H := hP
  have hD : va_D A [(h0, .inr (0, [.ref q1, .ref q2, .ref q3, .int 0, .null, .null, .null, .int 0, .null, .int 0, .int 0, .int 0])), (q1, .inl (dA, 10, .inl (sA (fun _ => 0)))), (q2, .inl (dA, 10, .inl (sA (fun _ => 0)))), (q3, .inl (dA, 10, .inl (sA (fun _ => 0)))), (q4, .inl (dA, 10, .inl (sA (fun _ => 0))))] := hD
  refine W.widen (k := 4) (n := 40) (by decide) (by decide) ?_
  refine s_putF0 X hin hP hD hS 0 rfl 4 (by decide) q31 rfl rfl rfl rfl (Nat.le_of_ble_eq_true rfl) dX0_init_33 (fun H locs hP hD hS => ?_)
  have hP : va_P (dC, dI) vwCl [(h0, .inr (0, [.ref q1, .ref q2, .ref q3, .int 0, .ref q4, .null, .null, .int 0, .null, .int 0, .int 0, .int 0])), (q1, .inl (dA, 10, .inl (sA (fun _ => 0)))), (q2, .inl (dA, 10, .inl (sA (fun _ => 0)))), (q3, .inl (dA, 10, .inl (sA (fun _ => 0)))), (q4, .inl (dA, 10, .inl (sA (fun _ => 0))))] H := hP
  have hD : va_D A [(h0, .inr (0, [.ref q1, .ref q2, .ref q3, .int 0, .ref q4, .null, .null, .int 0, .null, .int 0, .int 0, .int 0])), (q1, .inl (dA, 10, .inl (sA (fun _ => 0)))), (q2, .inl (dA, 10, .inl (sA (fun _ => 0)))), (q3, .inl (dA, 10, .inl (sA (fun _ => 0)))), (q4, .inl (dA, 10, .inl (sA (fun _ => 0))))] := hD
  refine lv_aload_n hx hb dX0_init_36 rfl (lv_at hl 0 rfl) ?_
  refine lv_bipush (v := nI 49) hx hb dX0_init_37 (by decide) ?_
  refine s_newI (N := 49) X hP hD hS hA (by decide) (Nat.le_of_ble_eq_true rfl) (Nat.le_of_ble_eq_true rfl) dX0_init_39 (fun q5 H hP hD hS => ?_)
  have hP : va_P (dC, dI) vwCl [(h0, .inr (0, [.ref q1, .ref q2, .ref q3, .int 0, .ref q4, .null, .null, .int 0, .null, .int 0, .int 0, .int 0])), (q1, .inl (dA, 10, .inl (sA (fun _ => 0)))), (q2, .inl (dA, 10, .inl (sA (fun _ => 0)))), (q3, .inl (dA, 10, .inl (sA (fun _ => 0)))), (q4, .inl (dA, 10, .inl (sA (fun _ => 0)))), (q5, .inl (dA, 49, .inl (sA (fun _ => 0))))] H := hP
  have hD : va_D A [(h0, .inr (0, [.ref q1, .ref q2, .ref q3, .int 0, .ref q4, .null, .null, .int 0, .null, .int 0, .int 0, .int 0])), (q1, .inl (dA, 10, .inl (sA (fun _ => 0)))), (q2, .inl (dA, 10, .inl (sA (fun _ => 0)))), (q3, .inl (dA, 10, .inl (sA (fun _ => 0)))), (q4, .inl (dA, 10, .inl (sA (fun _ => 0)))), (q5, .inl (dA, 49, .inl (sA (fun _ => 0))))] := hD
  refine W.widen (k := 5) (n := 89) (by decide) (by decide) ?_
  refine s_putF0 X hin hP hD hS 0 rfl 5 (by decide) q32 rfl rfl rfl rfl (Nat.le_of_ble_eq_true rfl) dX0_init_41 (fun H locs hP hD hS => ?_)
  have hP : va_P (dC, dI) vwCl [(h0, .inr (0, [.ref q1, .ref q2, .ref q3, .int 0, .ref q4, .ref q5, .null, .int 0, .null, .int 0, .int 0, .int 0])), (q1, .inl (dA, 10, .inl (sA (fun _ => 0)))), (q2, .inl (dA, 10, .inl (sA (fun _ => 0)))), (q3, .inl (dA, 10, .inl (sA (fun _ => 0)))), (q4, .inl (dA, 10, .inl (sA (fun _ => 0)))), (q5, .inl (dA, 49, .inl (sA (fun _ => 0))))] H := hP
  have hD : va_D A [(h0, .inr (0, [.ref q1, .ref q2, .ref q3, .int 0, .ref q4, .ref q5, .null, .int 0, .null, .int 0, .int 0, .int 0])), (q1, .inl (dA, 10, .inl (sA (fun _ => 0)))), (q2, .inl (dA, 10, .inl (sA (fun _ => 0)))), (q3, .inl (dA, 10, .inl (sA (fun _ => 0)))), (q4, .inl (dA, 10, .inl (sA (fun _ => 0)))), (q5, .inl (dA, 49, .inl (sA (fun _ => 0))))] := hD
  refine lv_aload_n hx hb dX0_init_44 rfl (lv_at hl 0 rfl) ?_
  refine lv_sipush (v := nI 448) hx hb dX0_init_45 (by decide) ?_
  refine s_newI (N := 448) X hP hD hS hA (by decide) (Nat.le_of_ble_eq_true rfl) (Nat.le_of_ble_eq_true rfl) dX0_init_48 (fun q6 H hP hD hS => ?_)
  have hP : va_P (dC, dI) vwCl [(h0, .inr (0, [.ref q1, .ref q2, .ref q3, .int 0, .ref q4, .ref q5, .null, .int 0, .null, .int 0, .int 0, .int 0])), (q1, .inl (dA, 10, .inl (sA (fun _ => 0)))), (q2, .inl (dA, 10, .inl (sA (fun _ => 0)))), (q3, .inl (dA, 10, .inl (sA (fun _ => 0)))), (q4, .inl (dA, 10, .inl (sA (fun _ => 0)))), (q5, .inl (dA, 49, .inl (sA (fun _ => 0)))), (q6, .inl (dA, 448, .inl (sA (fun _ => 0))))] H := hP
  have hD : va_D A [(h0, .inr (0, [.ref q1, .ref q2, .ref q3, .int 0, .ref q4, .ref q5, .null, .int 0, .null, .int 0, .int 0, .int 0])), (q1, .inl (dA, 10, .inl (sA (fun _ => 0)))), (q2, .inl (dA, 10, .inl (sA (fun _ => 0)))), (q3, .inl (dA, 10, .inl (sA (fun _ => 0)))), (q4, .inl (dA, 10, .inl (sA (fun _ => 0)))), (q5, .inl (dA, 49, .inl (sA (fun _ => 0)))), (q6, .inl (dA, 448, .inl (sA (fun _ => 0))))] := hD
  refine W.widen (k := 6) (n := 537) (by decide) (by decide) ?_
  refine s_putF0 X hin hP hD hS 0 rfl 6 (by decide) q33 rfl rfl rfl rfl (Nat.le_of_ble_eq_true rfl) dX0_init_50 (fun H locs hP hD hS => ?_)
  have hP : va_P (dC, dI) vwCl [(h0, .inr (0, [.ref q1, .ref q2, .ref q3, .int 0, .ref q4, .ref q5, .ref q6, .int 0, .null, .int 0, .int 0, .int 0])), (q1, .inl (dA, 10, .inl (sA (fun _ => 0)))), (q2, .inl (dA, 10, .inl (sA (fun _ => 0)))), (q3, .inl (dA, 10, .inl (sA (fun _ => 0)))), (q4, .inl (dA, 10, .inl (sA (fun _ => 0)))), (q5, .inl (dA, 49, .inl (sA (fun _ => 0)))), (q6, .inl (dA, 448, .inl (sA (fun _ => 0))))] H := hP
  have hD : va_D A [(h0, .inr (0, [.ref q1, .ref q2, .ref q3, .int 0, .ref q4, .ref q5, .ref q6, .int 0, .null, .int 0, .int 0, .int 0])), (q1, .inl (dA, 10, .inl (sA (fun _ => 0)))), (q2, .inl (dA, 10, .inl (sA (fun _ => 0)))), (q3, .inl (dA, 10, .inl (sA (fun _ => 0)))), (q4, .inl (dA, 10, .inl (sA (fun _ => 0)))), (q5, .inl (dA, 49, .inl (sA (fun _ => 0)))), (q6, .inl (dA, 448, .inl (sA (fun _ => 0))))] := hD
  refine lv_aload_n hx hb dX0_init_53 rfl (lv_at hl 0 rfl) ?_
  refine lv_bipush (v := nI 7) hx hb dX0_init_54 (by decide) ?_
  refine s_newI (N := 7) X hP hD hS hA (by decide) (Nat.le_of_ble_eq_true rfl) (Nat.le_of_ble_eq_true rfl) dX0_init_56 (fun q7 H hP hD hS => ?_)
  have hP : va_P (dC, dI) vwCl [(h0, .inr (0, [.ref q1, .ref q2, .ref q3, .int 0, .ref q4, .ref q5, .ref q6, .int 0, .null, .int 0, .int 0, .int 0])), (q1, .inl (dA, 10, .inl (sA (fun _ => 0)))), (q2, .inl (dA, 10, .inl (sA (fun _ => 0)))), (q3, .inl (dA, 10, .inl (sA (fun _ => 0)))), (q4, .inl (dA, 10, .inl (sA (fun _ => 0)))), (q5, .inl (dA, 49, .inl (sA (fun _ => 0)))), (q6, .inl (dA, 448, .inl (sA (fun _ => 0)))), (q7, .inl (dA, 7, .inl (sA (fun _ => 0))))] H := hP
  have hD : va_D A [(h0, .inr (0, [.ref q1, .ref q2, .ref q3, .int 0, .ref q4, .ref q5, .ref q6, .int 0, .null, .int 0, .int 0, .int 0])), (q1, .inl (dA, 10, .inl (sA (fun _ => 0)))), (q2, .inl (dA, 10, .inl (sA (fun _ => 0)))), (q3, .inl (dA, 10, .inl (sA (fun _ => 0)))), (q4, .inl (dA, 10, .inl (sA (fun _ => 0)))), (q5, .inl (dA, 49, .inl (sA (fun _ => 0)))), (q6, .inl (dA, 448, .inl (sA (fun _ => 0)))), (q7, .inl (dA, 7, .inl (sA (fun _ => 0))))] := hD
  refine W.widen (k := 7) (n := 544) (by decide) (by decide) ?_
  refine s_putF0 X hin hP hD hS 0 rfl 8 (by decide) q35 rfl rfl rfl rfl (Nat.le_of_ble_eq_true rfl) dX0_init_58 (fun H locs hP hD hS => ?_)
  have hP : va_P (dC, dI) vwCl [(h0, .inr (0, [.ref q1, .ref q2, .ref q3, .int 0, .ref q4, .ref q5, .ref q6, .int 0, .ref q7, .int 0, .int 0, .int 0])), (q1, .inl (dA, 10, .inl (sA (fun _ => 0)))), (q2, .inl (dA, 10, .inl (sA (fun _ => 0)))), (q3, .inl (dA, 10, .inl (sA (fun _ => 0)))), (q4, .inl (dA, 10, .inl (sA (fun _ => 0)))), (q5, .inl (dA, 49, .inl (sA (fun _ => 0)))), (q6, .inl (dA, 448, .inl (sA (fun _ => 0)))), (q7, .inl (dA, 7, .inl (sA (fun _ => 0))))] H := hP
  have hD : va_D A [(h0, .inr (0, [.ref q1, .ref q2, .ref q3, .int 0, .ref q4, .ref q5, .ref q6, .int 0, .ref q7, .int 0, .int 0, .int 0])), (q1, .inl (dA, 10, .inl (sA (fun _ => 0)))), (q2, .inl (dA, 10, .inl (sA (fun _ => 0)))), (q3, .inl (dA, 10, .inl (sA (fun _ => 0)))), (q4, .inl (dA, 10, .inl (sA (fun _ => 0)))), (q5, .inl (dA, 49, .inl (sA (fun _ => 0)))), (q6, .inl (dA, 448, .inl (sA (fun _ => 0)))), (q7, .inl (dA, 7, .inl (sA (fun _ => 0))))] := hD
  exact W.vret hx hb hr (fun t ht hW => ⟨⟨(fun i => match i with | 0 => h0 | 1 => q1 | 2 => q2 | 3 => q3 | 4 => q4 | 5 => q5 | 6 => q6 | _ => q7), rfl, rfl, by rw [ht]; exact hP, hD⟩, hS.F ht⟩) hS.2.2 dX0_init_61

set_option maxHeartbeats 4000000 in
set_option maxRecDepth 100000 in
theorem mod_init (l : Launch) (dC : Nat → ClassId) (dI : Nat → Nat → Nat) (dA dZ : ClassId) (h0 sz : Nat) : Met l yX1_init (ws_ yX1_init cX1_init 1 none) ({ frames := 1, cells := 5, slots := 47, locals := 12 }) (sPc dC dI (tyz dA dZ) [.ref h0] [(h0, .inr (1, [.null, .null, .null, .null, .null]))] sz) (va_Qv (fun Q : Nat → Nat => Q 0 = h0) (fun Q t => sB dC dI (va_A [(h0, .inr (1, [.null, .null, .null, .null, .null]))] sz) (mW dA dZ Q (fun _ => 0) (fun _ => 0) (fun _ => 0) (fun _ => 0) (fun _ => 0)) t) (va_A [(h0, .inr (1, [.null, .null, .null, .null, .null]))] sz)) 5 47 (va_A [(h0, .inr (1, [.null, .null, .null, .null, .null]))] sz) := by
  refine Met.ofW (cc := cX1_init) (maxL := 1) (ret := none) (by decide) rfl ?_
  intro p e s m args below meth c s₁ B hml hv
  obtain ⟨rfl, hsz, hP, hK, hD0⟩ := hv
  have hx := B.exec
  have hb := B.bytes
  have hr := B.returns
  have hts := atoms_spec (ws := ws_ yX1_init cX1_init 1 none) B.pre
  have hts : ∀ w ∈ lw_all, w.before _ s = true := fun w h => hts w (List.mem_cons_of_mem _ h)
  have hown : s.vm.findClass RX1 = some m.cls := findClass_of_methodNamed B.named
  have hlocks := B.notSynchronized
  have hin : meth.name = "<init>" := (name_of_methodNamed B.named B.method).1
  subst hsz
  have hD := hD0.self (sz := s.heap.size)
  generalize hAe : va_A [(h0, .inr (1, [.null, .null, .null, .null, .null]))] s.heap.size = A at hD ⊢
  have hA : ∀ q : Nat, s.heap.size ≤ q → A q := fun q h => by rw [← hAe]; exact Or.inr h
  have hS : va_S A s.heap s.heap [] := va_S.rf
  have X : Cx p c cX1_init 1 s m ([.ref h0] : List Value).toArray RX1 dC dI (tyz dA dZ) := ⟨⟨hx, hb, hml, hown, hts⟩, hK⟩
  have hl := lv_entry ([.ref h0]) (n := 1) (Nat.le_of_ble_eq_true rfl)
  rw [lg_entry_eq]
  generalize (lg_sl ([.ref h0]) ++ List.replicate (1 - (lg_sl ([.ref h0])).length) Slot.unset).toArray = ls at hl ⊢
  have hl : lv_has ls 1 [(0, .ref h0)] := hl
  refine lv_aload_n hx hb dX1_init_0 rfl (lv_at hl 0 rfl) ?_
  refine W.objInit hx hb hown (hts _ q150) (hts _ q25) (hts _ q26) rfl (by rw [hml]; exact hl.1) rfl dX1_init_1 (Nat.le_of_ble_eq_true rfl) (Nat.le_of_ble_eq_true rfl) ?_
  refine W.eq (g2 := F0 m 4 ls []) rfl ?_
  refine lv_aload_n hx hb dX1_init_4 rfl (lv_at hl 0 rfl) ?_
  refine lv_bipush (v := nI 10) hx hb dX1_init_5 (by decide) ?_
  refine s_newZ (N := 10) X hP hD hS hA (by decide) (Nat.le_of_ble_eq_true rfl) (Nat.le_of_ble_eq_true rfl) dX1_init_7 (fun q1 H hP hD hS => ?_)
  have hP : va_P (dC, dI) vwCl [(h0, .inr (1, [.null, .null, .null, .null, .null])), (q1, .inl (dZ, 10, .inl (sA (fun _ => 0))))] H := hP
  have hD : va_D A [(h0, .inr (1, [.null, .null, .null, .null, .null])), (q1, .inl (dZ, 10, .inl (sA (fun _ => 0))))] := hD
  refine W.widen (k := 1) (n := 10) (by decide) (by decide) ?_
  refine s_putF1 X hin hP hD hS 0 rfl 0 (by decide) q151 rfl rfl rfl rfl (Nat.le_of_ble_eq_true rfl) dX1_init_9 (fun H locs hP hD hS => ?_)
  have hP : va_P (dC, dI) vwCl [(h0, .inr (1, [.ref q1, .null, .null, .null, .null])), (q1, .inl (dZ, 10, .inl (sA (fun _ => 0))))] H := hP
  have hD : va_D A [(h0, .inr (1, [.ref q1, .null, .null, .null, .null])), (q1, .inl (dZ, 10, .inl (sA (fun _ => 0))))] := hD
  refine lv_aload_n hx hb dX1_init_12 rfl (lv_at hl 0 rfl) ?_
  refine lv_bipush (v := nI 10) hx hb dX1_init_13 (by decide) ?_
  refine s_newI (N := 10) X hP hD hS hA (by decide) (Nat.le_of_ble_eq_true rfl) (Nat.le_of_ble_eq_true rfl) dX1_init_15 (fun q2 H hP hD hS => ?_)
  have hP : va_P (dC, dI) vwCl [(h0, .inr (1, [.ref q1, .null, .null, .null, .null])), (q1, .inl (dZ, 10, .inl (sA (fun _ => 0)))), (q2, .inl (dA, 10, .inl (sA (fun _ => 0))))] H := hP
  have hD : va_D A [(h0, .inr (1, [.ref q1, .null, .null, .null, .null])), (q1, .inl (dZ, 10, .inl (sA (fun _ => 0)))), (q2, .inl (dA, 10, .inl (sA (fun _ => 0))))] := hD
  refine W.widen (k := 2) (n := 20) (by decide) (by decide) ?_
  refine s_putF1 X hin hP hD hS 0 rfl 1 (by decide) q152 rfl rfl rfl rfl (Nat.le_of_ble_eq_true rfl) dX1_init_17 (fun H locs hP hD hS => ?_)
  have hP : va_P (dC, dI) vwCl [(h0, .inr (1, [.ref q1, .ref q2, .null, .null, .null])), (q1, .inl (dZ, 10, .inl (sA (fun _ => 0)))), (q2, .inl (dA, 10, .inl (sA (fun _ => 0))))] H := hP
  have hD : va_D A [(h0, .inr (1, [.ref q1, .ref q2, .null, .null, .null])), (q1, .inl (dZ, 10, .inl (sA (fun _ => 0)))), (q2, .inl (dA, 10, .inl (sA (fun _ => 0))))] := hD
  refine lv_aload_n hx hb dX1_init_20 rfl (lv_at hl 0 rfl) ?_
  refine lv_bipush (v := nI 10) hx hb dX1_init_21 (by decide) ?_
  refine s_newI (N := 10) X hP hD hS hA (by decide) (Nat.le_of_ble_eq_true rfl) (Nat.le_of_ble_eq_true rfl) dX1_init_23 (fun q3 H hP hD hS => ?_)
  have hP : va_P (dC, dI) vwCl [(h0, .inr (1, [.ref q1, .ref q2, .null, .null, .null])), (q1, .inl (dZ, 10, .inl (sA (fun _ => 0)))), (q2, .inl (dA, 10, .inl (sA (fun _ => 0)))), (q3, .inl (dA, 10, .inl (sA (fun _ => 0))))] H := hP
  have hD : va_D A [(h0, .inr (1, [.ref q1, .ref q2, .null, .null, .null])), (q1, .inl (dZ, 10, .inl (sA (fun _ => 0)))), (q2, .inl (dA, 10, .inl (sA (fun _ => 0)))), (q3, .inl (dA, 10, .inl (sA (fun _ => 0))))] := hD
  refine W.widen (k := 3) (n := 30) (by decide) (by decide) ?_
  refine s_putF1 X hin hP hD hS 0 rfl 2 (by decide) q153 rfl rfl rfl rfl (Nat.le_of_ble_eq_true rfl) dX1_init_25 (fun H locs hP hD hS => ?_)
  have hP : va_P (dC, dI) vwCl [(h0, .inr (1, [.ref q1, .ref q2, .ref q3, .null, .null])), (q1, .inl (dZ, 10, .inl (sA (fun _ => 0)))), (q2, .inl (dA, 10, .inl (sA (fun _ => 0)))), (q3, .inl (dA, 10, .inl (sA (fun _ => 0))))] H := hP
  have hD : va_D A [(h0, .inr (1, [.ref q1, .ref q2, .ref q3, .null, .null])), (q1, .inl (dZ, 10, .inl (sA (fun _ => 0)))), (q2, .inl (dA, 10, .inl (sA (fun _ => 0)))), (q3, .inl (dA, 10, .inl (sA (fun _ => 0))))] := hD
  refine lv_aload_n hx hb dX1_init_28 rfl (lv_at hl 0 rfl) ?_
  refine lv_bipush (v := nI 10) hx hb dX1_init_29 (by decide) ?_
  refine s_newI (N := 10) X hP hD hS hA (by decide) (Nat.le_of_ble_eq_true rfl) (Nat.le_of_ble_eq_true rfl) dX1_init_31 (fun q4 H hP hD hS => ?_)
  have hP : va_P (dC, dI) vwCl [(h0, .inr (1, [.ref q1, .ref q2, .ref q3, .null, .null])), (q1, .inl (dZ, 10, .inl (sA (fun _ => 0)))), (q2, .inl (dA, 10, .inl (sA (fun _ => 0)))), (q3, .inl (dA, 10, .inl (sA (fun _ => 0)))), (q4, .inl (dA, 10, .inl (sA (fun _ => 0))))] H := hP
  have hD : va_D A [(h0, .inr (1, [.ref q1, .ref q2, .ref q3, .null, .null])), (q1, .inl (dZ, 10, .inl (sA (fun _ => 0)))), (q2, .inl (dA, 10, .inl (sA (fun _ => 0)))), (q3, .inl (dA, 10, .inl (sA (fun _ => 0)))), (q4, .inl (dA, 10, .inl (sA (fun _ => 0))))] := hD
  refine W.widen (k := 4) (n := 40) (by decide) (by decide) ?_
  refine s_putF1 X hin hP hD hS 0 rfl 3 (by decide) q154 rfl rfl rfl rfl (Nat.le_of_ble_eq_true rfl) dX1_init_33 (fun H locs hP hD hS => ?_)
  have hP : va_P (dC, dI) vwCl [(h0, .inr (1, [.ref q1, .ref q2, .ref q3, .ref q4, .null])), (q1, .inl (dZ, 10, .inl (sA (fun _ => 0)))), (q2, .inl (dA, 10, .inl (sA (fun _ => 0)))), (q3, .inl (dA, 10, .inl (sA (fun _ => 0)))), (q4, .inl (dA, 10, .inl (sA (fun _ => 0))))] H := hP
  have hD : va_D A [(h0, .inr (1, [.ref q1, .ref q2, .ref q3, .ref q4, .null])), (q1, .inl (dZ, 10, .inl (sA (fun _ => 0)))), (q2, .inl (dA, 10, .inl (sA (fun _ => 0)))), (q3, .inl (dA, 10, .inl (sA (fun _ => 0)))), (q4, .inl (dA, 10, .inl (sA (fun _ => 0))))] := hD
  refine lv_aload_n hx hb dX1_init_36 rfl (lv_at hl 0 rfl) ?_
  refine lv_bipush (v := nI 7) hx hb dX1_init_37 (by decide) ?_
  refine s_newZ (N := 7) X hP hD hS hA (by decide) (Nat.le_of_ble_eq_true rfl) (Nat.le_of_ble_eq_true rfl) dX1_init_39 (fun q5 H hP hD hS => ?_)
  have hP : va_P (dC, dI) vwCl [(h0, .inr (1, [.ref q1, .ref q2, .ref q3, .ref q4, .null])), (q1, .inl (dZ, 10, .inl (sA (fun _ => 0)))), (q2, .inl (dA, 10, .inl (sA (fun _ => 0)))), (q3, .inl (dA, 10, .inl (sA (fun _ => 0)))), (q4, .inl (dA, 10, .inl (sA (fun _ => 0)))), (q5, .inl (dZ, 7, .inl (sA (fun _ => 0))))] H := hP
  have hD : va_D A [(h0, .inr (1, [.ref q1, .ref q2, .ref q3, .ref q4, .null])), (q1, .inl (dZ, 10, .inl (sA (fun _ => 0)))), (q2, .inl (dA, 10, .inl (sA (fun _ => 0)))), (q3, .inl (dA, 10, .inl (sA (fun _ => 0)))), (q4, .inl (dA, 10, .inl (sA (fun _ => 0)))), (q5, .inl (dZ, 7, .inl (sA (fun _ => 0))))] := hD
  refine W.widen (k := 5) (n := 47) (by decide) (by decide) ?_
  refine s_putF1 X hin hP hD hS 0 rfl 4 (by decide) q155 rfl rfl rfl rfl (Nat.le_of_ble_eq_true rfl) dX1_init_41 (fun H locs hP hD hS => ?_)
  have hP : va_P (dC, dI) vwCl [(h0, .inr (1, [.ref q1, .ref q2, .ref q3, .ref q4, .ref q5])), (q1, .inl (dZ, 10, .inl (sA (fun _ => 0)))), (q2, .inl (dA, 10, .inl (sA (fun _ => 0)))), (q3, .inl (dA, 10, .inl (sA (fun _ => 0)))), (q4, .inl (dA, 10, .inl (sA (fun _ => 0)))), (q5, .inl (dZ, 7, .inl (sA (fun _ => 0))))] H := hP
  have hD : va_D A [(h0, .inr (1, [.ref q1, .ref q2, .ref q3, .ref q4, .ref q5])), (q1, .inl (dZ, 10, .inl (sA (fun _ => 0)))), (q2, .inl (dA, 10, .inl (sA (fun _ => 0)))), (q3, .inl (dA, 10, .inl (sA (fun _ => 0)))), (q4, .inl (dA, 10, .inl (sA (fun _ => 0)))), (q5, .inl (dZ, 7, .inl (sA (fun _ => 0))))] := hD
  exact W.vret hx hb hr (fun t ht hW => ⟨⟨(fun i => match i with | 0 => h0 | 1 => q1 | 2 => q2 | 3 => q3 | 4 => q4 | _ => q5), rfl, rfl, by rw [ht]; exact hP, hD⟩, hS.F ht⟩) hS.2.2 dX1_init_44

end INI
end
section
/-! THE CLAIM OUT OF ONE WALK OF THE LAW'S BODY. Your part is whole_start (and what it stands on); all else here is the same for every law, but numbers. -/
def R_law : String := "SteinerNetLaw"
def lw_P (b : Addr) (xs : List Int32) (args : Array Value) (s : State) : Prop := args = #[.ref b] ∧ s.IntsAt b xs ∧ xs.length ≤ 320 ∧ (Jvm.Cond.and given_1 narrow_1).before args s = true
def lw_Q (_ : Array Value) (s : State) (o : Outcome) (t : State) : Prop := o = .returned (some (.int 1)) ∧ Framed s o t [] 600000 7290000
def lw_Z (below : List Frame) (a : Array Value) (s : State) : State → Prop := fun t => ∃ o, t.status = .running ∧ Ended t below o ∧ lw_Q a s o t
/-- the law's own end, with 1 on the stack, nothing written that was there before, its room as the claim has it -/
theorem lw_ret {p : Program} {l : Launch} {e : Env} {s : State} {m : MethodId} {below : List Frame} {meth : Method} {c : Code} {b : Nat} (hx : p.tables.exec = Jvm.exec) (hb : c.code = code) (hr : meth.sig.returnType = ret) (hlocks : meth.locks = false) {pc : Nat} {H : Heap} {ls : Array Slot} (hdg : decode code pc = .ok (.ireturn, 1)) : W p l e room_1 s m #[Value.ref b] below meth c H [] 600000 7290000 (lw_Z below #[Value.ref b] s) (F0 m pc ls [.int 1]) := by
  intro T hT X
  obtain ⟨fs, hret, hrun, hended, hW, hframe⟩ := X.leave (v := some (.int 1)) (hlocks := hlocks) (fun h => by rw [hr] at h; cases h)
  have hmeth' : T.vm.method? m = some meth := X.method'
  refine ⟨T.setFrames fs, ?_, .returned (some (.int 1)), hrun, hended, rfl, ⟨_, rfl⟩, hW, hframe⟩
  jvm_step X.here [X.here.top, hx, hb, hdg, hmeth', hr, ret, narrow_b1]
  (try refine ⟨rfl, ?_⟩); (try refine ⟨rfl, ?_⟩)
  first | (intro acts; rw [hret _ acts rfl rfl rfl]) | rw [hret _ _ rfl rfl rfl]
  exact Steps.refl _
/-- what holds at the law's entry: the machine, the code, the tables' words (any of lw_tbl by 'hts w (by decide +kernel)'), the script of L ints xs at the cell b, what the Statement gives of the start (any of its parts by flat_of_before) -/
def lw_At (p : Program) (s : State) (m : MethodId) (meth : Method) (c : Code) (b L : Nat) (xs : Nat → Int32) : Prop :=
  p.tables.exec = Jvm.exec ∧ c.code = code ∧ meth.sig.returnType = ret ∧ c.maxLocals = 4 ∧ s.vm.findClass R_law = some m.cls ∧ (∀ w ∈ lw_tbl, w.before #[Value.ref b] s = true) ∧ va_X b L xs s s.heap ∧ b < s.heap.size ∧ meth.locks = false ∧ (Jvm.Cond.and given_1 narrow_1).before #[Value.ref b] s = true
end
section
section LAW1
variable {p : Program} {l : Launch} {e : Env} {s : State} {m : MethodId} {below : List Frame} {meth : Method} {c : Code} {Qp : State → Prop} {dC : Nat → ClassId} {dI : Nat → Nat → Nat} {dA dZ : ClassId} {b L i : Nat} {xs : Nat → Int32} {Q1 Q2 : Nat → Nat}
theorem mIv_split {u : nS} {v : mS} (h : mIv (nAb u) v) : ∃ th pc mm, v = (th, u.1, u.2.1, pc, mm) ∧ mRel u.2.2.1 u.2.2.2.1 th pc mm := by
  obtain ⟨th, a, b, pc, mm⟩ := v
  obtain ⟨e1, e2, hR⟩ := h
  exact ⟨th, pc, mm, by rw [show a = u.1 from e1, show b = u.2.1 from e2], hR⟩

set_option maxHeartbeats 4000000 in
set_option maxRecDepth 100000 in
theorem law_line (X : Cx p c cL_law 4 s m #[Value.ref b] R_law dC dI (tyz dA dZ)) (hX : va_X b L xs s s.heap) (hbl : b < s.heap.size) (hL : L ≤ 320) (hi : i + 5 ≤ L)
    (K : ∀ (u : nS) (v : mS) (H : Heap) (locs : List Loc) (ls : Array Slot), nIvU u → mIv (nAb u) v → sWd dC dI (fun q : Nat => s.heap.size ≤ q) s.heap (nWu dA Q1 u ++ mWv dA dZ Q2 v) H locs → lv_has ls 4 [(0, .ref b), (1, .ref (Q1 0)), (2, .ref (Q2 0)), (3, .int (nI i))] → W p l e room_1 s m #[Value.ref b] below meth c H locs 14 608 Qp (F0 m 347 ls []))
    (u : nS) (v : mS) (H : Heap) (locs : List Loc) (ls : Array Slot) (hI : nIvU u) (hv : mIv (nAb u) v) (hW : sWd dC dI (fun q : Nat => s.heap.size ≤ q) s.heap (nWu dA Q1 u ++ mWv dA dZ Q2 v) H locs) (hl : lv_has ls 4 [(0, .ref b), (1, .ref (Q1 0)), (2, .ref (Q2 0)), (3, .int (nI i))]) : W p l e room_1 s m #[Value.ref b] below meth c H locs 14 608 Qp (F0 m 84 ls []) := by
  obtain ⟨th, pc, mm, rfl, hR⟩ := mIv_split hv
  obtain ⟨ea, eb, pr, mk, ct, wy, pt, wc, wd, kn, bp, bs⟩ := u
  have hR : mRel pr mk th pc mm := hR
  have hI : nIv ea eb pr mk ct wy pt wd kn bp bs := hI
  have hI9 := hI
  obtain ⟨hea, heb, hpr, hmk, -, -, -, -, -, -⟩ := hI9
  obtain ⟨hP, hD, hS⟩ := hW
  have hP : va_P (dC, dI) vwCl (nW dA Q1 ea eb pr mk ct wy pt wc wd kn bp bs ++ mW dA dZ Q2 th ea eb pc mm) H := hP
  have hD : va_D (fun q : Nat => s.heap.size ≤ q) (nW dA Q1 ea eb pr mk ct wy pt wc wd kn bp bs ++ mW dA dZ Q2 th ea eb pc mm) := hD
  have hx := X.1.1
  have hb := X.1.2.1
  have hown := X.1.2.2.2.1
  have hts := X.1.2.2.2.2
  have hA : ∀ q : Nat, s.heap.size ≤ q → (fun q : Nat => s.heap.size ≤ q) q := fun _ h => h
  have hbA : ¬ (fun q : Nat => s.heap.size ≤ q) b := Nat.not_le.mpr hbl
  refine lv_aload_n hx hb dL_law_84 rfl (lv_at hl 1 rfl) ?_
  refine lv_aload_n hx hb dL_law_85 rfl (lv_at hl 0 rfl) ?_
  refine lv_iload_n hx hb dL_law_86 rfl (lv_at hl 3 rfl) ?_
  refine lv_iconst (v := nI 1) hx hb dL_law_87 (by decide) ?_
  refine lv_iadd hx hb dL_law_88 ?_
  refine s_top (nI (i + 1)) (nI_add _ _) ?_
  refine s_sld X hX hbl hbA hS hL (k := i + 1) (by omega) dL_law_89 ?_
  refine lv_aload_n hx hb dL_law_90 rfl (lv_at hl 0 rfl) ?_
  refine lv_iload_n hx hb dL_law_91 rfl (lv_at hl 3 rfl) ?_
  refine lv_iconst (v := nI 2) hx hb dL_law_92 (by decide) ?_
  refine lv_iadd hx hb dL_law_93 ?_
  refine s_top (nI (i + 2)) (nI_add _ _) ?_
  refine s_sld X hX hbl hbA hS hL (k := i + 2) (by omega) dL_law_94 ?_
  refine lv_aload_n hx hb dL_law_95 rfl (lv_at hl 0 rfl) ?_
  refine lv_iload_n hx hb dL_law_96 rfl (lv_at hl 3 rfl) ?_
  refine lv_iconst (v := nI 3) hx hb dL_law_97 (by decide) ?_
  refine lv_iadd hx hb dL_law_98 ?_
  refine s_top (nI (i + 3)) (nI_add _ _) ?_
  refine s_sld X hX hbl hbA hS hL (k := i + 3) (by omega) dL_law_99 ?_
  refine lv_aload_n hx hb dL_law_100 rfl (lv_at hl 0 rfl) ?_
  refine lv_iload_n hx hb dL_law_101 rfl (lv_at hl 3 rfl) ?_
  refine lv_iconst (v := nI 4) hx hb dL_law_102 (by decide) ?_
  refine lv_iadd hx hb dL_law_103 ?_
  refine s_top (nI (i + 4)) (nI_add _ _) ?_
  refine s_sld X hX hbl hbA hS hL (k := i + 4) (by omega) dL_law_104 ?_
  refine s_calliV (rest := []) (wr := mW dA dZ Q2 th ea eb pc mm) X (net_line l dC dI dA dZ Q1 ea eb pr mk ct wy pt wc wd kn bp bs (xs (i + 1)) (xs (i + 2)) (xs (i + 3)) (xs (i + 4)) hI) (cwV 4 hts (lw_V q65 q66 q67 q17 q68) rfl rfl rfl (by decide +kernel) ⟨Nat.le_of_ble_eq_true rfl, Nat.le_of_ble_eq_true rfl⟩) ⟨Nat.le_of_ble_eq_true rfl, Nat.le_of_ble_eq_true rfl⟩ hP hD hS hA [0, 1, 2, 3, 4, 5, 6, 7] [8, 9, 10, 11, 12, 13] rfl rfl rfl rfl (by decide) 0 rfl rfl rfl hl.1 rfl rfl (Nat.le_of_ble_eq_true rfl) dL_law_105 (fun r1 u1 H locs hp1 hP hD hS => ?_)
  obtain ⟨hs1, hI1⟩ := hp1
  have hP : va_P (dC, dI) vwCl (mW dA dZ Q2 th ea eb pc mm ++ nWu dA Q1 u1) H := hP
  have hD : va_D (fun q : Nat => s.heap.size ≤ q) (mW dA dZ Q2 th ea eb pc mm ++ nWu dA Q1 u1) := hD
  refine lv_aload_n hx hb dL_law_108 rfl (lv_at hl 2 rfl) ?_
  refine lv_aload_n hx hb dL_law_109 rfl (lv_at hl 0 rfl) ?_
  refine lv_iload_n hx hb dL_law_110 rfl (lv_at hl 3 rfl) ?_
  refine lv_iconst (v := nI 1) hx hb dL_law_111 (by decide) ?_
  refine lv_iadd hx hb dL_law_112 ?_
  refine s_top (nI (i + 1)) (nI_add _ _) ?_
  refine s_sld X hX hbl hbA hS hL (k := i + 1) (by omega) dL_law_113 ?_
  refine lv_aload_n hx hb dL_law_114 rfl (lv_at hl 0 rfl) ?_
  refine lv_iload_n hx hb dL_law_115 rfl (lv_at hl 3 rfl) ?_
  refine lv_iconst (v := nI 2) hx hb dL_law_116 (by decide) ?_
  refine lv_iadd hx hb dL_law_117 ?_
  refine s_top (nI (i + 2)) (nI_add _ _) ?_
  refine s_sld X hX hbl hbA hS hL (k := i + 2) (by omega) dL_law_118 ?_
  refine lv_aload_n hx hb dL_law_119 rfl (lv_at hl 0 rfl) ?_
  refine lv_iload_n hx hb dL_law_120 rfl (lv_at hl 3 rfl) ?_
  refine lv_iconst (v := nI 3) hx hb dL_law_121 (by decide) ?_
  refine lv_iadd hx hb dL_law_122 ?_
  refine s_top (nI (i + 3)) (nI_add _ _) ?_
  refine s_sld X hX hbl hbA hS hL (k := i + 3) (by omega) dL_law_123 ?_
  refine lv_aload_n hx hb dL_law_124 rfl (lv_at hl 0 rfl) ?_
  refine lv_iload_n hx hb dL_law_125 rfl (lv_at hl 3 rfl) ?_
  refine lv_iconst (v := nI 4) hx hb dL_law_126 (by decide) ?_
  refine lv_iadd hx hb dL_law_127 ?_
  refine s_top (nI (i + 4)) (nI_add _ _) ?_
  refine s_sld X hX hbl hbA hS hL (k := i + 4) (by omega) dL_law_128 ?_
  refine s_calliV (rest := [.int r1]) (wr := nWu dA Q1 u1) X (mod_line l dC dI dA dZ Q2 th ea eb pc mm (xs (i + 1)) (xs (i + 2)) (xs (i + 3)) (xs (i + 4)) hea heb pr mk hpr hmk hR) (cwV 4 hts (lw_V q168 q169 q170 q18 q171) rfl rfl rfl (by decide +kernel) ⟨Nat.le_of_ble_eq_true rfl, Nat.le_of_ble_eq_true rfl⟩) ⟨Nat.le_of_ble_eq_true rfl, Nat.le_of_ble_eq_true rfl⟩ hP hD hS hA [0, 1, 2, 3, 4, 5] [6, 7, 8, 9, 10, 11, 12, 13] rfl rfl rfl rfl (by decide) 1 rfl rfl rfl hl.1 rfl rfl (Nat.le_of_ble_eq_true rfl) dL_law_129 (fun r2 v2 H locs hp2 hP hD hS => ?_)
  obtain ⟨A2, hs2, hm2⟩ := hp2
  obtain ⟨er, eA⟩ := sp_line_u hs1 hs2
  refine lv_icmp_eq (tgt := 347) hx hb dL_law_132 (by decide) (fun c_9 => ?_) (fun c_9 => absurd er c_9)
  exact K u1 v2 _ _ _ hI1 (by rw [eA]; exact hm2) ⟨hP, hD, hS⟩ hl

set_option maxHeartbeats 4000000 in
set_option maxRecDepth 100000 in
theorem law_cut (X : Cx p c cL_law 4 s m #[Value.ref b] R_law dC dI (tyz dA dZ)) (hX : va_X b L xs s s.heap) (hbl : b < s.heap.size) (hL : L ≤ 320) (hi : i + 5 ≤ L)
    (K : ∀ (u : nS) (v : mS) (H : Heap) (locs : List Loc) (ls : Array Slot), nIvU u → mIv (nAb u) v → sWd dC dI (fun q : Nat => s.heap.size ≤ q) s.heap (nWu dA Q1 u ++ mWv dA dZ Q2 v) H locs → lv_has ls 4 [(0, .ref b), (1, .ref (Q1 0)), (2, .ref (Q2 0)), (3, .int (nI i))] → W p l e room_1 s m #[Value.ref b] below meth c H locs 14 608 Qp (F0 m 347 ls []))
    (u : nS) (v : mS) (H : Heap) (locs : List Loc) (ls : Array Slot) (hI : nIvU u) (hv : mIv (nAb u) v) (hW : sWd dC dI (fun q : Nat => s.heap.size ≤ q) s.heap (nWu dA Q1 u ++ mWv dA dZ Q2 v) H locs) (hl : lv_has ls 4 [(0, .ref b), (1, .ref (Q1 0)), (2, .ref (Q2 0)), (3, .int (nI i))]) : W p l e room_1 s m #[Value.ref b] below meth c H locs 14 608 Qp (F0 m 137 ls []) := by
  obtain ⟨th, pc, mm, rfl, hR⟩ := mIv_split hv
  obtain ⟨ea, eb, pr, mk, ct, wy, pt, wc, wd, kn, bp, bs⟩ := u
  have hR : mRel pr mk th pc mm := hR
  have hI : nIv ea eb pr mk ct wy pt wd kn bp bs := hI
  have hI9 := hI
  obtain ⟨hea, heb, hpr, hmk, -, -, -, -, -, -⟩ := hI9
  obtain ⟨hP, hD, hS⟩ := hW
  have hP : va_P (dC, dI) vwCl (nW dA Q1 ea eb pr mk ct wy pt wc wd kn bp bs ++ mW dA dZ Q2 th ea eb pc mm) H := hP
  have hD : va_D (fun q : Nat => s.heap.size ≤ q) (nW dA Q1 ea eb pr mk ct wy pt wc wd kn bp bs ++ mW dA dZ Q2 th ea eb pc mm) := hD
  have hx := X.1.1
  have hb := X.1.2.1
  have hown := X.1.2.2.2.1
  have hts := X.1.2.2.2.2
  have hA : ∀ q : Nat, s.heap.size ≤ q → (fun q : Nat => s.heap.size ≤ q) q := fun _ h => h
  have hbA : ¬ (fun q : Nat => s.heap.size ≤ q) b := Nat.not_le.mpr hbl
  refine lv_aload_n hx hb dL_law_137 rfl (lv_at hl 1 rfl) ?_
  refine lv_aload_n hx hb dL_law_138 rfl (lv_at hl 0 rfl) ?_
  refine lv_iload_n hx hb dL_law_139 rfl (lv_at hl 3 rfl) ?_
  refine lv_iconst (v := nI 1) hx hb dL_law_140 (by decide) ?_
  refine lv_iadd hx hb dL_law_141 ?_
  refine s_top (nI (i + 1)) (nI_add _ _) ?_
  refine s_sld X hX hbl hbA hS hL (k := i + 1) (by omega) dL_law_142 ?_
  refine s_calliV (rest := []) (wr := mW dA dZ Q2 th ea eb pc mm) X (net_cut l dC dI dA dZ Q1 ea eb pr mk ct wy pt wc wd kn bp bs (xs (i + 1)) hI) (cwV 1 hts (lw_V q72 q73 q74 q17 q75) rfl rfl rfl (by decide +kernel) ⟨Nat.le_of_ble_eq_true rfl, Nat.le_of_ble_eq_true rfl⟩) ⟨Nat.le_of_ble_eq_true rfl, Nat.le_of_ble_eq_true rfl⟩ hP hD hS hA [0, 1, 2, 3, 4, 5, 6, 7] [8, 9, 10, 11, 12, 13] rfl rfl rfl rfl (by decide) 0 rfl rfl rfl hl.1 rfl rfl (Nat.le_of_ble_eq_true rfl) dL_law_143 (fun r1 u1 H locs hp1 hP hD hS => ?_)
  obtain ⟨hs1, hI1⟩ := hp1
  have hP : va_P (dC, dI) vwCl (mW dA dZ Q2 th ea eb pc mm ++ nWu dA Q1 u1) H := hP
  have hD : va_D (fun q : Nat => s.heap.size ≤ q) (mW dA dZ Q2 th ea eb pc mm ++ nWu dA Q1 u1) := hD
  refine lv_aload_n hx hb dL_law_146 rfl (lv_at hl 2 rfl) ?_
  refine lv_aload_n hx hb dL_law_147 rfl (lv_at hl 0 rfl) ?_
  refine lv_iload_n hx hb dL_law_148 rfl (lv_at hl 3 rfl) ?_
  refine lv_iconst (v := nI 1) hx hb dL_law_149 (by decide) ?_
  refine lv_iadd hx hb dL_law_150 ?_
  refine s_top (nI (i + 1)) (nI_add _ _) ?_
  refine s_sld X hX hbl hbA hS hL (k := i + 1) (by omega) dL_law_151 ?_
  refine s_calliV (rest := [.int r1]) (wr := nWu dA Q1 u1) X (mod_cut l dC dI dA dZ Q2 th ea eb pc mm (xs (i + 1)) hea heb pr mk hpr hmk hR) (cwV 1 hts (lw_V q175 q176 q177 q18 q178) rfl rfl rfl (by decide +kernel) ⟨Nat.le_of_ble_eq_true rfl, Nat.le_of_ble_eq_true rfl⟩) ⟨Nat.le_of_ble_eq_true rfl, Nat.le_of_ble_eq_true rfl⟩ hP hD hS hA [0, 1, 2, 3, 4, 5] [6, 7, 8, 9, 10, 11, 12, 13] rfl rfl rfl rfl (by decide) 1 rfl rfl rfl hl.1 rfl rfl (Nat.le_of_ble_eq_true rfl) dL_law_152 (fun r2 v2 H locs hp2 hP hD hS => ?_)
  obtain ⟨A2, hs2, hm2⟩ := hp2
  obtain ⟨er, eA⟩ := sp_cut_u hs1 hs2
  refine lv_icmp_eq (tgt := 347) hx hb dL_law_155 (by decide) (fun c_9 => ?_) (fun c_9 => absurd er c_9)
  exact K u1 v2 _ _ _ hI1 (by rw [eA]; exact hm2) ⟨hP, hD, hS⟩ hl

set_option maxHeartbeats 4000000 in
set_option maxRecDepth 100000 in
theorem law_mark (X : Cx p c cL_law 4 s m #[Value.ref b] R_law dC dI (tyz dA dZ)) (hX : va_X b L xs s s.heap) (hbl : b < s.heap.size) (hL : L ≤ 320) (hi : i + 5 ≤ L)
    (K : ∀ (u : nS) (v : mS) (H : Heap) (locs : List Loc) (ls : Array Slot), nIvU u → mIv (nAb u) v → sWd dC dI (fun q : Nat => s.heap.size ≤ q) s.heap (nWu dA Q1 u ++ mWv dA dZ Q2 v) H locs → lv_has ls 4 [(0, .ref b), (1, .ref (Q1 0)), (2, .ref (Q2 0)), (3, .int (nI i))] → W p l e room_1 s m #[Value.ref b] below meth c H locs 14 608 Qp (F0 m 347 ls []))
    (u : nS) (v : mS) (H : Heap) (locs : List Loc) (ls : Array Slot) (hI : nIvU u) (hv : mIv (nAb u) v) (hW : sWd dC dI (fun q : Nat => s.heap.size ≤ q) s.heap (nWu dA Q1 u ++ mWv dA dZ Q2 v) H locs) (hl : lv_has ls 4 [(0, .ref b), (1, .ref (Q1 0)), (2, .ref (Q2 0)), (3, .int (nI i))]) : W p l e room_1 s m #[Value.ref b] below meth c H locs 14 608 Qp (F0 m 160 ls []) := by
  obtain ⟨th, pc, mm, rfl, hR⟩ := mIv_split hv
  obtain ⟨ea, eb, pr, mk, ct, wy, pt, wc, wd, kn, bp, bs⟩ := u
  have hR : mRel pr mk th pc mm := hR
  have hI : nIv ea eb pr mk ct wy pt wd kn bp bs := hI
  have hI9 := hI
  obtain ⟨hea, heb, hpr, hmk, -, -, -, -, -, -⟩ := hI9
  obtain ⟨hP, hD, hS⟩ := hW
  have hP : va_P (dC, dI) vwCl (nW dA Q1 ea eb pr mk ct wy pt wc wd kn bp bs ++ mW dA dZ Q2 th ea eb pc mm) H := hP
  have hD : va_D (fun q : Nat => s.heap.size ≤ q) (nW dA Q1 ea eb pr mk ct wy pt wc wd kn bp bs ++ mW dA dZ Q2 th ea eb pc mm) := hD
  have hx := X.1.1
  have hb := X.1.2.1
  have hown := X.1.2.2.2.1
  have hts := X.1.2.2.2.2
  have hA : ∀ q : Nat, s.heap.size ≤ q → (fun q : Nat => s.heap.size ≤ q) q := fun _ h => h
  have hbA : ¬ (fun q : Nat => s.heap.size ≤ q) b := Nat.not_le.mpr hbl
  refine lv_aload_n hx hb dL_law_160 rfl (lv_at hl 1 rfl) ?_
  refine lv_aload_n hx hb dL_law_161 rfl (lv_at hl 0 rfl) ?_
  refine lv_iload_n hx hb dL_law_162 rfl (lv_at hl 3 rfl) ?_
  refine lv_iconst (v := nI 1) hx hb dL_law_163 (by decide) ?_
  refine lv_iadd hx hb dL_law_164 ?_
  refine s_top (nI (i + 1)) (nI_add _ _) ?_
  refine s_sld X hX hbl hbA hS hL (k := i + 1) (by omega) dL_law_165 ?_
  refine lv_aload_n hx hb dL_law_166 rfl (lv_at hl 0 rfl) ?_
  refine lv_iload_n hx hb dL_law_167 rfl (lv_at hl 3 rfl) ?_
  refine lv_iconst (v := nI 2) hx hb dL_law_168 (by decide) ?_
  refine lv_iadd hx hb dL_law_169 ?_
  refine s_top (nI (i + 2)) (nI_add _ _) ?_
  refine s_sld X hX hbl hbA hS hL (k := i + 2) (by omega) dL_law_170 ?_
  refine lv_if_eq (tgt := 178) hx hb dL_law_171 (by decide) (fun c_171 => ?_) (fun c_171 => ?_)
  · refine lv_iconst (v := nI 0) hx hb dL_law_178 (by decide) ?_
    refine s_calliV (rest := []) (wr := mW dA dZ Q2 th ea eb pc mm) X (net_mark l dC dI dA dZ Q1 ea eb pr mk ct wy pt wc wd kn bp bs (xs (i + 1)) 0 (by decide) hI) (cwV 2 hts (lw_V q80 q81 q82 q17 q83) rfl rfl rfl (by decide +kernel) ⟨Nat.le_of_ble_eq_true rfl, Nat.le_of_ble_eq_true rfl⟩) ⟨Nat.le_of_ble_eq_true rfl, Nat.le_of_ble_eq_true rfl⟩ hP hD hS hA [0, 1, 2, 3, 4, 5, 6, 7] [8, 9, 10, 11, 12, 13] rfl rfl rfl rfl (by decide) 0 rfl rfl rfl hl.1 rfl rfl (Nat.le_of_ble_eq_true rfl) dL_law_179 (fun r1 u1 H locs hp1 hP hD hS => ?_)
    obtain ⟨hs1, hI1⟩ := hp1
    have hP : va_P (dC, dI) vwCl (mW dA dZ Q2 th ea eb pc mm ++ nWu dA Q1 u1) H := hP
    have hD : va_D (fun q : Nat => s.heap.size ≤ q) (mW dA dZ Q2 th ea eb pc mm ++ nWu dA Q1 u1) := hD
    refine lv_aload_n hx hb dL_law_182 rfl (lv_at hl 2 rfl) ?_
    refine lv_aload_n hx hb dL_law_183 rfl (lv_at hl 0 rfl) ?_
    refine lv_iload_n hx hb dL_law_184 rfl (lv_at hl 3 rfl) ?_
    refine lv_iconst (v := nI 1) hx hb dL_law_185 (by decide) ?_
    refine lv_iadd hx hb dL_law_186 ?_
    refine s_top (nI (i + 1)) (nI_add _ _) ?_
    refine s_sld X hX hbl hbA hS hL (k := i + 1) (by omega) dL_law_187 ?_
    refine lv_aload_n hx hb dL_law_188 rfl (lv_at hl 0 rfl) ?_
    refine lv_iload_n hx hb dL_law_189 rfl (lv_at hl 3 rfl) ?_
    refine lv_iconst (v := nI 2) hx hb dL_law_190 (by decide) ?_
    refine lv_iadd hx hb dL_law_191 ?_
    refine s_top (nI (i + 2)) (nI_add _ _) ?_
    refine s_sld X hX hbl hbA hS hL (k := i + 2) (by omega) dL_law_192 ?_
    refine lv_if_eq (tgt := 200) hx hb dL_law_193 (by decide) (fun c_193 => ?_) (fun c_193 => ?_)
    · refine lv_iconst (v := nI 0) hx hb dL_law_200 (by decide) ?_
      refine s_calliV (rest := [.int r1]) (wr := nWu dA Q1 u1) X (mod_mark l dC dI dA dZ Q2 th ea eb pc mm (xs (i + 1)) 0 (by decide) hea heb pr mk hpr hmk hR) (cwV 2 hts (lw_V q183 q184 q185 q18 q186) rfl rfl rfl (by decide +kernel) ⟨Nat.le_of_ble_eq_true rfl, Nat.le_of_ble_eq_true rfl⟩) ⟨Nat.le_of_ble_eq_true rfl, Nat.le_of_ble_eq_true rfl⟩ hP hD hS hA [0, 1, 2, 3, 4, 5] [6, 7, 8, 9, 10, 11, 12, 13] rfl rfl rfl rfl (by decide) 1 rfl rfl rfl hl.1 rfl rfl (Nat.le_of_ble_eq_true rfl) dL_law_201 (fun r2 v2 H locs hp2 hP hD hS => ?_)
      obtain ⟨A2, hs2, hm2⟩ := hp2
      obtain ⟨er, eA⟩ := sp_mark_u hs1 hs2
      refine lv_icmp_eq (tgt := 347) hx hb dL_law_204 (by decide) (fun c_9 => ?_) (fun c_9 => absurd er c_9)
      exact K u1 v2 _ _ _ hI1 (by rw [eA]; exact hm2) ⟨hP, hD, hS⟩ hl
    · exact absurd c_171 c_193
  · refine lv_iconst (v := nI 1) hx hb dL_law_174 (by decide) ?_
    refine lv_goto (tgt := 179) hx hb dL_law_175 (by decide) ?_
    refine s_calliV (rest := []) (wr := mW dA dZ Q2 th ea eb pc mm) X (net_mark l dC dI dA dZ Q1 ea eb pr mk ct wy pt wc wd kn bp bs (xs (i + 1)) 1 (by decide) hI) (cwV 2 hts (lw_V q80 q81 q82 q17 q83) rfl rfl rfl (by decide +kernel) ⟨Nat.le_of_ble_eq_true rfl, Nat.le_of_ble_eq_true rfl⟩) ⟨Nat.le_of_ble_eq_true rfl, Nat.le_of_ble_eq_true rfl⟩ hP hD hS hA [0, 1, 2, 3, 4, 5, 6, 7] [8, 9, 10, 11, 12, 13] rfl rfl rfl rfl (by decide) 0 rfl rfl rfl hl.1 rfl rfl (Nat.le_of_ble_eq_true rfl) dL_law_179 (fun r1 u1 H locs hp1 hP hD hS => ?_)
    obtain ⟨hs1, hI1⟩ := hp1
    have hP : va_P (dC, dI) vwCl (mW dA dZ Q2 th ea eb pc mm ++ nWu dA Q1 u1) H := hP
    have hD : va_D (fun q : Nat => s.heap.size ≤ q) (mW dA dZ Q2 th ea eb pc mm ++ nWu dA Q1 u1) := hD
    refine lv_aload_n hx hb dL_law_182 rfl (lv_at hl 2 rfl) ?_
    refine lv_aload_n hx hb dL_law_183 rfl (lv_at hl 0 rfl) ?_
    refine lv_iload_n hx hb dL_law_184 rfl (lv_at hl 3 rfl) ?_
    refine lv_iconst (v := nI 1) hx hb dL_law_185 (by decide) ?_
    refine lv_iadd hx hb dL_law_186 ?_
    refine s_top (nI (i + 1)) (nI_add _ _) ?_
    refine s_sld X hX hbl hbA hS hL (k := i + 1) (by omega) dL_law_187 ?_
    refine lv_aload_n hx hb dL_law_188 rfl (lv_at hl 0 rfl) ?_
    refine lv_iload_n hx hb dL_law_189 rfl (lv_at hl 3 rfl) ?_
    refine lv_iconst (v := nI 2) hx hb dL_law_190 (by decide) ?_
    refine lv_iadd hx hb dL_law_191 ?_
    refine s_top (nI (i + 2)) (nI_add _ _) ?_
    refine s_sld X hX hbl hbA hS hL (k := i + 2) (by omega) dL_law_192 ?_
    refine lv_if_eq (tgt := 200) hx hb dL_law_193 (by decide) (fun c_193 => ?_) (fun c_193 => ?_)
    · exact absurd c_193 c_171
    · refine lv_iconst (v := nI 1) hx hb dL_law_196 (by decide) ?_
      refine lv_goto (tgt := 201) hx hb dL_law_197 (by decide) ?_
      refine s_calliV (rest := [.int r1]) (wr := nWu dA Q1 u1) X (mod_mark l dC dI dA dZ Q2 th ea eb pc mm (xs (i + 1)) 1 (by decide) hea heb pr mk hpr hmk hR) (cwV 2 hts (lw_V q183 q184 q185 q18 q186) rfl rfl rfl (by decide +kernel) ⟨Nat.le_of_ble_eq_true rfl, Nat.le_of_ble_eq_true rfl⟩) ⟨Nat.le_of_ble_eq_true rfl, Nat.le_of_ble_eq_true rfl⟩ hP hD hS hA [0, 1, 2, 3, 4, 5] [6, 7, 8, 9, 10, 11, 12, 13] rfl rfl rfl rfl (by decide) 1 rfl rfl rfl hl.1 rfl rfl (Nat.le_of_ble_eq_true rfl) dL_law_201 (fun r2 v2 H locs hp2 hP hD hS => ?_)
      obtain ⟨A2, hs2, hm2⟩ := hp2
      obtain ⟨er, eA⟩ := sp_mark_u hs1 hs2
      refine lv_icmp_eq (tgt := 347) hx hb dL_law_204 (by decide) (fun c_9 => ?_) (fun c_9 => absurd er c_9)
      exact K u1 v2 _ _ _ hI1 (by rw [eA]; exact hm2) ⟨hP, hD, hS⟩ hl

end LAW1
end
section
section LAW1
variable {p : Program} {l : Launch} {e : Env} {s : State} {m : MethodId} {below : List Frame} {meth : Method} {c : Code} {Qp : State → Prop} {dC : Nat → ClassId} {dI : Nat → Nat → Nat} {dA dZ : ClassId} {b L i : Nat} {xs : Nat → Int32} {Q1 Q2 : Nat → Nat}
set_option maxHeartbeats 4000000 in
set_option maxRecDepth 100000 in
theorem law_least (X : Cx p c cL_law 4 s m #[Value.ref b] R_law dC dI (tyz dA dZ)) (hX : va_X b L xs s s.heap) (hbl : b < s.heap.size) (hL : L ≤ 320) (hi : i + 5 ≤ L)
    (K : ∀ (u : nS) (v : mS) (H : Heap) (locs : List Loc) (ls : Array Slot), nIvU u → mIv (nAb u) v → sWd dC dI (fun q : Nat => s.heap.size ≤ q) s.heap (nWu dA Q1 u ++ mWv dA dZ Q2 v) H locs → lv_has ls 4 [(0, .ref b), (1, .ref (Q1 0)), (2, .ref (Q2 0)), (3, .int (nI i))] → W p l e room_1 s m #[Value.ref b] below meth c H locs 14 608 Qp (F0 m 347 ls []))
    (u : nS) (v : mS) (H : Heap) (locs : List Loc) (ls : Array Slot) (hI : nIvU u) (hv : mIv (nAb u) v) (hW : sWd dC dI (fun q : Nat => s.heap.size ≤ q) s.heap (nWu dA Q1 u ++ mWv dA dZ Q2 v) H locs) (hl : lv_has ls 4 [(0, .ref b), (1, .ref (Q1 0)), (2, .ref (Q2 0)), (3, .int (nI i))]) : W p l e room_1 s m #[Value.ref b] below meth c H locs 14 608 Qp (F0 m 209 ls []) := by
  obtain ⟨th, pc, mm, rfl, hR⟩ := mIv_split hv
  obtain ⟨ea, eb, pr, mk, ct, wy, pt, wc, wd, kn, bp, bs⟩ := u
  have hR : mRel pr mk th pc mm := hR
  have hI : nIv ea eb pr mk ct wy pt wd kn bp bs := hI
  have hI9 := hI
  obtain ⟨hea, heb, hpr, hmk, -, -, -, -, -, -⟩ := hI9
  obtain ⟨hP, hD, hS⟩ := hW
  have hP : va_P (dC, dI) vwCl (nW dA Q1 ea eb pr mk ct wy pt wc wd kn bp bs ++ mW dA dZ Q2 th ea eb pc mm) H := hP
  have hD : va_D (fun q : Nat => s.heap.size ≤ q) (nW dA Q1 ea eb pr mk ct wy pt wc wd kn bp bs ++ mW dA dZ Q2 th ea eb pc mm) := hD
  have hx := X.1.1
  have hb := X.1.2.1
  have hown := X.1.2.2.2.1
  have hts := X.1.2.2.2.2
  have hA : ∀ q : Nat, s.heap.size ≤ q → (fun q : Nat => s.heap.size ≤ q) q := fun _ h => h
  have hbA : ¬ (fun q : Nat => s.heap.size ≤ q) b := Nat.not_le.mpr hbl
  refine lv_aload_n hx hb dL_law_209 rfl (lv_at hl 1 rfl) ?_
  refine s_calliV (rest := []) (wr := mW dA dZ Q2 th ea eb pc mm) X (net_least l dC dI dA dZ Q1 ea eb pr mk ct wy pt wc wd kn bp bs  hI) (cwV 0 hts (lw_V q84 q85 q86 q17 q87) rfl rfl rfl (by decide +kernel) ⟨Nat.le_of_ble_eq_true rfl, Nat.le_of_ble_eq_true rfl⟩) ⟨Nat.le_of_ble_eq_true rfl, Nat.le_of_ble_eq_true rfl⟩ hP hD hS hA [0, 1, 2, 3, 4, 5, 6, 7] [8, 9, 10, 11, 12, 13] rfl rfl rfl rfl (by decide) 0 rfl rfl rfl hl.1 rfl rfl (Nat.le_of_ble_eq_true rfl) dL_law_210 (fun r1 u1 H locs hp1 hP hD hS => ?_)
  obtain ⟨hs1, hI1⟩ := hp1
  have hP : va_P (dC, dI) vwCl (mW dA dZ Q2 th ea eb pc mm ++ nWu dA Q1 u1) H := hP
  have hD : va_D (fun q : Nat => s.heap.size ≤ q) (mW dA dZ Q2 th ea eb pc mm ++ nWu dA Q1 u1) := hD
  refine lv_aload_n hx hb dL_law_213 rfl (lv_at hl 2 rfl) ?_
  refine s_calliV (rest := [.int r1]) (wr := nWu dA Q1 u1) X (mod_least l dC dI dA dZ Q2 th ea eb pc mm  hea heb pr mk hpr hmk hR) (cwV 0 hts (lw_V q187 q188 q189 q18 q190) rfl rfl rfl (by decide +kernel) ⟨Nat.le_of_ble_eq_true rfl, Nat.le_of_ble_eq_true rfl⟩) ⟨Nat.le_of_ble_eq_true rfl, Nat.le_of_ble_eq_true rfl⟩ hP hD hS hA [0, 1, 2, 3, 4, 5] [6, 7, 8, 9, 10, 11, 12, 13] rfl rfl rfl rfl (by decide) 1 rfl rfl rfl hl.1 rfl rfl (Nat.le_of_ble_eq_true rfl) dL_law_214 (fun r2 v2 H locs hp2 hP hD hS => ?_)
  obtain ⟨A2, hs2, hm2⟩ := hp2
  obtain ⟨er, eA⟩ := sp_least_u hs1 hs2
  refine lv_icmp_eq (tgt := 347) hx hb dL_law_217 (by decide) (fun c_9 => ?_) (fun c_9 => absurd er c_9)
  exact K u1 v2 _ _ _ hI1 (by rw [eA]; exact hm2) ⟨hP, hD, hS⟩ hl

set_option maxHeartbeats 4000000 in
set_option maxRecDepth 100000 in
theorem law_chosen (X : Cx p c cL_law 4 s m #[Value.ref b] R_law dC dI (tyz dA dZ)) (hX : va_X b L xs s s.heap) (hbl : b < s.heap.size) (hL : L ≤ 320) (hi : i + 5 ≤ L)
    (K : ∀ (u : nS) (v : mS) (H : Heap) (locs : List Loc) (ls : Array Slot), nIvU u → mIv (nAb u) v → sWd dC dI (fun q : Nat => s.heap.size ≤ q) s.heap (nWu dA Q1 u ++ mWv dA dZ Q2 v) H locs → lv_has ls 4 [(0, .ref b), (1, .ref (Q1 0)), (2, .ref (Q2 0)), (3, .int (nI i))] → W p l e room_1 s m #[Value.ref b] below meth c H locs 14 608 Qp (F0 m 347 ls []))
    (u : nS) (v : mS) (H : Heap) (locs : List Loc) (ls : Array Slot) (hI : nIvU u) (hv : mIv (nAb u) v) (hW : sWd dC dI (fun q : Nat => s.heap.size ≤ q) s.heap (nWu dA Q1 u ++ mWv dA dZ Q2 v) H locs) (hl : lv_has ls 4 [(0, .ref b), (1, .ref (Q1 0)), (2, .ref (Q2 0)), (3, .int (nI i))]) : W p l e room_1 s m #[Value.ref b] below meth c H locs 14 608 Qp (F0 m 222 ls []) := by
  obtain ⟨th, pc, mm, rfl, hR⟩ := mIv_split hv
  obtain ⟨ea, eb, pr, mk, ct, wy, pt, wc, wd, kn, bp, bs⟩ := u
  have hR : mRel pr mk th pc mm := hR
  have hI : nIv ea eb pr mk ct wy pt wd kn bp bs := hI
  have hI9 := hI
  obtain ⟨hea, heb, hpr, hmk, -, -, -, -, -, -⟩ := hI9
  obtain ⟨hP, hD, hS⟩ := hW
  have hP : va_P (dC, dI) vwCl (nW dA Q1 ea eb pr mk ct wy pt wc wd kn bp bs ++ mW dA dZ Q2 th ea eb pc mm) H := hP
  have hD : va_D (fun q : Nat => s.heap.size ≤ q) (nW dA Q1 ea eb pr mk ct wy pt wc wd kn bp bs ++ mW dA dZ Q2 th ea eb pc mm) := hD
  have hx := X.1.1
  have hb := X.1.2.1
  have hown := X.1.2.2.2.1
  have hts := X.1.2.2.2.2
  have hA : ∀ q : Nat, s.heap.size ≤ q → (fun q : Nat => s.heap.size ≤ q) q := fun _ h => h
  have hbA : ¬ (fun q : Nat => s.heap.size ≤ q) b := Nat.not_le.mpr hbl
  refine lv_aload_n hx hb dL_law_222 rfl (lv_at hl 1 rfl) ?_
  refine lv_aload_n hx hb dL_law_223 rfl (lv_at hl 0 rfl) ?_
  refine lv_iload_n hx hb dL_law_224 rfl (lv_at hl 3 rfl) ?_
  refine lv_iconst (v := nI 1) hx hb dL_law_225 (by decide) ?_
  refine lv_iadd hx hb dL_law_226 ?_
  refine s_top (nI (i + 1)) (nI_add _ _) ?_
  refine s_sld X hX hbl hbA hS hL (k := i + 1) (by omega) dL_law_227 ?_
  refine s_calliV (rest := []) (wr := mW dA dZ Q2 th ea eb pc mm) X (net_chosen l dC dI dA dZ Q1 ea eb pr mk ct wy pt wc wd kn bp bs (xs (i + 1)) hI) (cwV 1 hts (lw_V q125 q126 q127 q17 q128) rfl rfl rfl (by decide +kernel) ⟨Nat.le_of_ble_eq_true rfl, Nat.le_of_ble_eq_true rfl⟩) ⟨Nat.le_of_ble_eq_true rfl, Nat.le_of_ble_eq_true rfl⟩ hP hD hS hA [0, 1, 2, 3, 4, 5, 6, 7] [8, 9, 10, 11, 12, 13] rfl rfl rfl rfl (by decide) 0 rfl rfl rfl hl.1 rfl rfl (Nat.le_of_ble_eq_true rfl) dL_law_228 (fun r1 u1 H locs hp1 hP hD hS => ?_)
  obtain ⟨hs1, hI1⟩ := hp1
  have hP : va_P (dC, dI) vwCl (mW dA dZ Q2 th ea eb pc mm ++ nWu dA Q1 u1) H := hP
  have hD : va_D (fun q : Nat => s.heap.size ≤ q) (mW dA dZ Q2 th ea eb pc mm ++ nWu dA Q1 u1) := hD
  refine lv_aload_n hx hb dL_law_231 rfl (lv_at hl 2 rfl) ?_
  refine lv_aload_n hx hb dL_law_232 rfl (lv_at hl 0 rfl) ?_
  refine lv_iload_n hx hb dL_law_233 rfl (lv_at hl 3 rfl) ?_
  refine lv_iconst (v := nI 1) hx hb dL_law_234 (by decide) ?_
  refine lv_iadd hx hb dL_law_235 ?_
  refine s_top (nI (i + 1)) (nI_add _ _) ?_
  refine s_sld X hX hbl hbA hS hL (k := i + 1) (by omega) dL_law_236 ?_
  refine s_calliV (rest := [.int r1]) (wr := nWu dA Q1 u1) X (mod_chosen l dC dI dA dZ Q2 th ea eb pc mm (xs (i + 1)) hea heb pr mk hpr hmk hR) (cwV 1 hts (lw_V q211 q212 q213 q18 q214) rfl rfl rfl (by decide +kernel) ⟨Nat.le_of_ble_eq_true rfl, Nat.le_of_ble_eq_true rfl⟩) ⟨Nat.le_of_ble_eq_true rfl, Nat.le_of_ble_eq_true rfl⟩ hP hD hS hA [0, 1, 2, 3, 4, 5] [6, 7, 8, 9, 10, 11, 12, 13] rfl rfl rfl rfl (by decide) 1 rfl rfl rfl hl.1 rfl rfl (Nat.le_of_ble_eq_true rfl) dL_law_237 (fun r2 v2 H locs hp2 hP hD hS => ?_)
  obtain ⟨A2, hs2, hm2⟩ := hp2
  obtain ⟨er, eA⟩ := sp_chosen_u hs1 hs2
  refine lv_icmp_eq (tgt := 347) hx hb dL_law_240 (by decide) (fun c_9 => ?_) (fun c_9 => absurd er c_9)
  exact K u1 v2 _ _ _ hI1 (by rw [eA]; exact hm2) ⟨hP, hD, hS⟩ hl

set_option maxHeartbeats 4000000 in
set_option maxRecDepth 100000 in
theorem law_with (X : Cx p c cL_law 4 s m #[Value.ref b] R_law dC dI (tyz dA dZ)) (hX : va_X b L xs s s.heap) (hbl : b < s.heap.size) (hL : L ≤ 320) (hi : i + 5 ≤ L)
    (K : ∀ (u : nS) (v : mS) (H : Heap) (locs : List Loc) (ls : Array Slot), nIvU u → mIv (nAb u) v → sWd dC dI (fun q : Nat => s.heap.size ≤ q) s.heap (nWu dA Q1 u ++ mWv dA dZ Q2 v) H locs → lv_has ls 4 [(0, .ref b), (1, .ref (Q1 0)), (2, .ref (Q2 0)), (3, .int (nI i))] → W p l e room_1 s m #[Value.ref b] below meth c H locs 14 608 Qp (F0 m 347 ls []))
    (u : nS) (v : mS) (H : Heap) (locs : List Loc) (ls : Array Slot) (hI : nIvU u) (hv : mIv (nAb u) v) (hW : sWd dC dI (fun q : Nat => s.heap.size ≤ q) s.heap (nWu dA Q1 u ++ mWv dA dZ Q2 v) H locs) (hl : lv_has ls 4 [(0, .ref b), (1, .ref (Q1 0)), (2, .ref (Q2 0)), (3, .int (nI i))]) : W p l e room_1 s m #[Value.ref b] below meth c H locs 14 608 Qp (F0 m 245 ls []) := by
  obtain ⟨th, pc, mm, rfl, hR⟩ := mIv_split hv
  obtain ⟨ea, eb, pr, mk, ct, wy, pt, wc, wd, kn, bp, bs⟩ := u
  have hR : mRel pr mk th pc mm := hR
  have hI : nIv ea eb pr mk ct wy pt wd kn bp bs := hI
  have hI9 := hI
  obtain ⟨hea, heb, hpr, hmk, -, -, -, -, -, -⟩ := hI9
  obtain ⟨hP, hD, hS⟩ := hW
  have hP : va_P (dC, dI) vwCl (nW dA Q1 ea eb pr mk ct wy pt wc wd kn bp bs ++ mW dA dZ Q2 th ea eb pc mm) H := hP
  have hD : va_D (fun q : Nat => s.heap.size ≤ q) (nW dA Q1 ea eb pr mk ct wy pt wc wd kn bp bs ++ mW dA dZ Q2 th ea eb pc mm) := hD
  have hx := X.1.1
  have hb := X.1.2.1
  have hown := X.1.2.2.2.1
  have hts := X.1.2.2.2.2
  have hA : ∀ q : Nat, s.heap.size ≤ q → (fun q : Nat => s.heap.size ≤ q) q := fun _ h => h
  have hbA : ¬ (fun q : Nat => s.heap.size ≤ q) b := Nat.not_le.mpr hbl
  refine lv_aload_n hx hb dL_law_245 rfl (lv_at hl 1 rfl) ?_
  refine lv_aload_n hx hb dL_law_246 rfl (lv_at hl 0 rfl) ?_
  refine lv_iload_n hx hb dL_law_247 rfl (lv_at hl 3 rfl) ?_
  refine lv_iconst (v := nI 1) hx hb dL_law_248 (by decide) ?_
  refine lv_iadd hx hb dL_law_249 ?_
  refine s_top (nI (i + 1)) (nI_add _ _) ?_
  refine s_sld X hX hbl hbA hS hL (k := i + 1) (by omega) dL_law_250 ?_
  refine s_calliV (rest := []) (wr := mW dA dZ Q2 th ea eb pc mm) X (net_with l dC dI dA dZ Q1 ea eb pr mk ct wy pt wc wd kn bp bs (xs (i + 1)) hI) (cwV 1 hts (lw_V q129 q130 q131 q17 q132) rfl rfl rfl (by decide +kernel) ⟨Nat.le_of_ble_eq_true rfl, Nat.le_of_ble_eq_true rfl⟩) ⟨Nat.le_of_ble_eq_true rfl, Nat.le_of_ble_eq_true rfl⟩ hP hD hS hA [0, 1, 2, 3, 4, 5, 6, 7] [8, 9, 10, 11, 12, 13] rfl rfl rfl rfl (by decide) 0 rfl rfl rfl hl.1 rfl rfl (Nat.le_of_ble_eq_true rfl) dL_law_251 (fun r1 u1 H locs hp1 hP hD hS => ?_)
  obtain ⟨hs1, hI1⟩ := hp1
  have hP : va_P (dC, dI) vwCl (mW dA dZ Q2 th ea eb pc mm ++ nWu dA Q1 u1) H := hP
  have hD : va_D (fun q : Nat => s.heap.size ≤ q) (mW dA dZ Q2 th ea eb pc mm ++ nWu dA Q1 u1) := hD
  refine lv_aload_n hx hb dL_law_254 rfl (lv_at hl 2 rfl) ?_
  refine lv_aload_n hx hb dL_law_255 rfl (lv_at hl 0 rfl) ?_
  refine lv_iload_n hx hb dL_law_256 rfl (lv_at hl 3 rfl) ?_
  refine lv_iconst (v := nI 1) hx hb dL_law_257 (by decide) ?_
  refine lv_iadd hx hb dL_law_258 ?_
  refine s_top (nI (i + 1)) (nI_add _ _) ?_
  refine s_sld X hX hbl hbA hS hL (k := i + 1) (by omega) dL_law_259 ?_
  refine s_calliV (rest := [.int r1]) (wr := nWu dA Q1 u1) X (mod_with l dC dI dA dZ Q2 th ea eb pc mm (xs (i + 1)) hea heb pr mk hpr hmk hR) (cwV 1 hts (lw_V q215 q216 q217 q18 q218) rfl rfl rfl (by decide +kernel) ⟨Nat.le_of_ble_eq_true rfl, Nat.le_of_ble_eq_true rfl⟩) ⟨Nat.le_of_ble_eq_true rfl, Nat.le_of_ble_eq_true rfl⟩ hP hD hS hA [0, 1, 2, 3, 4, 5] [6, 7, 8, 9, 10, 11, 12, 13] rfl rfl rfl rfl (by decide) 1 rfl rfl rfl hl.1 rfl rfl (Nat.le_of_ble_eq_true rfl) dL_law_260 (fun r2 v2 H locs hp2 hP hD hS => ?_)
  obtain ⟨A2, hs2, hm2⟩ := hp2
  obtain ⟨er, eA⟩ := sp_with_u hs1 hs2
  refine lv_icmp_eq (tgt := 347) hx hb dL_law_263 (by decide) (fun c_9 => ?_) (fun c_9 => absurd er c_9)
  exact K u1 v2 _ _ _ hI1 (by rw [eA]; exact hm2) ⟨hP, hD, hS⟩ hl

set_option maxHeartbeats 4000000 in
set_option maxRecDepth 100000 in
theorem law_without (X : Cx p c cL_law 4 s m #[Value.ref b] R_law dC dI (tyz dA dZ)) (hX : va_X b L xs s s.heap) (hbl : b < s.heap.size) (hL : L ≤ 320) (hi : i + 5 ≤ L)
    (K : ∀ (u : nS) (v : mS) (H : Heap) (locs : List Loc) (ls : Array Slot), nIvU u → mIv (nAb u) v → sWd dC dI (fun q : Nat => s.heap.size ≤ q) s.heap (nWu dA Q1 u ++ mWv dA dZ Q2 v) H locs → lv_has ls 4 [(0, .ref b), (1, .ref (Q1 0)), (2, .ref (Q2 0)), (3, .int (nI i))] → W p l e room_1 s m #[Value.ref b] below meth c H locs 14 608 Qp (F0 m 347 ls []))
    (u : nS) (v : mS) (H : Heap) (locs : List Loc) (ls : Array Slot) (hI : nIvU u) (hv : mIv (nAb u) v) (hW : sWd dC dI (fun q : Nat => s.heap.size ≤ q) s.heap (nWu dA Q1 u ++ mWv dA dZ Q2 v) H locs) (hl : lv_has ls 4 [(0, .ref b), (1, .ref (Q1 0)), (2, .ref (Q2 0)), (3, .int (nI i))]) : W p l e room_1 s m #[Value.ref b] below meth c H locs 14 608 Qp (F0 m 268 ls []) := by
  obtain ⟨th, pc, mm, rfl, hR⟩ := mIv_split hv
  obtain ⟨ea, eb, pr, mk, ct, wy, pt, wc, wd, kn, bp, bs⟩ := u
  have hR : mRel pr mk th pc mm := hR
  have hI : nIv ea eb pr mk ct wy pt wd kn bp bs := hI
  have hI9 := hI
  obtain ⟨hea, heb, hpr, hmk, -, -, -, -, -, -⟩ := hI9
  obtain ⟨hP, hD, hS⟩ := hW
  have hP : va_P (dC, dI) vwCl (nW dA Q1 ea eb pr mk ct wy pt wc wd kn bp bs ++ mW dA dZ Q2 th ea eb pc mm) H := hP
  have hD : va_D (fun q : Nat => s.heap.size ≤ q) (nW dA Q1 ea eb pr mk ct wy pt wc wd kn bp bs ++ mW dA dZ Q2 th ea eb pc mm) := hD
  have hx := X.1.1
  have hb := X.1.2.1
  have hown := X.1.2.2.2.1
  have hts := X.1.2.2.2.2
  have hA : ∀ q : Nat, s.heap.size ≤ q → (fun q : Nat => s.heap.size ≤ q) q := fun _ h => h
  have hbA : ¬ (fun q : Nat => s.heap.size ≤ q) b := Nat.not_le.mpr hbl
  refine lv_aload_n hx hb dL_law_268 rfl (lv_at hl 1 rfl) ?_
  refine lv_aload_n hx hb dL_law_269 rfl (lv_at hl 0 rfl) ?_
  refine lv_iload_n hx hb dL_law_270 rfl (lv_at hl 3 rfl) ?_
  refine lv_iconst (v := nI 1) hx hb dL_law_271 (by decide) ?_
  refine lv_iadd hx hb dL_law_272 ?_
  refine s_top (nI (i + 1)) (nI_add _ _) ?_
  refine s_sld X hX hbl hbA hS hL (k := i + 1) (by omega) dL_law_273 ?_
  refine s_calliV (rest := []) (wr := mW dA dZ Q2 th ea eb pc mm) X (net_without l dC dI dA dZ Q1 ea eb pr mk ct wy pt wc wd kn bp bs (xs (i + 1)) hI) (cwV 1 hts (lw_V q133 q134 q135 q17 q136) rfl rfl rfl (by decide +kernel) ⟨Nat.le_of_ble_eq_true rfl, Nat.le_of_ble_eq_true rfl⟩) ⟨Nat.le_of_ble_eq_true rfl, Nat.le_of_ble_eq_true rfl⟩ hP hD hS hA [0, 1, 2, 3, 4, 5, 6, 7] [8, 9, 10, 11, 12, 13] rfl rfl rfl rfl (by decide) 0 rfl rfl rfl hl.1 rfl rfl (Nat.le_of_ble_eq_true rfl) dL_law_274 (fun r1 u1 H locs hp1 hP hD hS => ?_)
  obtain ⟨hs1, hI1⟩ := hp1
  have hP : va_P (dC, dI) vwCl (mW dA dZ Q2 th ea eb pc mm ++ nWu dA Q1 u1) H := hP
  have hD : va_D (fun q : Nat => s.heap.size ≤ q) (mW dA dZ Q2 th ea eb pc mm ++ nWu dA Q1 u1) := hD
  refine lv_aload_n hx hb dL_law_277 rfl (lv_at hl 2 rfl) ?_
  refine lv_aload_n hx hb dL_law_278 rfl (lv_at hl 0 rfl) ?_
  refine lv_iload_n hx hb dL_law_279 rfl (lv_at hl 3 rfl) ?_
  refine lv_iconst (v := nI 1) hx hb dL_law_280 (by decide) ?_
  refine lv_iadd hx hb dL_law_281 ?_
  refine s_top (nI (i + 1)) (nI_add _ _) ?_
  refine s_sld X hX hbl hbA hS hL (k := i + 1) (by omega) dL_law_282 ?_
  refine s_calliV (rest := [.int r1]) (wr := nWu dA Q1 u1) X (mod_without l dC dI dA dZ Q2 th ea eb pc mm (xs (i + 1)) hea heb pr mk hpr hmk hR) (cwV 1 hts (lw_V q219 q220 q221 q18 q222) rfl rfl rfl (by decide +kernel) ⟨Nat.le_of_ble_eq_true rfl, Nat.le_of_ble_eq_true rfl⟩) ⟨Nat.le_of_ble_eq_true rfl, Nat.le_of_ble_eq_true rfl⟩ hP hD hS hA [0, 1, 2, 3, 4, 5] [6, 7, 8, 9, 10, 11, 12, 13] rfl rfl rfl rfl (by decide) 1 rfl rfl rfl hl.1 rfl rfl (Nat.le_of_ble_eq_true rfl) dL_law_283 (fun r2 v2 H locs hp2 hP hD hS => ?_)
  obtain ⟨A2, hs2, hm2⟩ := hp2
  obtain ⟨er, eA⟩ := sp_without_u hs1 hs2
  refine lv_icmp_eq (tgt := 347) hx hb dL_law_286 (by decide) (fun c_9 => ?_) (fun c_9 => absurd er c_9)
  exact K u1 v2 _ _ _ hI1 (by rw [eA]; exact hm2) ⟨hP, hD, hS⟩ hl

set_option maxHeartbeats 4000000 in
set_option maxRecDepth 100000 in
theorem law_including (X : Cx p c cL_law 4 s m #[Value.ref b] R_law dC dI (tyz dA dZ)) (hX : va_X b L xs s s.heap) (hbl : b < s.heap.size) (hL : L ≤ 320) (hi : i + 5 ≤ L)
    (K : ∀ (u : nS) (v : mS) (H : Heap) (locs : List Loc) (ls : Array Slot), nIvU u → mIv (nAb u) v → sWd dC dI (fun q : Nat => s.heap.size ≤ q) s.heap (nWu dA Q1 u ++ mWv dA dZ Q2 v) H locs → lv_has ls 4 [(0, .ref b), (1, .ref (Q1 0)), (2, .ref (Q2 0)), (3, .int (nI i))] → W p l e room_1 s m #[Value.ref b] below meth c H locs 14 608 Qp (F0 m 347 ls []))
    (u : nS) (v : mS) (H : Heap) (locs : List Loc) (ls : Array Slot) (hI : nIvU u) (hv : mIv (nAb u) v) (hW : sWd dC dI (fun q : Nat => s.heap.size ≤ q) s.heap (nWu dA Q1 u ++ mWv dA dZ Q2 v) H locs) (hl : lv_has ls 4 [(0, .ref b), (1, .ref (Q1 0)), (2, .ref (Q2 0)), (3, .int (nI i))]) : W p l e room_1 s m #[Value.ref b] below meth c H locs 14 608 Qp (F0 m 291 ls []) := by
  obtain ⟨th, pc, mm, rfl, hR⟩ := mIv_split hv
  obtain ⟨ea, eb, pr, mk, ct, wy, pt, wc, wd, kn, bp, bs⟩ := u
  have hR : mRel pr mk th pc mm := hR
  have hI : nIv ea eb pr mk ct wy pt wd kn bp bs := hI
  have hI9 := hI
  obtain ⟨hea, heb, hpr, hmk, -, -, -, -, -, -⟩ := hI9
  obtain ⟨hP, hD, hS⟩ := hW
  have hP : va_P (dC, dI) vwCl (nW dA Q1 ea eb pr mk ct wy pt wc wd kn bp bs ++ mW dA dZ Q2 th ea eb pc mm) H := hP
  have hD : va_D (fun q : Nat => s.heap.size ≤ q) (nW dA Q1 ea eb pr mk ct wy pt wc wd kn bp bs ++ mW dA dZ Q2 th ea eb pc mm) := hD
  have hx := X.1.1
  have hb := X.1.2.1
  have hown := X.1.2.2.2.1
  have hts := X.1.2.2.2.2
  have hA : ∀ q : Nat, s.heap.size ≤ q → (fun q : Nat => s.heap.size ≤ q) q := fun _ h => h
  have hbA : ¬ (fun q : Nat => s.heap.size ≤ q) b := Nat.not_le.mpr hbl
  refine lv_aload_n hx hb dL_law_291 rfl (lv_at hl 1 rfl) ?_
  refine lv_aload_n hx hb dL_law_292 rfl (lv_at hl 0 rfl) ?_
  refine lv_iload_n hx hb dL_law_293 rfl (lv_at hl 3 rfl) ?_
  refine lv_iconst (v := nI 1) hx hb dL_law_294 (by decide) ?_
  refine lv_iadd hx hb dL_law_295 ?_
  refine s_top (nI (i + 1)) (nI_add _ _) ?_
  refine s_sld X hX hbl hbA hS hL (k := i + 1) (by omega) dL_law_296 ?_
  refine s_calliV (rest := []) (wr := mW dA dZ Q2 th ea eb pc mm) X (net_including l dC dI dA dZ Q1 ea eb pr mk ct wy pt wc wd kn bp bs (xs (i + 1)) hI) (cwV 1 hts (lw_V q137 q138 q139 q17 q140) rfl rfl rfl (by decide +kernel) ⟨Nat.le_of_ble_eq_true rfl, Nat.le_of_ble_eq_true rfl⟩) ⟨Nat.le_of_ble_eq_true rfl, Nat.le_of_ble_eq_true rfl⟩ hP hD hS hA [0, 1, 2, 3, 4, 5, 6, 7] [8, 9, 10, 11, 12, 13] rfl rfl rfl rfl (by decide) 0 rfl rfl rfl hl.1 rfl rfl (Nat.le_of_ble_eq_true rfl) dL_law_297 (fun r1 u1 H locs hp1 hP hD hS => ?_)
  obtain ⟨hs1, hI1⟩ := hp1
  have hP : va_P (dC, dI) vwCl (mW dA dZ Q2 th ea eb pc mm ++ nWu dA Q1 u1) H := hP
  have hD : va_D (fun q : Nat => s.heap.size ≤ q) (mW dA dZ Q2 th ea eb pc mm ++ nWu dA Q1 u1) := hD
  refine lv_aload_n hx hb dL_law_300 rfl (lv_at hl 2 rfl) ?_
  refine lv_aload_n hx hb dL_law_301 rfl (lv_at hl 0 rfl) ?_
  refine lv_iload_n hx hb dL_law_302 rfl (lv_at hl 3 rfl) ?_
  refine lv_iconst (v := nI 1) hx hb dL_law_303 (by decide) ?_
  refine lv_iadd hx hb dL_law_304 ?_
  refine s_top (nI (i + 1)) (nI_add _ _) ?_
  refine s_sld X hX hbl hbA hS hL (k := i + 1) (by omega) dL_law_305 ?_
  refine s_calliV (rest := [.int r1]) (wr := nWu dA Q1 u1) X (mod_including l dC dI dA dZ Q2 th ea eb pc mm (xs (i + 1)) hea heb pr mk hpr hmk hR) (cwV 1 hts (lw_V q223 q224 q225 q18 q226) rfl rfl rfl (by decide +kernel) ⟨Nat.le_of_ble_eq_true rfl, Nat.le_of_ble_eq_true rfl⟩) ⟨Nat.le_of_ble_eq_true rfl, Nat.le_of_ble_eq_true rfl⟩ hP hD hS hA [0, 1, 2, 3, 4, 5] [6, 7, 8, 9, 10, 11, 12, 13] rfl rfl rfl rfl (by decide) 1 rfl rfl rfl hl.1 rfl rfl (Nat.le_of_ble_eq_true rfl) dL_law_306 (fun r2 v2 H locs hp2 hP hD hS => ?_)
  obtain ⟨A2, hs2, hm2⟩ := hp2
  obtain ⟨er, eA⟩ := sp_including_u hs1 hs2
  refine lv_icmp_eq (tgt := 347) hx hb dL_law_309 (by decide) (fun c_9 => ?_) (fun c_9 => absurd er c_9)
  exact K u1 v2 _ _ _ hI1 (by rw [eA]; exact hm2) ⟨hP, hD, hS⟩ hl

set_option maxHeartbeats 4000000 in
set_option maxRecDepth 100000 in
theorem law_between (X : Cx p c cL_law 4 s m #[Value.ref b] R_law dC dI (tyz dA dZ)) (hX : va_X b L xs s s.heap) (hbl : b < s.heap.size) (hL : L ≤ 320) (hi : i + 5 ≤ L)
    (K : ∀ (u : nS) (v : mS) (H : Heap) (locs : List Loc) (ls : Array Slot), nIvU u → mIv (nAb u) v → sWd dC dI (fun q : Nat => s.heap.size ≤ q) s.heap (nWu dA Q1 u ++ mWv dA dZ Q2 v) H locs → lv_has ls 4 [(0, .ref b), (1, .ref (Q1 0)), (2, .ref (Q2 0)), (3, .int (nI i))] → W p l e room_1 s m #[Value.ref b] below meth c H locs 14 608 Qp (F0 m 347 ls []))
    (u : nS) (v : mS) (H : Heap) (locs : List Loc) (ls : Array Slot) (hI : nIvU u) (hv : mIv (nAb u) v) (hW : sWd dC dI (fun q : Nat => s.heap.size ≤ q) s.heap (nWu dA Q1 u ++ mWv dA dZ Q2 v) H locs) (hl : lv_has ls 4 [(0, .ref b), (1, .ref (Q1 0)), (2, .ref (Q2 0)), (3, .int (nI i))]) : W p l e room_1 s m #[Value.ref b] below meth c H locs 14 608 Qp (F0 m 314 ls []) := by
  obtain ⟨th, pc, mm, rfl, hR⟩ := mIv_split hv
  obtain ⟨ea, eb, pr, mk, ct, wy, pt, wc, wd, kn, bp, bs⟩ := u
  have hR : mRel pr mk th pc mm := hR
  have hI : nIv ea eb pr mk ct wy pt wd kn bp bs := hI
  have hI9 := hI
  obtain ⟨hea, heb, hpr, hmk, -, -, -, -, -, -⟩ := hI9
  obtain ⟨hP, hD, hS⟩ := hW
  have hP : va_P (dC, dI) vwCl (nW dA Q1 ea eb pr mk ct wy pt wc wd kn bp bs ++ mW dA dZ Q2 th ea eb pc mm) H := hP
  have hD : va_D (fun q : Nat => s.heap.size ≤ q) (nW dA Q1 ea eb pr mk ct wy pt wc wd kn bp bs ++ mW dA dZ Q2 th ea eb pc mm) := hD
  have hx := X.1.1
  have hb := X.1.2.1
  have hown := X.1.2.2.2.1
  have hts := X.1.2.2.2.2
  have hA : ∀ q : Nat, s.heap.size ≤ q → (fun q : Nat => s.heap.size ≤ q) q := fun _ h => h
  have hbA : ¬ (fun q : Nat => s.heap.size ≤ q) b := Nat.not_le.mpr hbl
  refine lv_aload_n hx hb dL_law_314 rfl (lv_at hl 1 rfl) ?_
  refine lv_aload_n hx hb dL_law_315 rfl (lv_at hl 0 rfl) ?_
  refine lv_iload_n hx hb dL_law_316 rfl (lv_at hl 3 rfl) ?_
  refine lv_iconst (v := nI 1) hx hb dL_law_317 (by decide) ?_
  refine lv_iadd hx hb dL_law_318 ?_
  refine s_top (nI (i + 1)) (nI_add _ _) ?_
  refine s_sld X hX hbl hbA hS hL (k := i + 1) (by omega) dL_law_319 ?_
  refine lv_aload_n hx hb dL_law_320 rfl (lv_at hl 0 rfl) ?_
  refine lv_iload_n hx hb dL_law_321 rfl (lv_at hl 3 rfl) ?_
  refine lv_iconst (v := nI 2) hx hb dL_law_322 (by decide) ?_
  refine lv_iadd hx hb dL_law_323 ?_
  refine s_top (nI (i + 2)) (nI_add _ _) ?_
  refine s_sld X hX hbl hbA hS hL (k := i + 2) (by omega) dL_law_324 ?_
  refine s_calliV (rest := []) (wr := mW dA dZ Q2 th ea eb pc mm) X (net_between l dC dI dA dZ Q1 ea eb pr mk ct wy pt wc wd kn bp bs (xs (i + 1)) (xs (i + 2)) hI) (cwV 2 hts (lw_V q141 q142 q143 q17 q144) rfl rfl rfl (by decide +kernel) ⟨Nat.le_of_ble_eq_true rfl, Nat.le_of_ble_eq_true rfl⟩) ⟨Nat.le_of_ble_eq_true rfl, Nat.le_of_ble_eq_true rfl⟩ hP hD hS hA [0, 1, 2, 3, 4, 5, 6, 7] [8, 9, 10, 11, 12, 13] rfl rfl rfl rfl (by decide) 0 rfl rfl rfl hl.1 rfl rfl (Nat.le_of_ble_eq_true rfl) dL_law_325 (fun r1 u1 H locs hp1 hP hD hS => ?_)
  obtain ⟨hs1, hI1⟩ := hp1
  have hP : va_P (dC, dI) vwCl (mW dA dZ Q2 th ea eb pc mm ++ nWu dA Q1 u1) H := hP
  have hD : va_D (fun q : Nat => s.heap.size ≤ q) (mW dA dZ Q2 th ea eb pc mm ++ nWu dA Q1 u1) := hD
  refine lv_aload_n hx hb dL_law_328 rfl (lv_at hl 2 rfl) ?_
  refine lv_aload_n hx hb dL_law_329 rfl (lv_at hl 0 rfl) ?_
  refine lv_iload_n hx hb dL_law_330 rfl (lv_at hl 3 rfl) ?_
  refine lv_iconst (v := nI 1) hx hb dL_law_331 (by decide) ?_
  refine lv_iadd hx hb dL_law_332 ?_
  refine s_top (nI (i + 1)) (nI_add _ _) ?_
  refine s_sld X hX hbl hbA hS hL (k := i + 1) (by omega) dL_law_333 ?_
  refine lv_aload_n hx hb dL_law_334 rfl (lv_at hl 0 rfl) ?_
  refine lv_iload_n hx hb dL_law_335 rfl (lv_at hl 3 rfl) ?_
  refine lv_iconst (v := nI 2) hx hb dL_law_336 (by decide) ?_
  refine lv_iadd hx hb dL_law_337 ?_
  refine s_top (nI (i + 2)) (nI_add _ _) ?_
  refine s_sld X hX hbl hbA hS hL (k := i + 2) (by omega) dL_law_338 ?_
  refine s_calliV (rest := [.int r1]) (wr := nWu dA Q1 u1) X (mod_between l dC dI dA dZ Q2 th ea eb pc mm (xs (i + 1)) (xs (i + 2)) hea heb pr mk hpr hmk hR) (cwV 2 hts (lw_V q227 q228 q229 q18 q230) rfl rfl rfl (by decide +kernel) ⟨Nat.le_of_ble_eq_true rfl, Nat.le_of_ble_eq_true rfl⟩) ⟨Nat.le_of_ble_eq_true rfl, Nat.le_of_ble_eq_true rfl⟩ hP hD hS hA [0, 1, 2, 3, 4, 5] [6, 7, 8, 9, 10, 11, 12, 13] rfl rfl rfl rfl (by decide) 1 rfl rfl rfl hl.1 rfl rfl (Nat.le_of_ble_eq_true rfl) dL_law_339 (fun r2 v2 H locs hp2 hP hD hS => ?_)
  obtain ⟨A2, hs2, hm2⟩ := hp2
  obtain ⟨er, eA⟩ := sp_between_u hs1 hs2
  refine lv_icmp_eq (tgt := 347) hx hb dL_law_342 (by decide) (fun c_9 => ?_) (fun c_9 => absurd er c_9)
  exact K u1 v2 _ _ _ hI1 (by rw [eA]; exact hm2) ⟨hP, hD, hS⟩ hl

end LAW1
end
section
section LAW1
variable {p : Program} {l : Launch} {e : Env} {s : State} {m : MethodId} {below : List Frame} {meth : Method} {c : Code} {Qp : State → Prop} {dC : Nat → ClassId} {dI : Nat → Nat → Nat} {dA dZ : ClassId} {b L i : Nat} {xs : Nat → Int32} {Q1 Q2 : Nat → Nat}
set_option maxHeartbeats 4000000 in
set_option maxRecDepth 100000 in
theorem law_loop (X : Cx p c cL_law 4 s m #[Value.ref b] R_law dC dI (tyz dA dZ)) (hr : meth.sig.returnType = ret) (hlocks : meth.locks = false) (hX : va_X b L xs s s.heap) (hbl : b < s.heap.size) (hL : L ≤ 320) : ∀ (fu i : Nat), i ≤ L → L < i + fu → ∀ (u : nS) (v : mS) (H : Heap) (locs : List Loc) (ls : Array Slot), nIvU u → mIv (nAb u) v → sWd dC dI (fun q : Nat => s.heap.size ≤ q) s.heap (nWu dA Q1 u ++ mWv dA dZ Q2 v) H locs → lv_has ls 4 [(0, .ref b), (1, .ref (Q1 0)), (2, .ref (Q2 0)), (3, .int (nI i))] → W p l e room_1 s m #[Value.ref b] below meth c H locs 14 608 (lw_Z below #[Value.ref b] s) (F0 m 18 ls []) := by
  have hx := X.1.1
  have hb := X.1.2.1
  have hown := X.1.2.2.2.1
  have hts := X.1.2.2.2.2
  have hA : ∀ q : Nat, s.heap.size ≤ q → (fun q : Nat => s.heap.size ≤ q) q := fun _ h => h
  have hbA : ¬ (fun q : Nat => s.heap.size ≤ q) b := Nat.not_le.mpr hbl
  intro fu
  induction fu with
  | zero => intro i h1 h2; omega
  | succ fu ih =>
    intro i h1 h2 u v H locs ls hI hv hW hl
    have hS := hW.2.2
    refine lv_iload_n hx hb dL_law_18 rfl (lv_at hl 3 rfl) ?_
    refine lv_aload_n hx hb dL_law_19 rfl (lv_at hl 0 rfl) ?_
    refine s_slen X hX hbl hbA hS dL_law_20 ?_
    refine lv_iconst (v := nI 5) hx hb dL_law_21 (by decide) ?_
    refine lv_isub hx hb dL_law_22 ?_
    refine lv_icmp_gt (tgt := 353) hx hb dL_law_23 (by decide) (fun c_1 => ?_) (fun c_1 => ?_)
    · refine lv_iconst (v := 1) hx hb dL_law_353 (by decide) ?_
      refine va_forget (fun q hq => hS.2.2 q hq) ?_
      refine W.widen (k := 600000) (n := 7290000) (by decide) (by decide) ?_
      exact lw_ret hx hb hr hlocks dL_law_354
    · have hi5 := s_left hL h1 c_1
      have K : ∀ (u : nS) (v : mS) (H : Heap) (locs : List Loc) (ls : Array Slot), nIvU u → mIv (nAb u) v → sWd dC dI (fun q : Nat => s.heap.size ≤ q) s.heap (nWu dA Q1 u ++ mWv dA dZ Q2 v) H locs → lv_has ls 4 [(0, .ref b), (1, .ref (Q1 0)), (2, .ref (Q2 0)), (3, .int (nI i))] → W p l e room_1 s m #[Value.ref b] below meth c H locs 14 608 (lw_Z below #[Value.ref b] s) (F0 m 347 ls []) := by
        intro u v H locs ls hI hv hW hl
        refine lv_iinc (v := nI (i + 5)) (lv' := [(3, .int (nI (i + 5))), (0, .ref b), (1, .ref (Q1 0)), (2, .ref (Q2 0))]) hx hb dL_law_347 hl (k := 3) rfl (nI_add i 5) (by decide) rfl (fun ls hl => ?_)
        refine lv_goto (tgt := 18) hx hb dL_law_350 (by decide) ?_
        exact ih (i + 5) (by omega) (by omega) u v _ _ _ hI hv hW (lv_sub hl [1, 2, 3, 0] rfl)
      refine lv_aload_n hx hb dL_law_26 rfl (lv_at hl 0 rfl) ?_
      refine lv_iload_n hx hb dL_law_27 rfl (lv_at hl 3 rfl) ?_
      refine s_sld X hX hbl hbA hS hL (k := i) (by omega) dL_law_28 ?_
      refine lv_bipush (v := nI 15) hx hb dL_law_29 (by decide) ?_
      refine lv_iand hx hb dL_law_31 ?_
      obtain ⟨z, hz, ez⟩ := s_and15 (xs i)
      refine s_top (nI z) ez ?_
      by_cases hz9 : 9 ≤ z
      · refine lv_tableOut (tgt := 347) hx hb dL_law_32 (Or.inr (by rw [nI_toInt (by omega)]; omega)) (by decide) ?_
        exact K u v _ _ _ hI hv hW hl
      · rcases (show z = 0 ∨ z = 1 ∨ z = 2 ∨ z = 3 ∨ z = 4 ∨ z = 5 ∨ z = 6 ∨ z = 7 ∨ z = 8 by omega) with rfl | rfl | rfl | rfl | rfl | rfl | rfl | rfl | rfl
        · refine lv_tableIn (off := 52) (tgt := 84) hx hb dL_law_32 (by decide) (by decide) (by decide) (by decide) ?_
          exact law_line X hX hbl hL hi5 K u v _ _ _ hI hv hW hl
        · refine lv_tableIn (off := 105) (tgt := 137) hx hb dL_law_32 (by decide) (by decide) (by decide) (by decide) ?_
          exact law_cut X hX hbl hL hi5 K u v _ _ _ hI hv hW hl
        · refine lv_tableIn (off := 128) (tgt := 160) hx hb dL_law_32 (by decide) (by decide) (by decide) (by decide) ?_
          exact law_mark X hX hbl hL hi5 K u v _ _ _ hI hv hW hl
        · refine lv_tableIn (off := 177) (tgt := 209) hx hb dL_law_32 (by decide) (by decide) (by decide) (by decide) ?_
          exact law_least X hX hbl hL hi5 K u v _ _ _ hI hv hW hl
        · refine lv_tableIn (off := 190) (tgt := 222) hx hb dL_law_32 (by decide) (by decide) (by decide) (by decide) ?_
          exact law_chosen X hX hbl hL hi5 K u v _ _ _ hI hv hW hl
        · refine lv_tableIn (off := 213) (tgt := 245) hx hb dL_law_32 (by decide) (by decide) (by decide) (by decide) ?_
          exact law_with X hX hbl hL hi5 K u v _ _ _ hI hv hW hl
        · refine lv_tableIn (off := 236) (tgt := 268) hx hb dL_law_32 (by decide) (by decide) (by decide) (by decide) ?_
          exact law_without X hX hbl hL hi5 K u v _ _ _ hI hv hW hl
        · refine lv_tableIn (off := 259) (tgt := 291) hx hb dL_law_32 (by decide) (by decide) (by decide) (by decide) ?_
          exact law_including X hX hbl hL hi5 K u v _ _ _ hI hv hW hl
        · refine lv_tableIn (off := 282) (tgt := 314) hx hb dL_law_32 (by decide) (by decide) (by decide) (by decide) ?_
          exact law_between X hX hbl hL hi5 K u v _ _ _ hI hv hW hl

end LAW1
end
section
theorem whole_n0 : nIvU ((fun _ => 0), (fun _ => 0), (fun _ => 0), 0, (fun _ => 0), (fun _ => 0), (fun _ => 0), 0, (fun _ => 0), 0, 0, 0) := by
  have h : ∀ M : Nat, sg_B M (fun _ => 0) := fun M _ => Nat.zero_le M
  exact ⟨fun _ => (by decide : 0 < 7), fun _ => (by decide : 0 < 7), h _, (by decide : 0 < 128), h _, h _, h _, fun _ => (by decide : 0 < 7), (by decide : 0 < 2), fun e => absurd (show (0 : Nat) = 1 from e) (by decide)⟩
theorem whole_m0 : mIv (nAb ((fun _ => 0), (fun _ => 0), (fun _ => 0), 0, (fun _ => 0), (fun _ => 0), (fun _ => 0), 0, (fun _ => 0), 0, 0, 0)) ((fun _ => 0), (fun _ => 0), (fun _ => 0), (fun _ => 0), (fun _ => 0)) := by
  refine ⟨rfl, rfl, fun k hk => rfl, fun k hk e => absurd rfl e, fun p hp => ?_, fun _ => Nat.zero_le _, fun _ => (by decide : 0 < 2), fun _ => (by decide : 0 < 2)⟩
  show 0 = (Nat.testBit 0 p).toNat
  rw [Nat.zero_testBit]; rfl
set_option maxHeartbeats 4000000 in
set_option maxRecDepth 100000 in
theorem whole_start {p : Program} {e : Env} {s : State} {m : MethodId} {below : List Frame} {meth : Method} {c : Code} (l : Launch) {b L : Nat} {xs : Nat → Int32} (hL : L ≤ 320) (C0 : lw_At p s m meth c b L xs) : W p l e room_1 s m #[Value.ref b] below meth c s.heap [] 0 0 (lw_Z below #[Value.ref b] s) (entryFrame m ([Value.ref b] : List Value).toArray 4) := by
  obtain ⟨hx, hb, hr, hml, hown, hts0, hX, hbl, hlocks, hgv⟩ := id C0
  have hts : ∀ w ∈ lw_all, w.before #[Value.ref b] s = true := fun w h => hts0 w (lw_all_tbl h)
  have hA : ∀ q : Nat, s.heap.size ≤ q → (fun q : Nat => s.heap.size ≤ q) q := fun _ h => h
  obtain ⟨c0, iS0, hKn0⟩ := u_known (C := RX0) (T := TX0) (N := 12) (n := 12) hts in_X0 (hts _ q20)
  obtain ⟨c1, iS1, hKn1⟩ := u_known (C := RX1) (T := TX1) (N := 5) (n := 5) hts in_X1 (hts _ q146)
  obtain ⟨dC, dI, hKc⟩ : ∃ (dC : Nat → ClassId) (dI : Nat → Nat → Nat), ∀ (k : Nat) (q : vw_C), vwCl[k]? = some q → u_Kn s q.1 q.2.1 q.2.2 (dC k) (dI k) := by
    refine ⟨fun k => if k = 0 then c0 else c1, fun k => if k = 0 then iS0 else iS1, ?_⟩
    intro k q hq
    match k, hq with
    | 0, hq => cases hq; exact hKn0
    | 1, hq => cases hq; exact hKn1
    | k + 2, hq => simp [vwCl] at hq
  obtain ⟨dA, kA, compA, g1, g2, g3⟩ := Cond.arrayClass_spec (hts _ q64)
  obtain ⟨dZ, kZ, compZ, f1, f2, f3⟩ := Cond.arrayClass_spec (hts _ q167)
  have hK : va_K (dC, dI) vwCl (tyz dA dZ) s := by
    refine ⟨hKc, fun k q hq => ?_⟩
    match k, hq with
    | 0, hq => cases hq; exact ⟨fun n w => ⟨fun k h => (by cases h), kA, g2, compA, g3⟩, g1⟩
    | 1, hq => cases hq; exact ⟨fun n w => ⟨fun k h => (by cases h), kZ, f2, compZ, f3⟩, f1⟩
    | k + 2, hq => simp at hq
  have X : Cx p c cL_law 4 s m #[Value.ref b] R_law dC dI (tyz dA dZ) := ⟨⟨hx, hb, hml, hown, hts⟩, hK⟩
  have hS : va_S (fun q : Nat => s.heap.size ≤ q) s.heap s.heap [] := va_S.rf
  have hP : va_P (dC, dI) vwCl [] s.heap := fun k q h => by simp at h
  have hD : va_D (fun q : Nat => s.heap.size ≤ q) [] := ⟨fun i j p q h => by simp at h, fun k q h => by simp at h⟩
  have hl := lv_entry ([.ref b]) (n := 4) (Nat.le_of_ble_eq_true rfl)
  rw [lg_entry_eq]
  generalize (lg_sl ([.ref b]) ++ List.replicate (4 - (lg_sl ([.ref b])).length) Slot.unset).toArray = ls at hl ⊢
  have hl : lv_has ls 4 [(0, .ref b)] := hl
  refine va_new (ci := 0) (fs := [.null, .null, .null, .int 0, .null, .null, .null, .int 0, .null, .int 0, .int 0, .int 0]) (C := RX0) (T := TX0) (N := 12) hx hb hts in_X0 tyX0 tyX0_ok hown (hts _ q19) (hts _ q20) (hts _ q17) hK hP hD hS hA rfl (fun j hj => by rcases (show j = 0 ∨ j = 1 ∨ j = 2 ∨ j = 3 ∨ j = 4 ∨ j = 5 ∨ j = 6 ∨ j = 7 ∨ j = 8 ∨ j = 9 ∨ j = 10 ∨ j = 11 by omega) with rfl | rfl | rfl | rfl | rfl | rfl | rfl | rfl | rfl | rfl | rfl | rfl <;> rfl) (Nat.le_of_ble_eq_true rfl) (Nat.le_of_ble_eq_true rfl) dL_law_0 (fun q0v H hP hD hS => ?_)
  have hP : va_P (dC, dI) vwCl [(q0v, .inr (0, [.null, .null, .null, .int 0, .null, .null, .null, .int 0, .null, .int 0, .int 0, .int 0]))] H := hP
  have hD : va_D (fun q : Nat => s.heap.size ≤ q) [(q0v, .inr (0, [.null, .null, .null, .int 0, .null, .null, .null, .int 0, .null, .int 0, .int 0, .int 0]))] := hD
  refine W.widen (k := 1) (n := 12) (by decide) (by decide) ?_
  refine lv_dup hx hb dL_law_3 rfl ?_
  have hFc := va_free (wc := [(q0v, .inr (0, [.null, .null, .null, .int 0, .null, .null, .null, .int 0, .null, .int 0, .int 0, .int 0]))]) hD hS hA [0] rfl
  refine va_callv (va_runI (As := []) (rest := [.ref q0v]) ⟨hx, hb, hml, hown, hts⟩ (net_init l dC dI dA dZ q0v H.size) (cwI 0 hts (lw_meth q23) rfl rfl rfl (hts _ q17) (hts _ q21) (hts _ q22) rfl (by decide +kernel) ⟨Nat.le_of_ble_eq_true rfl, Nat.le_of_ble_eq_true rfl⟩) ⟨sPc_blind, fun U hU hW => ⟨rfl, by rw [hU], by rw [hU]; exact hP, va_K.moved hW.alike hK, hD.weaken (fun _ _ _ _ => trivial)⟩⟩ rfl rfl hl.1 rfl (lv_room (Nat.le_of_ble_eq_true rfl)) dL_law_4 ⟨Nat.le_of_ble_eq_true rfl, Nat.le_of_ble_eq_true rfl⟩) hS (fun q _ h => hFc q h) hFc (fun Q1 t H1 locs ht hvm hw hB hz1 hk1 hS => ?_)
  obtain ⟨hP1, hD1⟩ := hB
  rw [ht] at hP1
  obtain ⟨hPn, hDn⟩ := va_join (wr := []) (w1 := nW dA Q1 (fun _ => 0) (fun _ => 0) (fun _ => 0) 0 (fun _ => 0) (fun _ => 0) (fun _ => 0) 0 (fun _ => 0) 0 0 0) hP hD [0] [] rfl rfl (by decide) (by decide) hk1 hFc hP1 hD1
  have hw : Q1 0 = q0v := hw
  subst hw
  generalize H1 = H at hPn hS ⊢
  have hP : va_P (dC, dI) vwCl (nW dA Q1 (fun _ => 0) (fun _ => 0) (fun _ => 0) 0 (fun _ => 0) (fun _ => 0) (fun _ => 0) 0 (fun _ => 0) 0 0 0) H := hPn
  have hD : va_D (fun q : Nat => s.heap.size ≤ q) (nW dA Q1 (fun _ => 0) (fun _ => 0) (fun _ => 0) 0 (fun _ => 0) (fun _ => 0) (fun _ => 0) 0 (fun _ => 0) 0 0 0) := hDn
  refine W.widen (k := 8) (n := 556) (by decide) (by decide) ?_
  refine lv_astore_n (lv' := [(1, .ref (Q1 0)), (0, .ref b)]) hx hb dL_law_7 rfl hl (by decide) rfl (fun ls hl => ?_)
  refine va_new (ci := 1) (fs := [.null, .null, .null, .null, .null]) (C := RX1) (T := TX1) (N := 5) hx hb hts in_X1 tyX1 tyX1_ok hown (hts _ q145) (hts _ q146) (hts _ q18) hK hP hD hS hA rfl (fun j hj => by rcases (show j = 0 ∨ j = 1 ∨ j = 2 ∨ j = 3 ∨ j = 4 by omega) with rfl | rfl | rfl | rfl | rfl <;> rfl) (Nat.le_of_ble_eq_true rfl) (Nat.le_of_ble_eq_true rfl) dL_law_8 (fun q1v H hP hD hS => ?_)
  have hP : va_P (dC, dI) vwCl (nW dA Q1 (fun _ => 0) (fun _ => 0) (fun _ => 0) 0 (fun _ => 0) (fun _ => 0) (fun _ => 0) 0 (fun _ => 0) 0 0 0 ++ [(q1v, .inr (1, [.null, .null, .null, .null, .null]))]) H := hP
  have hD : va_D (fun q : Nat => s.heap.size ≤ q) (nW dA Q1 (fun _ => 0) (fun _ => 0) (fun _ => 0) 0 (fun _ => 0) (fun _ => 0) (fun _ => 0) 0 (fun _ => 0) 0 0 0 ++ [(q1v, .inr (1, [.null, .null, .null, .null, .null]))]) := hD
  refine W.widen (k := 9) (n := 561) (by decide) (by decide) ?_
  refine lv_dup hx hb dL_law_11 rfl ?_
  have hPc := hP.sub (ws' := [(q1v, .inr (1, [.null, .null, .null, .null, .null]))]) [8] rfl
  have hDc := hD.sub (ws' := [(q1v, .inr (1, [.null, .null, .null, .null, .null]))]) [8] (by decide) rfl
  have hFc := va_free (wc := [(q1v, .inr (1, [.null, .null, .null, .null, .null]))]) hD hS hA [8] rfl
  refine va_callv (va_runI (As := []) (rest := [.ref q1v]) ⟨hx, hb, hml, hown, hts⟩ (mod_init l dC dI dA dZ q1v H.size) (cwI 0 hts (lw_meth q149) rfl rfl rfl (hts _ q18) (hts _ q147) (hts _ q148) rfl (by decide +kernel) ⟨Nat.le_of_ble_eq_true rfl, Nat.le_of_ble_eq_true rfl⟩) ⟨sPc_blind, fun U hU hW => ⟨rfl, by rw [hU], by rw [hU]; exact hPc, va_K.moved hW.alike hK, hDc.weaken (fun _ _ _ _ => trivial)⟩⟩ rfl rfl hl.1 rfl (lv_room (Nat.le_of_ble_eq_true rfl)) dL_law_12 ⟨Nat.le_of_ble_eq_true rfl, Nat.le_of_ble_eq_true rfl⟩) hS (fun q _ h => hFc q h) hFc (fun Q2 t H1 locs ht hvm hw hB hz1 hk1 hS => ?_)
  obtain ⟨hP1, hD1⟩ := hB
  rw [ht] at hP1
  obtain ⟨hPn, hDn⟩ := va_join (wr := nW dA Q1 (fun _ => 0) (fun _ => 0) (fun _ => 0) 0 (fun _ => 0) (fun _ => 0) (fun _ => 0) 0 (fun _ => 0) 0 0 0) (w1 := mW dA dZ Q2 (fun _ => 0) (fun _ => 0) (fun _ => 0) (fun _ => 0) (fun _ => 0)) hP hD [8] [0, 1, 2, 3, 4, 5, 6, 7] rfl rfl (by decide) (by decide) hk1 hFc hP1 hD1
  have hw : Q2 0 = q1v := hw
  subst hw
  generalize H1 = H at hPn hS ⊢
  have hP : va_P (dC, dI) vwCl (nW dA Q1 (fun _ => 0) (fun _ => 0) (fun _ => 0) 0 (fun _ => 0) (fun _ => 0) (fun _ => 0) 0 (fun _ => 0) 0 0 0 ++ mW dA dZ Q2 (fun _ => 0) (fun _ => 0) (fun _ => 0) (fun _ => 0) (fun _ => 0)) H := hPn
  have hD : va_D (fun q : Nat => s.heap.size ≤ q) (nW dA Q1 (fun _ => 0) (fun _ => 0) (fun _ => 0) 0 (fun _ => 0) (fun _ => 0) (fun _ => 0) 0 (fun _ => 0) 0 0 0 ++ mW dA dZ Q2 (fun _ => 0) (fun _ => 0) (fun _ => 0) (fun _ => 0) (fun _ => 0)) := hDn
  refine W.widen (k := 14) (n := 608) (by decide) (by decide) ?_
  refine lv_astore_n (lv' := [(2, .ref (Q2 0)), (1, .ref (Q1 0)), (0, .ref b)]) hx hb dL_law_15 rfl hl (by decide) rfl (fun ls hl => ?_)
  refine lv_iconst (v := nI 0) hx hb dL_law_16 (by decide) ?_
  refine lv_istore_n (lv' := [(3, .int (nI 0)), (2, .ref (Q2 0)), (1, .ref (Q1 0)), (0, .ref b)]) hx hb dL_law_17 rfl hl (by decide) rfl (fun ls hl => ?_)
  exact law_loop (Q1 := Q1) (Q2 := Q2) X hr hlocks hX hbl hL (L + 1) 0 (Nat.zero_le L) (by omega) ((fun _ => 0), (fun _ => 0), (fun _ => 0), 0, (fun _ => 0), (fun _ => 0), (fun _ => 0), 0, (fun _ => 0), 0, 0, 0) ((fun _ => 0), (fun _ => 0), (fun _ => 0), (fun _ => 0), (fun _ => 0)) _ _ _ whole_n0 whole_m0 ⟨hP, hD, hS⟩ (lv_sub hl [3, 2, 1, 0] rfl)
end
section
-- ===== YOUR PART ENDS =====
set_option maxHeartbeats 4000000 in
theorem lw_walk (l : Launch) (b : Addr) (xs : List Int32) : MetFree l x (headSpec (Jvm.Cond.code x code maxLocals ret :: tables_1) room_1) (lw_P b xs) (fun _ _ _ _ _ => True) lw_Q := by
  refine MetFree.of_bodyS (code := code) (maxLocals := maxLocals) (ret := ret) (by decide) ?_ ?_
  · intro args s m h hn
    obtain ⟨meth, c, h1, h2, h3, h4, h5, h6, -, -⟩ := Cond.code_spec hn (atoms_spec (ws := Jvm.Cond.code x code maxLocals ret :: tables_1) h _ List.mem_cons_self)
    exact ⟨meth, c, h1, h2, h3, h4, h5, h6⟩
  · intro p e s m args below meth c s₁ B hml0 hP _
    obtain ⟨rfl, hx, hbd, hgv⟩ := hP
    obtain ⟨scr, harrAt, hlist, hof, hsmall⟩ := hx
    obtain ⟨hcb, hkn, -, -⟩ := State.arrayAt?_spec harrAt
    have hown : s.vm.findClass R_law = some m.cls := findClass_of_methodNamed B.named
    have hts0 : ∀ c ∈ (Jvm.Cond.code x code maxLocals ret :: tables_1), c.before #[Value.ref b] s = true := atoms_spec (ws := Jvm.Cond.code x code maxLocals ret :: tables_1) B.pre
    have hts : ∀ w ∈ lw_tbl, w.before #[Value.ref b] s = true := k2_hts_sels lw_privs (fun w hw => hts0 w (List.mem_cons_of_mem _ hw)) lw_privs_ok
    have hml : c.maxLocals = 4 := B.maxLocals_eq (hts0 _ List.mem_cons_self)
    have X₀ : Stand p l e room_1 s m #[Value.ref b] below meth c s₁ [] 0 0 := Stand.of_body B
    have hh0 : s₁.heap = s.heap := by rw [B.state]; rfl
    have hsz : scr.slots.size = xs.length := by rw [← Array.length_toList, hlist, List.length_map]
    have hval : ∀ j : Nat, j < xs.length → scr.slots[j]? = some (.int (xs.getD j 0)) := fun j hj => by
      rw [← Array.getElem?_toList, hlist]
      simp [hj]
    have hbl : b < s.heap.size := (Array.getElem?_eq_some_iff.mp hcb).1
    have hX : va_X b xs.length (fun j => xs.getD j 0) s s.heap := ⟨scr, hcb, hof, hkn, hsz, hval⟩
    have K : W p l e room_1 s m #[Value.ref b] below meth c s₁.heap [] 0 0 (lw_Z below #[Value.ref b] s) (entryFrame m ([Value.ref b] : List Value).toArray 4) := by
      rw [hh0]
      exact whole_start l hbd ⟨B.exec, B.bytes, B.returns, hml, hown, hts, hX, hbl, B.notSynchronized, hgv⟩
    obtain ⟨t, a1, o, b1, b2, b3⟩ := K s₁ rfl X₀
    exact ⟨t, o, a1, b1, b2, b3⟩
theorem lw_pre_spec {args : Array Value} {s : State} (h : (Jvm.Cond.and given_1 narrow_1).before args s = true) (hr : rest_1_c.before args s = true) : ∃ (b : Addr) (xs : List Int32), lw_P b xs args s := by
  have hs := flat_of_before _ h
  have hq := flat_of_before _ hr
  have hc : (Cond.count 1).before args s = true := hs _ (by decide +kernel)
  have harr : (Cond.arrayOf (.arg 0) .int).before args s = true := hs _ (by decide +kernel)
  have hle : (Cond.le (.length (.arg 0)) (.int 320)).before args s = true := hs _ (by decide +kernel)
  have hlen : (Cond.isInt (.length (.arg 0))).before args s = true := hq _ (by decide +kernel)
  have hall : (Cond.all (.arg 0) (.isInt (.elem (.arg 0) (.index 0)))).before args s = true := hq _ (by decide +kernel)
  obtain ⟨b, xs, hb, hx⟩ := State.ints_of_pre rfl harr hlen hall
  have hsm : xs.length < 2 ^ 31 := hx.choose_spec.2.2.2
  have hev : (Term.length (.arg 0)).eval args s none [] s = some (.int xs.length.toInt32) := hx.length_eval hb
  have hv := Cond.le_ints hev (show (Term.int 320).eval args s none [] s = some (.int 320) from rfl)
  have hd : xs.length.toInt32 ≤ 320 := by
    simpa [Cond.before, Cond.holds, hv] using hle
  have hN : xs.length ≤ 320 := (Int32.ofNat_le_ofNat hsm (by decide)).mp (show Int32.ofNat xs.length ≤ Int32.ofNat 320 from hd)
  exact ⟨b, xs, Cond.one_arg hc (show args[0]? = some (.ref b) from hb), hx, hN, h⟩
theorem lw_comes (l : Launch) : Comes l x (Jvm.Cond.code x code maxLocals ret :: tables_1) room_1 (fun tb e args s => Calls_1 tb e args s ∧ rest_1 tb e args s ∧ Pre_1 tb e args s)
    (fun _ _ args s o t => lw_Q args s o t) := by
  intro p e ha hc hk s m args below hf hfit hheap happ hpre
  obtain ⟨b, xs, hP⟩ := lw_pre_spec hpre.2.2 hpre.2.1
  obtain ⟨k, o, h1, h2, h3, hQ⟩ := lw_walk l b xs p e ha hc hk s m args below hf ((Spec.applies_iff_loose hf).mp happ).1 hP trivial
  exact ⟨k, o, h1, h2, h3, hQ⟩
theorem lw_frame {s t : State} {o : Outcome} {args : Array Value} (h : Framed s o t [] 600000 7290000) :
    Framed s o t (fieldLocs frame_1_writes args s ++ arrayLocs frame_1_arrays args s ++ staticLocs frame_1_statics s) 600000 7290000 := h
theorem lw_limb (L : Cond) (hL : ∀ (args : Array Value) (s t : State), L.after args s (.returned (some (.int 1))) t = true) :
    ArmFor flags0 classFile x code maxLocals ret World_1 tables_1 room_1 Calls_1 rest_1 Pre_1
      (fun tb e a s o t => postC L tb e a s o t ∧ Framed s o t (fieldLocs frame_1_writes a s ++ arrayLocs frame_1_arrays a s ++ staticLocs frame_1_statics s) 600000 7290000) := by
  intro l _ _ _ p e ha hc hk s m args below hf hfit hheap happ hpre
  obtain ⟨k, o, h1, h2, h3, rfl, hF⟩ := lw_comes l p e ha hc hk s m args below hf hfit hheap happ hpre
  exact ⟨k, _, h1, h2, h3, hL args s _, lw_frame hF⟩
theorem i_vc : Claimed_1_1 ∧ Claimed_1_2 := ⟨lw_limb limb_1_1 (fun args s t => by simp [limb_1_1, Cond.after, Cond.holds, Cond.value]), lw_limb limb_1_2 (fun args s t => Cond.after_iff.mpr (by
  first | (rw [show limb_1_2 = Cond.eq .result (.int 1) from rfl, Cond.eq_ints (x := 1) (y := 1) rfl rfl]; simp; done) | (simp [limb_1_2, Cond.value, Term.eval]; done)))⟩
end
