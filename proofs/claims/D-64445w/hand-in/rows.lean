section
-- ===== PART A: goes FIRST, ahead of the names: the tables' words, and 'selects' of the private methods out of them =====
/-- a private method of a class that the tables say can be made, by its rows of tables_1 -/
def lw_okq (q : MethodName × Nat) : Prop := (q.1.cls ≠ "java/lang/invoke/MethodHandle" ∧ q.1.cls ≠ "java/lang/invoke/VarHandle") ∧ Cond.instantiable q.1.cls q.2 ∈ tables_1 ∧ Cond.privateMethod q.1 ∈ tables_1 ∧ Cond.instanceMethod q.1 ∈ tables_1
set_option maxRecDepth 100000
theorem lw_t1 {w : Cond} (h : w ∈ tables_1_1) : w ∈ tables_1 := List.mem_append_left _ h
theorem lw_t2 {w : Cond} (h : w ∈ tables_1_2) : w ∈ tables_1 := List.mem_append_right _ h
theorem lw_p0 : lw_okq (⟨"GameValues", "isSet", "(I)Z"⟩, 6) := ⟨⟨by decide +kernel, by decide +kernel⟩, lw_t1 (List.mem_of_getElem? (i := 4) rfl), lw_t1 (List.mem_of_getElem? (i := 37) rfl), lw_t1 (List.mem_of_getElem? (i := 38) rfl)⟩
theorem lw_p1 : lw_okq (⟨"GameValues", "has", "(I)Z"⟩, 6) := ⟨⟨by decide +kernel, by decide +kernel⟩, lw_t1 (List.mem_of_getElem? (i := 4) rfl), lw_t1 (List.mem_of_getElem? (i := 53) rfl), lw_t1 (List.mem_of_getElem? (i := 54) rfl)⟩
theorem lw_p2 : lw_okq (⟨"GameValues", "movesOf", "(II)I"⟩, 6) := ⟨⟨by decide +kernel, by decide +kernel⟩, lw_t1 (List.mem_of_getElem? (i := 4) rfl), lw_t1 (List.mem_of_getElem? (i := 57) rfl), lw_t1 (List.mem_of_getElem? (i := 58) rfl)⟩
theorem lw_p3 : lw_okq (⟨"GameValues", "learn", "()V"⟩, 6) := ⟨⟨by decide +kernel, by decide +kernel⟩, lw_t1 (List.mem_of_getElem? (i := 4) rfl), lw_t1 (List.mem_of_getElem? (i := 69) rfl), lw_t1 (List.mem_of_getElem? (i := 70) rfl)⟩
theorem lw_p4 : lw_okq (⟨"GameValues", "staysAbove", "(III)Z"⟩, 6) := ⟨⟨by decide +kernel, by decide +kernel⟩, lw_t1 (List.mem_of_getElem? (i := 4) rfl), lw_t1 (List.mem_of_getElem? (i := 76) rfl), lw_t1 (List.mem_of_getElem? (i := 77) rfl)⟩
theorem lw_p5 : lw_okq (⟨"GameValues", "staysBelow", "(III)Z"⟩, 6) := ⟨⟨by decide +kernel, by decide +kernel⟩, lw_t1 (List.mem_of_getElem? (i := 4) rfl), lw_t1 (List.mem_of_getElem? (i := 83) rfl), lw_t1 (List.mem_of_getElem? (i := 84) rfl)⟩
theorem lw_p6 : lw_okq (⟨"GameValues", "standing", "(I)I"⟩, 6) := ⟨⟨by decide +kernel, by decide +kernel⟩, lw_t1 (List.mem_of_getElem? (i := 4) rfl), lw_t1 (List.mem_of_getElem? (i := 87) rfl), lw_t1 (List.mem_of_getElem? (i := 88) rfl)⟩
theorem lw_p7 : lw_okq (⟨"GameValues", "asGood", "(III)Z"⟩, 6) := ⟨⟨by decide +kernel, by decide +kernel⟩, lw_t1 (List.mem_of_getElem? (i := 4) rfl), lw_t1 (List.mem_of_getElem? (i := 106) rfl), lw_t1 (List.mem_of_getElem? (i := 107) rfl)⟩
theorem lw_p8 : lw_okq (⟨"GameValues", "isAtLeast", "(II)Z"⟩, 6) := ⟨⟨by decide +kernel, by decide +kernel⟩, lw_t1 (List.mem_of_getElem? (i := 4) rfl), lw_t1 (List.mem_of_getElem? (i := 110) rfl), lw_t1 (List.mem_of_getElem? (i := 111) rfl)⟩
theorem lw_p9 : lw_okq (⟨"GameValuesModel", "is", "(I)Z"⟩, 4) := ⟨⟨by decide +kernel, by decide +kernel⟩, lw_t1 (List.mem_of_getElem? (i := 135) rfl), lw_t1 (List.mem_of_getElem? (i := 171) rfl), lw_t1 (List.mem_of_getElem? (i := 172) rfl)⟩
theorem lw_p10 : lw_okq (⟨"GameValuesModel", "work", "()V"⟩, 4) := ⟨⟨by decide +kernel, by decide +kernel⟩, lw_t1 (List.mem_of_getElem? (i := 135) rfl), lw_t1 (List.mem_of_getElem? (i := 179) rfl), lw_t1 (List.mem_of_getElem? (i := 180) rfl)⟩
theorem lw_p11 : lw_okq (⟨"GameValuesModel", "cell", "(IIII)I"⟩, 4) := ⟨⟨by decide +kernel, by decide +kernel⟩, lw_t1 (List.mem_of_getElem? (i := 135) rfl), lw_t1 (List.mem_of_getElem? (i := 183) rfl), lw_t1 (List.mem_of_getElem? (i := 184) rfl)⟩
theorem lw_p12 : lw_okq (⟨"GameValuesModel", "canWin", "(IIII)Z"⟩, 4) := ⟨⟨by decide +kernel, by decide +kernel⟩, lw_t1 (List.mem_of_getElem? (i := 135) rfl), lw_t1 (List.mem_of_getElem? (i := 187) rfl), lw_t1 (List.mem_of_getElem? (i := 188) rfl)⟩
theorem lw_p13 : lw_okq (⟨"GameValuesModel", "least", "(II)Z"⟩, 4) := ⟨⟨by decide +kernel, by decide +kernel⟩, lw_t1 (List.mem_of_getElem? (i := 135) rfl), lw_t1 (List.mem_of_getElem? (i := 191) rfl), lw_t1 (List.mem_of_getElem? (i := 192) rfl)⟩
theorem lw_p14 : lw_okq (⟨"GameValuesModel", "stands", "(ZZ)I"⟩, 4) := ⟨⟨by decide +kernel, by decide +kernel⟩, lw_t1 (List.mem_of_getElem? (i := 135) rfl), lw_t1 (List.mem_of_getElem? (i := 195) rfl), lw_t1 (List.mem_of_getElem? (i := 196) rfl)⟩
theorem lw_p15 : lw_okq (⟨"GameValuesModel", "noBetter", "(III)Z"⟩, 4) := ⟨⟨by decide +kernel, by decide +kernel⟩, lw_t1 (List.mem_of_getElem? (i := 135) rfl), lw_t1 (List.mem_of_getElem? (i := 216) rfl), lw_t1 (List.mem_of_getElem? (i := 217) rfl)⟩
def lw_privs_1 : List (MethodName × Nat) := [(⟨"GameValues", "isSet", "(I)Z"⟩, 6), (⟨"GameValues", "has", "(I)Z"⟩, 6), (⟨"GameValues", "movesOf", "(II)I"⟩, 6), (⟨"GameValues", "learn", "()V"⟩, 6), (⟨"GameValues", "staysAbove", "(III)Z"⟩, 6), (⟨"GameValues", "staysBelow", "(III)Z"⟩, 6), (⟨"GameValues", "standing", "(I)I"⟩, 6), (⟨"GameValues", "asGood", "(III)Z"⟩, 6), (⟨"GameValues", "isAtLeast", "(II)Z"⟩, 6), (⟨"GameValuesModel", "is", "(I)Z"⟩, 4), (⟨"GameValuesModel", "work", "()V"⟩, 4), (⟨"GameValuesModel", "cell", "(IIII)I"⟩, 4), (⟨"GameValuesModel", "canWin", "(IIII)Z"⟩, 4), (⟨"GameValuesModel", "least", "(II)Z"⟩, 4), (⟨"GameValuesModel", "stands", "(ZZ)I"⟩, 4), (⟨"GameValuesModel", "noBetter", "(III)Z"⟩, 4)]
theorem lw_r1 : ∀ q ∈ lw_privs_1, lw_okq q := List.forall_mem_cons.mpr ⟨lw_p0, List.forall_mem_cons.mpr ⟨lw_p1, List.forall_mem_cons.mpr ⟨lw_p2, List.forall_mem_cons.mpr ⟨lw_p3, List.forall_mem_cons.mpr ⟨lw_p4, List.forall_mem_cons.mpr ⟨lw_p5, List.forall_mem_cons.mpr ⟨lw_p6, List.forall_mem_cons.mpr ⟨lw_p7, List.forall_mem_cons.mpr ⟨lw_p8, List.forall_mem_cons.mpr ⟨lw_p9, List.forall_mem_cons.mpr ⟨lw_p10, List.forall_mem_cons.mpr ⟨lw_p11, List.forall_mem_cons.mpr ⟨lw_p12, List.forall_mem_cons.mpr ⟨lw_p13, List.forall_mem_cons.mpr ⟨lw_p14, List.forall_mem_cons.mpr ⟨lw_p15, fun _ h => absurd h List.not_mem_nil⟩⟩⟩⟩⟩⟩⟩⟩⟩⟩⟩⟩⟩⟩⟩⟩
def lw_privs : List (MethodName × Nat) := lw_privs_1
def lw_tbl : List Cond := k2_sels lw_privs ++ tables_1
theorem lw_privs_ok : ∀ q ∈ lw_privs, lw_okq q := lw_r1
-- ===== ONE list of words for every method: the tables' words that hold all through a run =====
def lw_all : List Cond := lw_tbl.filter goodWord
/-- a word of the tables by its place: claim/WORDS.tsv -/
theorem lw_w {w : Cond} (i : Nat) (h : lw_tbl[i]? = some w) (g : goodWord w = true) : w ∈ lw_all := List.mem_filter.mpr ⟨List.mem_of_getElem? h, g⟩
theorem lw_all_tbl {w : Cond} (h : w ∈ lw_all) : w ∈ lw_tbl := (List.mem_filter.mp h).1
theorem lw_self : GoodIn lw_all lw_all := fun w h => ⟨h, good_of_word (List.mem_filter.mp h).2⟩
/-- a class's field words, by their places -/
theorem lw_in (ws : List Cond) (ps : List Nat) (hp : ws = ps.filterMap (fun i => lw_tbl[i]?)) (hg : ws.all goodWord = true) : ∀ w ∈ ws, w ∈ lw_all := by
  intro w h
  have h1 := List.all_eq_true.mp hg w h
  rw [hp] at h
  obtain ⟨i, -, hi⟩ := List.mem_filterMap.mp h
  exact lw_w i hi h1
/-- the words of a contract for the method y with code b, L locals, answer r -/
abbrev ws_ (y : MethodName) (b : ByteArray) (L : Nat) (r : Option FieldType) : List Cond := Cond.code y b L r :: lw_all
theorem lw_meth {y : MethodName} {b : ByteArray} {L : Nat} {r : Option FieldType} (h : Cond.code y b L r ∈ lw_all) : GoodIn lw_all (ws_ y b L r) := by
  intro w hw
  rcases List.mem_cons.mp hw with e | e
  · rw [e]
    exact lw_self _ h
  · exact lw_self _ e
theorem lw_app {a c : List Cond} (ha : ∀ w ∈ a, w ∈ lw_all) (hc : GoodIn lw_all c) : GoodIn lw_all (a ++ c) := by
  intro w hw
  rcases List.mem_append.mp hw with e | e
  · exact lw_self w (ha w e)
  · exact hc w e
/-- what a call through an object asks: cwV n hts (lw_V ..) -/
theorem lw_V {own : String} {idx : Nat} {C : String} {y : MethodName} {b : ByteArray} {L : Nat} {r : Option FieldType} (h1 : Cond.methodLink own idx y ∈ lw_all) (h2 : Cond.instanceMethod y ∈ lw_all) (h3 : Cond.selects C y y ∈ lw_all) (h4 : Cond.initialized C ∈ lw_all) (h5 : Cond.code y b L r ∈ lw_all) : GoodIn lw_all (wsV own idx C y (ws_ y b L r)) := by
  refine lw_app ?_ (lw_meth h5)
  intro w hw
  simp only [List.mem_cons, List.not_mem_nil, or_false] at hw
  rcases hw with e | e | e | e
  · rw [e]; exact h1
  · rw [e]; exact h2
  · rw [e]; exact h3
  · rw [e]; exact h4
/-- what a static call asks: va_cwS n hts (lw_S ..) -/
theorem lw_S {own : String} {idx : Nat} {y : MethodName} {b : ByteArray} {L : Nat} {r : Option FieldType} (h1 : Cond.methodLink own idx y ∈ lw_all) (h2 : Cond.static y ∈ lw_all) (h3 : Cond.initialized y.cls ∈ lw_all) (h4 : Cond.code y b L r ∈ lw_all) : GoodIn lw_all (va_wsS own idx y (ws_ y b L r)) := by
  refine lw_app ?_ (lw_meth h4)
  intro w hw
  simp only [List.mem_cons, List.not_mem_nil, or_false] at hw
  rcases hw with e | e | e
  · rw [e]; exact h1
  · rw [e]; exact h2
  · rw [e]; exact h3
/-- the words of a contract for a method WITH HANDLERS (hh: its table) -/
abbrev wsW_ (y : MethodName) (b : ByteArray) (L : Nat) (r : Option FieldType) (hh : List (Nat × Nat × Nat × Nat)) : List Cond := Cond.codeWith y b L r hh :: lw_all
theorem lw_methW {y : MethodName} {b : ByteArray} {L : Nat} {r : Option FieldType} {hh : List (Nat × Nat × Nat × Nat)} (h : Cond.codeWith y b L r hh ∈ lw_all) : GoodIn lw_all (wsW_ y b L r hh) := by
  intro w hw
  rcases List.mem_cons.mp hw with e | e
  · rw [e]
    exact lw_self _ h
  · exact lw_self _ e
/-- any list of words by their places (lw_in), good -/
theorem lw_good {ws : List Cond} (h : ∀ w ∈ ws, w ∈ lw_all) : GoodIn lw_all ws := fun w hw => lw_self w (h w hw)
/-- what a call of a method with handlers asks: vx_cwVW n hts (lw_VW ..), vx_cwSW n hts (lw_SW ..) -/
theorem lw_VW {own : String} {idx : Nat} {C : String} {y : MethodName} {b : ByteArray} {L : Nat} {r : Option FieldType} {hh : List (Nat × Nat × Nat × Nat)} (h1 : Cond.methodLink own idx y ∈ lw_all) (h2 : Cond.instanceMethod y ∈ lw_all) (h3 : Cond.selects C y y ∈ lw_all) (h4 : Cond.initialized C ∈ lw_all) (h5 : Cond.codeWith y b L r hh ∈ lw_all) : GoodIn lw_all (wsV own idx C y (wsW_ y b L r hh)) := by
  refine lw_app ?_ (lw_methW h5)
  intro w hw
  simp only [List.mem_cons, List.not_mem_nil, or_false] at hw
  rcases hw with e | e | e | e
  · rw [e]; exact h1
  · rw [e]; exact h2
  · rw [e]; exact h3
  · rw [e]; exact h4
theorem lw_SW {own : String} {idx : Nat} {y : MethodName} {b : ByteArray} {L : Nat} {r : Option FieldType} {hh : List (Nat × Nat × Nat × Nat)} (h1 : Cond.methodLink own idx y ∈ lw_all) (h2 : Cond.static y ∈ lw_all) (h3 : Cond.initialized y.cls ∈ lw_all) (h4 : Cond.codeWith y b L r hh ∈ lw_all) : GoodIn lw_all (va_wsS own idx y (wsW_ y b L r hh)) := by
  refine lw_app ?_ (lw_methW h4)
  intro w hw
  simp only [List.mem_cons, List.not_mem_nil, or_false] at hw
  rcases hw with e | e | e
  · rw [e]; exact h1
  · rw [e]; exact h2
  · rw [e]; exact h3
/-- a word by its place in its run of the tables -/
theorem lw_at {r : List Cond} (hr : ∀ w ∈ r, w ∈ lw_tbl) {w : Cond} (i : Nat) (h : r[i]? = some w) : w ∈ lw_tbl := hr w (List.mem_of_getElem? h)
theorem lw_g {w : Cond} (h : w ∈ lw_tbl) (g : goodWord w = true) : w ∈ lw_all := List.mem_filter.mpr ⟨h, g⟩
theorem lw_ms : ∀ w ∈ k2_sels lw_privs, w ∈ lw_tbl := fun w h => show w ∈ k2_sels lw_privs ++ tables_1 from List.mem_append_left _ h
theorem lw_m1 : ∀ w ∈ tables_1_1, w ∈ lw_tbl := fun w h => show w ∈ k2_sels lw_privs ++ tables_1 from List.mem_append_right (k2_sels lw_privs) (show w ∈ tables_1 from List.mem_append_left _ h)
theorem lw_m2 : ∀ w ∈ tables_1_2, w ∈ lw_tbl := fun w h => show w ∈ k2_sels lw_privs ++ tables_1 from List.mem_append_right (k2_sels lw_privs) (show w ∈ tables_1 from List.mem_append_right _ h)
theorem qs0 : (Cond.selects "GameValues" ⟨"GameValues", "isSet", "(I)Z"⟩ ⟨"GameValues", "isSet", "(I)Z"⟩) ∈ lw_all := lw_g (lw_at lw_ms 0 rfl) rfl
theorem qs1 : (Cond.selects "GameValues" ⟨"GameValues", "has", "(I)Z"⟩ ⟨"GameValues", "has", "(I)Z"⟩) ∈ lw_all := lw_g (lw_at lw_ms 1 rfl) rfl
theorem qs2 : (Cond.selects "GameValues" ⟨"GameValues", "movesOf", "(II)I"⟩ ⟨"GameValues", "movesOf", "(II)I"⟩) ∈ lw_all := lw_g (lw_at lw_ms 2 rfl) rfl
theorem qs3 : (Cond.selects "GameValues" ⟨"GameValues", "learn", "()V"⟩ ⟨"GameValues", "learn", "()V"⟩) ∈ lw_all := lw_g (lw_at lw_ms 3 rfl) rfl
theorem qs4 : (Cond.selects "GameValues" ⟨"GameValues", "staysAbove", "(III)Z"⟩ ⟨"GameValues", "staysAbove", "(III)Z"⟩) ∈ lw_all := lw_g (lw_at lw_ms 4 rfl) rfl
theorem qs5 : (Cond.selects "GameValues" ⟨"GameValues", "staysBelow", "(III)Z"⟩ ⟨"GameValues", "staysBelow", "(III)Z"⟩) ∈ lw_all := lw_g (lw_at lw_ms 5 rfl) rfl
theorem qs6 : (Cond.selects "GameValues" ⟨"GameValues", "standing", "(I)I"⟩ ⟨"GameValues", "standing", "(I)I"⟩) ∈ lw_all := lw_g (lw_at lw_ms 6 rfl) rfl
theorem qs7 : (Cond.selects "GameValues" ⟨"GameValues", "asGood", "(III)Z"⟩ ⟨"GameValues", "asGood", "(III)Z"⟩) ∈ lw_all := lw_g (lw_at lw_ms 7 rfl) rfl
theorem qs8 : (Cond.selects "GameValues" ⟨"GameValues", "isAtLeast", "(II)Z"⟩ ⟨"GameValues", "isAtLeast", "(II)Z"⟩) ∈ lw_all := lw_g (lw_at lw_ms 8 rfl) rfl
theorem qs9 : (Cond.selects "GameValuesModel" ⟨"GameValuesModel", "is", "(I)Z"⟩ ⟨"GameValuesModel", "is", "(I)Z"⟩) ∈ lw_all := lw_g (lw_at lw_ms 9 rfl) rfl
theorem qs10 : (Cond.selects "GameValuesModel" ⟨"GameValuesModel", "work", "()V"⟩ ⟨"GameValuesModel", "work", "()V"⟩) ∈ lw_all := lw_g (lw_at lw_ms 10 rfl) rfl
theorem qs11 : (Cond.selects "GameValuesModel" ⟨"GameValuesModel", "cell", "(IIII)I"⟩ ⟨"GameValuesModel", "cell", "(IIII)I"⟩) ∈ lw_all := lw_g (lw_at lw_ms 11 rfl) rfl
theorem qs12 : (Cond.selects "GameValuesModel" ⟨"GameValuesModel", "canWin", "(IIII)Z"⟩ ⟨"GameValuesModel", "canWin", "(IIII)Z"⟩) ∈ lw_all := lw_g (lw_at lw_ms 12 rfl) rfl
theorem qs13 : (Cond.selects "GameValuesModel" ⟨"GameValuesModel", "least", "(II)Z"⟩ ⟨"GameValuesModel", "least", "(II)Z"⟩) ∈ lw_all := lw_g (lw_at lw_ms 13 rfl) rfl
theorem qs14 : (Cond.selects "GameValuesModel" ⟨"GameValuesModel", "stands", "(ZZ)I"⟩ ⟨"GameValuesModel", "stands", "(ZZ)I"⟩) ∈ lw_all := lw_g (lw_at lw_ms 14 rfl) rfl
theorem qs15 : (Cond.selects "GameValuesModel" ⟨"GameValuesModel", "noBetter", "(III)Z"⟩ ⟨"GameValuesModel", "noBetter", "(III)Z"⟩) ∈ lw_all := lw_g (lw_at lw_ms 15 rfl) rfl
end
section
set_option maxRecDepth 100000
/-! java/lang/Object -/
def RJ0 : String := "java/lang/Object"
abbrev cJ0_init : ByteArray := object_method_1_code
def yJ0_init : MethodName := ⟨RJ0, "<init>", "()V"⟩
theorem q25 : (Jvm.Cond.instanceMethod ({ cls := "java/lang/Object", name := "<init>", desc := "()V" } : Jvm.MethodName)) ∈ lw_all := lw_g (lw_at lw_m1 9 rfl) rfl
theorem q26 : (Jvm.Cond.code ({ cls := "java/lang/Object", name := "<init>", desc := "()V" } : Jvm.MethodName) object_method_1_code (1 : Nat) (Option.none : Option Jvm.ClassFile.FieldType)) ∈ lw_all := lw_g (lw_at lw_m1 10 rfl) rfl
/-! GameValues -/
def RX0 : String := "GameValues"
def TX0 : u_T := fun k => match k with
  | 0 => ("GameValues", "count", "I", false)
  | 1 => ("GameValues", "lefts", "[S", true)
  | 2 => ("GameValues", "rights", "[S", true)
  | 3 => ("GameValues", "known", "Z", false)
  | 4 => ("GameValues", "atLeast", "[Z", true)
  | _ => ("GameValues", "atMost", "[Z", true)
def tyX0 : Nat → FieldType := fun k => match k with
  | 0 => .int
  | 1 => .array .short
  | 2 => .array .short
  | 3 => .boolean
  | 4 => .array .boolean
  | _ => .array .boolean
abbrev wsX00 : List Cond := u_ws RX0 TX0 6
theorem nmX0 : ∀ a, a < 6 → ∀ b, b < 6 → a ≠ b → (TX0 a).2.1 ≠ (TX0 b).2.1 := by decide +kernel
theorem tyX0_ok : ∀ k, k < 6 → parseFieldDescriptor (TX0 k).2.2.1 = some (tyX0 k) := by decide +kernel
abbrev cX0_init : ByteArray := prog_1_method_1_code
def yX0_init : MethodName := ⟨RX0, "<init>", "()V"⟩
abbrev cX0_add : ByteArray := prog_1_method_6_code
def yX0_add : MethodName := ⟨RX0, "add", "(II)I"⟩
abbrev cX0_isSet : ByteArray := prog_1_method_5_code
def yX0_isSet : MethodName := ⟨RX0, "isSet", "(I)Z"⟩
abbrev cX0_drop : ByteArray := prog_1_method_7_code
def yX0_drop : MethodName := ⟨RX0, "drop", "()I"⟩
abbrev cX0_positions : ByteArray := prog_1_method_8_code
def yX0_positions : MethodName := ⟨RX0, "positions", "()I"⟩
abbrev cX0_moves : ByteArray := prog_1_method_10_code
def yX0_moves : MethodName := ⟨RX0, "moves", "(II)I"⟩
abbrev cX0_has : ByteArray := prog_1_method_2_code
def yX0_has : MethodName := ⟨RX0, "has", "(I)Z"⟩
abbrev cX0_movesOf : ByteArray := prog_1_method_9_code
def yX0_movesOf : MethodName := ⟨RX0, "movesOf", "(II)I"⟩
abbrev cX0_compare : ByteArray := prog_1_method_16_code
def yX0_compare : MethodName := ⟨RX0, "compare", "(II)I"⟩
abbrev cX0_compareSum : ByteArray := prog_1_method_19_code
def yX0_compareSum : MethodName := ⟨RX0, "compareSum", "(III)I"⟩
abbrev cX0_learn : ByteArray := prog_1_method_11_code
def yX0_learn : MethodName := ⟨RX0, "learn", "()V"⟩
abbrev cX0_cell : ByteArray := prog_1_method_4_code
def yX0_cell : MethodName := ⟨RX0, "cell", "(III)I"⟩
abbrev cX0_staysAbove : ByteArray := prog_1_method_12_code
def yX0_staysAbove : MethodName := ⟨RX0, "staysAbove", "(III)Z"⟩
abbrev cX0_in : ByteArray := prog_1_method_3_code
def yX0_in : MethodName := ⟨RX0, "in", "(II)Z"⟩
abbrev cX0_staysBelow : ByteArray := prog_1_method_13_code
def yX0_staysBelow : MethodName := ⟨RX0, "staysBelow", "(III)Z"⟩
abbrev cX0_standing : ByteArray := prog_1_method_15_code
def yX0_standing : MethodName := ⟨RX0, "standing", "(I)I"⟩
abbrev cX0_wins : ByteArray := prog_1_method_17_code
def yX0_wins : MethodName := ⟨RX0, "wins", "(II)Z"⟩
abbrev cX0_winsSum : ByteArray := prog_1_method_18_code
def yX0_winsSum : MethodName := ⟨RX0, "winsSum", "(III)Z"⟩
abbrev cX0_dominated : ByteArray := prog_1_method_21_code
def yX0_dominated : MethodName := ⟨RX0, "dominated", "(II)I"⟩
abbrev cX0_asGood : ByteArray := prog_1_method_20_code
def yX0_asGood : MethodName := ⟨RX0, "asGood", "(III)Z"⟩
abbrev cX0_isAtLeast : ByteArray := prog_1_method_14_code
def yX0_isAtLeast : MethodName := ⟨RX0, "isAtLeast", "(II)Z"⟩
abbrev cX0_first : ByteArray := prog_1_method_22_code
def yX0_first : MethodName := ⟨RX0, "first", "(I)I"⟩
abbrev cX0_values : ByteArray := prog_1_method_23_code
def yX0_values : MethodName := ⟨RX0, "values", "()I"⟩
abbrev cX0_depth : ByteArray := prog_1_method_24_code
def yX0_depth : MethodName := ⟨RX0, "depth", "(I)I"⟩
abbrev cX0_above : ByteArray := prog_1_method_25_code
def yX0_above : MethodName := ⟨RX0, "above", "(I)I"⟩
abbrev cX0_opposite : ByteArray := prog_1_method_26_code
def yX0_opposite : MethodName := ⟨RX0, "opposite", "(II)Z"⟩
theorem q17 : (Jvm.Cond.initialized "GameValues") ∈ lw_all := lw_g (lw_at lw_m1 1 rfl) rfl
theorem q20 : (Jvm.Cond.instantiable "GameValues" (6 : Nat)) ∈ lw_all := lw_g (lw_at lw_m1 4 rfl) rfl
theorem q22 : (Jvm.Cond.instanceMethod ({ cls := "GameValues", name := "<init>", desc := "()V" } : Jvm.MethodName)) ∈ lw_all := lw_g (lw_at lw_m1 6 rfl) rfl
theorem q23 : (Jvm.Cond.code ({ cls := "GameValues", name := "<init>", desc := "()V" } : Jvm.MethodName) prog_1_method_1_code (1 : Nat) (Option.none : Option Jvm.ClassFile.FieldType)) ∈ lw_all := lw_g (lw_at lw_m1 7 rfl) rfl
theorem q24 : (Jvm.Cond.methodLink "GameValues" (1 : Nat) ({ cls := "java/lang/Object", name := "<init>", desc := "()V" } : Jvm.MethodName)) ∈ lw_all := lw_g (lw_at lw_m1 8 rfl) rfl
theorem q27 : (Jvm.Cond.fieldLink "GameValues" (7 : Nat) "GameValues" "count" "I") ∈ lw_all := lw_g (lw_at lw_m1 11 rfl) rfl
theorem q28 : (Jvm.Cond.fieldLink "GameValues" (13 : Nat) "GameValues" "lefts" "[S") ∈ lw_all := lw_g (lw_at lw_m1 12 rfl) rfl
theorem q29 : (Jvm.Cond.fieldLink "GameValues" (17 : Nat) "GameValues" "rights" "[S") ∈ lw_all := lw_g (lw_at lw_m1 13 rfl) rfl
theorem q30 : (Jvm.Cond.fieldLink "GameValues" (31 : Nat) "GameValues" "known" "Z") ∈ lw_all := lw_g (lw_at lw_m1 14 rfl) rfl
theorem q31 : (Jvm.Cond.fieldLink "GameValues" (20 : Nat) "GameValues" "atLeast" "[Z") ∈ lw_all := lw_g (lw_at lw_m1 15 rfl) rfl
theorem q32 : (Jvm.Cond.fieldLink "GameValues" (24 : Nat) "GameValues" "atMost" "[Z") ∈ lw_all := lw_g (lw_at lw_m1 16 rfl) rfl
theorem q33 : (Jvm.Cond.lays "GameValues" "GameValues" "count" "I") ∈ lw_all := lw_g (lw_at lw_m1 17 rfl) rfl
theorem q34 : (Jvm.Cond.soleField "GameValues" "count") ∈ lw_all := lw_g (lw_at lw_m1 18 rfl) rfl
theorem q35 : (Jvm.Cond.laysFinal "GameValues" "GameValues" "lefts" "[S") ∈ lw_all := lw_g (lw_at lw_m1 19 rfl) rfl
theorem q36 : (Jvm.Cond.soleField "GameValues" "lefts") ∈ lw_all := lw_g (lw_at lw_m1 20 rfl) rfl
theorem q37 : (Jvm.Cond.laysFinal "GameValues" "GameValues" "rights" "[S") ∈ lw_all := lw_g (lw_at lw_m1 21 rfl) rfl
theorem q38 : (Jvm.Cond.soleField "GameValues" "rights") ∈ lw_all := lw_g (lw_at lw_m1 22 rfl) rfl
theorem q39 : (Jvm.Cond.lays "GameValues" "GameValues" "known" "Z") ∈ lw_all := lw_g (lw_at lw_m1 23 rfl) rfl
theorem q40 : (Jvm.Cond.soleField "GameValues" "known") ∈ lw_all := lw_g (lw_at lw_m1 24 rfl) rfl
theorem q41 : (Jvm.Cond.laysFinal "GameValues" "GameValues" "atLeast" "[Z") ∈ lw_all := lw_g (lw_at lw_m1 25 rfl) rfl
theorem q42 : (Jvm.Cond.soleField "GameValues" "atLeast") ∈ lw_all := lw_g (lw_at lw_m1 26 rfl) rfl
theorem q43 : (Jvm.Cond.laysFinal "GameValues" "GameValues" "atMost" "[Z") ∈ lw_all := lw_g (lw_at lw_m1 27 rfl) rfl
theorem q44 : (Jvm.Cond.soleField "GameValues" "atMost") ∈ lw_all := lw_g (lw_at lw_m1 28 rfl) rfl
theorem q45 : (Jvm.Cond.superclass "GameValues" "java/lang/Object") ∈ lw_all := lw_g (lw_at lw_m1 29 rfl) rfl
theorem q49 : (Jvm.Cond.instanceMethod ({ cls := "GameValues", name := "add", desc := "(II)I" } : Jvm.MethodName)) ∈ lw_all := lw_g (lw_at lw_m1 33 rfl) rfl
theorem q50 : (Jvm.Cond.selects "GameValues" ({ cls := "GameValues", name := "add", desc := "(II)I" } : Jvm.MethodName) ({ cls := "GameValues", name := "add", desc := "(II)I" } : Jvm.MethodName)) ∈ lw_all := lw_g (lw_at lw_m1 34 rfl) rfl
theorem q51 : (Jvm.Cond.code ({ cls := "GameValues", name := "add", desc := "(II)I" } : Jvm.MethodName) prog_1_method_6_code (3 : Nat) (Option.some Jvm.ClassFile.FieldType.int)) ∈ lw_all := lw_g (lw_at lw_m1 35 rfl) rfl
theorem q52 : (Jvm.Cond.methodLink "GameValues" (27 : Nat) ({ cls := "GameValues", name := "isSet", desc := "(I)Z" } : Jvm.MethodName)) ∈ lw_all := lw_g (lw_at lw_m1 36 rfl) rfl
theorem q53 : (Jvm.Cond.privateMethod ({ cls := "GameValues", name := "isSet", desc := "(I)Z" } : Jvm.MethodName)) ∈ lw_tbl := lw_at lw_m1 37 rfl
theorem q54 : (Jvm.Cond.instanceMethod ({ cls := "GameValues", name := "isSet", desc := "(I)Z" } : Jvm.MethodName)) ∈ lw_all := lw_g (lw_at lw_m1 38 rfl) rfl
theorem q55 : (Jvm.Cond.code ({ cls := "GameValues", name := "isSet", desc := "(I)Z" } : Jvm.MethodName) prog_1_method_5_code (2 : Nat) (Option.some Jvm.ClassFile.FieldType.boolean)) ∈ lw_all := lw_g (lw_at lw_m1 39 rfl) rfl
theorem q57 : (Jvm.Cond.instanceMethod ({ cls := "GameValues", name := "drop", desc := "()I" } : Jvm.MethodName)) ∈ lw_all := lw_g (lw_at lw_m1 41 rfl) rfl
theorem q58 : (Jvm.Cond.selects "GameValues" ({ cls := "GameValues", name := "drop", desc := "()I" } : Jvm.MethodName) ({ cls := "GameValues", name := "drop", desc := "()I" } : Jvm.MethodName)) ∈ lw_all := lw_g (lw_at lw_m1 42 rfl) rfl
theorem q59 : (Jvm.Cond.code ({ cls := "GameValues", name := "drop", desc := "()I" } : Jvm.MethodName) prog_1_method_7_code (1 : Nat) (Option.some Jvm.ClassFile.FieldType.int)) ∈ lw_all := lw_g (lw_at lw_m1 43 rfl) rfl
theorem q61 : (Jvm.Cond.instanceMethod ({ cls := "GameValues", name := "positions", desc := "()I" } : Jvm.MethodName)) ∈ lw_all := lw_g (lw_at lw_m1 45 rfl) rfl
theorem q62 : (Jvm.Cond.selects "GameValues" ({ cls := "GameValues", name := "positions", desc := "()I" } : Jvm.MethodName) ({ cls := "GameValues", name := "positions", desc := "()I" } : Jvm.MethodName)) ∈ lw_all := lw_g (lw_at lw_m1 46 rfl) rfl
theorem q63 : (Jvm.Cond.code ({ cls := "GameValues", name := "positions", desc := "()I" } : Jvm.MethodName) prog_1_method_8_code (1 : Nat) (Option.some Jvm.ClassFile.FieldType.int)) ∈ lw_all := lw_g (lw_at lw_m1 47 rfl) rfl
theorem q65 : (Jvm.Cond.instanceMethod ({ cls := "GameValues", name := "moves", desc := "(II)I" } : Jvm.MethodName)) ∈ lw_all := lw_g (lw_at lw_m1 49 rfl) rfl
theorem q66 : (Jvm.Cond.selects "GameValues" ({ cls := "GameValues", name := "moves", desc := "(II)I" } : Jvm.MethodName) ({ cls := "GameValues", name := "moves", desc := "(II)I" } : Jvm.MethodName)) ∈ lw_all := lw_g (lw_at lw_m1 50 rfl) rfl
theorem q67 : (Jvm.Cond.code ({ cls := "GameValues", name := "moves", desc := "(II)I" } : Jvm.MethodName) prog_1_method_10_code (3 : Nat) (Option.some Jvm.ClassFile.FieldType.int)) ∈ lw_all := lw_g (lw_at lw_m1 51 rfl) rfl
theorem q68 : (Jvm.Cond.methodLink "GameValues" (35 : Nat) ({ cls := "GameValues", name := "has", desc := "(I)Z" } : Jvm.MethodName)) ∈ lw_all := lw_g (lw_at lw_m1 52 rfl) rfl
theorem q69 : (Jvm.Cond.privateMethod ({ cls := "GameValues", name := "has", desc := "(I)Z" } : Jvm.MethodName)) ∈ lw_tbl := lw_at lw_m1 53 rfl
theorem q70 : (Jvm.Cond.instanceMethod ({ cls := "GameValues", name := "has", desc := "(I)Z" } : Jvm.MethodName)) ∈ lw_all := lw_g (lw_at lw_m1 54 rfl) rfl
theorem q71 : (Jvm.Cond.code ({ cls := "GameValues", name := "has", desc := "(I)Z" } : Jvm.MethodName) prog_1_method_2_code (2 : Nat) (Option.some Jvm.ClassFile.FieldType.boolean)) ∈ lw_all := lw_g (lw_at lw_m1 55 rfl) rfl
theorem q72 : (Jvm.Cond.methodLink "GameValues" (38 : Nat) ({ cls := "GameValues", name := "movesOf", desc := "(II)I" } : Jvm.MethodName)) ∈ lw_all := lw_g (lw_at lw_m1 56 rfl) rfl
theorem q73 : (Jvm.Cond.privateMethod ({ cls := "GameValues", name := "movesOf", desc := "(II)I" } : Jvm.MethodName)) ∈ lw_tbl := lw_at lw_m1 57 rfl
theorem q74 : (Jvm.Cond.instanceMethod ({ cls := "GameValues", name := "movesOf", desc := "(II)I" } : Jvm.MethodName)) ∈ lw_all := lw_g (lw_at lw_m1 58 rfl) rfl
theorem q75 : (Jvm.Cond.code ({ cls := "GameValues", name := "movesOf", desc := "(II)I" } : Jvm.MethodName) prog_1_method_9_code (3 : Nat) (Option.some Jvm.ClassFile.FieldType.int)) ∈ lw_all := lw_g (lw_at lw_m1 59 rfl) rfl
theorem q77 : (Jvm.Cond.instanceMethod ({ cls := "GameValues", name := "compare", desc := "(II)I" } : Jvm.MethodName)) ∈ lw_all := lw_g (lw_at lw_m1 61 rfl) rfl
theorem q78 : (Jvm.Cond.selects "GameValues" ({ cls := "GameValues", name := "compare", desc := "(II)I" } : Jvm.MethodName) ({ cls := "GameValues", name := "compare", desc := "(II)I" } : Jvm.MethodName)) ∈ lw_all := lw_g (lw_at lw_m1 62 rfl) rfl
theorem q79 : (Jvm.Cond.code ({ cls := "GameValues", name := "compare", desc := "(II)I" } : Jvm.MethodName) prog_1_method_16_code (3 : Nat) (Option.some Jvm.ClassFile.FieldType.int)) ∈ lw_all := lw_g (lw_at lw_m1 63 rfl) rfl
theorem q80 : (Jvm.Cond.methodLink "GameValues" (57 : Nat) ({ cls := "GameValues", name := "compareSum", desc := "(III)I" } : Jvm.MethodName)) ∈ lw_all := lw_g (lw_at lw_m1 64 rfl) rfl
theorem q81 : (Jvm.Cond.instanceMethod ({ cls := "GameValues", name := "compareSum", desc := "(III)I" } : Jvm.MethodName)) ∈ lw_all := lw_g (lw_at lw_m1 65 rfl) rfl
theorem q82 : (Jvm.Cond.selects "GameValues" ({ cls := "GameValues", name := "compareSum", desc := "(III)I" } : Jvm.MethodName) ({ cls := "GameValues", name := "compareSum", desc := "(III)I" } : Jvm.MethodName)) ∈ lw_all := lw_g (lw_at lw_m1 66 rfl) rfl
theorem q83 : (Jvm.Cond.code ({ cls := "GameValues", name := "compareSum", desc := "(III)I" } : Jvm.MethodName) prog_1_method_19_code (5 : Nat) (Option.some Jvm.ClassFile.FieldType.int)) ∈ lw_all := lw_g (lw_at lw_m1 67 rfl) rfl
theorem q84 : (Jvm.Cond.methodLink "GameValues" (63 : Nat) ({ cls := "GameValues", name := "learn", desc := "()V" } : Jvm.MethodName)) ∈ lw_all := lw_g (lw_at lw_m1 68 rfl) rfl
theorem q85 : (Jvm.Cond.privateMethod ({ cls := "GameValues", name := "learn", desc := "()V" } : Jvm.MethodName)) ∈ lw_tbl := lw_at lw_m1 69 rfl
theorem q86 : (Jvm.Cond.instanceMethod ({ cls := "GameValues", name := "learn", desc := "()V" } : Jvm.MethodName)) ∈ lw_all := lw_g (lw_at lw_m1 70 rfl) rfl
theorem q87 : (Jvm.Cond.code ({ cls := "GameValues", name := "learn", desc := "()V" } : Jvm.MethodName) prog_1_method_11_code (6 : Nat) (Option.none : Option Jvm.ClassFile.FieldType)) ∈ lw_all := lw_g (lw_at lw_m1 71 rfl) rfl
theorem q88 : (Jvm.Cond.methodLink "GameValues" (42 : Nat) ({ cls := "GameValues", name := "cell", desc := "(III)I" } : Jvm.MethodName)) ∈ lw_all := lw_g (lw_at lw_m1 72 rfl) rfl
theorem q89 : (Jvm.Cond.static ({ cls := "GameValues", name := "cell", desc := "(III)I" } : Jvm.MethodName)) ∈ lw_all := lw_g (lw_at lw_m1 73 rfl) rfl
theorem q90 : (Jvm.Cond.code ({ cls := "GameValues", name := "cell", desc := "(III)I" } : Jvm.MethodName) prog_1_method_4_code (3 : Nat) (Option.some Jvm.ClassFile.FieldType.int)) ∈ lw_all := lw_g (lw_at lw_m1 74 rfl) rfl
theorem q91 : (Jvm.Cond.methodLink "GameValues" (46 : Nat) ({ cls := "GameValues", name := "staysAbove", desc := "(III)Z" } : Jvm.MethodName)) ∈ lw_all := lw_g (lw_at lw_m1 75 rfl) rfl
theorem q92 : (Jvm.Cond.privateMethod ({ cls := "GameValues", name := "staysAbove", desc := "(III)Z" } : Jvm.MethodName)) ∈ lw_tbl := lw_at lw_m1 76 rfl
theorem q93 : (Jvm.Cond.instanceMethod ({ cls := "GameValues", name := "staysAbove", desc := "(III)Z" } : Jvm.MethodName)) ∈ lw_all := lw_g (lw_at lw_m1 77 rfl) rfl
theorem q94 : (Jvm.Cond.code ({ cls := "GameValues", name := "staysAbove", desc := "(III)Z" } : Jvm.MethodName) prog_1_method_12_code (8 : Nat) (Option.some Jvm.ClassFile.FieldType.boolean)) ∈ lw_all := lw_g (lw_at lw_m1 78 rfl) rfl
theorem q95 : (Jvm.Cond.methodLink "GameValues" (53 : Nat) ({ cls := "GameValues", name := "in", desc := "(II)Z" } : Jvm.MethodName)) ∈ lw_all := lw_g (lw_at lw_m1 79 rfl) rfl
theorem q96 : (Jvm.Cond.static ({ cls := "GameValues", name := "in", desc := "(II)Z" } : Jvm.MethodName)) ∈ lw_all := lw_g (lw_at lw_m1 80 rfl) rfl
theorem q97 : (Jvm.Cond.code ({ cls := "GameValues", name := "in", desc := "(II)Z" } : Jvm.MethodName) prog_1_method_3_code (2 : Nat) (Option.some Jvm.ClassFile.FieldType.boolean)) ∈ lw_all := lw_g (lw_at lw_m1 81 rfl) rfl
theorem q98 : (Jvm.Cond.methodLink "GameValues" (50 : Nat) ({ cls := "GameValues", name := "staysBelow", desc := "(III)Z" } : Jvm.MethodName)) ∈ lw_all := lw_g (lw_at lw_m1 82 rfl) rfl
theorem q99 : (Jvm.Cond.privateMethod ({ cls := "GameValues", name := "staysBelow", desc := "(III)Z" } : Jvm.MethodName)) ∈ lw_tbl := lw_at lw_m1 83 rfl
theorem q100 : (Jvm.Cond.instanceMethod ({ cls := "GameValues", name := "staysBelow", desc := "(III)Z" } : Jvm.MethodName)) ∈ lw_all := lw_g (lw_at lw_m1 84 rfl) rfl
theorem q101 : (Jvm.Cond.code ({ cls := "GameValues", name := "staysBelow", desc := "(III)Z" } : Jvm.MethodName) prog_1_method_13_code (8 : Nat) (Option.some Jvm.ClassFile.FieldType.boolean)) ∈ lw_all := lw_g (lw_at lw_m1 85 rfl) rfl
theorem q102 : (Jvm.Cond.methodLink "GameValues" (66 : Nat) ({ cls := "GameValues", name := "standing", desc := "(I)I" } : Jvm.MethodName)) ∈ lw_all := lw_g (lw_at lw_m1 86 rfl) rfl
theorem q103 : (Jvm.Cond.privateMethod ({ cls := "GameValues", name := "standing", desc := "(I)I" } : Jvm.MethodName)) ∈ lw_tbl := lw_at lw_m1 87 rfl
theorem q104 : (Jvm.Cond.instanceMethod ({ cls := "GameValues", name := "standing", desc := "(I)I" } : Jvm.MethodName)) ∈ lw_all := lw_g (lw_at lw_m1 88 rfl) rfl
theorem q105 : (Jvm.Cond.code ({ cls := "GameValues", name := "standing", desc := "(I)I" } : Jvm.MethodName) prog_1_method_15_code (2 : Nat) (Option.some Jvm.ClassFile.FieldType.int)) ∈ lw_all := lw_g (lw_at lw_m1 89 rfl) rfl
theorem q107 : (Jvm.Cond.instanceMethod ({ cls := "GameValues", name := "wins", desc := "(II)Z" } : Jvm.MethodName)) ∈ lw_all := lw_g (lw_at lw_m1 91 rfl) rfl
theorem q108 : (Jvm.Cond.selects "GameValues" ({ cls := "GameValues", name := "wins", desc := "(II)Z" } : Jvm.MethodName) ({ cls := "GameValues", name := "wins", desc := "(II)Z" } : Jvm.MethodName)) ∈ lw_all := lw_g (lw_at lw_m1 92 rfl) rfl
theorem q109 : (Jvm.Cond.code ({ cls := "GameValues", name := "wins", desc := "(II)Z" } : Jvm.MethodName) prog_1_method_17_code (3 : Nat) (Option.some Jvm.ClassFile.FieldType.boolean)) ∈ lw_all := lw_g (lw_at lw_m1 93 rfl) rfl
theorem q110 : (Jvm.Cond.methodLink "GameValues" (60 : Nat) ({ cls := "GameValues", name := "winsSum", desc := "(III)Z" } : Jvm.MethodName)) ∈ lw_all := lw_g (lw_at lw_m1 94 rfl) rfl
theorem q111 : (Jvm.Cond.instanceMethod ({ cls := "GameValues", name := "winsSum", desc := "(III)Z" } : Jvm.MethodName)) ∈ lw_all := lw_g (lw_at lw_m1 95 rfl) rfl
theorem q112 : (Jvm.Cond.selects "GameValues" ({ cls := "GameValues", name := "winsSum", desc := "(III)Z" } : Jvm.MethodName) ({ cls := "GameValues", name := "winsSum", desc := "(III)Z" } : Jvm.MethodName)) ∈ lw_all := lw_g (lw_at lw_m1 96 rfl) rfl
theorem q113 : (Jvm.Cond.code ({ cls := "GameValues", name := "winsSum", desc := "(III)Z" } : Jvm.MethodName) prog_1_method_18_code (5 : Nat) (Option.some Jvm.ClassFile.FieldType.boolean)) ∈ lw_all := lw_g (lw_at lw_m1 97 rfl) rfl
theorem q117 : (Jvm.Cond.instanceMethod ({ cls := "GameValues", name := "dominated", desc := "(II)I" } : Jvm.MethodName)) ∈ lw_all := lw_g (lw_at lw_m1 101 rfl) rfl
theorem q118 : (Jvm.Cond.selects "GameValues" ({ cls := "GameValues", name := "dominated", desc := "(II)I" } : Jvm.MethodName) ({ cls := "GameValues", name := "dominated", desc := "(II)I" } : Jvm.MethodName)) ∈ lw_all := lw_g (lw_at lw_m1 102 rfl) rfl
theorem q119 : (Jvm.Cond.code ({ cls := "GameValues", name := "dominated", desc := "(II)I" } : Jvm.MethodName) prog_1_method_21_code (8 : Nat) (Option.some Jvm.ClassFile.FieldType.int)) ∈ lw_all := lw_g (lw_at lw_m1 103 rfl) rfl
theorem q120 : (Jvm.Cond.methodLink "GameValues" (73 : Nat) ({ cls := "GameValues", name := "moves", desc := "(II)I" } : Jvm.MethodName)) ∈ lw_all := lw_g (lw_at lw_m1 104 rfl) rfl
theorem q121 : (Jvm.Cond.methodLink "GameValues" (76 : Nat) ({ cls := "GameValues", name := "asGood", desc := "(III)Z" } : Jvm.MethodName)) ∈ lw_all := lw_g (lw_at lw_m1 105 rfl) rfl
theorem q122 : (Jvm.Cond.privateMethod ({ cls := "GameValues", name := "asGood", desc := "(III)Z" } : Jvm.MethodName)) ∈ lw_tbl := lw_at lw_m1 106 rfl
theorem q123 : (Jvm.Cond.instanceMethod ({ cls := "GameValues", name := "asGood", desc := "(III)Z" } : Jvm.MethodName)) ∈ lw_all := lw_g (lw_at lw_m1 107 rfl) rfl
theorem q124 : (Jvm.Cond.code ({ cls := "GameValues", name := "asGood", desc := "(III)Z" } : Jvm.MethodName) prog_1_method_20_code (4 : Nat) (Option.some Jvm.ClassFile.FieldType.boolean)) ∈ lw_all := lw_g (lw_at lw_m1 108 rfl) rfl
theorem q125 : (Jvm.Cond.methodLink "GameValues" (70 : Nat) ({ cls := "GameValues", name := "isAtLeast", desc := "(II)Z" } : Jvm.MethodName)) ∈ lw_all := lw_g (lw_at lw_m1 109 rfl) rfl
theorem q126 : (Jvm.Cond.privateMethod ({ cls := "GameValues", name := "isAtLeast", desc := "(II)Z" } : Jvm.MethodName)) ∈ lw_tbl := lw_at lw_m1 110 rfl
theorem q127 : (Jvm.Cond.instanceMethod ({ cls := "GameValues", name := "isAtLeast", desc := "(II)Z" } : Jvm.MethodName)) ∈ lw_all := lw_g (lw_at lw_m1 111 rfl) rfl
theorem q128 : (Jvm.Cond.code ({ cls := "GameValues", name := "isAtLeast", desc := "(II)Z" } : Jvm.MethodName) prog_1_method_14_code (3 : Nat) (Option.some Jvm.ClassFile.FieldType.boolean)) ∈ lw_all := lw_g (lw_at lw_m1 112 rfl) rfl
theorem q130 : (Jvm.Cond.instanceMethod ({ cls := "GameValues", name := "first", desc := "(I)I" } : Jvm.MethodName)) ∈ lw_all := lw_g (lw_at lw_m1 114 rfl) rfl
theorem q131 : (Jvm.Cond.selects "GameValues" ({ cls := "GameValues", name := "first", desc := "(I)I" } : Jvm.MethodName) ({ cls := "GameValues", name := "first", desc := "(I)I" } : Jvm.MethodName)) ∈ lw_all := lw_g (lw_at lw_m1 115 rfl) rfl
theorem q132 : (Jvm.Cond.code ({ cls := "GameValues", name := "first", desc := "(I)I" } : Jvm.MethodName) prog_1_method_22_code (3 : Nat) (Option.some Jvm.ClassFile.FieldType.int)) ∈ lw_all := lw_g (lw_at lw_m1 116 rfl) rfl
theorem q134 : (Jvm.Cond.instanceMethod ({ cls := "GameValues", name := "values", desc := "()I" } : Jvm.MethodName)) ∈ lw_all := lw_g (lw_at lw_m1 118 rfl) rfl
theorem q135 : (Jvm.Cond.selects "GameValues" ({ cls := "GameValues", name := "values", desc := "()I" } : Jvm.MethodName) ({ cls := "GameValues", name := "values", desc := "()I" } : Jvm.MethodName)) ∈ lw_all := lw_g (lw_at lw_m1 119 rfl) rfl
theorem q136 : (Jvm.Cond.code ({ cls := "GameValues", name := "values", desc := "()I" } : Jvm.MethodName) prog_1_method_23_code (3 : Nat) (Option.some Jvm.ClassFile.FieldType.int)) ∈ lw_all := lw_g (lw_at lw_m1 120 rfl) rfl
theorem q137 : (Jvm.Cond.methodLink "GameValues" (79 : Nat) ({ cls := "GameValues", name := "first", desc := "(I)I" } : Jvm.MethodName)) ∈ lw_all := lw_g (lw_at lw_m1 121 rfl) rfl
theorem q139 : (Jvm.Cond.instanceMethod ({ cls := "GameValues", name := "depth", desc := "(I)I" } : Jvm.MethodName)) ∈ lw_all := lw_g (lw_at lw_m1 123 rfl) rfl
theorem q140 : (Jvm.Cond.selects "GameValues" ({ cls := "GameValues", name := "depth", desc := "(I)I" } : Jvm.MethodName) ({ cls := "GameValues", name := "depth", desc := "(I)I" } : Jvm.MethodName)) ∈ lw_all := lw_g (lw_at lw_m1 124 rfl) rfl
theorem q141 : (Jvm.Cond.code ({ cls := "GameValues", name := "depth", desc := "(I)I" } : Jvm.MethodName) prog_1_method_24_code (7 : Nat) (Option.some Jvm.ClassFile.FieldType.int)) ∈ lw_all := lw_g (lw_at lw_m1 125 rfl) rfl
theorem q143 : (Jvm.Cond.instanceMethod ({ cls := "GameValues", name := "above", desc := "(I)I" } : Jvm.MethodName)) ∈ lw_all := lw_g (lw_at lw_m1 127 rfl) rfl
theorem q144 : (Jvm.Cond.selects "GameValues" ({ cls := "GameValues", name := "above", desc := "(I)I" } : Jvm.MethodName) ({ cls := "GameValues", name := "above", desc := "(I)I" } : Jvm.MethodName)) ∈ lw_all := lw_g (lw_at lw_m1 128 rfl) rfl
theorem q145 : (Jvm.Cond.code ({ cls := "GameValues", name := "above", desc := "(I)I" } : Jvm.MethodName) prog_1_method_25_code (4 : Nat) (Option.some Jvm.ClassFile.FieldType.int)) ∈ lw_all := lw_g (lw_at lw_m1 129 rfl) rfl
theorem q147 : (Jvm.Cond.instanceMethod ({ cls := "GameValues", name := "opposite", desc := "(II)Z" } : Jvm.MethodName)) ∈ lw_all := lw_g (lw_at lw_m1 131 rfl) rfl
theorem q148 : (Jvm.Cond.selects "GameValues" ({ cls := "GameValues", name := "opposite", desc := "(II)Z" } : Jvm.MethodName) ({ cls := "GameValues", name := "opposite", desc := "(II)Z" } : Jvm.MethodName)) ∈ lw_all := lw_g (lw_at lw_m1 132 rfl) rfl
theorem q149 : (Jvm.Cond.code ({ cls := "GameValues", name := "opposite", desc := "(II)Z" } : Jvm.MethodName) prog_1_method_26_code (3 : Nat) (Option.some Jvm.ClassFile.FieldType.boolean)) ∈ lw_all := lw_g (lw_at lw_m1 133 rfl) rfl
theorem in_X0 : ∀ w ∈ wsX00, w ∈ lw_all := lw_in wsX00 [33, 35, 37, 39, 41, 43] (by decide +kernel) (by decide +kernel)
/-! GameValuesModel -/
def RX1 : String := "GameValuesModel"
def TX1 : u_T := fun k => match k with
  | 0 => ("GameValuesModel", "size", "I", false)
  | 1 => ("GameValuesModel", "goes", "[I", false)
  | 2 => ("GameValuesModel", "won", "[Z", false)
  | _ => ("GameValuesModel", "deep", "[I", false)
def tyX1 : Nat → FieldType := fun k => match k with
  | 0 => .int
  | 1 => .array .int
  | 2 => .array .boolean
  | _ => .array .int
abbrev wsX10 : List Cond := u_ws RX1 TX1 4
theorem nmX1 : ∀ a, a < 4 → ∀ b, b < 4 → a ≠ b → (TX1 a).2.1 ≠ (TX1 b).2.1 := by decide +kernel
theorem tyX1_ok : ∀ k, k < 4 → parseFieldDescriptor (TX1 k).2.2.1 = some (tyX1 k) := by decide +kernel
abbrev cX1_init : ByteArray := prog_3_method_1_code
def yX1_init : MethodName := ⟨RX1, "<init>", "()V"⟩
abbrev cX1_add : ByteArray := prog_3_method_3_code
def yX1_add : MethodName := ⟨RX1, "add", "(II)I"⟩
abbrev cX1_drop : ByteArray := prog_3_method_4_code
def yX1_drop : MethodName := ⟨RX1, "drop", "()I"⟩
abbrev cX1_positions : ByteArray := prog_3_method_5_code
def yX1_positions : MethodName := ⟨RX1, "positions", "()I"⟩
abbrev cX1_moves : ByteArray := prog_3_method_6_code
def yX1_moves : MethodName := ⟨RX1, "moves", "(II)I"⟩
abbrev cX1_is : ByteArray := prog_3_method_2_code
def yX1_is : MethodName := ⟨RX1, "is", "(I)Z"⟩
abbrev cX1_compare : ByteArray := prog_3_method_12_code
def yX1_compare : MethodName := ⟨RX1, "compare", "(II)I"⟩
abbrev cX1_work : ByteArray := prog_3_method_9_code
def yX1_work : MethodName := ⟨RX1, "work", "()V"⟩
abbrev cX1_cell : ByteArray := prog_3_method_7_code
def yX1_cell : MethodName := ⟨RX1, "cell", "(IIII)I"⟩
abbrev cX1_canWin : ByteArray := prog_3_method_8_code
def yX1_canWin : MethodName := ⟨RX1, "canWin", "(IIII)Z"⟩
abbrev cX1_least : ByteArray := prog_3_method_10_code
def yX1_least : MethodName := ⟨RX1, "least", "(II)Z"⟩
abbrev cX1_stands : ByteArray := prog_3_method_11_code
def yX1_stands : MethodName := ⟨RX1, "stands", "(ZZ)I"⟩
abbrev cX1_wins : ByteArray := prog_3_method_13_code
def yX1_wins : MethodName := ⟨RX1, "wins", "(II)Z"⟩
abbrev cX1_winsSum : ByteArray := prog_3_method_14_code
def yX1_winsSum : MethodName := ⟨RX1, "winsSum", "(III)Z"⟩
abbrev cX1_compareSum : ByteArray := prog_3_method_15_code
def yX1_compareSum : MethodName := ⟨RX1, "compareSum", "(III)I"⟩
abbrev cX1_dominated : ByteArray := prog_3_method_17_code
def yX1_dominated : MethodName := ⟨RX1, "dominated", "(II)I"⟩
abbrev cX1_noBetter : ByteArray := prog_3_method_16_code
def yX1_noBetter : MethodName := ⟨RX1, "noBetter", "(III)Z"⟩
abbrev cX1_first : ByteArray := prog_3_method_18_code
def yX1_first : MethodName := ⟨RX1, "first", "(I)I"⟩
abbrev cX1_values : ByteArray := prog_3_method_19_code
def yX1_values : MethodName := ⟨RX1, "values", "()I"⟩
abbrev cX1_depth : ByteArray := prog_3_method_20_code
def yX1_depth : MethodName := ⟨RX1, "depth", "(I)I"⟩
abbrev cX1_above : ByteArray := prog_3_method_21_code
def yX1_above : MethodName := ⟨RX1, "above", "(I)I"⟩
abbrev cX1_opposite : ByteArray := prog_3_method_22_code
def yX1_opposite : MethodName := ⟨RX1, "opposite", "(II)Z"⟩
theorem q18 : (Jvm.Cond.initialized "GameValuesModel") ∈ lw_all := lw_g (lw_at lw_m1 2 rfl) rfl
theorem q151 : (Jvm.Cond.instantiable "GameValuesModel" (4 : Nat)) ∈ lw_all := lw_g (lw_at lw_m1 135 rfl) rfl
theorem q153 : (Jvm.Cond.instanceMethod ({ cls := "GameValuesModel", name := "<init>", desc := "()V" } : Jvm.MethodName)) ∈ lw_all := lw_g (lw_at lw_m1 137 rfl) rfl
theorem q154 : (Jvm.Cond.code ({ cls := "GameValuesModel", name := "<init>", desc := "()V" } : Jvm.MethodName) prog_3_method_1_code (1 : Nat) (Option.none : Option Jvm.ClassFile.FieldType)) ∈ lw_all := lw_g (lw_at lw_m1 138 rfl) rfl
theorem q155 : (Jvm.Cond.methodLink "GameValuesModel" (1 : Nat) ({ cls := "java/lang/Object", name := "<init>", desc := "()V" } : Jvm.MethodName)) ∈ lw_all := lw_g (lw_at lw_m1 139 rfl) rfl
theorem q156 : (Jvm.Cond.fieldLink "GameValuesModel" (20 : Nat) "GameValuesModel" "size" "I") ∈ lw_all := lw_g (lw_at lw_m1 140 rfl) rfl
theorem q157 : (Jvm.Cond.fieldLink "GameValuesModel" (7 : Nat) "GameValuesModel" "goes" "[I") ∈ lw_all := lw_g (lw_at lw_m1 141 rfl) rfl
theorem q158 : (Jvm.Cond.fieldLink "GameValuesModel" (13 : Nat) "GameValuesModel" "won" "[Z") ∈ lw_all := lw_g (lw_at lw_m1 142 rfl) rfl
theorem q159 : (Jvm.Cond.fieldLink "GameValuesModel" (17 : Nat) "GameValuesModel" "deep" "[I") ∈ lw_all := lw_g (lw_at lw_m1 143 rfl) rfl
theorem q160 : (Jvm.Cond.lays "GameValuesModel" "GameValuesModel" "size" "I") ∈ lw_all := lw_g (lw_at lw_m1 144 rfl) rfl
theorem q161 : (Jvm.Cond.soleField "GameValuesModel" "size") ∈ lw_all := lw_g (lw_at lw_m1 145 rfl) rfl
theorem q162 : (Jvm.Cond.lays "GameValuesModel" "GameValuesModel" "goes" "[I") ∈ lw_all := lw_g (lw_at lw_m1 146 rfl) rfl
theorem q163 : (Jvm.Cond.soleField "GameValuesModel" "goes") ∈ lw_all := lw_g (lw_at lw_m1 147 rfl) rfl
theorem q164 : (Jvm.Cond.lays "GameValuesModel" "GameValuesModel" "won" "[Z") ∈ lw_all := lw_g (lw_at lw_m1 148 rfl) rfl
theorem q165 : (Jvm.Cond.soleField "GameValuesModel" "won") ∈ lw_all := lw_g (lw_at lw_m1 149 rfl) rfl
theorem q166 : (Jvm.Cond.lays "GameValuesModel" "GameValuesModel" "deep" "[I") ∈ lw_all := lw_g (lw_at lw_m1 150 rfl) rfl
theorem q167 : (Jvm.Cond.soleField "GameValuesModel" "deep") ∈ lw_all := lw_g (lw_at lw_m1 151 rfl) rfl
theorem q168 : (Jvm.Cond.superclass "GameValuesModel" "java/lang/Object") ∈ lw_all := lw_g (lw_at lw_m1 152 rfl) rfl
theorem q171 : (Jvm.Cond.instanceMethod ({ cls := "GameValuesModel", name := "add", desc := "(II)I" } : Jvm.MethodName)) ∈ lw_all := lw_g (lw_at lw_m1 155 rfl) rfl
theorem q172 : (Jvm.Cond.selects "GameValuesModel" ({ cls := "GameValuesModel", name := "add", desc := "(II)I" } : Jvm.MethodName) ({ cls := "GameValuesModel", name := "add", desc := "(II)I" } : Jvm.MethodName)) ∈ lw_all := lw_g (lw_at lw_m1 156 rfl) rfl
theorem q173 : (Jvm.Cond.code ({ cls := "GameValuesModel", name := "add", desc := "(II)I" } : Jvm.MethodName) prog_3_method_3_code (4 : Nat) (Option.some Jvm.ClassFile.FieldType.int)) ∈ lw_all := lw_g (lw_at lw_m1 157 rfl) rfl
theorem q175 : (Jvm.Cond.instanceMethod ({ cls := "GameValuesModel", name := "drop", desc := "()I" } : Jvm.MethodName)) ∈ lw_all := lw_g (lw_at lw_m1 159 rfl) rfl
theorem q176 : (Jvm.Cond.selects "GameValuesModel" ({ cls := "GameValuesModel", name := "drop", desc := "()I" } : Jvm.MethodName) ({ cls := "GameValuesModel", name := "drop", desc := "()I" } : Jvm.MethodName)) ∈ lw_all := lw_g (lw_at lw_m1 160 rfl) rfl
theorem q177 : (Jvm.Cond.code ({ cls := "GameValuesModel", name := "drop", desc := "()I" } : Jvm.MethodName) prog_3_method_4_code (1 : Nat) (Option.some Jvm.ClassFile.FieldType.int)) ∈ lw_all := lw_g (lw_at lw_m1 161 rfl) rfl
theorem q179 : (Jvm.Cond.instanceMethod ({ cls := "GameValuesModel", name := "positions", desc := "()I" } : Jvm.MethodName)) ∈ lw_all := lw_g (lw_at lw_m1 163 rfl) rfl
theorem q180 : (Jvm.Cond.selects "GameValuesModel" ({ cls := "GameValuesModel", name := "positions", desc := "()I" } : Jvm.MethodName) ({ cls := "GameValuesModel", name := "positions", desc := "()I" } : Jvm.MethodName)) ∈ lw_all := lw_g (lw_at lw_m1 164 rfl) rfl
theorem q181 : (Jvm.Cond.code ({ cls := "GameValuesModel", name := "positions", desc := "()I" } : Jvm.MethodName) prog_3_method_5_code (1 : Nat) (Option.some Jvm.ClassFile.FieldType.int)) ∈ lw_all := lw_g (lw_at lw_m1 165 rfl) rfl
theorem q183 : (Jvm.Cond.instanceMethod ({ cls := "GameValuesModel", name := "moves", desc := "(II)I" } : Jvm.MethodName)) ∈ lw_all := lw_g (lw_at lw_m1 167 rfl) rfl
theorem q184 : (Jvm.Cond.selects "GameValuesModel" ({ cls := "GameValuesModel", name := "moves", desc := "(II)I" } : Jvm.MethodName) ({ cls := "GameValuesModel", name := "moves", desc := "(II)I" } : Jvm.MethodName)) ∈ lw_all := lw_g (lw_at lw_m1 168 rfl) rfl
theorem q185 : (Jvm.Cond.code ({ cls := "GameValuesModel", name := "moves", desc := "(II)I" } : Jvm.MethodName) prog_3_method_6_code (3 : Nat) (Option.some Jvm.ClassFile.FieldType.int)) ∈ lw_all := lw_g (lw_at lw_m1 169 rfl) rfl
theorem q186 : (Jvm.Cond.methodLink "GameValuesModel" (24 : Nat) ({ cls := "GameValuesModel", name := "is", desc := "(I)Z" } : Jvm.MethodName)) ∈ lw_all := lw_g (lw_at lw_m1 170 rfl) rfl
theorem q187 : (Jvm.Cond.privateMethod ({ cls := "GameValuesModel", name := "is", desc := "(I)Z" } : Jvm.MethodName)) ∈ lw_tbl := lw_at lw_m1 171 rfl
theorem q188 : (Jvm.Cond.instanceMethod ({ cls := "GameValuesModel", name := "is", desc := "(I)Z" } : Jvm.MethodName)) ∈ lw_all := lw_g (lw_at lw_m1 172 rfl) rfl
theorem q189 : (Jvm.Cond.code ({ cls := "GameValuesModel", name := "is", desc := "(I)Z" } : Jvm.MethodName) prog_3_method_2_code (2 : Nat) (Option.some Jvm.ClassFile.FieldType.boolean)) ∈ lw_all := lw_g (lw_at lw_m1 173 rfl) rfl
theorem q191 : (Jvm.Cond.instanceMethod ({ cls := "GameValuesModel", name := "compare", desc := "(II)I" } : Jvm.MethodName)) ∈ lw_all := lw_g (lw_at lw_m1 175 rfl) rfl
theorem q192 : (Jvm.Cond.selects "GameValuesModel" ({ cls := "GameValuesModel", name := "compare", desc := "(II)I" } : Jvm.MethodName) ({ cls := "GameValuesModel", name := "compare", desc := "(II)I" } : Jvm.MethodName)) ∈ lw_all := lw_g (lw_at lw_m1 176 rfl) rfl
theorem q193 : (Jvm.Cond.code ({ cls := "GameValuesModel", name := "compare", desc := "(II)I" } : Jvm.MethodName) prog_3_method_12_code (3 : Nat) (Option.some Jvm.ClassFile.FieldType.int)) ∈ lw_all := lw_g (lw_at lw_m1 177 rfl) rfl
theorem q194 : (Jvm.Cond.methodLink "GameValuesModel" (36 : Nat) ({ cls := "GameValuesModel", name := "work", desc := "()V" } : Jvm.MethodName)) ∈ lw_all := lw_g (lw_at lw_m1 178 rfl) rfl
theorem q195 : (Jvm.Cond.privateMethod ({ cls := "GameValuesModel", name := "work", desc := "()V" } : Jvm.MethodName)) ∈ lw_tbl := lw_at lw_m1 179 rfl
theorem q196 : (Jvm.Cond.instanceMethod ({ cls := "GameValuesModel", name := "work", desc := "()V" } : Jvm.MethodName)) ∈ lw_all := lw_g (lw_at lw_m1 180 rfl) rfl
theorem q197 : (Jvm.Cond.code ({ cls := "GameValuesModel", name := "work", desc := "()V" } : Jvm.MethodName) prog_3_method_9_code (5 : Nat) (Option.none : Option Jvm.ClassFile.FieldType)) ∈ lw_all := lw_g (lw_at lw_m1 181 rfl) rfl
theorem q198 : (Jvm.Cond.methodLink "GameValuesModel" (28 : Nat) ({ cls := "GameValuesModel", name := "cell", desc := "(IIII)I" } : Jvm.MethodName)) ∈ lw_all := lw_g (lw_at lw_m1 182 rfl) rfl
theorem q199 : (Jvm.Cond.privateMethod ({ cls := "GameValuesModel", name := "cell", desc := "(IIII)I" } : Jvm.MethodName)) ∈ lw_tbl := lw_at lw_m1 183 rfl
theorem q200 : (Jvm.Cond.instanceMethod ({ cls := "GameValuesModel", name := "cell", desc := "(IIII)I" } : Jvm.MethodName)) ∈ lw_all := lw_g (lw_at lw_m1 184 rfl) rfl
theorem q201 : (Jvm.Cond.code ({ cls := "GameValuesModel", name := "cell", desc := "(IIII)I" } : Jvm.MethodName) prog_3_method_7_code (5 : Nat) (Option.some Jvm.ClassFile.FieldType.int)) ∈ lw_all := lw_g (lw_at lw_m1 185 rfl) rfl
theorem q202 : (Jvm.Cond.methodLink "GameValuesModel" (32 : Nat) ({ cls := "GameValuesModel", name := "canWin", desc := "(IIII)Z" } : Jvm.MethodName)) ∈ lw_all := lw_g (lw_at lw_m1 186 rfl) rfl
theorem q203 : (Jvm.Cond.privateMethod ({ cls := "GameValuesModel", name := "canWin", desc := "(IIII)Z" } : Jvm.MethodName)) ∈ lw_tbl := lw_at lw_m1 187 rfl
theorem q204 : (Jvm.Cond.instanceMethod ({ cls := "GameValuesModel", name := "canWin", desc := "(IIII)Z" } : Jvm.MethodName)) ∈ lw_all := lw_g (lw_at lw_m1 188 rfl) rfl
theorem q205 : (Jvm.Cond.code ({ cls := "GameValuesModel", name := "canWin", desc := "(IIII)Z" } : Jvm.MethodName) prog_3_method_8_code (10 : Nat) (Option.some Jvm.ClassFile.FieldType.boolean)) ∈ lw_all := lw_g (lw_at lw_m1 189 rfl) rfl
theorem q206 : (Jvm.Cond.methodLink "GameValuesModel" (39 : Nat) ({ cls := "GameValuesModel", name := "least", desc := "(II)Z" } : Jvm.MethodName)) ∈ lw_all := lw_g (lw_at lw_m1 190 rfl) rfl
theorem q207 : (Jvm.Cond.privateMethod ({ cls := "GameValuesModel", name := "least", desc := "(II)Z" } : Jvm.MethodName)) ∈ lw_tbl := lw_at lw_m1 191 rfl
theorem q208 : (Jvm.Cond.instanceMethod ({ cls := "GameValuesModel", name := "least", desc := "(II)Z" } : Jvm.MethodName)) ∈ lw_all := lw_g (lw_at lw_m1 192 rfl) rfl
theorem q209 : (Jvm.Cond.code ({ cls := "GameValuesModel", name := "least", desc := "(II)Z" } : Jvm.MethodName) prog_3_method_10_code (3 : Nat) (Option.some Jvm.ClassFile.FieldType.boolean)) ∈ lw_all := lw_g (lw_at lw_m1 193 rfl) rfl
theorem q210 : (Jvm.Cond.methodLink "GameValuesModel" (43 : Nat) ({ cls := "GameValuesModel", name := "stands", desc := "(ZZ)I" } : Jvm.MethodName)) ∈ lw_all := lw_g (lw_at lw_m1 194 rfl) rfl
theorem q211 : (Jvm.Cond.privateMethod ({ cls := "GameValuesModel", name := "stands", desc := "(ZZ)I" } : Jvm.MethodName)) ∈ lw_tbl := lw_at lw_m1 195 rfl
theorem q212 : (Jvm.Cond.instanceMethod ({ cls := "GameValuesModel", name := "stands", desc := "(ZZ)I" } : Jvm.MethodName)) ∈ lw_all := lw_g (lw_at lw_m1 196 rfl) rfl
theorem q213 : (Jvm.Cond.code ({ cls := "GameValuesModel", name := "stands", desc := "(ZZ)I" } : Jvm.MethodName) prog_3_method_11_code (3 : Nat) (Option.some Jvm.ClassFile.FieldType.int)) ∈ lw_all := lw_g (lw_at lw_m1 197 rfl) rfl
theorem q215 : (Jvm.Cond.instanceMethod ({ cls := "GameValuesModel", name := "wins", desc := "(II)Z" } : Jvm.MethodName)) ∈ lw_all := lw_g (lw_at lw_m1 199 rfl) rfl
theorem q216 : (Jvm.Cond.selects "GameValuesModel" ({ cls := "GameValuesModel", name := "wins", desc := "(II)Z" } : Jvm.MethodName) ({ cls := "GameValuesModel", name := "wins", desc := "(II)Z" } : Jvm.MethodName)) ∈ lw_all := lw_g (lw_at lw_m1 200 rfl) rfl
theorem q217 : (Jvm.Cond.code ({ cls := "GameValuesModel", name := "wins", desc := "(II)Z" } : Jvm.MethodName) prog_3_method_13_code (3 : Nat) (Option.some Jvm.ClassFile.FieldType.boolean)) ∈ lw_all := lw_g (lw_at lw_m1 201 rfl) rfl
theorem q218 : (Jvm.Cond.methodLink "GameValuesModel" (47 : Nat) ({ cls := "GameValuesModel", name := "winsSum", desc := "(III)Z" } : Jvm.MethodName)) ∈ lw_all := lw_g (lw_at lw_m1 202 rfl) rfl
theorem q219 : (Jvm.Cond.instanceMethod ({ cls := "GameValuesModel", name := "winsSum", desc := "(III)Z" } : Jvm.MethodName)) ∈ lw_all := lw_g (lw_at lw_m1 203 rfl) rfl
theorem q220 : (Jvm.Cond.selects "GameValuesModel" ({ cls := "GameValuesModel", name := "winsSum", desc := "(III)Z" } : Jvm.MethodName) ({ cls := "GameValuesModel", name := "winsSum", desc := "(III)Z" } : Jvm.MethodName)) ∈ lw_all := lw_g (lw_at lw_m1 204 rfl) rfl
theorem q221 : (Jvm.Cond.code ({ cls := "GameValuesModel", name := "winsSum", desc := "(III)Z" } : Jvm.MethodName) prog_3_method_14_code (4 : Nat) (Option.some Jvm.ClassFile.FieldType.boolean)) ∈ lw_all := lw_g (lw_at lw_m1 205 rfl) rfl
theorem q224 : (Jvm.Cond.instanceMethod ({ cls := "GameValuesModel", name := "compareSum", desc := "(III)I" } : Jvm.MethodName)) ∈ lw_all := lw_g (lw_at lw_m1 208 rfl) rfl
theorem q225 : (Jvm.Cond.selects "GameValuesModel" ({ cls := "GameValuesModel", name := "compareSum", desc := "(III)I" } : Jvm.MethodName) ({ cls := "GameValuesModel", name := "compareSum", desc := "(III)I" } : Jvm.MethodName)) ∈ lw_all := lw_g (lw_at lw_m1 209 rfl) rfl
theorem q226 : (Jvm.Cond.code ({ cls := "GameValuesModel", name := "compareSum", desc := "(III)I" } : Jvm.MethodName) prog_3_method_15_code (4 : Nat) (Option.some Jvm.ClassFile.FieldType.int)) ∈ lw_all := lw_g (lw_at lw_m1 210 rfl) rfl
theorem q228 : (Jvm.Cond.instanceMethod ({ cls := "GameValuesModel", name := "dominated", desc := "(II)I" } : Jvm.MethodName)) ∈ lw_all := lw_g (lw_at lw_m1 212 rfl) rfl
theorem q229 : (Jvm.Cond.selects "GameValuesModel" ({ cls := "GameValuesModel", name := "dominated", desc := "(II)I" } : Jvm.MethodName) ({ cls := "GameValuesModel", name := "dominated", desc := "(II)I" } : Jvm.MethodName)) ∈ lw_all := lw_g (lw_at lw_m1 213 rfl) rfl
theorem q230 : (Jvm.Cond.code ({ cls := "GameValuesModel", name := "dominated", desc := "(II)I" } : Jvm.MethodName) prog_3_method_17_code (9 : Nat) (Option.some Jvm.ClassFile.FieldType.int)) ∈ lw_all := lw_g (lw_at lw_m1 214 rfl) rfl
theorem q231 : (Jvm.Cond.methodLink "GameValuesModel" (51 : Nat) ({ cls := "GameValuesModel", name := "noBetter", desc := "(III)Z" } : Jvm.MethodName)) ∈ lw_all := lw_g (lw_at lw_m1 215 rfl) rfl
theorem q232 : (Jvm.Cond.privateMethod ({ cls := "GameValuesModel", name := "noBetter", desc := "(III)Z" } : Jvm.MethodName)) ∈ lw_tbl := lw_at lw_m1 216 rfl
theorem q233 : (Jvm.Cond.instanceMethod ({ cls := "GameValuesModel", name := "noBetter", desc := "(III)Z" } : Jvm.MethodName)) ∈ lw_all := lw_g (lw_at lw_m1 217 rfl) rfl
theorem q234 : (Jvm.Cond.code ({ cls := "GameValuesModel", name := "noBetter", desc := "(III)Z" } : Jvm.MethodName) prog_3_method_16_code (6 : Nat) (Option.some Jvm.ClassFile.FieldType.boolean)) ∈ lw_all := lw_g (lw_at lw_m1 218 rfl) rfl
theorem q236 : (Jvm.Cond.instanceMethod ({ cls := "GameValuesModel", name := "first", desc := "(I)I" } : Jvm.MethodName)) ∈ lw_all := lw_g (lw_at lw_m1 220 rfl) rfl
theorem q237 : (Jvm.Cond.selects "GameValuesModel" ({ cls := "GameValuesModel", name := "first", desc := "(I)I" } : Jvm.MethodName) ({ cls := "GameValuesModel", name := "first", desc := "(I)I" } : Jvm.MethodName)) ∈ lw_all := lw_g (lw_at lw_m1 221 rfl) rfl
theorem q238 : (Jvm.Cond.code ({ cls := "GameValuesModel", name := "first", desc := "(I)I" } : Jvm.MethodName) prog_3_method_18_code (3 : Nat) (Option.some Jvm.ClassFile.FieldType.int)) ∈ lw_all := lw_g (lw_at lw_m1 222 rfl) rfl
theorem q239 : (Jvm.Cond.methodLink "GameValuesModel" (54 : Nat) ({ cls := "GameValuesModel", name := "compare", desc := "(II)I" } : Jvm.MethodName)) ∈ lw_all := lw_g (lw_at lw_m1 223 rfl) rfl
theorem q241 : (Jvm.Cond.instanceMethod ({ cls := "GameValuesModel", name := "values", desc := "()I" } : Jvm.MethodName)) ∈ lw_all := lw_g (lw_at lw_m1 225 rfl) rfl
theorem q242 : (Jvm.Cond.selects "GameValuesModel" ({ cls := "GameValuesModel", name := "values", desc := "()I" } : Jvm.MethodName) ({ cls := "GameValuesModel", name := "values", desc := "()I" } : Jvm.MethodName)) ∈ lw_all := lw_g (lw_at lw_m1 226 rfl) rfl
theorem q243 : (Jvm.Cond.code ({ cls := "GameValuesModel", name := "values", desc := "()I" } : Jvm.MethodName) prog_3_method_19_code (3 : Nat) (Option.some Jvm.ClassFile.FieldType.int)) ∈ lw_all := lw_g (lw_at lw_m1 227 rfl) rfl
theorem q244 : (Jvm.Cond.methodLink "GameValuesModel" (58 : Nat) ({ cls := "GameValuesModel", name := "first", desc := "(I)I" } : Jvm.MethodName)) ∈ lw_all := lw_g (lw_at lw_m1 228 rfl) rfl
theorem q246 : (Jvm.Cond.instanceMethod ({ cls := "GameValuesModel", name := "depth", desc := "(I)I" } : Jvm.MethodName)) ∈ lw_all := lw_g (lw_at lw_m1 230 rfl) rfl
theorem q247 : (Jvm.Cond.selects "GameValuesModel" ({ cls := "GameValuesModel", name := "depth", desc := "(I)I" } : Jvm.MethodName) ({ cls := "GameValuesModel", name := "depth", desc := "(I)I" } : Jvm.MethodName)) ∈ lw_all := lw_g (lw_at lw_m1 231 rfl) rfl
theorem q248 : (Jvm.Cond.code ({ cls := "GameValuesModel", name := "depth", desc := "(I)I" } : Jvm.MethodName) prog_3_method_20_code (5 : Nat) (Option.some Jvm.ClassFile.FieldType.int)) ∈ lw_all := lw_g (lw_at lw_m1 232 rfl) rfl
theorem q250 : (Jvm.Cond.instanceMethod ({ cls := "GameValuesModel", name := "above", desc := "(I)I" } : Jvm.MethodName)) ∈ lw_all := lw_g (lw_at lw_m1 234 rfl) rfl
theorem q251 : (Jvm.Cond.selects "GameValuesModel" ({ cls := "GameValuesModel", name := "above", desc := "(I)I" } : Jvm.MethodName) ({ cls := "GameValuesModel", name := "above", desc := "(I)I" } : Jvm.MethodName)) ∈ lw_all := lw_g (lw_at lw_m1 235 rfl) rfl
theorem q252 : (Jvm.Cond.code ({ cls := "GameValuesModel", name := "above", desc := "(I)I" } : Jvm.MethodName) prog_3_method_21_code (4 : Nat) (Option.some Jvm.ClassFile.FieldType.int)) ∈ lw_all := lw_g (lw_at lw_m1 236 rfl) rfl
theorem q254 : (Jvm.Cond.instanceMethod ({ cls := "GameValuesModel", name := "opposite", desc := "(II)Z" } : Jvm.MethodName)) ∈ lw_all := lw_g (lw_at lw_m1 238 rfl) rfl
theorem q255 : (Jvm.Cond.selects "GameValuesModel" ({ cls := "GameValuesModel", name := "opposite", desc := "(II)Z" } : Jvm.MethodName) ({ cls := "GameValuesModel", name := "opposite", desc := "(II)Z" } : Jvm.MethodName)) ∈ lw_all := lw_g (lw_at lw_m1 239 rfl) rfl
theorem q256 : (Jvm.Cond.code ({ cls := "GameValuesModel", name := "opposite", desc := "(II)Z" } : Jvm.MethodName) prog_3_method_22_code (3 : Nat) (Option.some Jvm.ClassFile.FieldType.boolean)) ∈ lw_all := lw_g (lw_at lw_m2 0 rfl) rfl
theorem in_X1 : ∀ w ∈ wsX10, w ∈ lw_all := lw_in wsX10 [160, 162, 164, 166] (by decide +kernel) (by decide +kernel)
/-! the law's own entry -/
abbrev cL_law : ByteArray := code
theorem q16 : (Jvm.Cond.initialized "GameValuesLaw") ∈ lw_all := lw_g (lw_at lw_m1 0 rfl) rfl
theorem q19 : (Jvm.Cond.classLink "GameValuesLaw" (7 : Nat) "GameValues") ∈ lw_all := lw_g (lw_at lw_m1 3 rfl) rfl
theorem q21 : (Jvm.Cond.methodLink "GameValuesLaw" (9 : Nat) ({ cls := "GameValues", name := "<init>", desc := "()V" } : Jvm.MethodName)) ∈ lw_all := lw_g (lw_at lw_m1 5 rfl) rfl
theorem q48 : (Jvm.Cond.methodLink "GameValuesLaw" (13 : Nat) ({ cls := "GameValues", name := "add", desc := "(II)I" } : Jvm.MethodName)) ∈ lw_all := lw_g (lw_at lw_m1 32 rfl) rfl
theorem q56 : (Jvm.Cond.methodLink "GameValuesLaw" (18 : Nat) ({ cls := "GameValues", name := "drop", desc := "()I" } : Jvm.MethodName)) ∈ lw_all := lw_g (lw_at lw_m1 40 rfl) rfl
theorem q60 : (Jvm.Cond.methodLink "GameValuesLaw" (23 : Nat) ({ cls := "GameValues", name := "positions", desc := "()I" } : Jvm.MethodName)) ∈ lw_all := lw_g (lw_at lw_m1 44 rfl) rfl
theorem q64 : (Jvm.Cond.methodLink "GameValuesLaw" (27 : Nat) ({ cls := "GameValues", name := "moves", desc := "(II)I" } : Jvm.MethodName)) ∈ lw_all := lw_g (lw_at lw_m1 48 rfl) rfl
theorem q76 : (Jvm.Cond.methodLink "GameValuesLaw" (31 : Nat) ({ cls := "GameValues", name := "compare", desc := "(II)I" } : Jvm.MethodName)) ∈ lw_all := lw_g (lw_at lw_m1 60 rfl) rfl
theorem q106 : (Jvm.Cond.methodLink "GameValuesLaw" (35 : Nat) ({ cls := "GameValues", name := "wins", desc := "(II)Z" } : Jvm.MethodName)) ∈ lw_all := lw_g (lw_at lw_m1 90 rfl) rfl
theorem q114 : (Jvm.Cond.methodLink "GameValuesLaw" (40 : Nat) ({ cls := "GameValues", name := "winsSum", desc := "(III)Z" } : Jvm.MethodName)) ∈ lw_all := lw_g (lw_at lw_m1 98 rfl) rfl
theorem q115 : (Jvm.Cond.methodLink "GameValuesLaw" (45 : Nat) ({ cls := "GameValues", name := "compareSum", desc := "(III)I" } : Jvm.MethodName)) ∈ lw_all := lw_g (lw_at lw_m1 99 rfl) rfl
theorem q116 : (Jvm.Cond.methodLink "GameValuesLaw" (50 : Nat) ({ cls := "GameValues", name := "dominated", desc := "(II)I" } : Jvm.MethodName)) ∈ lw_all := lw_g (lw_at lw_m1 100 rfl) rfl
theorem q129 : (Jvm.Cond.methodLink "GameValuesLaw" (54 : Nat) ({ cls := "GameValues", name := "first", desc := "(I)I" } : Jvm.MethodName)) ∈ lw_all := lw_g (lw_at lw_m1 113 rfl) rfl
theorem q133 : (Jvm.Cond.methodLink "GameValuesLaw" (59 : Nat) ({ cls := "GameValues", name := "values", desc := "()I" } : Jvm.MethodName)) ∈ lw_all := lw_g (lw_at lw_m1 117 rfl) rfl
theorem q138 : (Jvm.Cond.methodLink "GameValuesLaw" (63 : Nat) ({ cls := "GameValues", name := "depth", desc := "(I)I" } : Jvm.MethodName)) ∈ lw_all := lw_g (lw_at lw_m1 122 rfl) rfl
theorem q142 : (Jvm.Cond.methodLink "GameValuesLaw" (67 : Nat) ({ cls := "GameValues", name := "above", desc := "(I)I" } : Jvm.MethodName)) ∈ lw_all := lw_g (lw_at lw_m1 126 rfl) rfl
theorem q146 : (Jvm.Cond.methodLink "GameValuesLaw" (71 : Nat) ({ cls := "GameValues", name := "opposite", desc := "(II)Z" } : Jvm.MethodName)) ∈ lw_all := lw_g (lw_at lw_m1 130 rfl) rfl
theorem q150 : (Jvm.Cond.classLink "GameValuesLaw" (10 : Nat) "GameValuesModel") ∈ lw_all := lw_g (lw_at lw_m1 134 rfl) rfl
theorem q152 : (Jvm.Cond.methodLink "GameValuesLaw" (12 : Nat) ({ cls := "GameValuesModel", name := "<init>", desc := "()V" } : Jvm.MethodName)) ∈ lw_all := lw_g (lw_at lw_m1 136 rfl) rfl
theorem q170 : (Jvm.Cond.methodLink "GameValuesLaw" (17 : Nat) ({ cls := "GameValuesModel", name := "add", desc := "(II)I" } : Jvm.MethodName)) ∈ lw_all := lw_g (lw_at lw_m1 154 rfl) rfl
theorem q174 : (Jvm.Cond.methodLink "GameValuesLaw" (22 : Nat) ({ cls := "GameValuesModel", name := "drop", desc := "()I" } : Jvm.MethodName)) ∈ lw_all := lw_g (lw_at lw_m1 158 rfl) rfl
theorem q178 : (Jvm.Cond.methodLink "GameValuesLaw" (26 : Nat) ({ cls := "GameValuesModel", name := "positions", desc := "()I" } : Jvm.MethodName)) ∈ lw_all := lw_g (lw_at lw_m1 162 rfl) rfl
theorem q182 : (Jvm.Cond.methodLink "GameValuesLaw" (30 : Nat) ({ cls := "GameValuesModel", name := "moves", desc := "(II)I" } : Jvm.MethodName)) ∈ lw_all := lw_g (lw_at lw_m1 166 rfl) rfl
theorem q190 : (Jvm.Cond.methodLink "GameValuesLaw" (34 : Nat) ({ cls := "GameValuesModel", name := "compare", desc := "(II)I" } : Jvm.MethodName)) ∈ lw_all := lw_g (lw_at lw_m1 174 rfl) rfl
theorem q214 : (Jvm.Cond.methodLink "GameValuesLaw" (39 : Nat) ({ cls := "GameValuesModel", name := "wins", desc := "(II)Z" } : Jvm.MethodName)) ∈ lw_all := lw_g (lw_at lw_m1 198 rfl) rfl
theorem q222 : (Jvm.Cond.methodLink "GameValuesLaw" (44 : Nat) ({ cls := "GameValuesModel", name := "winsSum", desc := "(III)Z" } : Jvm.MethodName)) ∈ lw_all := lw_g (lw_at lw_m1 206 rfl) rfl
theorem q223 : (Jvm.Cond.methodLink "GameValuesLaw" (49 : Nat) ({ cls := "GameValuesModel", name := "compareSum", desc := "(III)I" } : Jvm.MethodName)) ∈ lw_all := lw_g (lw_at lw_m1 207 rfl) rfl
theorem q227 : (Jvm.Cond.methodLink "GameValuesLaw" (53 : Nat) ({ cls := "GameValuesModel", name := "dominated", desc := "(II)I" } : Jvm.MethodName)) ∈ lw_all := lw_g (lw_at lw_m1 211 rfl) rfl
theorem q235 : (Jvm.Cond.methodLink "GameValuesLaw" (58 : Nat) ({ cls := "GameValuesModel", name := "first", desc := "(I)I" } : Jvm.MethodName)) ∈ lw_all := lw_g (lw_at lw_m1 219 rfl) rfl
theorem q240 : (Jvm.Cond.methodLink "GameValuesLaw" (62 : Nat) ({ cls := "GameValuesModel", name := "values", desc := "()I" } : Jvm.MethodName)) ∈ lw_all := lw_g (lw_at lw_m1 224 rfl) rfl
theorem q245 : (Jvm.Cond.methodLink "GameValuesLaw" (66 : Nat) ({ cls := "GameValuesModel", name := "depth", desc := "(I)I" } : Jvm.MethodName)) ∈ lw_all := lw_g (lw_at lw_m1 229 rfl) rfl
theorem q249 : (Jvm.Cond.methodLink "GameValuesLaw" (70 : Nat) ({ cls := "GameValuesModel", name := "above", desc := "(I)I" } : Jvm.MethodName)) ∈ lw_all := lw_g (lw_at lw_m1 233 rfl) rfl
theorem q253 : (Jvm.Cond.methodLink "GameValuesLaw" (74 : Nat) ({ cls := "GameValuesModel", name := "opposite", desc := "(II)Z" } : Jvm.MethodName)) ∈ lw_all := lw_g (lw_at lw_m1 237 rfl) rfl
theorem q46 : (Jvm.Cond.arrayClass Jvm.ClassFile.FieldType.short) ∈ lw_all := lw_g (lw_at lw_m1 30 rfl) rfl
theorem q47 : (Jvm.Cond.arrayClass Jvm.ClassFile.FieldType.boolean) ∈ lw_all := lw_g (lw_at lw_m1 31 rfl) rfl
theorem q169 : (Jvm.Cond.arrayClass Jvm.ClassFile.FieldType.int) ∈ lw_all := lw_g (lw_at lw_m1 153 rfl) rfl
theorem dJ0_init_0 : decode cJ0_init 0 = .ok (.return_, 1) := by decide +kernel
end
section
set_option maxRecDepth 100000
theorem dX0_init_0 : decode cX0_init 0 = .ok (.aload_n 0, 1) := by decide +kernel
theorem dX0_init_1 : decode cX0_init 1 = .ok (.invokespecial 1, 3) := by decide +kernel
theorem dX0_init_4 : decode cX0_init 4 = .ok (.aload_n 0, 1) := by decide +kernel
theorem dX0_init_5 : decode cX0_init 5 = .ok (.iconst 1, 1) := by decide +kernel
theorem dX0_init_6 : decode cX0_init 6 = .ok (.putfield 7, 3) := by decide +kernel
theorem dX0_init_9 : decode cX0_init 9 = .ok (.aload_n 0, 1) := by decide +kernel
theorem dX0_init_10 : decode cX0_init 10 = .ok (.bipush 10, 2) := by decide +kernel
theorem dX0_init_12 : decode cX0_init 12 = .ok (.newarray .short, 2) := by decide +kernel
theorem dX0_init_14 : decode cX0_init 14 = .ok (.putfield 13, 3) := by decide +kernel
theorem dX0_init_17 : decode cX0_init 17 = .ok (.aload_n 0, 1) := by decide +kernel
theorem dX0_init_18 : decode cX0_init 18 = .ok (.bipush 10, 2) := by decide +kernel
theorem dX0_init_20 : decode cX0_init 20 = .ok (.newarray .short, 2) := by decide +kernel
theorem dX0_init_22 : decode cX0_init 22 = .ok (.putfield 17, 3) := by decide +kernel
theorem dX0_init_25 : decode cX0_init 25 = .ok (.aload_n 0, 1) := by decide +kernel
theorem dX0_init_26 : decode cX0_init 26 = .ok (.sipush 1000, 3) := by decide +kernel
theorem dX0_init_29 : decode cX0_init 29 = .ok (.newarray .boolean, 2) := by decide +kernel
theorem dX0_init_31 : decode cX0_init 31 = .ok (.putfield 20, 3) := by decide +kernel
theorem dX0_init_34 : decode cX0_init 34 = .ok (.aload_n 0, 1) := by decide +kernel
theorem dX0_init_35 : decode cX0_init 35 = .ok (.sipush 1000, 3) := by decide +kernel
theorem dX0_init_38 : decode cX0_init 38 = .ok (.newarray .boolean, 2) := by decide +kernel
theorem dX0_init_40 : decode cX0_init 40 = .ok (.putfield 24, 3) := by decide +kernel
theorem dX0_init_43 : decode cX0_init 43 = .ok (.return_, 1) := by decide +kernel
theorem dX0_add_0 : decode cX0_add 0 = .ok (.aload_n 0, 1) := by decide +kernel
theorem dX0_add_1 : decode cX0_add 1 = .ok (.iload_n 1, 1) := by decide +kernel
theorem dX0_add_2 : decode cX0_add 2 = .ok (.invokevirtual 27, 3) := by decide +kernel
theorem dX0_add_5 : decode cX0_add 5 = .ok (.ifCond .eq 11, 3) := by decide +kernel
theorem dX0_add_8 : decode cX0_add 8 = .ok (.aload_n 0, 1) := by decide +kernel
theorem dX0_add_9 : decode cX0_add 9 = .ok (.iload_n 2, 1) := by decide +kernel
theorem dX0_add_10 : decode cX0_add 10 = .ok (.invokevirtual 27, 3) := by decide +kernel
theorem dX0_add_13 : decode cX0_add 13 = .ok (.ifCond .ne 5, 3) := by decide +kernel
theorem dX0_add_16 : decode cX0_add 16 = .ok (.iconst (-1), 1) := by decide +kernel
theorem dX0_add_17 : decode cX0_add 17 = .ok (.ireturn, 1) := by decide +kernel
theorem dX0_add_18 : decode cX0_add 18 = .ok (.aload_n 0, 1) := by decide +kernel
theorem dX0_add_19 : decode cX0_add 19 = .ok (.getfield 7, 3) := by decide +kernel
theorem dX0_add_22 : decode cX0_add 22 = .ok (.bipush 10, 2) := by decide +kernel
theorem dX0_add_24 : decode cX0_add 24 = .ok (.if_icmp .lt 6, 3) := by decide +kernel
theorem dX0_add_27 : decode cX0_add 27 = .ok (.bipush (-2), 2) := by decide +kernel
theorem dX0_add_29 : decode cX0_add 29 = .ok (.ireturn, 1) := by decide +kernel
theorem dX0_add_30 : decode cX0_add 30 = .ok (.aload_n 0, 1) := by decide +kernel
theorem dX0_add_31 : decode cX0_add 31 = .ok (.getfield 13, 3) := by decide +kernel
theorem dX0_add_34 : decode cX0_add 34 = .ok (.aload_n 0, 1) := by decide +kernel
theorem dX0_add_35 : decode cX0_add 35 = .ok (.getfield 7, 3) := by decide +kernel
theorem dX0_add_38 : decode cX0_add 38 = .ok (.iload_n 1, 1) := by decide +kernel
theorem dX0_add_39 : decode cX0_add 39 = .ok (.i2s, 1) := by decide +kernel
theorem dX0_add_40 : decode cX0_add 40 = .ok (.sastore, 1) := by decide +kernel
theorem dX0_add_41 : decode cX0_add 41 = .ok (.aload_n 0, 1) := by decide +kernel
theorem dX0_add_42 : decode cX0_add 42 = .ok (.getfield 17, 3) := by decide +kernel
theorem dX0_add_45 : decode cX0_add 45 = .ok (.aload_n 0, 1) := by decide +kernel
theorem dX0_add_46 : decode cX0_add 46 = .ok (.getfield 7, 3) := by decide +kernel
theorem dX0_add_49 : decode cX0_add 49 = .ok (.iload_n 2, 1) := by decide +kernel
theorem dX0_add_50 : decode cX0_add 50 = .ok (.i2s, 1) := by decide +kernel
theorem dX0_add_51 : decode cX0_add 51 = .ok (.sastore, 1) := by decide +kernel
theorem dX0_add_52 : decode cX0_add 52 = .ok (.aload_n 0, 1) := by decide +kernel
theorem dX0_add_53 : decode cX0_add 53 = .ok (.dup, 1) := by decide +kernel
theorem dX0_add_54 : decode cX0_add 54 = .ok (.getfield 7, 3) := by decide +kernel
theorem dX0_add_57 : decode cX0_add 57 = .ok (.iconst 1, 1) := by decide +kernel
theorem dX0_add_58 : decode cX0_add 58 = .ok (.iadd, 1) := by decide +kernel
theorem dX0_add_59 : decode cX0_add 59 = .ok (.putfield 7, 3) := by decide +kernel
theorem dX0_add_62 : decode cX0_add 62 = .ok (.aload_n 0, 1) := by decide +kernel
theorem dX0_add_63 : decode cX0_add 63 = .ok (.iconst 0, 1) := by decide +kernel
theorem dX0_add_64 : decode cX0_add 64 = .ok (.putfield 31, 3) := by decide +kernel
theorem dX0_add_67 : decode cX0_add 67 = .ok (.aload_n 0, 1) := by decide +kernel
theorem dX0_add_68 : decode cX0_add 68 = .ok (.getfield 7, 3) := by decide +kernel
theorem dX0_add_71 : decode cX0_add 71 = .ok (.iconst 1, 1) := by decide +kernel
theorem dX0_add_72 : decode cX0_add 72 = .ok (.isub, 1) := by decide +kernel
theorem dX0_add_73 : decode cX0_add 73 = .ok (.ireturn, 1) := by decide +kernel
theorem dX0_isSet_0 : decode cX0_isSet 0 = .ok (.iload_n 1, 1) := by decide +kernel
theorem dX0_isSet_1 : decode cX0_isSet 1 = .ok (.ifCond .lt 17, 3) := by decide +kernel
theorem dX0_isSet_4 : decode cX0_isSet 4 = .ok (.iload_n 1, 1) := by decide +kernel
theorem dX0_isSet_5 : decode cX0_isSet 5 = .ok (.iconst 1, 1) := by decide +kernel
theorem dX0_isSet_6 : decode cX0_isSet 6 = .ok (.aload_n 0, 1) := by decide +kernel
theorem dX0_isSet_7 : decode cX0_isSet 7 = .ok (.getfield 7, 3) := by decide +kernel
theorem dX0_isSet_10 : decode cX0_isSet 10 = .ok (.ishl, 1) := by decide +kernel
theorem dX0_isSet_11 : decode cX0_isSet 11 = .ok (.if_icmp .ge 7, 3) := by decide +kernel
theorem dX0_isSet_14 : decode cX0_isSet 14 = .ok (.iconst 1, 1) := by decide +kernel
theorem dX0_isSet_15 : decode cX0_isSet 15 = .ok (.goto 4, 3) := by decide +kernel
theorem dX0_isSet_18 : decode cX0_isSet 18 = .ok (.iconst 0, 1) := by decide +kernel
theorem dX0_isSet_19 : decode cX0_isSet 19 = .ok (.ireturn, 1) := by decide +kernel
theorem dX0_drop_0 : decode cX0_drop 0 = .ok (.aload_n 0, 1) := by decide +kernel
theorem dX0_drop_1 : decode cX0_drop 1 = .ok (.getfield 7, 3) := by decide +kernel
theorem dX0_drop_4 : decode cX0_drop 4 = .ok (.iconst 1, 1) := by decide +kernel
theorem dX0_drop_5 : decode cX0_drop 5 = .ok (.if_icmp .ne 5, 3) := by decide +kernel
theorem dX0_drop_8 : decode cX0_drop 8 = .ok (.iconst (-1), 1) := by decide +kernel
theorem dX0_drop_9 : decode cX0_drop 9 = .ok (.ireturn, 1) := by decide +kernel
theorem dX0_drop_10 : decode cX0_drop 10 = .ok (.aload_n 0, 1) := by decide +kernel
theorem dX0_drop_11 : decode cX0_drop 11 = .ok (.dup, 1) := by decide +kernel
theorem dX0_drop_12 : decode cX0_drop 12 = .ok (.getfield 7, 3) := by decide +kernel
theorem dX0_drop_15 : decode cX0_drop 15 = .ok (.iconst 1, 1) := by decide +kernel
theorem dX0_drop_16 : decode cX0_drop 16 = .ok (.isub, 1) := by decide +kernel
theorem dX0_drop_17 : decode cX0_drop 17 = .ok (.putfield 7, 3) := by decide +kernel
theorem dX0_drop_20 : decode cX0_drop 20 = .ok (.aload_n 0, 1) := by decide +kernel
theorem dX0_drop_21 : decode cX0_drop 21 = .ok (.iconst 0, 1) := by decide +kernel
theorem dX0_drop_22 : decode cX0_drop 22 = .ok (.putfield 31, 3) := by decide +kernel
theorem dX0_drop_25 : decode cX0_drop 25 = .ok (.aload_n 0, 1) := by decide +kernel
theorem dX0_drop_26 : decode cX0_drop 26 = .ok (.getfield 7, 3) := by decide +kernel
theorem dX0_drop_29 : decode cX0_drop 29 = .ok (.ireturn, 1) := by decide +kernel
theorem dX0_positions_0 : decode cX0_positions 0 = .ok (.aload_n 0, 1) := by decide +kernel
theorem dX0_positions_1 : decode cX0_positions 1 = .ok (.getfield 7, 3) := by decide +kernel
theorem dX0_positions_4 : decode cX0_positions 4 = .ok (.ireturn, 1) := by decide +kernel
theorem dX0_moves_0 : decode cX0_moves 0 = .ok (.aload_n 0, 1) := by decide +kernel
theorem dX0_moves_1 : decode cX0_moves 1 = .ok (.iload_n 1, 1) := by decide +kernel
theorem dX0_moves_2 : decode cX0_moves 2 = .ok (.invokevirtual 35, 3) := by decide +kernel
theorem dX0_moves_5 : decode cX0_moves 5 = .ok (.ifCond .eq 21, 3) := by decide +kernel
theorem dX0_moves_8 : decode cX0_moves 8 = .ok (.iload_n 2, 1) := by decide +kernel
theorem dX0_moves_9 : decode cX0_moves 9 = .ok (.ifCond .eq 8, 3) := by decide +kernel
theorem dX0_moves_12 : decode cX0_moves 12 = .ok (.iload_n 2, 1) := by decide +kernel
theorem dX0_moves_13 : decode cX0_moves 13 = .ok (.iconst 1, 1) := by decide +kernel
theorem dX0_moves_14 : decode cX0_moves 14 = .ok (.if_icmp .ne 12, 3) := by decide +kernel
theorem dX0_moves_17 : decode cX0_moves 17 = .ok (.aload_n 0, 1) := by decide +kernel
theorem dX0_moves_18 : decode cX0_moves 18 = .ok (.iload_n 1, 1) := by decide +kernel
theorem dX0_moves_19 : decode cX0_moves 19 = .ok (.iload_n 2, 1) := by decide +kernel
theorem dX0_moves_20 : decode cX0_moves 20 = .ok (.invokevirtual 38, 3) := by decide +kernel
theorem dX0_moves_23 : decode cX0_moves 23 = .ok (.goto 4, 3) := by decide +kernel
theorem dX0_moves_26 : decode cX0_moves 26 = .ok (.iconst (-1), 1) := by decide +kernel
theorem dX0_moves_27 : decode cX0_moves 27 = .ok (.ireturn, 1) := by decide +kernel
theorem dX0_has_0 : decode cX0_has 0 = .ok (.iload_n 1, 1) := by decide +kernel
theorem dX0_has_1 : decode cX0_has 1 = .ok (.ifCond .lt 15, 3) := by decide +kernel
theorem dX0_has_4 : decode cX0_has 4 = .ok (.iload_n 1, 1) := by decide +kernel
theorem dX0_has_5 : decode cX0_has 5 = .ok (.aload_n 0, 1) := by decide +kernel
theorem dX0_has_6 : decode cX0_has 6 = .ok (.getfield 7, 3) := by decide +kernel
theorem dX0_has_9 : decode cX0_has 9 = .ok (.if_icmp .ge 7, 3) := by decide +kernel
theorem dX0_has_12 : decode cX0_has 12 = .ok (.iconst 1, 1) := by decide +kernel
theorem dX0_has_13 : decode cX0_has 13 = .ok (.goto 4, 3) := by decide +kernel
theorem dX0_has_16 : decode cX0_has 16 = .ok (.iconst 0, 1) := by decide +kernel
theorem dX0_has_17 : decode cX0_has 17 = .ok (.ireturn, 1) := by decide +kernel
theorem dX0_movesOf_0 : decode cX0_movesOf 0 = .ok (.iload_n 2, 1) := by decide +kernel
theorem dX0_movesOf_1 : decode cX0_movesOf 1 = .ok (.ifCond .ne 12, 3) := by decide +kernel
theorem dX0_movesOf_4 : decode cX0_movesOf 4 = .ok (.aload_n 0, 1) := by decide +kernel
theorem dX0_movesOf_5 : decode cX0_movesOf 5 = .ok (.getfield 13, 3) := by decide +kernel
theorem dX0_movesOf_8 : decode cX0_movesOf 8 = .ok (.iload_n 1, 1) := by decide +kernel
theorem dX0_movesOf_9 : decode cX0_movesOf 9 = .ok (.saload, 1) := by decide +kernel
theorem dX0_movesOf_10 : decode cX0_movesOf 10 = .ok (.goto 9, 3) := by decide +kernel
theorem dX0_movesOf_13 : decode cX0_movesOf 13 = .ok (.aload_n 0, 1) := by decide +kernel
theorem dX0_movesOf_14 : decode cX0_movesOf 14 = .ok (.getfield 17, 3) := by decide +kernel
theorem dX0_movesOf_17 : decode cX0_movesOf 17 = .ok (.iload_n 1, 1) := by decide +kernel
theorem dX0_movesOf_18 : decode cX0_movesOf 18 = .ok (.saload, 1) := by decide +kernel
theorem dX0_movesOf_19 : decode cX0_movesOf 19 = .ok (.ireturn, 1) := by decide +kernel
theorem dX0_compare_0 : decode cX0_compare 0 = .ok (.aload_n 0, 1) := by decide +kernel
theorem dX0_compare_1 : decode cX0_compare 1 = .ok (.iload_n 1, 1) := by decide +kernel
theorem dX0_compare_2 : decode cX0_compare 2 = .ok (.iconst 0, 1) := by decide +kernel
theorem dX0_compare_3 : decode cX0_compare 3 = .ok (.iload_n 2, 1) := by decide +kernel
theorem dX0_compare_4 : decode cX0_compare 4 = .ok (.invokevirtual 57, 3) := by decide +kernel
theorem dX0_compare_7 : decode cX0_compare 7 = .ok (.ireturn, 1) := by decide +kernel
theorem dX0_compareSum_0 : decode cX0_compareSum 0 = .ok (.aload_n 0, 1) := by decide +kernel
theorem dX0_compareSum_1 : decode cX0_compareSum 1 = .ok (.iload_n 1, 1) := by decide +kernel
theorem dX0_compareSum_2 : decode cX0_compareSum 2 = .ok (.invokevirtual 35, 3) := by decide +kernel
theorem dX0_compareSum_5 : decode cX0_compareSum 5 = .ok (.ifCond .eq 19, 3) := by decide +kernel
theorem dX0_compareSum_8 : decode cX0_compareSum 8 = .ok (.aload_n 0, 1) := by decide +kernel
theorem dX0_compareSum_9 : decode cX0_compareSum 9 = .ok (.iload_n 2, 1) := by decide +kernel
theorem dX0_compareSum_10 : decode cX0_compareSum 10 = .ok (.invokevirtual 35, 3) := by decide +kernel
theorem dX0_compareSum_13 : decode cX0_compareSum 13 = .ok (.ifCond .eq 11, 3) := by decide +kernel
theorem dX0_compareSum_16 : decode cX0_compareSum 16 = .ok (.aload_n 0, 1) := by decide +kernel
theorem dX0_compareSum_17 : decode cX0_compareSum 17 = .ok (.iload_n 3, 1) := by decide +kernel
theorem dX0_compareSum_18 : decode cX0_compareSum 18 = .ok (.invokevirtual 35, 3) := by decide +kernel
theorem dX0_compareSum_21 : decode cX0_compareSum 21 = .ok (.ifCond .ne 5, 3) := by decide +kernel
theorem dX0_compareSum_24 : decode cX0_compareSum 24 = .ok (.iconst (-1), 1) := by decide +kernel
theorem dX0_compareSum_25 : decode cX0_compareSum 25 = .ok (.ireturn, 1) := by decide +kernel
theorem dX0_compareSum_26 : decode cX0_compareSum 26 = .ok (.aload_n 0, 1) := by decide +kernel
theorem dX0_compareSum_27 : decode cX0_compareSum 27 = .ok (.invokevirtual 63, 3) := by decide +kernel
theorem dX0_compareSum_30 : decode cX0_compareSum 30 = .ok (.iload_n 1, 1) := by decide +kernel
theorem dX0_compareSum_31 : decode cX0_compareSum 31 = .ok (.iload_n 2, 1) := by decide +kernel
theorem dX0_compareSum_32 : decode cX0_compareSum 32 = .ok (.iload_n 3, 1) := by decide +kernel
theorem dX0_compareSum_33 : decode cX0_compareSum 33 = .ok (.invokestatic 42, 3) := by decide +kernel
theorem dX0_compareSum_36 : decode cX0_compareSum 36 = .ok (.istore 4, 2) := by decide +kernel
theorem dX0_compareSum_38 : decode cX0_compareSum 38 = .ok (.aload_n 0, 1) := by decide +kernel
theorem dX0_compareSum_39 : decode cX0_compareSum 39 = .ok (.iload 4, 2) := by decide +kernel
theorem dX0_compareSum_41 : decode cX0_compareSum 41 = .ok (.invokevirtual 66, 3) := by decide +kernel
theorem dX0_compareSum_44 : decode cX0_compareSum 44 = .ok (.ireturn, 1) := by decide +kernel
theorem dX0_learn_0 : decode cX0_learn 0 = .ok (.aload_n 0, 1) := by decide +kernel
theorem dX0_learn_1 : decode cX0_learn 1 = .ok (.getfield 31, 3) := by decide +kernel
theorem dX0_learn_4 : decode cX0_learn 4 = .ok (.ifCond .eq 4, 3) := by decide +kernel
theorem dX0_learn_7 : decode cX0_learn 7 = .ok (.return_, 1) := by decide +kernel
theorem dX0_learn_8 : decode cX0_learn 8 = .ok (.aload_n 0, 1) := by decide +kernel
theorem dX0_learn_9 : decode cX0_learn 9 = .ok (.iconst 1, 1) := by decide +kernel
theorem dX0_learn_10 : decode cX0_learn 10 = .ok (.putfield 31, 3) := by decide +kernel
theorem dX0_learn_13 : decode cX0_learn 13 = .ok (.iconst 0, 1) := by decide +kernel
theorem dX0_learn_14 : decode cX0_learn 14 = .ok (.istore_n 1, 1) := by decide +kernel
theorem dX0_learn_15 : decode cX0_learn 15 = .ok (.iload_n 1, 1) := by decide +kernel
theorem dX0_learn_16 : decode cX0_learn 16 = .ok (.aload_n 0, 1) := by decide +kernel
theorem dX0_learn_17 : decode cX0_learn 17 = .ok (.getfield 7, 3) := by decide +kernel
theorem dX0_learn_20 : decode cX0_learn 20 = .ok (.aload_n 0, 1) := by decide +kernel
theorem dX0_learn_21 : decode cX0_learn 21 = .ok (.getfield 7, 3) := by decide +kernel
theorem dX0_learn_24 : decode cX0_learn 24 = .ok (.imul, 1) := by decide +kernel
theorem dX0_learn_25 : decode cX0_learn 25 = .ok (.aload_n 0, 1) := by decide +kernel
theorem dX0_learn_26 : decode cX0_learn 26 = .ok (.getfield 7, 3) := by decide +kernel
theorem dX0_learn_29 : decode cX0_learn 29 = .ok (.imul, 1) := by decide +kernel
theorem dX0_learn_30 : decode cX0_learn 30 = .ok (.if_icmp .ge 80, 3) := by decide +kernel
theorem dX0_learn_33 : decode cX0_learn 33 = .ok (.iload_n 1, 1) := by decide +kernel
theorem dX0_learn_34 : decode cX0_learn 34 = .ok (.aload_n 0, 1) := by decide +kernel
theorem dX0_learn_35 : decode cX0_learn 35 = .ok (.getfield 7, 3) := by decide +kernel
theorem dX0_learn_38 : decode cX0_learn 38 = .ok (.aload_n 0, 1) := by decide +kernel
theorem dX0_learn_39 : decode cX0_learn 39 = .ok (.getfield 7, 3) := by decide +kernel
theorem dX0_learn_42 : decode cX0_learn 42 = .ok (.imul, 1) := by decide +kernel
theorem dX0_learn_43 : decode cX0_learn 43 = .ok (.idiv, 1) := by decide +kernel
theorem dX0_learn_44 : decode cX0_learn 44 = .ok (.istore_n 2, 1) := by decide +kernel
theorem dX0_learn_45 : decode cX0_learn 45 = .ok (.iload_n 1, 1) := by decide +kernel
theorem dX0_learn_46 : decode cX0_learn 46 = .ok (.aload_n 0, 1) := by decide +kernel
theorem dX0_learn_47 : decode cX0_learn 47 = .ok (.getfield 7, 3) := by decide +kernel
theorem dX0_learn_50 : decode cX0_learn 50 = .ok (.idiv, 1) := by decide +kernel
theorem dX0_learn_51 : decode cX0_learn 51 = .ok (.aload_n 0, 1) := by decide +kernel
theorem dX0_learn_52 : decode cX0_learn 52 = .ok (.getfield 7, 3) := by decide +kernel
theorem dX0_learn_55 : decode cX0_learn 55 = .ok (.irem, 1) := by decide +kernel
theorem dX0_learn_56 : decode cX0_learn 56 = .ok (.istore_n 3, 1) := by decide +kernel
theorem dX0_learn_57 : decode cX0_learn 57 = .ok (.iload_n 1, 1) := by decide +kernel
theorem dX0_learn_58 : decode cX0_learn 58 = .ok (.aload_n 0, 1) := by decide +kernel
theorem dX0_learn_59 : decode cX0_learn 59 = .ok (.getfield 7, 3) := by decide +kernel
theorem dX0_learn_62 : decode cX0_learn 62 = .ok (.irem, 1) := by decide +kernel
theorem dX0_learn_63 : decode cX0_learn 63 = .ok (.istore 4, 2) := by decide +kernel
theorem dX0_learn_65 : decode cX0_learn 65 = .ok (.iload_n 2, 1) := by decide +kernel
theorem dX0_learn_66 : decode cX0_learn 66 = .ok (.iload_n 3, 1) := by decide +kernel
theorem dX0_learn_67 : decode cX0_learn 67 = .ok (.iload 4, 2) := by decide +kernel
theorem dX0_learn_69 : decode cX0_learn 69 = .ok (.invokestatic 42, 3) := by decide +kernel
theorem dX0_learn_72 : decode cX0_learn 72 = .ok (.istore 5, 2) := by decide +kernel
theorem dX0_learn_74 : decode cX0_learn 74 = .ok (.aload_n 0, 1) := by decide +kernel
theorem dX0_learn_75 : decode cX0_learn 75 = .ok (.getfield 20, 3) := by decide +kernel
theorem dX0_learn_78 : decode cX0_learn 78 = .ok (.iload 5, 2) := by decide +kernel
theorem dX0_learn_80 : decode cX0_learn 80 = .ok (.aload_n 0, 1) := by decide +kernel
theorem dX0_learn_81 : decode cX0_learn 81 = .ok (.iload_n 2, 1) := by decide +kernel
theorem dX0_learn_82 : decode cX0_learn 82 = .ok (.iload_n 3, 1) := by decide +kernel
theorem dX0_learn_83 : decode cX0_learn 83 = .ok (.iload 4, 2) := by decide +kernel
theorem dX0_learn_85 : decode cX0_learn 85 = .ok (.invokevirtual 46, 3) := by decide +kernel
theorem dX0_learn_88 : decode cX0_learn 88 = .ok (.bastore, 1) := by decide +kernel
theorem dX0_learn_89 : decode cX0_learn 89 = .ok (.aload_n 0, 1) := by decide +kernel
theorem dX0_learn_90 : decode cX0_learn 90 = .ok (.getfield 24, 3) := by decide +kernel
theorem dX0_learn_93 : decode cX0_learn 93 = .ok (.iload 5, 2) := by decide +kernel
theorem dX0_learn_95 : decode cX0_learn 95 = .ok (.aload_n 0, 1) := by decide +kernel
theorem dX0_learn_96 : decode cX0_learn 96 = .ok (.iload_n 2, 1) := by decide +kernel
theorem dX0_learn_97 : decode cX0_learn 97 = .ok (.iload_n 3, 1) := by decide +kernel
theorem dX0_learn_98 : decode cX0_learn 98 = .ok (.iload 4, 2) := by decide +kernel
theorem dX0_learn_100 : decode cX0_learn 100 = .ok (.invokevirtual 50, 3) := by decide +kernel
theorem dX0_learn_103 : decode cX0_learn 103 = .ok (.bastore, 1) := by decide +kernel
theorem dX0_learn_104 : decode cX0_learn 104 = .ok (.iinc 1 1, 3) := by decide +kernel
theorem dX0_learn_107 : decode cX0_learn 107 = .ok (.goto (-92), 3) := by decide +kernel
theorem dX0_learn_110 : decode cX0_learn 110 = .ok (.return_, 1) := by decide +kernel
theorem dX0_cell_0 : decode cX0_cell 0 = .ok (.iload_n 0, 1) := by decide +kernel
theorem dX0_cell_1 : decode cX0_cell 1 = .ok (.bipush 10, 2) := by decide +kernel
theorem dX0_cell_3 : decode cX0_cell 3 = .ok (.imul, 1) := by decide +kernel
theorem dX0_cell_4 : decode cX0_cell 4 = .ok (.iload_n 1, 1) := by decide +kernel
theorem dX0_cell_5 : decode cX0_cell 5 = .ok (.iadd, 1) := by decide +kernel
end
section
set_option maxRecDepth 100000
theorem dX0_cell_6 : decode cX0_cell 6 = .ok (.bipush 10, 2) := by decide +kernel
theorem dX0_cell_8 : decode cX0_cell 8 = .ok (.imul, 1) := by decide +kernel
theorem dX0_cell_9 : decode cX0_cell 9 = .ok (.iload_n 2, 1) := by decide +kernel
theorem dX0_cell_10 : decode cX0_cell 10 = .ok (.iadd, 1) := by decide +kernel
theorem dX0_cell_11 : decode cX0_cell 11 = .ok (.ireturn, 1) := by decide +kernel
theorem dX0_staysAbove_0 : decode cX0_staysAbove 0 = .ok (.iconst 0, 1) := by decide +kernel
theorem dX0_staysAbove_1 : decode cX0_staysAbove 1 = .ok (.istore 4, 2) := by decide +kernel
theorem dX0_staysAbove_3 : decode cX0_staysAbove 3 = .ok (.iload 4, 2) := by decide +kernel
theorem dX0_staysAbove_5 : decode cX0_staysAbove 5 = .ok (.aload_n 0, 1) := by decide +kernel
theorem dX0_staysAbove_6 : decode cX0_staysAbove 6 = .ok (.getfield 7, 3) := by decide +kernel
theorem dX0_staysAbove_9 : decode cX0_staysAbove 9 = .ok (.if_icmp .ge 134, 3) := by decide +kernel
theorem dX0_staysAbove_12 : decode cX0_staysAbove 12 = .ok (.aload_n 0, 1) := by decide +kernel
theorem dX0_staysAbove_13 : decode cX0_staysAbove 13 = .ok (.getfield 17, 3) := by decide +kernel
theorem dX0_staysAbove_16 : decode cX0_staysAbove 16 = .ok (.iload_n 1, 1) := by decide +kernel
theorem dX0_staysAbove_17 : decode cX0_staysAbove 17 = .ok (.saload, 1) := by decide +kernel
theorem dX0_staysAbove_18 : decode cX0_staysAbove 18 = .ok (.iload 4, 2) := by decide +kernel
theorem dX0_staysAbove_20 : decode cX0_staysAbove 20 = .ok (.invokestatic 53, 3) := by decide +kernel
theorem dX0_staysAbove_23 : decode cX0_staysAbove 23 = .ok (.ifCond .eq 22, 3) := by decide +kernel
theorem dX0_staysAbove_26 : decode cX0_staysAbove 26 = .ok (.aload_n 0, 1) := by decide +kernel
theorem dX0_staysAbove_27 : decode cX0_staysAbove 27 = .ok (.getfield 24, 3) := by decide +kernel
theorem dX0_staysAbove_30 : decode cX0_staysAbove 30 = .ok (.iload 4, 2) := by decide +kernel
theorem dX0_staysAbove_32 : decode cX0_staysAbove 32 = .ok (.iload_n 2, 1) := by decide +kernel
theorem dX0_staysAbove_33 : decode cX0_staysAbove 33 = .ok (.iload_n 3, 1) := by decide +kernel
theorem dX0_staysAbove_34 : decode cX0_staysAbove 34 = .ok (.invokestatic 42, 3) := by decide +kernel
theorem dX0_staysAbove_37 : decode cX0_staysAbove 37 = .ok (.baload, 1) := by decide +kernel
theorem dX0_staysAbove_38 : decode cX0_staysAbove 38 = .ok (.ifCond .eq 7, 3) := by decide +kernel
theorem dX0_staysAbove_41 : decode cX0_staysAbove 41 = .ok (.iconst 1, 1) := by decide +kernel
theorem dX0_staysAbove_42 : decode cX0_staysAbove 42 = .ok (.goto 4, 3) := by decide +kernel
theorem dX0_staysAbove_45 : decode cX0_staysAbove 45 = .ok (.iconst 0, 1) := by decide +kernel
theorem dX0_staysAbove_46 : decode cX0_staysAbove 46 = .ok (.istore 5, 2) := by decide +kernel
theorem dX0_staysAbove_48 : decode cX0_staysAbove 48 = .ok (.aload_n 0, 1) := by decide +kernel
theorem dX0_staysAbove_49 : decode cX0_staysAbove 49 = .ok (.getfield 17, 3) := by decide +kernel
theorem dX0_staysAbove_52 : decode cX0_staysAbove 52 = .ok (.iload_n 2, 1) := by decide +kernel
theorem dX0_staysAbove_53 : decode cX0_staysAbove 53 = .ok (.saload, 1) := by decide +kernel
theorem dX0_staysAbove_54 : decode cX0_staysAbove 54 = .ok (.iload 4, 2) := by decide +kernel
theorem dX0_staysAbove_56 : decode cX0_staysAbove 56 = .ok (.invokestatic 53, 3) := by decide +kernel
theorem dX0_staysAbove_59 : decode cX0_staysAbove 59 = .ok (.ifCond .eq 22, 3) := by decide +kernel
theorem dX0_staysAbove_62 : decode cX0_staysAbove 62 = .ok (.aload_n 0, 1) := by decide +kernel
theorem dX0_staysAbove_63 : decode cX0_staysAbove 63 = .ok (.getfield 24, 3) := by decide +kernel
theorem dX0_staysAbove_66 : decode cX0_staysAbove 66 = .ok (.iload_n 1, 1) := by decide +kernel
theorem dX0_staysAbove_67 : decode cX0_staysAbove 67 = .ok (.iload 4, 2) := by decide +kernel
theorem dX0_staysAbove_69 : decode cX0_staysAbove 69 = .ok (.iload_n 3, 1) := by decide +kernel
theorem dX0_staysAbove_70 : decode cX0_staysAbove 70 = .ok (.invokestatic 42, 3) := by decide +kernel
theorem dX0_staysAbove_73 : decode cX0_staysAbove 73 = .ok (.baload, 1) := by decide +kernel
theorem dX0_staysAbove_74 : decode cX0_staysAbove 74 = .ok (.ifCond .eq 7, 3) := by decide +kernel
theorem dX0_staysAbove_77 : decode cX0_staysAbove 77 = .ok (.iconst 1, 1) := by decide +kernel
theorem dX0_staysAbove_78 : decode cX0_staysAbove 78 = .ok (.goto 4, 3) := by decide +kernel
theorem dX0_staysAbove_81 : decode cX0_staysAbove 81 = .ok (.iconst 0, 1) := by decide +kernel
theorem dX0_staysAbove_82 : decode cX0_staysAbove 82 = .ok (.istore 6, 2) := by decide +kernel
theorem dX0_staysAbove_84 : decode cX0_staysAbove 84 = .ok (.aload_n 0, 1) := by decide +kernel
theorem dX0_staysAbove_85 : decode cX0_staysAbove 85 = .ok (.getfield 13, 3) := by decide +kernel
theorem dX0_staysAbove_88 : decode cX0_staysAbove 88 = .ok (.iload_n 3, 1) := by decide +kernel
theorem dX0_staysAbove_89 : decode cX0_staysAbove 89 = .ok (.saload, 1) := by decide +kernel
theorem dX0_staysAbove_90 : decode cX0_staysAbove 90 = .ok (.iload 4, 2) := by decide +kernel
theorem dX0_staysAbove_92 : decode cX0_staysAbove 92 = .ok (.invokestatic 53, 3) := by decide +kernel
theorem dX0_staysAbove_95 : decode cX0_staysAbove 95 = .ok (.ifCond .eq 22, 3) := by decide +kernel
theorem dX0_staysAbove_98 : decode cX0_staysAbove 98 = .ok (.aload_n 0, 1) := by decide +kernel
theorem dX0_staysAbove_99 : decode cX0_staysAbove 99 = .ok (.getfield 24, 3) := by decide +kernel
theorem dX0_staysAbove_102 : decode cX0_staysAbove 102 = .ok (.iload_n 1, 1) := by decide +kernel
theorem dX0_staysAbove_103 : decode cX0_staysAbove 103 = .ok (.iload_n 2, 1) := by decide +kernel
theorem dX0_staysAbove_104 : decode cX0_staysAbove 104 = .ok (.iload 4, 2) := by decide +kernel
theorem dX0_staysAbove_106 : decode cX0_staysAbove 106 = .ok (.invokestatic 42, 3) := by decide +kernel
theorem dX0_staysAbove_109 : decode cX0_staysAbove 109 = .ok (.baload, 1) := by decide +kernel
theorem dX0_staysAbove_110 : decode cX0_staysAbove 110 = .ok (.ifCond .eq 7, 3) := by decide +kernel
theorem dX0_staysAbove_113 : decode cX0_staysAbove 113 = .ok (.iconst 1, 1) := by decide +kernel
theorem dX0_staysAbove_114 : decode cX0_staysAbove 114 = .ok (.goto 4, 3) := by decide +kernel
theorem dX0_staysAbove_117 : decode cX0_staysAbove 117 = .ok (.iconst 0, 1) := by decide +kernel
theorem dX0_staysAbove_118 : decode cX0_staysAbove 118 = .ok (.istore 7, 2) := by decide +kernel
theorem dX0_staysAbove_120 : decode cX0_staysAbove 120 = .ok (.iload 5, 2) := by decide +kernel
theorem dX0_staysAbove_122 : decode cX0_staysAbove 122 = .ok (.ifCond .ne 13, 3) := by decide +kernel
theorem dX0_staysAbove_125 : decode cX0_staysAbove 125 = .ok (.iload 6, 2) := by decide +kernel
theorem dX0_staysAbove_127 : decode cX0_staysAbove 127 = .ok (.ifCond .ne 8, 3) := by decide +kernel
theorem dX0_staysAbove_130 : decode cX0_staysAbove 130 = .ok (.iload 7, 2) := by decide +kernel
theorem dX0_staysAbove_132 : decode cX0_staysAbove 132 = .ok (.ifCond .eq 5, 3) := by decide +kernel
theorem dX0_staysAbove_135 : decode cX0_staysAbove 135 = .ok (.iconst 0, 1) := by decide +kernel
theorem dX0_staysAbove_136 : decode cX0_staysAbove 136 = .ok (.ireturn, 1) := by decide +kernel
theorem dX0_staysAbove_137 : decode cX0_staysAbove 137 = .ok (.iinc 4 1, 3) := by decide +kernel
theorem dX0_staysAbove_140 : decode cX0_staysAbove 140 = .ok (.goto (-137), 3) := by decide +kernel
theorem dX0_staysAbove_143 : decode cX0_staysAbove 143 = .ok (.iconst 1, 1) := by decide +kernel
theorem dX0_staysAbove_144 : decode cX0_staysAbove 144 = .ok (.ireturn, 1) := by decide +kernel
theorem dX0_in_0 : decode cX0_in 0 = .ok (.iload_n 0, 1) := by decide +kernel
theorem dX0_in_1 : decode cX0_in 1 = .ok (.iload_n 1, 1) := by decide +kernel
theorem dX0_in_2 : decode cX0_in 2 = .ok (.ishr, 1) := by decide +kernel
theorem dX0_in_3 : decode cX0_in 3 = .ok (.iconst 1, 1) := by decide +kernel
theorem dX0_in_4 : decode cX0_in 4 = .ok (.iand, 1) := by decide +kernel
theorem dX0_in_5 : decode cX0_in 5 = .ok (.ifCond .eq 7, 3) := by decide +kernel
theorem dX0_in_8 : decode cX0_in 8 = .ok (.iconst 1, 1) := by decide +kernel
theorem dX0_in_9 : decode cX0_in 9 = .ok (.goto 4, 3) := by decide +kernel
theorem dX0_in_12 : decode cX0_in 12 = .ok (.iconst 0, 1) := by decide +kernel
theorem dX0_in_13 : decode cX0_in 13 = .ok (.ireturn, 1) := by decide +kernel
theorem dX0_staysBelow_0 : decode cX0_staysBelow 0 = .ok (.iconst 0, 1) := by decide +kernel
theorem dX0_staysBelow_1 : decode cX0_staysBelow 1 = .ok (.istore 4, 2) := by decide +kernel
theorem dX0_staysBelow_3 : decode cX0_staysBelow 3 = .ok (.iload 4, 2) := by decide +kernel
theorem dX0_staysBelow_5 : decode cX0_staysBelow 5 = .ok (.aload_n 0, 1) := by decide +kernel
theorem dX0_staysBelow_6 : decode cX0_staysBelow 6 = .ok (.getfield 7, 3) := by decide +kernel
theorem dX0_staysBelow_9 : decode cX0_staysBelow 9 = .ok (.if_icmp .ge 134, 3) := by decide +kernel
theorem dX0_staysBelow_12 : decode cX0_staysBelow 12 = .ok (.aload_n 0, 1) := by decide +kernel
theorem dX0_staysBelow_13 : decode cX0_staysBelow 13 = .ok (.getfield 13, 3) := by decide +kernel
theorem dX0_staysBelow_16 : decode cX0_staysBelow 16 = .ok (.iload_n 1, 1) := by decide +kernel
theorem dX0_staysBelow_17 : decode cX0_staysBelow 17 = .ok (.saload, 1) := by decide +kernel
theorem dX0_staysBelow_18 : decode cX0_staysBelow 18 = .ok (.iload 4, 2) := by decide +kernel
theorem dX0_staysBelow_20 : decode cX0_staysBelow 20 = .ok (.invokestatic 53, 3) := by decide +kernel
theorem dX0_staysBelow_23 : decode cX0_staysBelow 23 = .ok (.ifCond .eq 22, 3) := by decide +kernel
theorem dX0_staysBelow_26 : decode cX0_staysBelow 26 = .ok (.aload_n 0, 1) := by decide +kernel
theorem dX0_staysBelow_27 : decode cX0_staysBelow 27 = .ok (.getfield 20, 3) := by decide +kernel
theorem dX0_staysBelow_30 : decode cX0_staysBelow 30 = .ok (.iload 4, 2) := by decide +kernel
theorem dX0_staysBelow_32 : decode cX0_staysBelow 32 = .ok (.iload_n 2, 1) := by decide +kernel
theorem dX0_staysBelow_33 : decode cX0_staysBelow 33 = .ok (.iload_n 3, 1) := by decide +kernel
theorem dX0_staysBelow_34 : decode cX0_staysBelow 34 = .ok (.invokestatic 42, 3) := by decide +kernel
theorem dX0_staysBelow_37 : decode cX0_staysBelow 37 = .ok (.baload, 1) := by decide +kernel
theorem dX0_staysBelow_38 : decode cX0_staysBelow 38 = .ok (.ifCond .eq 7, 3) := by decide +kernel
theorem dX0_staysBelow_41 : decode cX0_staysBelow 41 = .ok (.iconst 1, 1) := by decide +kernel
theorem dX0_staysBelow_42 : decode cX0_staysBelow 42 = .ok (.goto 4, 3) := by decide +kernel
theorem dX0_staysBelow_45 : decode cX0_staysBelow 45 = .ok (.iconst 0, 1) := by decide +kernel
theorem dX0_staysBelow_46 : decode cX0_staysBelow 46 = .ok (.istore 5, 2) := by decide +kernel
theorem dX0_staysBelow_48 : decode cX0_staysBelow 48 = .ok (.aload_n 0, 1) := by decide +kernel
theorem dX0_staysBelow_49 : decode cX0_staysBelow 49 = .ok (.getfield 13, 3) := by decide +kernel
theorem dX0_staysBelow_52 : decode cX0_staysBelow 52 = .ok (.iload_n 2, 1) := by decide +kernel
theorem dX0_staysBelow_53 : decode cX0_staysBelow 53 = .ok (.saload, 1) := by decide +kernel
theorem dX0_staysBelow_54 : decode cX0_staysBelow 54 = .ok (.iload 4, 2) := by decide +kernel
theorem dX0_staysBelow_56 : decode cX0_staysBelow 56 = .ok (.invokestatic 53, 3) := by decide +kernel
theorem dX0_staysBelow_59 : decode cX0_staysBelow 59 = .ok (.ifCond .eq 22, 3) := by decide +kernel
theorem dX0_staysBelow_62 : decode cX0_staysBelow 62 = .ok (.aload_n 0, 1) := by decide +kernel
theorem dX0_staysBelow_63 : decode cX0_staysBelow 63 = .ok (.getfield 20, 3) := by decide +kernel
theorem dX0_staysBelow_66 : decode cX0_staysBelow 66 = .ok (.iload_n 1, 1) := by decide +kernel
theorem dX0_staysBelow_67 : decode cX0_staysBelow 67 = .ok (.iload 4, 2) := by decide +kernel
theorem dX0_staysBelow_69 : decode cX0_staysBelow 69 = .ok (.iload_n 3, 1) := by decide +kernel
theorem dX0_staysBelow_70 : decode cX0_staysBelow 70 = .ok (.invokestatic 42, 3) := by decide +kernel
theorem dX0_staysBelow_73 : decode cX0_staysBelow 73 = .ok (.baload, 1) := by decide +kernel
theorem dX0_staysBelow_74 : decode cX0_staysBelow 74 = .ok (.ifCond .eq 7, 3) := by decide +kernel
theorem dX0_staysBelow_77 : decode cX0_staysBelow 77 = .ok (.iconst 1, 1) := by decide +kernel
theorem dX0_staysBelow_78 : decode cX0_staysBelow 78 = .ok (.goto 4, 3) := by decide +kernel
theorem dX0_staysBelow_81 : decode cX0_staysBelow 81 = .ok (.iconst 0, 1) := by decide +kernel
theorem dX0_staysBelow_82 : decode cX0_staysBelow 82 = .ok (.istore 6, 2) := by decide +kernel
theorem dX0_staysBelow_84 : decode cX0_staysBelow 84 = .ok (.aload_n 0, 1) := by decide +kernel
theorem dX0_staysBelow_85 : decode cX0_staysBelow 85 = .ok (.getfield 17, 3) := by decide +kernel
theorem dX0_staysBelow_88 : decode cX0_staysBelow 88 = .ok (.iload_n 3, 1) := by decide +kernel
theorem dX0_staysBelow_89 : decode cX0_staysBelow 89 = .ok (.saload, 1) := by decide +kernel
theorem dX0_staysBelow_90 : decode cX0_staysBelow 90 = .ok (.iload 4, 2) := by decide +kernel
theorem dX0_staysBelow_92 : decode cX0_staysBelow 92 = .ok (.invokestatic 53, 3) := by decide +kernel
theorem dX0_staysBelow_95 : decode cX0_staysBelow 95 = .ok (.ifCond .eq 22, 3) := by decide +kernel
theorem dX0_staysBelow_98 : decode cX0_staysBelow 98 = .ok (.aload_n 0, 1) := by decide +kernel
theorem dX0_staysBelow_99 : decode cX0_staysBelow 99 = .ok (.getfield 20, 3) := by decide +kernel
theorem dX0_staysBelow_102 : decode cX0_staysBelow 102 = .ok (.iload_n 1, 1) := by decide +kernel
theorem dX0_staysBelow_103 : decode cX0_staysBelow 103 = .ok (.iload_n 2, 1) := by decide +kernel
theorem dX0_staysBelow_104 : decode cX0_staysBelow 104 = .ok (.iload 4, 2) := by decide +kernel
theorem dX0_staysBelow_106 : decode cX0_staysBelow 106 = .ok (.invokestatic 42, 3) := by decide +kernel
theorem dX0_staysBelow_109 : decode cX0_staysBelow 109 = .ok (.baload, 1) := by decide +kernel
theorem dX0_staysBelow_110 : decode cX0_staysBelow 110 = .ok (.ifCond .eq 7, 3) := by decide +kernel
theorem dX0_staysBelow_113 : decode cX0_staysBelow 113 = .ok (.iconst 1, 1) := by decide +kernel
theorem dX0_staysBelow_114 : decode cX0_staysBelow 114 = .ok (.goto 4, 3) := by decide +kernel
theorem dX0_staysBelow_117 : decode cX0_staysBelow 117 = .ok (.iconst 0, 1) := by decide +kernel
theorem dX0_staysBelow_118 : decode cX0_staysBelow 118 = .ok (.istore 7, 2) := by decide +kernel
theorem dX0_staysBelow_120 : decode cX0_staysBelow 120 = .ok (.iload 5, 2) := by decide +kernel
theorem dX0_staysBelow_122 : decode cX0_staysBelow 122 = .ok (.ifCond .ne 13, 3) := by decide +kernel
theorem dX0_staysBelow_125 : decode cX0_staysBelow 125 = .ok (.iload 6, 2) := by decide +kernel
theorem dX0_staysBelow_127 : decode cX0_staysBelow 127 = .ok (.ifCond .ne 8, 3) := by decide +kernel
theorem dX0_staysBelow_130 : decode cX0_staysBelow 130 = .ok (.iload 7, 2) := by decide +kernel
theorem dX0_staysBelow_132 : decode cX0_staysBelow 132 = .ok (.ifCond .eq 5, 3) := by decide +kernel
theorem dX0_staysBelow_135 : decode cX0_staysBelow 135 = .ok (.iconst 0, 1) := by decide +kernel
theorem dX0_staysBelow_136 : decode cX0_staysBelow 136 = .ok (.ireturn, 1) := by decide +kernel
theorem dX0_staysBelow_137 : decode cX0_staysBelow 137 = .ok (.iinc 4 1, 3) := by decide +kernel
theorem dX0_staysBelow_140 : decode cX0_staysBelow 140 = .ok (.goto (-137), 3) := by decide +kernel
theorem dX0_staysBelow_143 : decode cX0_staysBelow 143 = .ok (.iconst 1, 1) := by decide +kernel
theorem dX0_staysBelow_144 : decode cX0_staysBelow 144 = .ok (.ireturn, 1) := by decide +kernel
theorem dX0_standing_0 : decode cX0_standing 0 = .ok (.aload_n 0, 1) := by decide +kernel
theorem dX0_standing_1 : decode cX0_standing 1 = .ok (.getfield 20, 3) := by decide +kernel
theorem dX0_standing_4 : decode cX0_standing 4 = .ok (.iload_n 1, 1) := by decide +kernel
theorem dX0_standing_5 : decode cX0_standing 5 = .ok (.baload, 1) := by decide +kernel
theorem dX0_standing_6 : decode cX0_standing 6 = .ok (.ifCond .eq 18, 3) := by decide +kernel
theorem dX0_standing_9 : decode cX0_standing 9 = .ok (.aload_n 0, 1) := by decide +kernel
theorem dX0_standing_10 : decode cX0_standing 10 = .ok (.getfield 24, 3) := by decide +kernel
theorem dX0_standing_13 : decode cX0_standing 13 = .ok (.iload_n 1, 1) := by decide +kernel
theorem dX0_standing_14 : decode cX0_standing 14 = .ok (.baload, 1) := by decide +kernel
theorem dX0_standing_15 : decode cX0_standing 15 = .ok (.ifCond .eq 7, 3) := by decide +kernel
theorem dX0_standing_18 : decode cX0_standing 18 = .ok (.iconst 0, 1) := by decide +kernel
theorem dX0_standing_19 : decode cX0_standing 19 = .ok (.goto 4, 3) := by decide +kernel
theorem dX0_standing_22 : decode cX0_standing 22 = .ok (.iconst 1, 1) := by decide +kernel
theorem dX0_standing_23 : decode cX0_standing 23 = .ok (.ireturn, 1) := by decide +kernel
theorem dX0_standing_24 : decode cX0_standing 24 = .ok (.aload_n 0, 1) := by decide +kernel
theorem dX0_standing_25 : decode cX0_standing 25 = .ok (.getfield 24, 3) := by decide +kernel
theorem dX0_standing_28 : decode cX0_standing 28 = .ok (.iload_n 1, 1) := by decide +kernel
theorem dX0_standing_29 : decode cX0_standing 29 = .ok (.baload, 1) := by decide +kernel
theorem dX0_standing_30 : decode cX0_standing 30 = .ok (.ifCond .eq 7, 3) := by decide +kernel
theorem dX0_standing_33 : decode cX0_standing 33 = .ok (.iconst 2, 1) := by decide +kernel
theorem dX0_standing_34 : decode cX0_standing 34 = .ok (.goto 4, 3) := by decide +kernel
theorem dX0_standing_37 : decode cX0_standing 37 = .ok (.iconst 3, 1) := by decide +kernel
theorem dX0_standing_38 : decode cX0_standing 38 = .ok (.ireturn, 1) := by decide +kernel
theorem dX0_wins_0 : decode cX0_wins 0 = .ok (.aload_n 0, 1) := by decide +kernel
theorem dX0_wins_1 : decode cX0_wins 1 = .ok (.iload_n 1, 1) := by decide +kernel
theorem dX0_wins_2 : decode cX0_wins 2 = .ok (.iconst 0, 1) := by decide +kernel
theorem dX0_wins_3 : decode cX0_wins 3 = .ok (.iload_n 2, 1) := by decide +kernel
theorem dX0_wins_4 : decode cX0_wins 4 = .ok (.invokevirtual 60, 3) := by decide +kernel
theorem dX0_wins_7 : decode cX0_wins 7 = .ok (.ireturn, 1) := by decide +kernel
theorem dX0_winsSum_0 : decode cX0_winsSum 0 = .ok (.aload_n 0, 1) := by decide +kernel
theorem dX0_winsSum_1 : decode cX0_winsSum 1 = .ok (.iload_n 1, 1) := by decide +kernel
theorem dX0_winsSum_2 : decode cX0_winsSum 2 = .ok (.invokevirtual 35, 3) := by decide +kernel
theorem dX0_winsSum_5 : decode cX0_winsSum 5 = .ok (.ifCond .eq 20, 3) := by decide +kernel
theorem dX0_winsSum_8 : decode cX0_winsSum 8 = .ok (.aload_n 0, 1) := by decide +kernel
theorem dX0_winsSum_9 : decode cX0_winsSum 9 = .ok (.iload_n 2, 1) := by decide +kernel
theorem dX0_winsSum_10 : decode cX0_winsSum 10 = .ok (.invokevirtual 35, 3) := by decide +kernel
theorem dX0_winsSum_13 : decode cX0_winsSum 13 = .ok (.ifCond .eq 12, 3) := by decide +kernel
theorem dX0_winsSum_16 : decode cX0_winsSum 16 = .ok (.iload_n 3, 1) := by decide +kernel
theorem dX0_winsSum_17 : decode cX0_winsSum 17 = .ok (.ifCond .eq 10, 3) := by decide +kernel
theorem dX0_winsSum_20 : decode cX0_winsSum 20 = .ok (.iload_n 3, 1) := by decide +kernel
theorem dX0_winsSum_21 : decode cX0_winsSum 21 = .ok (.iconst 1, 1) := by decide +kernel
theorem dX0_winsSum_22 : decode cX0_winsSum 22 = .ok (.if_icmp .eq 5, 3) := by decide +kernel
theorem dX0_winsSum_25 : decode cX0_winsSum 25 = .ok (.iconst 0, 1) := by decide +kernel
theorem dX0_winsSum_26 : decode cX0_winsSum 26 = .ok (.ireturn, 1) := by decide +kernel
theorem dX0_winsSum_27 : decode cX0_winsSum 27 = .ok (.aload_n 0, 1) := by decide +kernel
theorem dX0_winsSum_28 : decode cX0_winsSum 28 = .ok (.invokevirtual 63, 3) := by decide +kernel
theorem dX0_winsSum_31 : decode cX0_winsSum 31 = .ok (.iload_n 1, 1) := by decide +kernel
theorem dX0_winsSum_32 : decode cX0_winsSum 32 = .ok (.iload_n 2, 1) := by decide +kernel
theorem dX0_winsSum_33 : decode cX0_winsSum 33 = .ok (.iconst 0, 1) := by decide +kernel
theorem dX0_winsSum_34 : decode cX0_winsSum 34 = .ok (.invokestatic 42, 3) := by decide +kernel
theorem dX0_winsSum_37 : decode cX0_winsSum 37 = .ok (.istore 4, 2) := by decide +kernel
theorem dX0_winsSum_39 : decode cX0_winsSum 39 = .ok (.iload_n 3, 1) := by decide +kernel
theorem dX0_winsSum_40 : decode cX0_winsSum 40 = .ok (.ifCond .ne 21, 3) := by decide +kernel
theorem dX0_winsSum_43 : decode cX0_winsSum 43 = .ok (.aload_n 0, 1) := by decide +kernel
theorem dX0_winsSum_44 : decode cX0_winsSum 44 = .ok (.getfield 24, 3) := by decide +kernel
theorem dX0_winsSum_47 : decode cX0_winsSum 47 = .ok (.iload 4, 2) := by decide +kernel
theorem dX0_winsSum_49 : decode cX0_winsSum 49 = .ok (.baload, 1) := by decide +kernel
theorem dX0_winsSum_50 : decode cX0_winsSum 50 = .ok (.ifCond .ne 7, 3) := by decide +kernel
theorem dX0_winsSum_53 : decode cX0_winsSum 53 = .ok (.iconst 1, 1) := by decide +kernel
theorem dX0_winsSum_54 : decode cX0_winsSum 54 = .ok (.goto 22, 3) := by decide +kernel
theorem dX0_winsSum_57 : decode cX0_winsSum 57 = .ok (.iconst 0, 1) := by decide +kernel
theorem dX0_winsSum_58 : decode cX0_winsSum 58 = .ok (.goto 18, 3) := by decide +kernel
theorem dX0_winsSum_61 : decode cX0_winsSum 61 = .ok (.aload_n 0, 1) := by decide +kernel
theorem dX0_winsSum_62 : decode cX0_winsSum 62 = .ok (.getfield 20, 3) := by decide +kernel
theorem dX0_winsSum_65 : decode cX0_winsSum 65 = .ok (.iload 4, 2) := by decide +kernel
theorem dX0_winsSum_67 : decode cX0_winsSum 67 = .ok (.baload, 1) := by decide +kernel
theorem dX0_winsSum_68 : decode cX0_winsSum 68 = .ok (.ifCond .ne 7, 3) := by decide +kernel
theorem dX0_winsSum_71 : decode cX0_winsSum 71 = .ok (.iconst 1, 1) := by decide +kernel
theorem dX0_winsSum_72 : decode cX0_winsSum 72 = .ok (.goto 4, 3) := by decide +kernel
theorem dX0_winsSum_75 : decode cX0_winsSum 75 = .ok (.iconst 0, 1) := by decide +kernel
theorem dX0_winsSum_76 : decode cX0_winsSum 76 = .ok (.ireturn, 1) := by decide +kernel
theorem dX0_dominated_0 : decode cX0_dominated 0 = .ok (.aload_n 0, 1) := by decide +kernel
theorem dX0_dominated_1 : decode cX0_dominated 1 = .ok (.iload_n 1, 1) := by decide +kernel
theorem dX0_dominated_2 : decode cX0_dominated 2 = .ok (.iload_n 2, 1) := by decide +kernel
end
section
set_option maxRecDepth 100000
theorem dX0_dominated_3 : decode cX0_dominated 3 = .ok (.invokevirtual 73, 3) := by decide +kernel
theorem dX0_dominated_6 : decode cX0_dominated 6 = .ok (.istore_n 3, 1) := by decide +kernel
theorem dX0_dominated_7 : decode cX0_dominated 7 = .ok (.iload_n 3, 1) := by decide +kernel
theorem dX0_dominated_8 : decode cX0_dominated 8 = .ok (.ifCond .ge 5, 3) := by decide +kernel
theorem dX0_dominated_11 : decode cX0_dominated 11 = .ok (.iconst (-1), 1) := by decide +kernel
theorem dX0_dominated_12 : decode cX0_dominated 12 = .ok (.ireturn, 1) := by decide +kernel
theorem dX0_dominated_13 : decode cX0_dominated 13 = .ok (.aload_n 0, 1) := by decide +kernel
theorem dX0_dominated_14 : decode cX0_dominated 14 = .ok (.invokevirtual 63, 3) := by decide +kernel
theorem dX0_dominated_17 : decode cX0_dominated 17 = .ok (.iconst 0, 1) := by decide +kernel
theorem dX0_dominated_18 : decode cX0_dominated 18 = .ok (.istore 4, 2) := by decide +kernel
theorem dX0_dominated_20 : decode cX0_dominated 20 = .ok (.iconst 0, 1) := by decide +kernel
theorem dX0_dominated_21 : decode cX0_dominated 21 = .ok (.istore 5, 2) := by decide +kernel
theorem dX0_dominated_23 : decode cX0_dominated 23 = .ok (.iload 5, 2) := by decide +kernel
theorem dX0_dominated_25 : decode cX0_dominated 25 = .ok (.aload_n 0, 1) := by decide +kernel
theorem dX0_dominated_26 : decode cX0_dominated 26 = .ok (.getfield 7, 3) := by decide +kernel
theorem dX0_dominated_29 : decode cX0_dominated 29 = .ok (.if_icmp .ge 104, 3) := by decide +kernel
theorem dX0_dominated_32 : decode cX0_dominated 32 = .ok (.iconst 0, 1) := by decide +kernel
theorem dX0_dominated_33 : decode cX0_dominated 33 = .ok (.istore 6, 2) := by decide +kernel
theorem dX0_dominated_35 : decode cX0_dominated 35 = .ok (.iload 6, 2) := by decide +kernel
theorem dX0_dominated_37 : decode cX0_dominated 37 = .ok (.aload_n 0, 1) := by decide +kernel
theorem dX0_dominated_38 : decode cX0_dominated 38 = .ok (.getfield 7, 3) := by decide +kernel
theorem dX0_dominated_41 : decode cX0_dominated 41 = .ok (.if_icmp .ge 86, 3) := by decide +kernel
theorem dX0_dominated_44 : decode cX0_dominated 44 = .ok (.iload 5, 2) := by decide +kernel
theorem dX0_dominated_46 : decode cX0_dominated 46 = .ok (.iload 6, 2) := by decide +kernel
theorem dX0_dominated_48 : decode cX0_dominated 48 = .ok (.if_icmp .eq 25, 3) := by decide +kernel
theorem dX0_dominated_51 : decode cX0_dominated 51 = .ok (.iload_n 3, 1) := by decide +kernel
theorem dX0_dominated_52 : decode cX0_dominated 52 = .ok (.iload 5, 2) := by decide +kernel
theorem dX0_dominated_54 : decode cX0_dominated 54 = .ok (.invokestatic 53, 3) := by decide +kernel
theorem dX0_dominated_57 : decode cX0_dominated 57 = .ok (.ifCond .eq 16, 3) := by decide +kernel
theorem dX0_dominated_60 : decode cX0_dominated 60 = .ok (.iload_n 3, 1) := by decide +kernel
theorem dX0_dominated_61 : decode cX0_dominated 61 = .ok (.iload 6, 2) := by decide +kernel
theorem dX0_dominated_63 : decode cX0_dominated 63 = .ok (.invokestatic 53, 3) := by decide +kernel
theorem dX0_dominated_66 : decode cX0_dominated 66 = .ok (.ifCond .eq 7, 3) := by decide +kernel
theorem dX0_dominated_69 : decode cX0_dominated 69 = .ok (.iconst 1, 1) := by decide +kernel
theorem dX0_dominated_70 : decode cX0_dominated 70 = .ok (.goto 4, 3) := by decide +kernel
theorem dX0_dominated_73 : decode cX0_dominated 73 = .ok (.iconst 0, 1) := by decide +kernel
theorem dX0_dominated_74 : decode cX0_dominated 74 = .ok (.istore 7, 2) := by decide +kernel
theorem dX0_dominated_76 : decode cX0_dominated 76 = .ok (.iload 7, 2) := by decide +kernel
theorem dX0_dominated_78 : decode cX0_dominated 78 = .ok (.ifCond .eq 43, 3) := by decide +kernel
theorem dX0_dominated_81 : decode cX0_dominated 81 = .ok (.aload_n 0, 1) := by decide +kernel
theorem dX0_dominated_82 : decode cX0_dominated 82 = .ok (.iload 6, 2) := by decide +kernel
theorem dX0_dominated_84 : decode cX0_dominated 84 = .ok (.iload 5, 2) := by decide +kernel
theorem dX0_dominated_86 : decode cX0_dominated 86 = .ok (.iload_n 2, 1) := by decide +kernel
theorem dX0_dominated_87 : decode cX0_dominated 87 = .ok (.invokevirtual 76, 3) := by decide +kernel
theorem dX0_dominated_90 : decode cX0_dominated 90 = .ok (.ifCond .eq 31, 3) := by decide +kernel
theorem dX0_dominated_93 : decode cX0_dominated 93 = .ok (.iload 6, 2) := by decide +kernel
theorem dX0_dominated_95 : decode cX0_dominated 95 = .ok (.iload 5, 2) := by decide +kernel
theorem dX0_dominated_97 : decode cX0_dominated 97 = .ok (.if_icmp .lt 15, 3) := by decide +kernel
theorem dX0_dominated_100 : decode cX0_dominated 100 = .ok (.aload_n 0, 1) := by decide +kernel
theorem dX0_dominated_101 : decode cX0_dominated 101 = .ok (.iload 5, 2) := by decide +kernel
theorem dX0_dominated_103 : decode cX0_dominated 103 = .ok (.iload 6, 2) := by decide +kernel
theorem dX0_dominated_105 : decode cX0_dominated 105 = .ok (.iload_n 2, 1) := by decide +kernel
theorem dX0_dominated_106 : decode cX0_dominated 106 = .ok (.invokevirtual 76, 3) := by decide +kernel
theorem dX0_dominated_109 : decode cX0_dominated 109 = .ok (.ifCond .ne 12, 3) := by decide +kernel
theorem dX0_dominated_112 : decode cX0_dominated 112 = .ok (.iload 4, 2) := by decide +kernel
theorem dX0_dominated_114 : decode cX0_dominated 114 = .ok (.iconst 1, 1) := by decide +kernel
theorem dX0_dominated_115 : decode cX0_dominated 115 = .ok (.iload 5, 2) := by decide +kernel
theorem dX0_dominated_117 : decode cX0_dominated 117 = .ok (.ishl, 1) := by decide +kernel
theorem dX0_dominated_118 : decode cX0_dominated 118 = .ok (.ior, 1) := by decide +kernel
theorem dX0_dominated_119 : decode cX0_dominated 119 = .ok (.istore 4, 2) := by decide +kernel
theorem dX0_dominated_121 : decode cX0_dominated 121 = .ok (.iinc 6 1, 3) := by decide +kernel
theorem dX0_dominated_124 : decode cX0_dominated 124 = .ok (.goto (-89), 3) := by decide +kernel
theorem dX0_dominated_127 : decode cX0_dominated 127 = .ok (.iinc 5 1, 3) := by decide +kernel
theorem dX0_dominated_130 : decode cX0_dominated 130 = .ok (.goto (-107), 3) := by decide +kernel
theorem dX0_dominated_133 : decode cX0_dominated 133 = .ok (.iload 4, 2) := by decide +kernel
theorem dX0_dominated_135 : decode cX0_dominated 135 = .ok (.ireturn, 1) := by decide +kernel
theorem dX0_asGood_0 : decode cX0_asGood 0 = .ok (.iload_n 3, 1) := by decide +kernel
theorem dX0_asGood_1 : decode cX0_asGood 1 = .ok (.ifCond .ne 12, 3) := by decide +kernel
theorem dX0_asGood_4 : decode cX0_asGood 4 = .ok (.aload_n 0, 1) := by decide +kernel
theorem dX0_asGood_5 : decode cX0_asGood 5 = .ok (.iload_n 1, 1) := by decide +kernel
theorem dX0_asGood_6 : decode cX0_asGood 6 = .ok (.iload_n 2, 1) := by decide +kernel
theorem dX0_asGood_7 : decode cX0_asGood 7 = .ok (.invokevirtual 70, 3) := by decide +kernel
theorem dX0_asGood_10 : decode cX0_asGood 10 = .ok (.goto 9, 3) := by decide +kernel
theorem dX0_asGood_13 : decode cX0_asGood 13 = .ok (.aload_n 0, 1) := by decide +kernel
theorem dX0_asGood_14 : decode cX0_asGood 14 = .ok (.iload_n 2, 1) := by decide +kernel
theorem dX0_asGood_15 : decode cX0_asGood 15 = .ok (.iload_n 1, 1) := by decide +kernel
theorem dX0_asGood_16 : decode cX0_asGood 16 = .ok (.invokevirtual 70, 3) := by decide +kernel
theorem dX0_asGood_19 : decode cX0_asGood 19 = .ok (.ireturn, 1) := by decide +kernel
theorem dX0_isAtLeast_0 : decode cX0_isAtLeast 0 = .ok (.aload_n 0, 1) := by decide +kernel
theorem dX0_isAtLeast_1 : decode cX0_isAtLeast 1 = .ok (.getfield 20, 3) := by decide +kernel
theorem dX0_isAtLeast_4 : decode cX0_isAtLeast 4 = .ok (.iload_n 1, 1) := by decide +kernel
theorem dX0_isAtLeast_5 : decode cX0_isAtLeast 5 = .ok (.bipush 100, 2) := by decide +kernel
theorem dX0_isAtLeast_7 : decode cX0_isAtLeast 7 = .ok (.imul, 1) := by decide +kernel
theorem dX0_isAtLeast_8 : decode cX0_isAtLeast 8 = .ok (.iload_n 2, 1) := by decide +kernel
theorem dX0_isAtLeast_9 : decode cX0_isAtLeast 9 = .ok (.iadd, 1) := by decide +kernel
theorem dX0_isAtLeast_10 : decode cX0_isAtLeast 10 = .ok (.baload, 1) := by decide +kernel
theorem dX0_isAtLeast_11 : decode cX0_isAtLeast 11 = .ok (.ireturn, 1) := by decide +kernel
theorem dX0_first_0 : decode cX0_first 0 = .ok (.aload_n 0, 1) := by decide +kernel
theorem dX0_first_1 : decode cX0_first 1 = .ok (.iload_n 1, 1) := by decide +kernel
theorem dX0_first_2 : decode cX0_first 2 = .ok (.invokevirtual 35, 3) := by decide +kernel
theorem dX0_first_5 : decode cX0_first 5 = .ok (.ifCond .ne 5, 3) := by decide +kernel
theorem dX0_first_8 : decode cX0_first 8 = .ok (.iconst (-1), 1) := by decide +kernel
theorem dX0_first_9 : decode cX0_first 9 = .ok (.ireturn, 1) := by decide +kernel
theorem dX0_first_10 : decode cX0_first 10 = .ok (.aload_n 0, 1) := by decide +kernel
theorem dX0_first_11 : decode cX0_first 11 = .ok (.invokevirtual 63, 3) := by decide +kernel
theorem dX0_first_14 : decode cX0_first 14 = .ok (.iconst 0, 1) := by decide +kernel
theorem dX0_first_15 : decode cX0_first 15 = .ok (.istore_n 2, 1) := by decide +kernel
theorem dX0_first_16 : decode cX0_first 16 = .ok (.iload_n 2, 1) := by decide +kernel
theorem dX0_first_17 : decode cX0_first 17 = .ok (.iload_n 1, 1) := by decide +kernel
theorem dX0_first_18 : decode cX0_first 18 = .ok (.if_icmp .ge 27, 3) := by decide +kernel
theorem dX0_first_21 : decode cX0_first 21 = .ok (.aload_n 0, 1) := by decide +kernel
theorem dX0_first_22 : decode cX0_first 22 = .ok (.iload_n 1, 1) := by decide +kernel
theorem dX0_first_23 : decode cX0_first 23 = .ok (.iload_n 2, 1) := by decide +kernel
theorem dX0_first_24 : decode cX0_first 24 = .ok (.invokevirtual 70, 3) := by decide +kernel
theorem dX0_first_27 : decode cX0_first 27 = .ok (.ifCond .eq 12, 3) := by decide +kernel
theorem dX0_first_30 : decode cX0_first 30 = .ok (.aload_n 0, 1) := by decide +kernel
theorem dX0_first_31 : decode cX0_first 31 = .ok (.iload_n 2, 1) := by decide +kernel
theorem dX0_first_32 : decode cX0_first 32 = .ok (.iload_n 1, 1) := by decide +kernel
theorem dX0_first_33 : decode cX0_first 33 = .ok (.invokevirtual 70, 3) := by decide +kernel
theorem dX0_first_36 : decode cX0_first 36 = .ok (.ifCond .ne 9, 3) := by decide +kernel
theorem dX0_first_39 : decode cX0_first 39 = .ok (.iinc 2 1, 3) := by decide +kernel
theorem dX0_first_42 : decode cX0_first 42 = .ok (.goto (-26), 3) := by decide +kernel
theorem dX0_first_45 : decode cX0_first 45 = .ok (.iload_n 2, 1) := by decide +kernel
theorem dX0_first_46 : decode cX0_first 46 = .ok (.ireturn, 1) := by decide +kernel
theorem dX0_values_0 : decode cX0_values 0 = .ok (.iconst 0, 1) := by decide +kernel
theorem dX0_values_1 : decode cX0_values 1 = .ok (.istore_n 1, 1) := by decide +kernel
theorem dX0_values_2 : decode cX0_values 2 = .ok (.iconst 0, 1) := by decide +kernel
theorem dX0_values_3 : decode cX0_values 3 = .ok (.istore_n 2, 1) := by decide +kernel
theorem dX0_values_4 : decode cX0_values 4 = .ok (.iload_n 2, 1) := by decide +kernel
theorem dX0_values_5 : decode cX0_values 5 = .ok (.aload_n 0, 1) := by decide +kernel
theorem dX0_values_6 : decode cX0_values 6 = .ok (.getfield 7, 3) := by decide +kernel
theorem dX0_values_9 : decode cX0_values 9 = .ok (.if_icmp .ge 26, 3) := by decide +kernel
theorem dX0_values_12 : decode cX0_values 12 = .ok (.iload_n 1, 1) := by decide +kernel
theorem dX0_values_13 : decode cX0_values 13 = .ok (.aload_n 0, 1) := by decide +kernel
theorem dX0_values_14 : decode cX0_values 14 = .ok (.iload_n 2, 1) := by decide +kernel
theorem dX0_values_15 : decode cX0_values 15 = .ok (.invokevirtual 79, 3) := by decide +kernel
theorem dX0_values_18 : decode cX0_values 18 = .ok (.iload_n 2, 1) := by decide +kernel
theorem dX0_values_19 : decode cX0_values 19 = .ok (.if_icmp .ne 7, 3) := by decide +kernel
theorem dX0_values_22 : decode cX0_values 22 = .ok (.iconst 1, 1) := by decide +kernel
theorem dX0_values_23 : decode cX0_values 23 = .ok (.goto 4, 3) := by decide +kernel
theorem dX0_values_26 : decode cX0_values 26 = .ok (.iconst 0, 1) := by decide +kernel
theorem dX0_values_27 : decode cX0_values 27 = .ok (.iadd, 1) := by decide +kernel
theorem dX0_values_28 : decode cX0_values 28 = .ok (.istore_n 1, 1) := by decide +kernel
theorem dX0_values_29 : decode cX0_values 29 = .ok (.iinc 2 1, 3) := by decide +kernel
theorem dX0_values_32 : decode cX0_values 32 = .ok (.goto (-28), 3) := by decide +kernel
theorem dX0_values_35 : decode cX0_values 35 = .ok (.iload_n 1, 1) := by decide +kernel
theorem dX0_values_36 : decode cX0_values 36 = .ok (.ireturn, 1) := by decide +kernel
theorem dX0_depth_0 : decode cX0_depth 0 = .ok (.aload_n 0, 1) := by decide +kernel
theorem dX0_depth_1 : decode cX0_depth 1 = .ok (.iload_n 1, 1) := by decide +kernel
theorem dX0_depth_2 : decode cX0_depth 2 = .ok (.invokevirtual 35, 3) := by decide +kernel
theorem dX0_depth_5 : decode cX0_depth 5 = .ok (.ifCond .ne 5, 3) := by decide +kernel
theorem dX0_depth_8 : decode cX0_depth 8 = .ok (.iconst (-1), 1) := by decide +kernel
theorem dX0_depth_9 : decode cX0_depth 9 = .ok (.ireturn, 1) := by decide +kernel
theorem dX0_depth_10 : decode cX0_depth 10 = .ok (.iconst 1, 1) := by decide +kernel
theorem dX0_depth_11 : decode cX0_depth 11 = .ok (.iload_n 1, 1) := by decide +kernel
theorem dX0_depth_12 : decode cX0_depth 12 = .ok (.ishl, 1) := by decide +kernel
theorem dX0_depth_13 : decode cX0_depth 13 = .ok (.istore_n 2, 1) := by decide +kernel
theorem dX0_depth_14 : decode cX0_depth 14 = .ok (.iconst 0, 1) := by decide +kernel
theorem dX0_depth_15 : decode cX0_depth 15 = .ok (.istore_n 3, 1) := by decide +kernel
theorem dX0_depth_16 : decode cX0_depth 16 = .ok (.iconst 0, 1) := by decide +kernel
theorem dX0_depth_17 : decode cX0_depth 17 = .ok (.istore 4, 2) := by decide +kernel
theorem dX0_depth_19 : decode cX0_depth 19 = .ok (.iload 4, 2) := by decide +kernel
theorem dX0_depth_21 : decode cX0_depth 21 = .ok (.bipush 10, 2) := by decide +kernel
theorem dX0_depth_23 : decode cX0_depth 23 = .ok (.if_icmp .ge 79, 3) := by decide +kernel
theorem dX0_depth_26 : decode cX0_depth 26 = .ok (.iconst 0, 1) := by decide +kernel
theorem dX0_depth_27 : decode cX0_depth 27 = .ok (.istore 5, 2) := by decide +kernel
theorem dX0_depth_29 : decode cX0_depth 29 = .ok (.iconst 0, 1) := by decide +kernel
theorem dX0_depth_30 : decode cX0_depth 30 = .ok (.istore 6, 2) := by decide +kernel
theorem dX0_depth_32 : decode cX0_depth 32 = .ok (.iload 6, 2) := by decide +kernel
theorem dX0_depth_34 : decode cX0_depth 34 = .ok (.aload_n 0, 1) := by decide +kernel
theorem dX0_depth_35 : decode cX0_depth 35 = .ok (.getfield 7, 3) := by decide +kernel
theorem dX0_depth_38 : decode cX0_depth 38 = .ok (.if_icmp .ge 42, 3) := by decide +kernel
theorem dX0_depth_41 : decode cX0_depth 41 = .ok (.iload 5, 2) := by decide +kernel
theorem dX0_depth_43 : decode cX0_depth 43 = .ok (.iload_n 2, 1) := by decide +kernel
theorem dX0_depth_44 : decode cX0_depth 44 = .ok (.iload 6, 2) := by decide +kernel
theorem dX0_depth_46 : decode cX0_depth 46 = .ok (.invokestatic 53, 3) := by decide +kernel
theorem dX0_depth_49 : decode cX0_depth 49 = .ok (.ifCond .eq 21, 3) := by decide +kernel
theorem dX0_depth_52 : decode cX0_depth 52 = .ok (.aload_n 0, 1) := by decide +kernel
theorem dX0_depth_53 : decode cX0_depth 53 = .ok (.getfield 13, 3) := by decide +kernel
theorem dX0_depth_56 : decode cX0_depth 56 = .ok (.iload 6, 2) := by decide +kernel
theorem dX0_depth_58 : decode cX0_depth 58 = .ok (.saload, 1) := by decide +kernel
theorem dX0_depth_59 : decode cX0_depth 59 = .ok (.aload_n 0, 1) := by decide +kernel
theorem dX0_depth_60 : decode cX0_depth 60 = .ok (.getfield 17, 3) := by decide +kernel
theorem dX0_depth_63 : decode cX0_depth 63 = .ok (.iload 6, 2) := by decide +kernel
theorem dX0_depth_65 : decode cX0_depth 65 = .ok (.saload, 1) := by decide +kernel
theorem dX0_depth_66 : decode cX0_depth 66 = .ok (.ior, 1) := by decide +kernel
theorem dX0_depth_67 : decode cX0_depth 67 = .ok (.goto 4, 3) := by decide +kernel
theorem dX0_depth_70 : decode cX0_depth 70 = .ok (.iconst 0, 1) := by decide +kernel
theorem dX0_depth_71 : decode cX0_depth 71 = .ok (.ior, 1) := by decide +kernel
theorem dX0_depth_72 : decode cX0_depth 72 = .ok (.istore 5, 2) := by decide +kernel
theorem dX0_depth_74 : decode cX0_depth 74 = .ok (.iinc 6 1, 3) := by decide +kernel
theorem dX0_depth_77 : decode cX0_depth 77 = .ok (.goto (-45), 3) := by decide +kernel
theorem dX0_depth_80 : decode cX0_depth 80 = .ok (.iload_n 3, 1) := by decide +kernel
theorem dX0_depth_81 : decode cX0_depth 81 = .ok (.iload 5, 2) := by decide +kernel
theorem dX0_depth_83 : decode cX0_depth 83 = .ok (.ifCond .eq 7, 3) := by decide +kernel
theorem dX0_depth_86 : decode cX0_depth 86 = .ok (.iconst 1, 1) := by decide +kernel
theorem dX0_depth_87 : decode cX0_depth 87 = .ok (.goto 4, 3) := by decide +kernel
theorem dX0_depth_90 : decode cX0_depth 90 = .ok (.iconst 0, 1) := by decide +kernel
theorem dX0_depth_91 : decode cX0_depth 91 = .ok (.iadd, 1) := by decide +kernel
theorem dX0_depth_92 : decode cX0_depth 92 = .ok (.istore_n 3, 1) := by decide +kernel
theorem dX0_depth_93 : decode cX0_depth 93 = .ok (.iload 5, 2) := by decide +kernel
theorem dX0_depth_95 : decode cX0_depth 95 = .ok (.istore_n 2, 1) := by decide +kernel
theorem dX0_depth_96 : decode cX0_depth 96 = .ok (.iinc 4 1, 3) := by decide +kernel
theorem dX0_depth_99 : decode cX0_depth 99 = .ok (.goto (-80), 3) := by decide +kernel
theorem dX0_depth_102 : decode cX0_depth 102 = .ok (.iload_n 3, 1) := by decide +kernel
theorem dX0_depth_103 : decode cX0_depth 103 = .ok (.ireturn, 1) := by decide +kernel
theorem dX0_above_0 : decode cX0_above 0 = .ok (.aload_n 0, 1) := by decide +kernel
theorem dX0_above_1 : decode cX0_above 1 = .ok (.iload_n 1, 1) := by decide +kernel
theorem dX0_above_2 : decode cX0_above 2 = .ok (.invokevirtual 35, 3) := by decide +kernel
theorem dX0_above_5 : decode cX0_above 5 = .ok (.ifCond .ne 5, 3) := by decide +kernel
theorem dX0_above_8 : decode cX0_above 8 = .ok (.iconst (-1), 1) := by decide +kernel
theorem dX0_above_9 : decode cX0_above 9 = .ok (.ireturn, 1) := by decide +kernel
theorem dX0_above_10 : decode cX0_above 10 = .ok (.aload_n 0, 1) := by decide +kernel
theorem dX0_above_11 : decode cX0_above 11 = .ok (.invokevirtual 63, 3) := by decide +kernel
theorem dX0_above_14 : decode cX0_above 14 = .ok (.iconst 0, 1) := by decide +kernel
theorem dX0_above_15 : decode cX0_above 15 = .ok (.istore_n 2, 1) := by decide +kernel
theorem dX0_above_16 : decode cX0_above 16 = .ok (.iconst 0, 1) := by decide +kernel
theorem dX0_above_17 : decode cX0_above 17 = .ok (.istore_n 3, 1) := by decide +kernel
theorem dX0_above_18 : decode cX0_above 18 = .ok (.iload_n 3, 1) := by decide +kernel
theorem dX0_above_19 : decode cX0_above 19 = .ok (.aload_n 0, 1) := by decide +kernel
theorem dX0_above_20 : decode cX0_above 20 = .ok (.getfield 7, 3) := by decide +kernel
theorem dX0_above_23 : decode cX0_above 23 = .ok (.if_icmp .ge 28, 3) := by decide +kernel
theorem dX0_above_26 : decode cX0_above 26 = .ok (.iload_n 2, 1) := by decide +kernel
theorem dX0_above_27 : decode cX0_above 27 = .ok (.aload_n 0, 1) := by decide +kernel
theorem dX0_above_28 : decode cX0_above 28 = .ok (.iload_n 3, 1) := by decide +kernel
theorem dX0_above_29 : decode cX0_above 29 = .ok (.iload_n 1, 1) := by decide +kernel
theorem dX0_above_30 : decode cX0_above 30 = .ok (.invokevirtual 70, 3) := by decide +kernel
theorem dX0_above_33 : decode cX0_above 33 = .ok (.ifCond .eq 9, 3) := by decide +kernel
theorem dX0_above_36 : decode cX0_above 36 = .ok (.iconst 1, 1) := by decide +kernel
theorem dX0_above_37 : decode cX0_above 37 = .ok (.iload_n 3, 1) := by decide +kernel
theorem dX0_above_38 : decode cX0_above 38 = .ok (.ishl, 1) := by decide +kernel
theorem dX0_above_39 : decode cX0_above 39 = .ok (.goto 4, 3) := by decide +kernel
theorem dX0_above_42 : decode cX0_above 42 = .ok (.iconst 0, 1) := by decide +kernel
theorem dX0_above_43 : decode cX0_above 43 = .ok (.ior, 1) := by decide +kernel
theorem dX0_above_44 : decode cX0_above 44 = .ok (.istore_n 2, 1) := by decide +kernel
theorem dX0_above_45 : decode cX0_above 45 = .ok (.iinc 3 1, 3) := by decide +kernel
theorem dX0_above_48 : decode cX0_above 48 = .ok (.goto (-30), 3) := by decide +kernel
theorem dX0_above_51 : decode cX0_above 51 = .ok (.iload_n 2, 1) := by decide +kernel
theorem dX0_above_52 : decode cX0_above 52 = .ok (.ireturn, 1) := by decide +kernel
theorem dX0_opposite_0 : decode cX0_opposite 0 = .ok (.aload_n 0, 1) := by decide +kernel
theorem dX0_opposite_1 : decode cX0_opposite 1 = .ok (.iload_n 1, 1) := by decide +kernel
theorem dX0_opposite_2 : decode cX0_opposite 2 = .ok (.iload_n 2, 1) := by decide +kernel
theorem dX0_opposite_3 : decode cX0_opposite 3 = .ok (.iconst 0, 1) := by decide +kernel
theorem dX0_opposite_4 : decode cX0_opposite 4 = .ok (.invokevirtual 57, 3) := by decide +kernel
theorem dX0_opposite_7 : decode cX0_opposite 7 = .ok (.ifCond .ne 7, 3) := by decide +kernel
theorem dX0_opposite_10 : decode cX0_opposite 10 = .ok (.iconst 1, 1) := by decide +kernel
theorem dX0_opposite_11 : decode cX0_opposite 11 = .ok (.goto 4, 3) := by decide +kernel
theorem dX0_opposite_14 : decode cX0_opposite 14 = .ok (.iconst 0, 1) := by decide +kernel
theorem dX0_opposite_15 : decode cX0_opposite 15 = .ok (.ireturn, 1) := by decide +kernel
end
section
set_option maxRecDepth 100000
theorem dX1_init_0 : decode cX1_init 0 = .ok (.aload_n 0, 1) := by decide +kernel
theorem dX1_init_1 : decode cX1_init 1 = .ok (.invokespecial 1, 3) := by decide +kernel
theorem dX1_init_4 : decode cX1_init 4 = .ok (.aload_n 0, 1) := by decide +kernel
theorem dX1_init_5 : decode cX1_init 5 = .ok (.bipush 20, 2) := by decide +kernel
theorem dX1_init_7 : decode cX1_init 7 = .ok (.newarray .int, 2) := by decide +kernel
theorem dX1_init_9 : decode cX1_init 9 = .ok (.putfield 7, 3) := by decide +kernel
theorem dX1_init_12 : decode cX1_init 12 = .ok (.aload_n 0, 1) := by decide +kernel
theorem dX1_init_13 : decode cX1_init 13 = .ok (.sipush 2000, 3) := by decide +kernel
theorem dX1_init_16 : decode cX1_init 16 = .ok (.newarray .boolean, 2) := by decide +kernel
theorem dX1_init_18 : decode cX1_init 18 = .ok (.putfield 13, 3) := by decide +kernel
theorem dX1_init_21 : decode cX1_init 21 = .ok (.aload_n 0, 1) := by decide +kernel
theorem dX1_init_22 : decode cX1_init 22 = .ok (.bipush 10, 2) := by decide +kernel
theorem dX1_init_24 : decode cX1_init 24 = .ok (.newarray .int, 2) := by decide +kernel
theorem dX1_init_26 : decode cX1_init 26 = .ok (.putfield 17, 3) := by decide +kernel
theorem dX1_init_29 : decode cX1_init 29 = .ok (.aload_n 0, 1) := by decide +kernel
theorem dX1_init_30 : decode cX1_init 30 = .ok (.iconst 1, 1) := by decide +kernel
theorem dX1_init_31 : decode cX1_init 31 = .ok (.putfield 20, 3) := by decide +kernel
theorem dX1_init_34 : decode cX1_init 34 = .ok (.return_, 1) := by decide +kernel
theorem dX1_add_0 : decode cX1_add 0 = .ok (.iconst 1, 1) := by decide +kernel
theorem dX1_add_1 : decode cX1_add 1 = .ok (.aload_n 0, 1) := by decide +kernel
theorem dX1_add_2 : decode cX1_add 2 = .ok (.getfield 20, 3) := by decide +kernel
theorem dX1_add_5 : decode cX1_add 5 = .ok (.ishl, 1) := by decide +kernel
theorem dX1_add_6 : decode cX1_add 6 = .ok (.iconst 1, 1) := by decide +kernel
theorem dX1_add_7 : decode cX1_add 7 = .ok (.isub, 1) := by decide +kernel
theorem dX1_add_8 : decode cX1_add 8 = .ok (.istore_n 3, 1) := by decide +kernel
theorem dX1_add_9 : decode cX1_add 9 = .ok (.iload_n 1, 1) := by decide +kernel
theorem dX1_add_10 : decode cX1_add 10 = .ok (.iload_n 3, 1) := by decide +kernel
theorem dX1_add_11 : decode cX1_add 11 = .ok (.iconst (-1), 1) := by decide +kernel
theorem dX1_add_12 : decode cX1_add 12 = .ok (.ixor, 1) := by decide +kernel
theorem dX1_add_13 : decode cX1_add 13 = .ok (.iand, 1) := by decide +kernel
theorem dX1_add_14 : decode cX1_add 14 = .ok (.ifCond .ne 11, 3) := by decide +kernel
theorem dX1_add_17 : decode cX1_add 17 = .ok (.iload_n 2, 1) := by decide +kernel
theorem dX1_add_18 : decode cX1_add 18 = .ok (.iload_n 3, 1) := by decide +kernel
theorem dX1_add_19 : decode cX1_add 19 = .ok (.iconst (-1), 1) := by decide +kernel
theorem dX1_add_20 : decode cX1_add 20 = .ok (.ixor, 1) := by decide +kernel
theorem dX1_add_21 : decode cX1_add 21 = .ok (.iand, 1) := by decide +kernel
theorem dX1_add_22 : decode cX1_add 22 = .ok (.ifCond .eq 5, 3) := by decide +kernel
theorem dX1_add_25 : decode cX1_add 25 = .ok (.iconst (-1), 1) := by decide +kernel
theorem dX1_add_26 : decode cX1_add 26 = .ok (.ireturn, 1) := by decide +kernel
theorem dX1_add_27 : decode cX1_add 27 = .ok (.aload_n 0, 1) := by decide +kernel
theorem dX1_add_28 : decode cX1_add 28 = .ok (.getfield 20, 3) := by decide +kernel
theorem dX1_add_31 : decode cX1_add 31 = .ok (.bipush 10, 2) := by decide +kernel
theorem dX1_add_33 : decode cX1_add 33 = .ok (.if_icmp .lt 6, 3) := by decide +kernel
theorem dX1_add_36 : decode cX1_add 36 = .ok (.bipush (-2), 2) := by decide +kernel
theorem dX1_add_38 : decode cX1_add 38 = .ok (.ireturn, 1) := by decide +kernel
theorem dX1_add_39 : decode cX1_add 39 = .ok (.aload_n 0, 1) := by decide +kernel
theorem dX1_add_40 : decode cX1_add 40 = .ok (.getfield 7, 3) := by decide +kernel
theorem dX1_add_43 : decode cX1_add 43 = .ok (.iconst 2, 1) := by decide +kernel
theorem dX1_add_44 : decode cX1_add 44 = .ok (.aload_n 0, 1) := by decide +kernel
theorem dX1_add_45 : decode cX1_add 45 = .ok (.getfield 20, 3) := by decide +kernel
theorem dX1_add_48 : decode cX1_add 48 = .ok (.imul, 1) := by decide +kernel
theorem dX1_add_49 : decode cX1_add 49 = .ok (.iload_n 1, 1) := by decide +kernel
theorem dX1_add_50 : decode cX1_add 50 = .ok (.iastore, 1) := by decide +kernel
theorem dX1_add_51 : decode cX1_add 51 = .ok (.aload_n 0, 1) := by decide +kernel
theorem dX1_add_52 : decode cX1_add 52 = .ok (.getfield 7, 3) := by decide +kernel
theorem dX1_add_55 : decode cX1_add 55 = .ok (.iconst 2, 1) := by decide +kernel
theorem dX1_add_56 : decode cX1_add 56 = .ok (.aload_n 0, 1) := by decide +kernel
theorem dX1_add_57 : decode cX1_add 57 = .ok (.getfield 20, 3) := by decide +kernel
theorem dX1_add_60 : decode cX1_add 60 = .ok (.imul, 1) := by decide +kernel
theorem dX1_add_61 : decode cX1_add 61 = .ok (.iconst 1, 1) := by decide +kernel
theorem dX1_add_62 : decode cX1_add 62 = .ok (.iadd, 1) := by decide +kernel
theorem dX1_add_63 : decode cX1_add 63 = .ok (.iload_n 2, 1) := by decide +kernel
theorem dX1_add_64 : decode cX1_add 64 = .ok (.iastore, 1) := by decide +kernel
theorem dX1_add_65 : decode cX1_add 65 = .ok (.aload_n 0, 1) := by decide +kernel
theorem dX1_add_66 : decode cX1_add 66 = .ok (.dup, 1) := by decide +kernel
theorem dX1_add_67 : decode cX1_add 67 = .ok (.getfield 20, 3) := by decide +kernel
theorem dX1_add_70 : decode cX1_add 70 = .ok (.iconst 1, 1) := by decide +kernel
theorem dX1_add_71 : decode cX1_add 71 = .ok (.iadd, 1) := by decide +kernel
theorem dX1_add_72 : decode cX1_add 72 = .ok (.putfield 20, 3) := by decide +kernel
theorem dX1_add_75 : decode cX1_add 75 = .ok (.aload_n 0, 1) := by decide +kernel
theorem dX1_add_76 : decode cX1_add 76 = .ok (.getfield 20, 3) := by decide +kernel
theorem dX1_add_79 : decode cX1_add 79 = .ok (.iconst 1, 1) := by decide +kernel
theorem dX1_add_80 : decode cX1_add 80 = .ok (.isub, 1) := by decide +kernel
theorem dX1_add_81 : decode cX1_add 81 = .ok (.ireturn, 1) := by decide +kernel
theorem dX1_drop_0 : decode cX1_drop 0 = .ok (.aload_n 0, 1) := by decide +kernel
theorem dX1_drop_1 : decode cX1_drop 1 = .ok (.getfield 20, 3) := by decide +kernel
theorem dX1_drop_4 : decode cX1_drop 4 = .ok (.iconst 1, 1) := by decide +kernel
theorem dX1_drop_5 : decode cX1_drop 5 = .ok (.if_icmp .ne 5, 3) := by decide +kernel
theorem dX1_drop_8 : decode cX1_drop 8 = .ok (.iconst (-1), 1) := by decide +kernel
theorem dX1_drop_9 : decode cX1_drop 9 = .ok (.ireturn, 1) := by decide +kernel
theorem dX1_drop_10 : decode cX1_drop 10 = .ok (.aload_n 0, 1) := by decide +kernel
theorem dX1_drop_11 : decode cX1_drop 11 = .ok (.dup, 1) := by decide +kernel
theorem dX1_drop_12 : decode cX1_drop 12 = .ok (.getfield 20, 3) := by decide +kernel
theorem dX1_drop_15 : decode cX1_drop 15 = .ok (.iconst 1, 1) := by decide +kernel
theorem dX1_drop_16 : decode cX1_drop 16 = .ok (.isub, 1) := by decide +kernel
theorem dX1_drop_17 : decode cX1_drop 17 = .ok (.putfield 20, 3) := by decide +kernel
theorem dX1_drop_20 : decode cX1_drop 20 = .ok (.aload_n 0, 1) := by decide +kernel
theorem dX1_drop_21 : decode cX1_drop 21 = .ok (.getfield 20, 3) := by decide +kernel
theorem dX1_drop_24 : decode cX1_drop 24 = .ok (.ireturn, 1) := by decide +kernel
theorem dX1_positions_0 : decode cX1_positions 0 = .ok (.aload_n 0, 1) := by decide +kernel
theorem dX1_positions_1 : decode cX1_positions 1 = .ok (.getfield 20, 3) := by decide +kernel
theorem dX1_positions_4 : decode cX1_positions 4 = .ok (.ireturn, 1) := by decide +kernel
theorem dX1_moves_0 : decode cX1_moves 0 = .ok (.aload_n 0, 1) := by decide +kernel
theorem dX1_moves_1 : decode cX1_moves 1 = .ok (.iload_n 1, 1) := by decide +kernel
theorem dX1_moves_2 : decode cX1_moves 2 = .ok (.invokevirtual 24, 3) := by decide +kernel
theorem dX1_moves_5 : decode cX1_moves 5 = .ok (.ifCond .eq 25, 3) := by decide +kernel
theorem dX1_moves_8 : decode cX1_moves 8 = .ok (.iload_n 2, 1) := by decide +kernel
theorem dX1_moves_9 : decode cX1_moves 9 = .ok (.ifCond .eq 8, 3) := by decide +kernel
theorem dX1_moves_12 : decode cX1_moves 12 = .ok (.iload_n 2, 1) := by decide +kernel
theorem dX1_moves_13 : decode cX1_moves 13 = .ok (.iconst 1, 1) := by decide +kernel
theorem dX1_moves_14 : decode cX1_moves 14 = .ok (.if_icmp .ne 16, 3) := by decide +kernel
theorem dX1_moves_17 : decode cX1_moves 17 = .ok (.aload_n 0, 1) := by decide +kernel
theorem dX1_moves_18 : decode cX1_moves 18 = .ok (.getfield 7, 3) := by decide +kernel
theorem dX1_moves_21 : decode cX1_moves 21 = .ok (.iconst 2, 1) := by decide +kernel
theorem dX1_moves_22 : decode cX1_moves 22 = .ok (.iload_n 1, 1) := by decide +kernel
theorem dX1_moves_23 : decode cX1_moves 23 = .ok (.imul, 1) := by decide +kernel
theorem dX1_moves_24 : decode cX1_moves 24 = .ok (.iload_n 2, 1) := by decide +kernel
theorem dX1_moves_25 : decode cX1_moves 25 = .ok (.iadd, 1) := by decide +kernel
theorem dX1_moves_26 : decode cX1_moves 26 = .ok (.iaload, 1) := by decide +kernel
theorem dX1_moves_27 : decode cX1_moves 27 = .ok (.goto 4, 3) := by decide +kernel
theorem dX1_moves_30 : decode cX1_moves 30 = .ok (.iconst (-1), 1) := by decide +kernel
theorem dX1_moves_31 : decode cX1_moves 31 = .ok (.ireturn, 1) := by decide +kernel
theorem dX1_is_0 : decode cX1_is 0 = .ok (.iload_n 1, 1) := by decide +kernel
theorem dX1_is_1 : decode cX1_is 1 = .ok (.ifCond .lt 15, 3) := by decide +kernel
theorem dX1_is_4 : decode cX1_is 4 = .ok (.iload_n 1, 1) := by decide +kernel
theorem dX1_is_5 : decode cX1_is 5 = .ok (.aload_n 0, 1) := by decide +kernel
theorem dX1_is_6 : decode cX1_is 6 = .ok (.getfield 20, 3) := by decide +kernel
theorem dX1_is_9 : decode cX1_is 9 = .ok (.if_icmp .ge 7, 3) := by decide +kernel
theorem dX1_is_12 : decode cX1_is 12 = .ok (.iconst 1, 1) := by decide +kernel
theorem dX1_is_13 : decode cX1_is 13 = .ok (.goto 4, 3) := by decide +kernel
theorem dX1_is_16 : decode cX1_is 16 = .ok (.iconst 0, 1) := by decide +kernel
theorem dX1_is_17 : decode cX1_is 17 = .ok (.ireturn, 1) := by decide +kernel
theorem dX1_compare_0 : decode cX1_compare 0 = .ok (.aload_n 0, 1) := by decide +kernel
theorem dX1_compare_1 : decode cX1_compare 1 = .ok (.invokevirtual 36, 3) := by decide +kernel
theorem dX1_compare_4 : decode cX1_compare 4 = .ok (.aload_n 0, 1) := by decide +kernel
theorem dX1_compare_5 : decode cX1_compare 5 = .ok (.iload_n 1, 1) := by decide +kernel
theorem dX1_compare_6 : decode cX1_compare 6 = .ok (.invokevirtual 24, 3) := by decide +kernel
theorem dX1_compare_9 : decode cX1_compare 9 = .ok (.ifCond .eq 30, 3) := by decide +kernel
theorem dX1_compare_12 : decode cX1_compare 12 = .ok (.aload_n 0, 1) := by decide +kernel
theorem dX1_compare_13 : decode cX1_compare 13 = .ok (.iload_n 2, 1) := by decide +kernel
theorem dX1_compare_14 : decode cX1_compare 14 = .ok (.invokevirtual 24, 3) := by decide +kernel
theorem dX1_compare_17 : decode cX1_compare 17 = .ok (.ifCond .eq 22, 3) := by decide +kernel
theorem dX1_compare_20 : decode cX1_compare 20 = .ok (.aload_n 0, 1) := by decide +kernel
theorem dX1_compare_21 : decode cX1_compare 21 = .ok (.aload_n 0, 1) := by decide +kernel
theorem dX1_compare_22 : decode cX1_compare 22 = .ok (.iload_n 1, 1) := by decide +kernel
theorem dX1_compare_23 : decode cX1_compare 23 = .ok (.iload_n 2, 1) := by decide +kernel
theorem dX1_compare_24 : decode cX1_compare 24 = .ok (.invokevirtual 39, 3) := by decide +kernel
theorem dX1_compare_27 : decode cX1_compare 27 = .ok (.aload_n 0, 1) := by decide +kernel
theorem dX1_compare_28 : decode cX1_compare 28 = .ok (.iload_n 2, 1) := by decide +kernel
theorem dX1_compare_29 : decode cX1_compare 29 = .ok (.iload_n 1, 1) := by decide +kernel
theorem dX1_compare_30 : decode cX1_compare 30 = .ok (.invokevirtual 39, 3) := by decide +kernel
theorem dX1_compare_33 : decode cX1_compare 33 = .ok (.invokevirtual 43, 3) := by decide +kernel
theorem dX1_compare_36 : decode cX1_compare 36 = .ok (.goto 4, 3) := by decide +kernel
theorem dX1_compare_39 : decode cX1_compare 39 = .ok (.iconst (-1), 1) := by decide +kernel
theorem dX1_compare_40 : decode cX1_compare 40 = .ok (.ireturn, 1) := by decide +kernel
theorem dX1_work_0 : decode cX1_work 0 = .ok (.iconst 0, 1) := by decide +kernel
theorem dX1_work_1 : decode cX1_work 1 = .ok (.istore_n 1, 1) := by decide +kernel
theorem dX1_work_2 : decode cX1_work 2 = .ok (.iload_n 1, 1) := by decide +kernel
theorem dX1_work_3 : decode cX1_work 3 = .ok (.sipush 1000, 3) := by decide +kernel
theorem dX1_work_6 : decode cX1_work 6 = .ok (.if_icmp .ge 99, 3) := by decide +kernel
theorem dX1_work_9 : decode cX1_work 9 = .ok (.iload_n 1, 1) := by decide +kernel
theorem dX1_work_10 : decode cX1_work 10 = .ok (.bipush 100, 2) := by decide +kernel
theorem dX1_work_12 : decode cX1_work 12 = .ok (.idiv, 1) := by decide +kernel
theorem dX1_work_13 : decode cX1_work 13 = .ok (.istore_n 2, 1) := by decide +kernel
theorem dX1_work_14 : decode cX1_work 14 = .ok (.iload_n 1, 1) := by decide +kernel
theorem dX1_work_15 : decode cX1_work 15 = .ok (.bipush 10, 2) := by decide +kernel
theorem dX1_work_17 : decode cX1_work 17 = .ok (.idiv, 1) := by decide +kernel
theorem dX1_work_18 : decode cX1_work 18 = .ok (.bipush 10, 2) := by decide +kernel
theorem dX1_work_20 : decode cX1_work 20 = .ok (.irem, 1) := by decide +kernel
theorem dX1_work_21 : decode cX1_work 21 = .ok (.istore_n 3, 1) := by decide +kernel
theorem dX1_work_22 : decode cX1_work 22 = .ok (.iload_n 1, 1) := by decide +kernel
theorem dX1_work_23 : decode cX1_work 23 = .ok (.bipush 10, 2) := by decide +kernel
theorem dX1_work_25 : decode cX1_work 25 = .ok (.irem, 1) := by decide +kernel
theorem dX1_work_26 : decode cX1_work 26 = .ok (.istore 4, 2) := by decide +kernel
theorem dX1_work_28 : decode cX1_work 28 = .ok (.iload_n 2, 1) := by decide +kernel
theorem dX1_work_29 : decode cX1_work 29 = .ok (.aload_n 0, 1) := by decide +kernel
theorem dX1_work_30 : decode cX1_work 30 = .ok (.getfield 20, 3) := by decide +kernel
theorem dX1_work_33 : decode cX1_work 33 = .ok (.if_icmp .ge 66, 3) := by decide +kernel
theorem dX1_work_36 : decode cX1_work 36 = .ok (.iload_n 3, 1) := by decide +kernel
theorem dX1_work_37 : decode cX1_work 37 = .ok (.aload_n 0, 1) := by decide +kernel
theorem dX1_work_38 : decode cX1_work 38 = .ok (.getfield 20, 3) := by decide +kernel
theorem dX1_work_41 : decode cX1_work 41 = .ok (.if_icmp .ge 58, 3) := by decide +kernel
theorem dX1_work_44 : decode cX1_work 44 = .ok (.iload 4, 2) := by decide +kernel
theorem dX1_work_46 : decode cX1_work 46 = .ok (.aload_n 0, 1) := by decide +kernel
theorem dX1_work_47 : decode cX1_work 47 = .ok (.getfield 20, 3) := by decide +kernel
theorem dX1_work_50 : decode cX1_work 50 = .ok (.if_icmp .ge 49, 3) := by decide +kernel
theorem dX1_work_53 : decode cX1_work 53 = .ok (.aload_n 0, 1) := by decide +kernel
theorem dX1_work_54 : decode cX1_work 54 = .ok (.getfield 13, 3) := by decide +kernel
theorem dX1_work_57 : decode cX1_work 57 = .ok (.aload_n 0, 1) := by decide +kernel
theorem dX1_work_58 : decode cX1_work 58 = .ok (.iload_n 2, 1) := by decide +kernel
theorem dX1_work_59 : decode cX1_work 59 = .ok (.iload_n 3, 1) := by decide +kernel
theorem dX1_work_60 : decode cX1_work 60 = .ok (.iload 4, 2) := by decide +kernel
theorem dX1_work_62 : decode cX1_work 62 = .ok (.iconst 0, 1) := by decide +kernel
theorem dX1_work_63 : decode cX1_work 63 = .ok (.invokevirtual 28, 3) := by decide +kernel
theorem dX1_work_66 : decode cX1_work 66 = .ok (.aload_n 0, 1) := by decide +kernel
theorem dX1_work_67 : decode cX1_work 67 = .ok (.iload_n 2, 1) := by decide +kernel
theorem dX1_work_68 : decode cX1_work 68 = .ok (.iload_n 3, 1) := by decide +kernel
theorem dX1_work_69 : decode cX1_work 69 = .ok (.iload 4, 2) := by decide +kernel
theorem dX1_work_71 : decode cX1_work 71 = .ok (.iconst 0, 1) := by decide +kernel
theorem dX1_work_72 : decode cX1_work 72 = .ok (.invokevirtual 32, 3) := by decide +kernel
theorem dX1_work_75 : decode cX1_work 75 = .ok (.bastore, 1) := by decide +kernel
theorem dX1_work_76 : decode cX1_work 76 = .ok (.aload_n 0, 1) := by decide +kernel
theorem dX1_work_77 : decode cX1_work 77 = .ok (.getfield 13, 3) := by decide +kernel
theorem dX1_work_80 : decode cX1_work 80 = .ok (.aload_n 0, 1) := by decide +kernel
theorem dX1_work_81 : decode cX1_work 81 = .ok (.iload_n 2, 1) := by decide +kernel
theorem dX1_work_82 : decode cX1_work 82 = .ok (.iload_n 3, 1) := by decide +kernel
theorem dX1_work_83 : decode cX1_work 83 = .ok (.iload 4, 2) := by decide +kernel
theorem dX1_work_85 : decode cX1_work 85 = .ok (.iconst 1, 1) := by decide +kernel
theorem dX1_work_86 : decode cX1_work 86 = .ok (.invokevirtual 28, 3) := by decide +kernel
theorem dX1_work_89 : decode cX1_work 89 = .ok (.aload_n 0, 1) := by decide +kernel
theorem dX1_work_90 : decode cX1_work 90 = .ok (.iload_n 2, 1) := by decide +kernel
theorem dX1_work_91 : decode cX1_work 91 = .ok (.iload_n 3, 1) := by decide +kernel
theorem dX1_work_92 : decode cX1_work 92 = .ok (.iload 4, 2) := by decide +kernel
theorem dX1_work_94 : decode cX1_work 94 = .ok (.iconst 1, 1) := by decide +kernel
theorem dX1_work_95 : decode cX1_work 95 = .ok (.invokevirtual 32, 3) := by decide +kernel
theorem dX1_work_98 : decode cX1_work 98 = .ok (.bastore, 1) := by decide +kernel
theorem dX1_work_99 : decode cX1_work 99 = .ok (.iinc 1 1, 3) := by decide +kernel
theorem dX1_work_102 : decode cX1_work 102 = .ok (.goto (-100), 3) := by decide +kernel
theorem dX1_work_105 : decode cX1_work 105 = .ok (.return_, 1) := by decide +kernel
theorem dX1_cell_0 : decode cX1_cell 0 = .ok (.sipush 200, 3) := by decide +kernel
theorem dX1_cell_3 : decode cX1_cell 3 = .ok (.iload_n 1, 1) := by decide +kernel
theorem dX1_cell_4 : decode cX1_cell 4 = .ok (.imul, 1) := by decide +kernel
theorem dX1_cell_5 : decode cX1_cell 5 = .ok (.bipush 20, 2) := by decide +kernel
theorem dX1_cell_7 : decode cX1_cell 7 = .ok (.iload_n 2, 1) := by decide +kernel
theorem dX1_cell_8 : decode cX1_cell 8 = .ok (.imul, 1) := by decide +kernel
theorem dX1_cell_9 : decode cX1_cell 9 = .ok (.iadd, 1) := by decide +kernel
theorem dX1_cell_10 : decode cX1_cell 10 = .ok (.iconst 2, 1) := by decide +kernel
theorem dX1_cell_11 : decode cX1_cell 11 = .ok (.iload_n 3, 1) := by decide +kernel
theorem dX1_cell_12 : decode cX1_cell 12 = .ok (.imul, 1) := by decide +kernel
theorem dX1_cell_13 : decode cX1_cell 13 = .ok (.iadd, 1) := by decide +kernel
theorem dX1_cell_14 : decode cX1_cell 14 = .ok (.iload 4, 2) := by decide +kernel
theorem dX1_cell_16 : decode cX1_cell 16 = .ok (.iadd, 1) := by decide +kernel
theorem dX1_cell_17 : decode cX1_cell 17 = .ok (.ireturn, 1) := by decide +kernel
theorem dX1_canWin_0 : decode cX1_canWin 0 = .ok (.aload_n 0, 1) := by decide +kernel
theorem dX1_canWin_1 : decode cX1_canWin 1 = .ok (.getfield 7, 3) := by decide +kernel
theorem dX1_canWin_4 : decode cX1_canWin 4 = .ok (.iconst 2, 1) := by decide +kernel
theorem dX1_canWin_5 : decode cX1_canWin 5 = .ok (.iload_n 1, 1) := by decide +kernel
theorem dX1_canWin_6 : decode cX1_canWin 6 = .ok (.imul, 1) := by decide +kernel
theorem dX1_canWin_7 : decode cX1_canWin 7 = .ok (.iload 4, 2) := by decide +kernel
theorem dX1_canWin_9 : decode cX1_canWin 9 = .ok (.iadd, 1) := by decide +kernel
theorem dX1_canWin_10 : decode cX1_canWin 10 = .ok (.iaload, 1) := by decide +kernel
theorem dX1_canWin_11 : decode cX1_canWin 11 = .ok (.istore 5, 2) := by decide +kernel
theorem dX1_canWin_13 : decode cX1_canWin 13 = .ok (.aload_n 0, 1) := by decide +kernel
theorem dX1_canWin_14 : decode cX1_canWin 14 = .ok (.getfield 7, 3) := by decide +kernel
theorem dX1_canWin_17 : decode cX1_canWin 17 = .ok (.iconst 2, 1) := by decide +kernel
theorem dX1_canWin_18 : decode cX1_canWin 18 = .ok (.iload_n 2, 1) := by decide +kernel
theorem dX1_canWin_19 : decode cX1_canWin 19 = .ok (.imul, 1) := by decide +kernel
theorem dX1_canWin_20 : decode cX1_canWin 20 = .ok (.iload 4, 2) := by decide +kernel
theorem dX1_canWin_22 : decode cX1_canWin 22 = .ok (.iadd, 1) := by decide +kernel
theorem dX1_canWin_23 : decode cX1_canWin 23 = .ok (.iaload, 1) := by decide +kernel
theorem dX1_canWin_24 : decode cX1_canWin 24 = .ok (.istore 6, 2) := by decide +kernel
theorem dX1_canWin_26 : decode cX1_canWin 26 = .ok (.aload_n 0, 1) := by decide +kernel
theorem dX1_canWin_27 : decode cX1_canWin 27 = .ok (.getfield 7, 3) := by decide +kernel
theorem dX1_canWin_30 : decode cX1_canWin 30 = .ok (.iconst 2, 1) := by decide +kernel
theorem dX1_canWin_31 : decode cX1_canWin 31 = .ok (.iload_n 3, 1) := by decide +kernel
theorem dX1_canWin_32 : decode cX1_canWin 32 = .ok (.imul, 1) := by decide +kernel
theorem dX1_canWin_33 : decode cX1_canWin 33 = .ok (.iconst 1, 1) := by decide +kernel
theorem dX1_canWin_34 : decode cX1_canWin 34 = .ok (.iadd, 1) := by decide +kernel
theorem dX1_canWin_35 : decode cX1_canWin 35 = .ok (.iload 4, 2) := by decide +kernel
theorem dX1_canWin_37 : decode cX1_canWin 37 = .ok (.isub, 1) := by decide +kernel
end
section
set_option maxRecDepth 100000
theorem dX1_canWin_38 : decode cX1_canWin 38 = .ok (.iaload, 1) := by decide +kernel
theorem dX1_canWin_39 : decode cX1_canWin 39 = .ok (.istore 7, 2) := by decide +kernel
theorem dX1_canWin_41 : decode cX1_canWin 41 = .ok (.iconst 0, 1) := by decide +kernel
theorem dX1_canWin_42 : decode cX1_canWin 42 = .ok (.istore 8, 2) := by decide +kernel
theorem dX1_canWin_44 : decode cX1_canWin 44 = .ok (.iconst 0, 1) := by decide +kernel
theorem dX1_canWin_45 : decode cX1_canWin 45 = .ok (.istore 9, 2) := by decide +kernel
theorem dX1_canWin_47 : decode cX1_canWin 47 = .ok (.iload 9, 2) := by decide +kernel
theorem dX1_canWin_49 : decode cX1_canWin 49 = .ok (.bipush 10, 2) := by decide +kernel
theorem dX1_canWin_51 : decode cX1_canWin 51 = .ok (.if_icmp .ge 114, 3) := by decide +kernel
theorem dX1_canWin_54 : decode cX1_canWin 54 = .ok (.iload 8, 2) := by decide +kernel
theorem dX1_canWin_56 : decode cX1_canWin 56 = .ok (.ifCond .ne 96, 3) := by decide +kernel
theorem dX1_canWin_59 : decode cX1_canWin 59 = .ok (.iload 5, 2) := by decide +kernel
theorem dX1_canWin_61 : decode cX1_canWin 61 = .ok (.iload 9, 2) := by decide +kernel
theorem dX1_canWin_63 : decode cX1_canWin 63 = .ok (.ishr, 1) := by decide +kernel
theorem dX1_canWin_64 : decode cX1_canWin 64 = .ok (.iconst 1, 1) := by decide +kernel
theorem dX1_canWin_65 : decode cX1_canWin 65 = .ok (.iand, 1) := by decide +kernel
theorem dX1_canWin_66 : decode cX1_canWin 66 = .ok (.iconst 1, 1) := by decide +kernel
theorem dX1_canWin_67 : decode cX1_canWin 67 = .ok (.if_icmp .ne 23, 3) := by decide +kernel
theorem dX1_canWin_70 : decode cX1_canWin 70 = .ok (.aload_n 0, 1) := by decide +kernel
theorem dX1_canWin_71 : decode cX1_canWin 71 = .ok (.getfield 13, 3) := by decide +kernel
theorem dX1_canWin_74 : decode cX1_canWin 74 = .ok (.aload_n 0, 1) := by decide +kernel
theorem dX1_canWin_75 : decode cX1_canWin 75 = .ok (.iload 9, 2) := by decide +kernel
theorem dX1_canWin_77 : decode cX1_canWin 77 = .ok (.iload_n 2, 1) := by decide +kernel
theorem dX1_canWin_78 : decode cX1_canWin 78 = .ok (.iload_n 3, 1) := by decide +kernel
theorem dX1_canWin_79 : decode cX1_canWin 79 = .ok (.iconst 1, 1) := by decide +kernel
theorem dX1_canWin_80 : decode cX1_canWin 80 = .ok (.iload 4, 2) := by decide +kernel
theorem dX1_canWin_82 : decode cX1_canWin 82 = .ok (.isub, 1) := by decide +kernel
theorem dX1_canWin_83 : decode cX1_canWin 83 = .ok (.invokevirtual 28, 3) := by decide +kernel
theorem dX1_canWin_86 : decode cX1_canWin 86 = .ok (.baload, 1) := by decide +kernel
theorem dX1_canWin_87 : decode cX1_canWin 87 = .ok (.ifCond .eq 65, 3) := by decide +kernel
theorem dX1_canWin_90 : decode cX1_canWin 90 = .ok (.iload 6, 2) := by decide +kernel
theorem dX1_canWin_92 : decode cX1_canWin 92 = .ok (.iload 9, 2) := by decide +kernel
theorem dX1_canWin_94 : decode cX1_canWin 94 = .ok (.ishr, 1) := by decide +kernel
theorem dX1_canWin_95 : decode cX1_canWin 95 = .ok (.iconst 1, 1) := by decide +kernel
theorem dX1_canWin_96 : decode cX1_canWin 96 = .ok (.iand, 1) := by decide +kernel
theorem dX1_canWin_97 : decode cX1_canWin 97 = .ok (.iconst 1, 1) := by decide +kernel
theorem dX1_canWin_98 : decode cX1_canWin 98 = .ok (.if_icmp .ne 23, 3) := by decide +kernel
theorem dX1_canWin_101 : decode cX1_canWin 101 = .ok (.aload_n 0, 1) := by decide +kernel
theorem dX1_canWin_102 : decode cX1_canWin 102 = .ok (.getfield 13, 3) := by decide +kernel
theorem dX1_canWin_105 : decode cX1_canWin 105 = .ok (.aload_n 0, 1) := by decide +kernel
theorem dX1_canWin_106 : decode cX1_canWin 106 = .ok (.iload_n 1, 1) := by decide +kernel
theorem dX1_canWin_107 : decode cX1_canWin 107 = .ok (.iload 9, 2) := by decide +kernel
theorem dX1_canWin_109 : decode cX1_canWin 109 = .ok (.iload_n 3, 1) := by decide +kernel
theorem dX1_canWin_110 : decode cX1_canWin 110 = .ok (.iconst 1, 1) := by decide +kernel
theorem dX1_canWin_111 : decode cX1_canWin 111 = .ok (.iload 4, 2) := by decide +kernel
theorem dX1_canWin_113 : decode cX1_canWin 113 = .ok (.isub, 1) := by decide +kernel
theorem dX1_canWin_114 : decode cX1_canWin 114 = .ok (.invokevirtual 28, 3) := by decide +kernel
theorem dX1_canWin_117 : decode cX1_canWin 117 = .ok (.baload, 1) := by decide +kernel
theorem dX1_canWin_118 : decode cX1_canWin 118 = .ok (.ifCond .eq 34, 3) := by decide +kernel
theorem dX1_canWin_121 : decode cX1_canWin 121 = .ok (.iload 7, 2) := by decide +kernel
theorem dX1_canWin_123 : decode cX1_canWin 123 = .ok (.iload 9, 2) := by decide +kernel
theorem dX1_canWin_125 : decode cX1_canWin 125 = .ok (.ishr, 1) := by decide +kernel
theorem dX1_canWin_126 : decode cX1_canWin 126 = .ok (.iconst 1, 1) := by decide +kernel
theorem dX1_canWin_127 : decode cX1_canWin 127 = .ok (.iand, 1) := by decide +kernel
theorem dX1_canWin_128 : decode cX1_canWin 128 = .ok (.iconst 1, 1) := by decide +kernel
theorem dX1_canWin_129 : decode cX1_canWin 129 = .ok (.if_icmp .ne 27, 3) := by decide +kernel
theorem dX1_canWin_132 : decode cX1_canWin 132 = .ok (.aload_n 0, 1) := by decide +kernel
theorem dX1_canWin_133 : decode cX1_canWin 133 = .ok (.getfield 13, 3) := by decide +kernel
theorem dX1_canWin_136 : decode cX1_canWin 136 = .ok (.aload_n 0, 1) := by decide +kernel
theorem dX1_canWin_137 : decode cX1_canWin 137 = .ok (.iload_n 1, 1) := by decide +kernel
theorem dX1_canWin_138 : decode cX1_canWin 138 = .ok (.iload_n 2, 1) := by decide +kernel
theorem dX1_canWin_139 : decode cX1_canWin 139 = .ok (.iload 9, 2) := by decide +kernel
theorem dX1_canWin_141 : decode cX1_canWin 141 = .ok (.iconst 1, 1) := by decide +kernel
theorem dX1_canWin_142 : decode cX1_canWin 142 = .ok (.iload 4, 2) := by decide +kernel
theorem dX1_canWin_144 : decode cX1_canWin 144 = .ok (.isub, 1) := by decide +kernel
theorem dX1_canWin_145 : decode cX1_canWin 145 = .ok (.invokevirtual 28, 3) := by decide +kernel
theorem dX1_canWin_148 : decode cX1_canWin 148 = .ok (.baload, 1) := by decide +kernel
theorem dX1_canWin_149 : decode cX1_canWin 149 = .ok (.ifCond .ne 7, 3) := by decide +kernel
theorem dX1_canWin_152 : decode cX1_canWin 152 = .ok (.iconst 1, 1) := by decide +kernel
theorem dX1_canWin_153 : decode cX1_canWin 153 = .ok (.goto 4, 3) := by decide +kernel
theorem dX1_canWin_156 : decode cX1_canWin 156 = .ok (.iconst 0, 1) := by decide +kernel
theorem dX1_canWin_157 : decode cX1_canWin 157 = .ok (.istore 8, 2) := by decide +kernel
theorem dX1_canWin_159 : decode cX1_canWin 159 = .ok (.iinc 9 1, 3) := by decide +kernel
theorem dX1_canWin_162 : decode cX1_canWin 162 = .ok (.goto (-115), 3) := by decide +kernel
theorem dX1_canWin_165 : decode cX1_canWin 165 = .ok (.iload 8, 2) := by decide +kernel
theorem dX1_canWin_167 : decode cX1_canWin 167 = .ok (.ireturn, 1) := by decide +kernel
theorem dX1_least_0 : decode cX1_least 0 = .ok (.aload_n 0, 1) := by decide +kernel
theorem dX1_least_1 : decode cX1_least 1 = .ok (.getfield 13, 3) := by decide +kernel
theorem dX1_least_4 : decode cX1_least 4 = .ok (.aload_n 0, 1) := by decide +kernel
theorem dX1_least_5 : decode cX1_least 5 = .ok (.iload_n 1, 1) := by decide +kernel
theorem dX1_least_6 : decode cX1_least 6 = .ok (.iconst 0, 1) := by decide +kernel
theorem dX1_least_7 : decode cX1_least 7 = .ok (.iload_n 2, 1) := by decide +kernel
theorem dX1_least_8 : decode cX1_least 8 = .ok (.iconst 1, 1) := by decide +kernel
theorem dX1_least_9 : decode cX1_least 9 = .ok (.invokevirtual 28, 3) := by decide +kernel
theorem dX1_least_12 : decode cX1_least 12 = .ok (.baload, 1) := by decide +kernel
theorem dX1_least_13 : decode cX1_least 13 = .ok (.ifCond .ne 7, 3) := by decide +kernel
theorem dX1_least_16 : decode cX1_least 16 = .ok (.iconst 1, 1) := by decide +kernel
theorem dX1_least_17 : decode cX1_least 17 = .ok (.goto 4, 3) := by decide +kernel
theorem dX1_least_20 : decode cX1_least 20 = .ok (.iconst 0, 1) := by decide +kernel
theorem dX1_least_21 : decode cX1_least 21 = .ok (.ireturn, 1) := by decide +kernel
theorem dX1_stands_0 : decode cX1_stands 0 = .ok (.iload_n 1, 1) := by decide +kernel
theorem dX1_stands_1 : decode cX1_stands 1 = .ok (.ifCond .eq 11, 3) := by decide +kernel
theorem dX1_stands_4 : decode cX1_stands 4 = .ok (.iload_n 2, 1) := by decide +kernel
theorem dX1_stands_5 : decode cX1_stands 5 = .ok (.ifCond .eq 7, 3) := by decide +kernel
theorem dX1_stands_8 : decode cX1_stands 8 = .ok (.iconst 0, 1) := by decide +kernel
theorem dX1_stands_9 : decode cX1_stands 9 = .ok (.goto 20, 3) := by decide +kernel
theorem dX1_stands_12 : decode cX1_stands 12 = .ok (.iload_n 1, 1) := by decide +kernel
theorem dX1_stands_13 : decode cX1_stands 13 = .ok (.ifCond .eq 7, 3) := by decide +kernel
theorem dX1_stands_16 : decode cX1_stands 16 = .ok (.iconst 1, 1) := by decide +kernel
theorem dX1_stands_17 : decode cX1_stands 17 = .ok (.goto 12, 3) := by decide +kernel
theorem dX1_stands_20 : decode cX1_stands 20 = .ok (.iload_n 2, 1) := by decide +kernel
theorem dX1_stands_21 : decode cX1_stands 21 = .ok (.ifCond .eq 7, 3) := by decide +kernel
theorem dX1_stands_24 : decode cX1_stands 24 = .ok (.iconst 2, 1) := by decide +kernel
theorem dX1_stands_25 : decode cX1_stands 25 = .ok (.goto 4, 3) := by decide +kernel
theorem dX1_stands_28 : decode cX1_stands 28 = .ok (.iconst 3, 1) := by decide +kernel
theorem dX1_stands_29 : decode cX1_stands 29 = .ok (.ireturn, 1) := by decide +kernel
theorem dX1_wins_0 : decode cX1_wins 0 = .ok (.aload_n 0, 1) := by decide +kernel
theorem dX1_wins_1 : decode cX1_wins 1 = .ok (.iload_n 1, 1) := by decide +kernel
theorem dX1_wins_2 : decode cX1_wins 2 = .ok (.iconst 0, 1) := by decide +kernel
theorem dX1_wins_3 : decode cX1_wins 3 = .ok (.iload_n 2, 1) := by decide +kernel
theorem dX1_wins_4 : decode cX1_wins 4 = .ok (.invokevirtual 47, 3) := by decide +kernel
theorem dX1_wins_7 : decode cX1_wins 7 = .ok (.ireturn, 1) := by decide +kernel
theorem dX1_winsSum_0 : decode cX1_winsSum 0 = .ok (.aload_n 0, 1) := by decide +kernel
theorem dX1_winsSum_1 : decode cX1_winsSum 1 = .ok (.invokevirtual 36, 3) := by decide +kernel
theorem dX1_winsSum_4 : decode cX1_winsSum 4 = .ok (.aload_n 0, 1) := by decide +kernel
theorem dX1_winsSum_5 : decode cX1_winsSum 5 = .ok (.iload_n 1, 1) := by decide +kernel
theorem dX1_winsSum_6 : decode cX1_winsSum 6 = .ok (.invokevirtual 24, 3) := by decide +kernel
theorem dX1_winsSum_9 : decode cX1_winsSum 9 = .ok (.ifCond .eq 40, 3) := by decide +kernel
theorem dX1_winsSum_12 : decode cX1_winsSum 12 = .ok (.aload_n 0, 1) := by decide +kernel
theorem dX1_winsSum_13 : decode cX1_winsSum 13 = .ok (.iload_n 2, 1) := by decide +kernel
theorem dX1_winsSum_14 : decode cX1_winsSum 14 = .ok (.invokevirtual 24, 3) := by decide +kernel
theorem dX1_winsSum_17 : decode cX1_winsSum 17 = .ok (.ifCond .eq 32, 3) := by decide +kernel
theorem dX1_winsSum_20 : decode cX1_winsSum 20 = .ok (.iload_n 3, 1) := by decide +kernel
theorem dX1_winsSum_21 : decode cX1_winsSum 21 = .ok (.ifCond .eq 8, 3) := by decide +kernel
theorem dX1_winsSum_24 : decode cX1_winsSum 24 = .ok (.iload_n 3, 1) := by decide +kernel
theorem dX1_winsSum_25 : decode cX1_winsSum 25 = .ok (.iconst 1, 1) := by decide +kernel
theorem dX1_winsSum_26 : decode cX1_winsSum 26 = .ok (.if_icmp .ne 23, 3) := by decide +kernel
theorem dX1_winsSum_29 : decode cX1_winsSum 29 = .ok (.aload_n 0, 1) := by decide +kernel
theorem dX1_winsSum_30 : decode cX1_winsSum 30 = .ok (.getfield 13, 3) := by decide +kernel
theorem dX1_winsSum_33 : decode cX1_winsSum 33 = .ok (.aload_n 0, 1) := by decide +kernel
theorem dX1_winsSum_34 : decode cX1_winsSum 34 = .ok (.iload_n 1, 1) := by decide +kernel
theorem dX1_winsSum_35 : decode cX1_winsSum 35 = .ok (.iload_n 2, 1) := by decide +kernel
theorem dX1_winsSum_36 : decode cX1_winsSum 36 = .ok (.iconst 0, 1) := by decide +kernel
theorem dX1_winsSum_37 : decode cX1_winsSum 37 = .ok (.iload_n 3, 1) := by decide +kernel
theorem dX1_winsSum_38 : decode cX1_winsSum 38 = .ok (.invokevirtual 28, 3) := by decide +kernel
theorem dX1_winsSum_41 : decode cX1_winsSum 41 = .ok (.baload, 1) := by decide +kernel
theorem dX1_winsSum_42 : decode cX1_winsSum 42 = .ok (.ifCond .eq 7, 3) := by decide +kernel
theorem dX1_winsSum_45 : decode cX1_winsSum 45 = .ok (.iconst 1, 1) := by decide +kernel
theorem dX1_winsSum_46 : decode cX1_winsSum 46 = .ok (.goto 4, 3) := by decide +kernel
theorem dX1_winsSum_49 : decode cX1_winsSum 49 = .ok (.iconst 0, 1) := by decide +kernel
theorem dX1_winsSum_50 : decode cX1_winsSum 50 = .ok (.ireturn, 1) := by decide +kernel
theorem dX1_compareSum_0 : decode cX1_compareSum 0 = .ok (.aload_n 0, 1) := by decide +kernel
theorem dX1_compareSum_1 : decode cX1_compareSum 1 = .ok (.invokevirtual 36, 3) := by decide +kernel
theorem dX1_compareSum_4 : decode cX1_compareSum 4 = .ok (.aload_n 0, 1) := by decide +kernel
theorem dX1_compareSum_5 : decode cX1_compareSum 5 = .ok (.iload_n 1, 1) := by decide +kernel
theorem dX1_compareSum_6 : decode cX1_compareSum 6 = .ok (.invokevirtual 24, 3) := by decide +kernel
theorem dX1_compareSum_9 : decode cX1_compareSum 9 = .ok (.ifCond .eq 68, 3) := by decide +kernel
theorem dX1_compareSum_12 : decode cX1_compareSum 12 = .ok (.aload_n 0, 1) := by decide +kernel
theorem dX1_compareSum_13 : decode cX1_compareSum 13 = .ok (.iload_n 2, 1) := by decide +kernel
theorem dX1_compareSum_14 : decode cX1_compareSum 14 = .ok (.invokevirtual 24, 3) := by decide +kernel
theorem dX1_compareSum_17 : decode cX1_compareSum 17 = .ok (.ifCond .eq 60, 3) := by decide +kernel
theorem dX1_compareSum_20 : decode cX1_compareSum 20 = .ok (.aload_n 0, 1) := by decide +kernel
theorem dX1_compareSum_21 : decode cX1_compareSum 21 = .ok (.iload_n 3, 1) := by decide +kernel
theorem dX1_compareSum_22 : decode cX1_compareSum 22 = .ok (.invokevirtual 24, 3) := by decide +kernel
theorem dX1_compareSum_25 : decode cX1_compareSum 25 = .ok (.ifCond .eq 52, 3) := by decide +kernel
theorem dX1_compareSum_28 : decode cX1_compareSum 28 = .ok (.aload_n 0, 1) := by decide +kernel
theorem dX1_compareSum_29 : decode cX1_compareSum 29 = .ok (.aload_n 0, 1) := by decide +kernel
theorem dX1_compareSum_30 : decode cX1_compareSum 30 = .ok (.getfield 13, 3) := by decide +kernel
theorem dX1_compareSum_33 : decode cX1_compareSum 33 = .ok (.aload_n 0, 1) := by decide +kernel
theorem dX1_compareSum_34 : decode cX1_compareSum 34 = .ok (.iload_n 1, 1) := by decide +kernel
theorem dX1_compareSum_35 : decode cX1_compareSum 35 = .ok (.iload_n 2, 1) := by decide +kernel
theorem dX1_compareSum_36 : decode cX1_compareSum 36 = .ok (.iload_n 3, 1) := by decide +kernel
theorem dX1_compareSum_37 : decode cX1_compareSum 37 = .ok (.iconst 1, 1) := by decide +kernel
theorem dX1_compareSum_38 : decode cX1_compareSum 38 = .ok (.invokevirtual 28, 3) := by decide +kernel
theorem dX1_compareSum_41 : decode cX1_compareSum 41 = .ok (.baload, 1) := by decide +kernel
theorem dX1_compareSum_42 : decode cX1_compareSum 42 = .ok (.ifCond .ne 7, 3) := by decide +kernel
theorem dX1_compareSum_45 : decode cX1_compareSum 45 = .ok (.iconst 1, 1) := by decide +kernel
theorem dX1_compareSum_46 : decode cX1_compareSum 46 = .ok (.goto 4, 3) := by decide +kernel
theorem dX1_compareSum_49 : decode cX1_compareSum 49 = .ok (.iconst 0, 1) := by decide +kernel
theorem dX1_compareSum_50 : decode cX1_compareSum 50 = .ok (.aload_n 0, 1) := by decide +kernel
theorem dX1_compareSum_51 : decode cX1_compareSum 51 = .ok (.getfield 13, 3) := by decide +kernel
theorem dX1_compareSum_54 : decode cX1_compareSum 54 = .ok (.aload_n 0, 1) := by decide +kernel
theorem dX1_compareSum_55 : decode cX1_compareSum 55 = .ok (.iload_n 1, 1) := by decide +kernel
theorem dX1_compareSum_56 : decode cX1_compareSum 56 = .ok (.iload_n 2, 1) := by decide +kernel
theorem dX1_compareSum_57 : decode cX1_compareSum 57 = .ok (.iload_n 3, 1) := by decide +kernel
theorem dX1_compareSum_58 : decode cX1_compareSum 58 = .ok (.iconst 0, 1) := by decide +kernel
theorem dX1_compareSum_59 : decode cX1_compareSum 59 = .ok (.invokevirtual 28, 3) := by decide +kernel
theorem dX1_compareSum_62 : decode cX1_compareSum 62 = .ok (.baload, 1) := by decide +kernel
theorem dX1_compareSum_63 : decode cX1_compareSum 63 = .ok (.ifCond .ne 7, 3) := by decide +kernel
theorem dX1_compareSum_66 : decode cX1_compareSum 66 = .ok (.iconst 1, 1) := by decide +kernel
theorem dX1_compareSum_67 : decode cX1_compareSum 67 = .ok (.goto 4, 3) := by decide +kernel
theorem dX1_compareSum_70 : decode cX1_compareSum 70 = .ok (.iconst 0, 1) := by decide +kernel
theorem dX1_compareSum_71 : decode cX1_compareSum 71 = .ok (.invokevirtual 43, 3) := by decide +kernel
theorem dX1_compareSum_74 : decode cX1_compareSum 74 = .ok (.goto 4, 3) := by decide +kernel
theorem dX1_compareSum_77 : decode cX1_compareSum 77 = .ok (.iconst (-1), 1) := by decide +kernel
theorem dX1_compareSum_78 : decode cX1_compareSum 78 = .ok (.ireturn, 1) := by decide +kernel
theorem dX1_dominated_0 : decode cX1_dominated 0 = .ok (.aload_n 0, 1) := by decide +kernel
theorem dX1_dominated_1 : decode cX1_dominated 1 = .ok (.iload_n 1, 1) := by decide +kernel
theorem dX1_dominated_2 : decode cX1_dominated 2 = .ok (.invokevirtual 24, 3) := by decide +kernel
theorem dX1_dominated_5 : decode cX1_dominated 5 = .ok (.ifCond .eq 12, 3) := by decide +kernel
theorem dX1_dominated_8 : decode cX1_dominated 8 = .ok (.iload_n 2, 1) := by decide +kernel
theorem dX1_dominated_9 : decode cX1_dominated 9 = .ok (.ifCond .eq 10, 3) := by decide +kernel
theorem dX1_dominated_12 : decode cX1_dominated 12 = .ok (.iload_n 2, 1) := by decide +kernel
theorem dX1_dominated_13 : decode cX1_dominated 13 = .ok (.iconst 1, 1) := by decide +kernel
theorem dX1_dominated_14 : decode cX1_dominated 14 = .ok (.if_icmp .eq 5, 3) := by decide +kernel
theorem dX1_dominated_17 : decode cX1_dominated 17 = .ok (.iconst (-1), 1) := by decide +kernel
theorem dX1_dominated_18 : decode cX1_dominated 18 = .ok (.ireturn, 1) := by decide +kernel
theorem dX1_dominated_19 : decode cX1_dominated 19 = .ok (.aload_n 0, 1) := by decide +kernel
theorem dX1_dominated_20 : decode cX1_dominated 20 = .ok (.invokevirtual 36, 3) := by decide +kernel
theorem dX1_dominated_23 : decode cX1_dominated 23 = .ok (.aload_n 0, 1) := by decide +kernel
theorem dX1_dominated_24 : decode cX1_dominated 24 = .ok (.getfield 7, 3) := by decide +kernel
theorem dX1_dominated_27 : decode cX1_dominated 27 = .ok (.iconst 2, 1) := by decide +kernel
theorem dX1_dominated_28 : decode cX1_dominated 28 = .ok (.iload_n 1, 1) := by decide +kernel
theorem dX1_dominated_29 : decode cX1_dominated 29 = .ok (.imul, 1) := by decide +kernel
theorem dX1_dominated_30 : decode cX1_dominated 30 = .ok (.iload_n 2, 1) := by decide +kernel
theorem dX1_dominated_31 : decode cX1_dominated 31 = .ok (.iadd, 1) := by decide +kernel
theorem dX1_dominated_32 : decode cX1_dominated 32 = .ok (.iaload, 1) := by decide +kernel
theorem dX1_dominated_33 : decode cX1_dominated 33 = .ok (.istore_n 3, 1) := by decide +kernel
theorem dX1_dominated_34 : decode cX1_dominated 34 = .ok (.iconst 0, 1) := by decide +kernel
theorem dX1_dominated_35 : decode cX1_dominated 35 = .ok (.istore 4, 2) := by decide +kernel
theorem dX1_dominated_37 : decode cX1_dominated 37 = .ok (.iconst 0, 1) := by decide +kernel
theorem dX1_dominated_38 : decode cX1_dominated 38 = .ok (.istore 5, 2) := by decide +kernel
theorem dX1_dominated_40 : decode cX1_dominated 40 = .ok (.iload 5, 2) := by decide +kernel
theorem dX1_dominated_42 : decode cX1_dominated 42 = .ok (.bipush 100, 2) := by decide +kernel
theorem dX1_dominated_44 : decode cX1_dominated 44 = .ok (.if_icmp .ge 88, 3) := by decide +kernel
theorem dX1_dominated_47 : decode cX1_dominated 47 = .ok (.iload 5, 2) := by decide +kernel
theorem dX1_dominated_49 : decode cX1_dominated 49 = .ok (.bipush 10, 2) := by decide +kernel
theorem dX1_dominated_51 : decode cX1_dominated 51 = .ok (.idiv, 1) := by decide +kernel
theorem dX1_dominated_52 : decode cX1_dominated 52 = .ok (.istore 6, 2) := by decide +kernel
theorem dX1_dominated_54 : decode cX1_dominated 54 = .ok (.iload 5, 2) := by decide +kernel
theorem dX1_dominated_56 : decode cX1_dominated 56 = .ok (.bipush 10, 2) := by decide +kernel
theorem dX1_dominated_58 : decode cX1_dominated 58 = .ok (.irem, 1) := by decide +kernel
theorem dX1_dominated_59 : decode cX1_dominated 59 = .ok (.istore 7, 2) := by decide +kernel
theorem dX1_dominated_61 : decode cX1_dominated 61 = .ok (.iload 6, 2) := by decide +kernel
theorem dX1_dominated_63 : decode cX1_dominated 63 = .ok (.iload 7, 2) := by decide +kernel
theorem dX1_dominated_65 : decode cX1_dominated 65 = .ok (.if_icmp .eq 27, 3) := by decide +kernel
theorem dX1_dominated_68 : decode cX1_dominated 68 = .ok (.iload_n 3, 1) := by decide +kernel
theorem dX1_dominated_69 : decode cX1_dominated 69 = .ok (.iload 6, 2) := by decide +kernel
theorem dX1_dominated_71 : decode cX1_dominated 71 = .ok (.ishr, 1) := by decide +kernel
theorem dX1_dominated_72 : decode cX1_dominated 72 = .ok (.iconst 1, 1) := by decide +kernel
theorem dX1_dominated_73 : decode cX1_dominated 73 = .ok (.iand, 1) := by decide +kernel
theorem dX1_dominated_74 : decode cX1_dominated 74 = .ok (.iconst 1, 1) := by decide +kernel
theorem dX1_dominated_75 : decode cX1_dominated 75 = .ok (.if_icmp .ne 17, 3) := by decide +kernel
theorem dX1_dominated_78 : decode cX1_dominated 78 = .ok (.iload_n 3, 1) := by decide +kernel
theorem dX1_dominated_79 : decode cX1_dominated 79 = .ok (.iload 7, 2) := by decide +kernel
theorem dX1_dominated_81 : decode cX1_dominated 81 = .ok (.ishr, 1) := by decide +kernel
theorem dX1_dominated_82 : decode cX1_dominated 82 = .ok (.iconst 1, 1) := by decide +kernel
theorem dX1_dominated_83 : decode cX1_dominated 83 = .ok (.iand, 1) := by decide +kernel
theorem dX1_dominated_84 : decode cX1_dominated 84 = .ok (.iconst 1, 1) := by decide +kernel
theorem dX1_dominated_85 : decode cX1_dominated 85 = .ok (.if_icmp .ne 7, 3) := by decide +kernel
theorem dX1_dominated_88 : decode cX1_dominated 88 = .ok (.iconst 1, 1) := by decide +kernel
theorem dX1_dominated_89 : decode cX1_dominated 89 = .ok (.goto 4, 3) := by decide +kernel
theorem dX1_dominated_92 : decode cX1_dominated 92 = .ok (.iconst 0, 1) := by decide +kernel
theorem dX1_dominated_93 : decode cX1_dominated 93 = .ok (.istore 8, 2) := by decide +kernel
theorem dX1_dominated_95 : decode cX1_dominated 95 = .ok (.iload 8, 2) := by decide +kernel
theorem dX1_dominated_97 : decode cX1_dominated 97 = .ok (.ifCond .eq 25, 3) := by decide +kernel
theorem dX1_dominated_100 : decode cX1_dominated 100 = .ok (.aload_n 0, 1) := by decide +kernel
theorem dX1_dominated_101 : decode cX1_dominated 101 = .ok (.iload 6, 2) := by decide +kernel
theorem dX1_dominated_103 : decode cX1_dominated 103 = .ok (.iload 7, 2) := by decide +kernel
theorem dX1_dominated_105 : decode cX1_dominated 105 = .ok (.iload_n 2, 1) := by decide +kernel
end
section
set_option maxRecDepth 100000
theorem dX1_dominated_106 : decode cX1_dominated 106 = .ok (.invokevirtual 51, 3) := by decide +kernel
theorem dX1_dominated_109 : decode cX1_dominated 109 = .ok (.ifCond .eq 13, 3) := by decide +kernel
theorem dX1_dominated_112 : decode cX1_dominated 112 = .ok (.iload 4, 2) := by decide +kernel
theorem dX1_dominated_114 : decode cX1_dominated 114 = .ok (.iconst 1, 1) := by decide +kernel
theorem dX1_dominated_115 : decode cX1_dominated 115 = .ok (.iload 6, 2) := by decide +kernel
theorem dX1_dominated_117 : decode cX1_dominated 117 = .ok (.ishl, 1) := by decide +kernel
theorem dX1_dominated_118 : decode cX1_dominated 118 = .ok (.ior, 1) := by decide +kernel
theorem dX1_dominated_119 : decode cX1_dominated 119 = .ok (.goto 5, 3) := by decide +kernel
theorem dX1_dominated_122 : decode cX1_dominated 122 = .ok (.iload 4, 2) := by decide +kernel
theorem dX1_dominated_124 : decode cX1_dominated 124 = .ok (.istore 4, 2) := by decide +kernel
theorem dX1_dominated_126 : decode cX1_dominated 126 = .ok (.iinc 5 1, 3) := by decide +kernel
theorem dX1_dominated_129 : decode cX1_dominated 129 = .ok (.goto (-89), 3) := by decide +kernel
theorem dX1_dominated_132 : decode cX1_dominated 132 = .ok (.iload 4, 2) := by decide +kernel
theorem dX1_dominated_134 : decode cX1_dominated 134 = .ok (.ireturn, 1) := by decide +kernel
theorem dX1_noBetter_0 : decode cX1_noBetter 0 = .ok (.iload_n 3, 1) := by decide +kernel
theorem dX1_noBetter_1 : decode cX1_noBetter 1 = .ok (.ifCond .ne 12, 3) := by decide +kernel
theorem dX1_noBetter_4 : decode cX1_noBetter 4 = .ok (.aload_n 0, 1) := by decide +kernel
theorem dX1_noBetter_5 : decode cX1_noBetter 5 = .ok (.iload_n 2, 1) := by decide +kernel
theorem dX1_noBetter_6 : decode cX1_noBetter 6 = .ok (.iload_n 1, 1) := by decide +kernel
theorem dX1_noBetter_7 : decode cX1_noBetter 7 = .ok (.invokevirtual 39, 3) := by decide +kernel
theorem dX1_noBetter_10 : decode cX1_noBetter 10 = .ok (.goto 9, 3) := by decide +kernel
theorem dX1_noBetter_13 : decode cX1_noBetter 13 = .ok (.aload_n 0, 1) := by decide +kernel
theorem dX1_noBetter_14 : decode cX1_noBetter 14 = .ok (.iload_n 1, 1) := by decide +kernel
theorem dX1_noBetter_15 : decode cX1_noBetter 15 = .ok (.iload_n 2, 1) := by decide +kernel
theorem dX1_noBetter_16 : decode cX1_noBetter 16 = .ok (.invokevirtual 39, 3) := by decide +kernel
theorem dX1_noBetter_19 : decode cX1_noBetter 19 = .ok (.istore 4, 2) := by decide +kernel
theorem dX1_noBetter_21 : decode cX1_noBetter 21 = .ok (.iload_n 3, 1) := by decide +kernel
theorem dX1_noBetter_22 : decode cX1_noBetter 22 = .ok (.ifCond .ne 12, 3) := by decide +kernel
theorem dX1_noBetter_25 : decode cX1_noBetter 25 = .ok (.aload_n 0, 1) := by decide +kernel
theorem dX1_noBetter_26 : decode cX1_noBetter 26 = .ok (.iload_n 1, 1) := by decide +kernel
theorem dX1_noBetter_27 : decode cX1_noBetter 27 = .ok (.iload_n 2, 1) := by decide +kernel
theorem dX1_noBetter_28 : decode cX1_noBetter 28 = .ok (.invokevirtual 39, 3) := by decide +kernel
theorem dX1_noBetter_31 : decode cX1_noBetter 31 = .ok (.goto 9, 3) := by decide +kernel
theorem dX1_noBetter_34 : decode cX1_noBetter 34 = .ok (.aload_n 0, 1) := by decide +kernel
theorem dX1_noBetter_35 : decode cX1_noBetter 35 = .ok (.iload_n 2, 1) := by decide +kernel
theorem dX1_noBetter_36 : decode cX1_noBetter 36 = .ok (.iload_n 1, 1) := by decide +kernel
theorem dX1_noBetter_37 : decode cX1_noBetter 37 = .ok (.invokevirtual 39, 3) := by decide +kernel
theorem dX1_noBetter_40 : decode cX1_noBetter 40 = .ok (.istore 5, 2) := by decide +kernel
theorem dX1_noBetter_42 : decode cX1_noBetter 42 = .ok (.iload 4, 2) := by decide +kernel
theorem dX1_noBetter_44 : decode cX1_noBetter 44 = .ok (.ifCond .eq 17, 3) := by decide +kernel
theorem dX1_noBetter_47 : decode cX1_noBetter 47 = .ok (.iload 5, 2) := by decide +kernel
theorem dX1_noBetter_49 : decode cX1_noBetter 49 = .ok (.ifCond .eq 8, 3) := by decide +kernel
theorem dX1_noBetter_52 : decode cX1_noBetter 52 = .ok (.iload_n 2, 1) := by decide +kernel
theorem dX1_noBetter_53 : decode cX1_noBetter 53 = .ok (.iload_n 1, 1) := by decide +kernel
theorem dX1_noBetter_54 : decode cX1_noBetter 54 = .ok (.if_icmp .ge 7, 3) := by decide +kernel
theorem dX1_noBetter_57 : decode cX1_noBetter 57 = .ok (.iconst 1, 1) := by decide +kernel
theorem dX1_noBetter_58 : decode cX1_noBetter 58 = .ok (.goto 4, 3) := by decide +kernel
theorem dX1_noBetter_61 : decode cX1_noBetter 61 = .ok (.iconst 0, 1) := by decide +kernel
theorem dX1_noBetter_62 : decode cX1_noBetter 62 = .ok (.ireturn, 1) := by decide +kernel
theorem dX1_first_0 : decode cX1_first 0 = .ok (.iconst 0, 1) := by decide +kernel
theorem dX1_first_1 : decode cX1_first 1 = .ok (.istore_n 2, 1) := by decide +kernel
theorem dX1_first_2 : decode cX1_first 2 = .ok (.iload_n 2, 1) := by decide +kernel
theorem dX1_first_3 : decode cX1_first 3 = .ok (.aload_n 0, 1) := by decide +kernel
theorem dX1_first_4 : decode cX1_first 4 = .ok (.getfield 20, 3) := by decide +kernel
theorem dX1_first_7 : decode cX1_first 7 = .ok (.if_icmp .ge 28, 3) := by decide +kernel
theorem dX1_first_10 : decode cX1_first 10 = .ok (.aload_n 0, 1) := by decide +kernel
theorem dX1_first_11 : decode cX1_first 11 = .ok (.iload_n 1, 1) := by decide +kernel
theorem dX1_first_12 : decode cX1_first 12 = .ok (.invokevirtual 24, 3) := by decide +kernel
theorem dX1_first_15 : decode cX1_first 15 = .ok (.ifCond .eq 20, 3) := by decide +kernel
theorem dX1_first_18 : decode cX1_first 18 = .ok (.aload_n 0, 1) := by decide +kernel
theorem dX1_first_19 : decode cX1_first 19 = .ok (.iload_n 1, 1) := by decide +kernel
theorem dX1_first_20 : decode cX1_first 20 = .ok (.iload_n 2, 1) := by decide +kernel
theorem dX1_first_21 : decode cX1_first 21 = .ok (.invokevirtual 54, 3) := by decide +kernel
theorem dX1_first_24 : decode cX1_first 24 = .ok (.ifCond .ne 5, 3) := by decide +kernel
theorem dX1_first_27 : decode cX1_first 27 = .ok (.iload_n 2, 1) := by decide +kernel
theorem dX1_first_28 : decode cX1_first 28 = .ok (.ireturn, 1) := by decide +kernel
theorem dX1_first_29 : decode cX1_first 29 = .ok (.iinc 2 1, 3) := by decide +kernel
theorem dX1_first_32 : decode cX1_first 32 = .ok (.goto (-30), 3) := by decide +kernel
theorem dX1_first_35 : decode cX1_first 35 = .ok (.iconst (-1), 1) := by decide +kernel
theorem dX1_first_36 : decode cX1_first 36 = .ok (.ireturn, 1) := by decide +kernel
theorem dX1_values_0 : decode cX1_values 0 = .ok (.iconst 0, 1) := by decide +kernel
theorem dX1_values_1 : decode cX1_values 1 = .ok (.istore_n 1, 1) := by decide +kernel
theorem dX1_values_2 : decode cX1_values 2 = .ok (.iconst 0, 1) := by decide +kernel
theorem dX1_values_3 : decode cX1_values 3 = .ok (.istore_n 2, 1) := by decide +kernel
theorem dX1_values_4 : decode cX1_values 4 = .ok (.iload_n 2, 1) := by decide +kernel
theorem dX1_values_5 : decode cX1_values 5 = .ok (.aload_n 0, 1) := by decide +kernel
theorem dX1_values_6 : decode cX1_values 6 = .ok (.getfield 20, 3) := by decide +kernel
theorem dX1_values_9 : decode cX1_values 9 = .ok (.if_icmp .ge 26, 3) := by decide +kernel
theorem dX1_values_12 : decode cX1_values 12 = .ok (.aload_n 0, 1) := by decide +kernel
theorem dX1_values_13 : decode cX1_values 13 = .ok (.iload_n 2, 1) := by decide +kernel
theorem dX1_values_14 : decode cX1_values 14 = .ok (.invokevirtual 58, 3) := by decide +kernel
theorem dX1_values_17 : decode cX1_values 17 = .ok (.iload_n 2, 1) := by decide +kernel
theorem dX1_values_18 : decode cX1_values 18 = .ok (.if_icmp .ne 9, 3) := by decide +kernel
theorem dX1_values_21 : decode cX1_values 21 = .ok (.iload_n 1, 1) := by decide +kernel
theorem dX1_values_22 : decode cX1_values 22 = .ok (.iconst 1, 1) := by decide +kernel
theorem dX1_values_23 : decode cX1_values 23 = .ok (.iadd, 1) := by decide +kernel
theorem dX1_values_24 : decode cX1_values 24 = .ok (.goto 4, 3) := by decide +kernel
theorem dX1_values_27 : decode cX1_values 27 = .ok (.iload_n 1, 1) := by decide +kernel
theorem dX1_values_28 : decode cX1_values 28 = .ok (.istore_n 1, 1) := by decide +kernel
theorem dX1_values_29 : decode cX1_values 29 = .ok (.iinc 2 1, 3) := by decide +kernel
theorem dX1_values_32 : decode cX1_values 32 = .ok (.goto (-28), 3) := by decide +kernel
theorem dX1_values_35 : decode cX1_values 35 = .ok (.iload_n 1, 1) := by decide +kernel
theorem dX1_values_36 : decode cX1_values 36 = .ok (.ireturn, 1) := by decide +kernel
theorem dX1_depth_0 : decode cX1_depth 0 = .ok (.iconst 0, 1) := by decide +kernel
theorem dX1_depth_1 : decode cX1_depth 1 = .ok (.istore_n 2, 1) := by decide +kernel
theorem dX1_depth_2 : decode cX1_depth 2 = .ok (.iload_n 2, 1) := by decide +kernel
theorem dX1_depth_3 : decode cX1_depth 3 = .ok (.aload_n 0, 1) := by decide +kernel
theorem dX1_depth_4 : decode cX1_depth 4 = .ok (.getfield 20, 3) := by decide +kernel
theorem dX1_depth_7 : decode cX1_depth 7 = .ok (.if_icmp .ge 108, 3) := by decide +kernel
theorem dX1_depth_10 : decode cX1_depth 10 = .ok (.aload_n 0, 1) := by decide +kernel
theorem dX1_depth_11 : decode cX1_depth 11 = .ok (.getfield 17, 3) := by decide +kernel
theorem dX1_depth_14 : decode cX1_depth 14 = .ok (.iload_n 2, 1) := by decide +kernel
theorem dX1_depth_15 : decode cX1_depth 15 = .ok (.iconst 0, 1) := by decide +kernel
theorem dX1_depth_16 : decode cX1_depth 16 = .ok (.iastore, 1) := by decide +kernel
theorem dX1_depth_17 : decode cX1_depth 17 = .ok (.iconst 0, 1) := by decide +kernel
theorem dX1_depth_18 : decode cX1_depth 18 = .ok (.istore_n 3, 1) := by decide +kernel
theorem dX1_depth_19 : decode cX1_depth 19 = .ok (.iload_n 3, 1) := by decide +kernel
theorem dX1_depth_20 : decode cX1_depth 20 = .ok (.iload_n 2, 1) := by decide +kernel
theorem dX1_depth_21 : decode cX1_depth 21 = .ok (.if_icmp .ge 88, 3) := by decide +kernel
theorem dX1_depth_24 : decode cX1_depth 24 = .ok (.aload_n 0, 1) := by decide +kernel
theorem dX1_depth_25 : decode cX1_depth 25 = .ok (.getfield 7, 3) := by decide +kernel
theorem dX1_depth_28 : decode cX1_depth 28 = .ok (.iconst 2, 1) := by decide +kernel
theorem dX1_depth_29 : decode cX1_depth 29 = .ok (.iload_n 2, 1) := by decide +kernel
theorem dX1_depth_30 : decode cX1_depth 30 = .ok (.imul, 1) := by decide +kernel
theorem dX1_depth_31 : decode cX1_depth 31 = .ok (.iaload, 1) := by decide +kernel
theorem dX1_depth_32 : decode cX1_depth 32 = .ok (.aload_n 0, 1) := by decide +kernel
theorem dX1_depth_33 : decode cX1_depth 33 = .ok (.getfield 7, 3) := by decide +kernel
theorem dX1_depth_36 : decode cX1_depth 36 = .ok (.iconst 2, 1) := by decide +kernel
theorem dX1_depth_37 : decode cX1_depth 37 = .ok (.iload_n 2, 1) := by decide +kernel
theorem dX1_depth_38 : decode cX1_depth 38 = .ok (.imul, 1) := by decide +kernel
theorem dX1_depth_39 : decode cX1_depth 39 = .ok (.iconst 1, 1) := by decide +kernel
theorem dX1_depth_40 : decode cX1_depth 40 = .ok (.iadd, 1) := by decide +kernel
theorem dX1_depth_41 : decode cX1_depth 41 = .ok (.iaload, 1) := by decide +kernel
theorem dX1_depth_42 : decode cX1_depth 42 = .ok (.ior, 1) := by decide +kernel
theorem dX1_depth_43 : decode cX1_depth 43 = .ok (.iload_n 3, 1) := by decide +kernel
theorem dX1_depth_44 : decode cX1_depth 44 = .ok (.ishr, 1) := by decide +kernel
theorem dX1_depth_45 : decode cX1_depth 45 = .ok (.iconst 1, 1) := by decide +kernel
theorem dX1_depth_46 : decode cX1_depth 46 = .ok (.iand, 1) := by decide +kernel
theorem dX1_depth_47 : decode cX1_depth 47 = .ok (.iconst 1, 1) := by decide +kernel
theorem dX1_depth_48 : decode cX1_depth 48 = .ok (.if_icmp .ne 7, 3) := by decide +kernel
theorem dX1_depth_51 : decode cX1_depth 51 = .ok (.iconst 1, 1) := by decide +kernel
theorem dX1_depth_52 : decode cX1_depth 52 = .ok (.goto 4, 3) := by decide +kernel
theorem dX1_depth_55 : decode cX1_depth 55 = .ok (.iconst 0, 1) := by decide +kernel
theorem dX1_depth_56 : decode cX1_depth 56 = .ok (.istore 4, 2) := by decide +kernel
theorem dX1_depth_58 : decode cX1_depth 58 = .ok (.aload_n 0, 1) := by decide +kernel
theorem dX1_depth_59 : decode cX1_depth 59 = .ok (.getfield 17, 3) := by decide +kernel
theorem dX1_depth_62 : decode cX1_depth 62 = .ok (.iload_n 2, 1) := by decide +kernel
theorem dX1_depth_63 : decode cX1_depth 63 = .ok (.iload 4, 2) := by decide +kernel
theorem dX1_depth_65 : decode cX1_depth 65 = .ok (.ifCond .eq 31, 3) := by decide +kernel
theorem dX1_depth_68 : decode cX1_depth 68 = .ok (.aload_n 0, 1) := by decide +kernel
theorem dX1_depth_69 : decode cX1_depth 69 = .ok (.getfield 17, 3) := by decide +kernel
theorem dX1_depth_72 : decode cX1_depth 72 = .ok (.iload_n 3, 1) := by decide +kernel
theorem dX1_depth_73 : decode cX1_depth 73 = .ok (.iaload, 1) := by decide +kernel
theorem dX1_depth_74 : decode cX1_depth 74 = .ok (.iconst 1, 1) := by decide +kernel
theorem dX1_depth_75 : decode cX1_depth 75 = .ok (.iadd, 1) := by decide +kernel
theorem dX1_depth_76 : decode cX1_depth 76 = .ok (.aload_n 0, 1) := by decide +kernel
theorem dX1_depth_77 : decode cX1_depth 77 = .ok (.getfield 17, 3) := by decide +kernel
theorem dX1_depth_80 : decode cX1_depth 80 = .ok (.iload_n 2, 1) := by decide +kernel
theorem dX1_depth_81 : decode cX1_depth 81 = .ok (.iaload, 1) := by decide +kernel
theorem dX1_depth_82 : decode cX1_depth 82 = .ok (.if_icmp .le 14, 3) := by decide +kernel
theorem dX1_depth_85 : decode cX1_depth 85 = .ok (.aload_n 0, 1) := by decide +kernel
theorem dX1_depth_86 : decode cX1_depth 86 = .ok (.getfield 17, 3) := by decide +kernel
theorem dX1_depth_89 : decode cX1_depth 89 = .ok (.iload_n 3, 1) := by decide +kernel
theorem dX1_depth_90 : decode cX1_depth 90 = .ok (.iaload, 1) := by decide +kernel
theorem dX1_depth_91 : decode cX1_depth 91 = .ok (.iconst 1, 1) := by decide +kernel
theorem dX1_depth_92 : decode cX1_depth 92 = .ok (.iadd, 1) := by decide +kernel
theorem dX1_depth_93 : decode cX1_depth 93 = .ok (.goto 9, 3) := by decide +kernel
theorem dX1_depth_96 : decode cX1_depth 96 = .ok (.aload_n 0, 1) := by decide +kernel
theorem dX1_depth_97 : decode cX1_depth 97 = .ok (.getfield 17, 3) := by decide +kernel
theorem dX1_depth_100 : decode cX1_depth 100 = .ok (.iload_n 2, 1) := by decide +kernel
theorem dX1_depth_101 : decode cX1_depth 101 = .ok (.iaload, 1) := by decide +kernel
theorem dX1_depth_102 : decode cX1_depth 102 = .ok (.iastore, 1) := by decide +kernel
theorem dX1_depth_103 : decode cX1_depth 103 = .ok (.iinc 3 1, 3) := by decide +kernel
theorem dX1_depth_106 : decode cX1_depth 106 = .ok (.goto (-87), 3) := by decide +kernel
theorem dX1_depth_109 : decode cX1_depth 109 = .ok (.iinc 2 1, 3) := by decide +kernel
theorem dX1_depth_112 : decode cX1_depth 112 = .ok (.goto (-110), 3) := by decide +kernel
theorem dX1_depth_115 : decode cX1_depth 115 = .ok (.aload_n 0, 1) := by decide +kernel
theorem dX1_depth_116 : decode cX1_depth 116 = .ok (.iload_n 1, 1) := by decide +kernel
theorem dX1_depth_117 : decode cX1_depth 117 = .ok (.invokevirtual 24, 3) := by decide +kernel
theorem dX1_depth_120 : decode cX1_depth 120 = .ok (.ifCond .eq 12, 3) := by decide +kernel
theorem dX1_depth_123 : decode cX1_depth 123 = .ok (.aload_n 0, 1) := by decide +kernel
theorem dX1_depth_124 : decode cX1_depth 124 = .ok (.getfield 17, 3) := by decide +kernel
theorem dX1_depth_127 : decode cX1_depth 127 = .ok (.iload_n 1, 1) := by decide +kernel
theorem dX1_depth_128 : decode cX1_depth 128 = .ok (.iaload, 1) := by decide +kernel
theorem dX1_depth_129 : decode cX1_depth 129 = .ok (.goto 4, 3) := by decide +kernel
theorem dX1_depth_132 : decode cX1_depth 132 = .ok (.iconst (-1), 1) := by decide +kernel
theorem dX1_depth_133 : decode cX1_depth 133 = .ok (.ireturn, 1) := by decide +kernel
theorem dX1_above_0 : decode cX1_above 0 = .ok (.aload_n 0, 1) := by decide +kernel
theorem dX1_above_1 : decode cX1_above 1 = .ok (.invokevirtual 36, 3) := by decide +kernel
theorem dX1_above_4 : decode cX1_above 4 = .ok (.iconst 0, 1) := by decide +kernel
theorem dX1_above_5 : decode cX1_above 5 = .ok (.istore_n 2, 1) := by decide +kernel
theorem dX1_above_6 : decode cX1_above 6 = .ok (.iconst 0, 1) := by decide +kernel
theorem dX1_above_7 : decode cX1_above 7 = .ok (.istore_n 3, 1) := by decide +kernel
theorem dX1_above_8 : decode cX1_above 8 = .ok (.iload_n 3, 1) := by decide +kernel
theorem dX1_above_9 : decode cX1_above 9 = .ok (.aload_n 0, 1) := by decide +kernel
theorem dX1_above_10 : decode cX1_above 10 = .ok (.getfield 20, 3) := by decide +kernel
theorem dX1_above_13 : decode cX1_above 13 = .ok (.if_icmp .ge 36, 3) := by decide +kernel
theorem dX1_above_16 : decode cX1_above 16 = .ok (.aload_n 0, 1) := by decide +kernel
theorem dX1_above_17 : decode cX1_above 17 = .ok (.iload_n 1, 1) := by decide +kernel
theorem dX1_above_18 : decode cX1_above 18 = .ok (.invokevirtual 24, 3) := by decide +kernel
theorem dX1_above_21 : decode cX1_above 21 = .ok (.ifCond .eq 28, 3) := by decide +kernel
theorem dX1_above_24 : decode cX1_above 24 = .ok (.aload_n 0, 1) := by decide +kernel
theorem dX1_above_25 : decode cX1_above 25 = .ok (.iload_n 3, 1) := by decide +kernel
theorem dX1_above_26 : decode cX1_above 26 = .ok (.iload_n 1, 1) := by decide +kernel
theorem dX1_above_27 : decode cX1_above 27 = .ok (.invokevirtual 39, 3) := by decide +kernel
theorem dX1_above_30 : decode cX1_above 30 = .ok (.ifCond .eq 11, 3) := by decide +kernel
theorem dX1_above_33 : decode cX1_above 33 = .ok (.iload_n 2, 1) := by decide +kernel
theorem dX1_above_34 : decode cX1_above 34 = .ok (.iconst 1, 1) := by decide +kernel
theorem dX1_above_35 : decode cX1_above 35 = .ok (.iload_n 3, 1) := by decide +kernel
theorem dX1_above_36 : decode cX1_above 36 = .ok (.ishl, 1) := by decide +kernel
theorem dX1_above_37 : decode cX1_above 37 = .ok (.ior, 1) := by decide +kernel
theorem dX1_above_38 : decode cX1_above 38 = .ok (.goto 4, 3) := by decide +kernel
theorem dX1_above_41 : decode cX1_above 41 = .ok (.iload_n 2, 1) := by decide +kernel
theorem dX1_above_42 : decode cX1_above 42 = .ok (.istore_n 2, 1) := by decide +kernel
theorem dX1_above_43 : decode cX1_above 43 = .ok (.iinc 3 1, 3) := by decide +kernel
theorem dX1_above_46 : decode cX1_above 46 = .ok (.goto (-38), 3) := by decide +kernel
theorem dX1_above_49 : decode cX1_above 49 = .ok (.aload_n 0, 1) := by decide +kernel
theorem dX1_above_50 : decode cX1_above 50 = .ok (.iload_n 1, 1) := by decide +kernel
theorem dX1_above_51 : decode cX1_above 51 = .ok (.invokevirtual 24, 3) := by decide +kernel
theorem dX1_above_54 : decode cX1_above 54 = .ok (.ifCond .eq 7, 3) := by decide +kernel
theorem dX1_above_57 : decode cX1_above 57 = .ok (.iload_n 2, 1) := by decide +kernel
theorem dX1_above_58 : decode cX1_above 58 = .ok (.goto 4, 3) := by decide +kernel
theorem dX1_above_61 : decode cX1_above 61 = .ok (.iconst (-1), 1) := by decide +kernel
theorem dX1_above_62 : decode cX1_above 62 = .ok (.ireturn, 1) := by decide +kernel
theorem dX1_opposite_0 : decode cX1_opposite 0 = .ok (.aload_n 0, 1) := by decide +kernel
theorem dX1_opposite_1 : decode cX1_opposite 1 = .ok (.invokevirtual 36, 3) := by decide +kernel
theorem dX1_opposite_4 : decode cX1_opposite 4 = .ok (.aload_n 0, 1) := by decide +kernel
theorem dX1_opposite_5 : decode cX1_opposite 5 = .ok (.iload_n 1, 1) := by decide +kernel
theorem dX1_opposite_6 : decode cX1_opposite 6 = .ok (.invokevirtual 24, 3) := by decide +kernel
theorem dX1_opposite_9 : decode cX1_opposite 9 = .ok (.ifCond .eq 47, 3) := by decide +kernel
theorem dX1_opposite_12 : decode cX1_opposite 12 = .ok (.aload_n 0, 1) := by decide +kernel
theorem dX1_opposite_13 : decode cX1_opposite 13 = .ok (.iload_n 2, 1) := by decide +kernel
theorem dX1_opposite_14 : decode cX1_opposite 14 = .ok (.invokevirtual 24, 3) := by decide +kernel
theorem dX1_opposite_17 : decode cX1_opposite 17 = .ok (.ifCond .eq 39, 3) := by decide +kernel
theorem dX1_opposite_20 : decode cX1_opposite 20 = .ok (.aload_n 0, 1) := by decide +kernel
theorem dX1_opposite_21 : decode cX1_opposite 21 = .ok (.getfield 13, 3) := by decide +kernel
theorem dX1_opposite_24 : decode cX1_opposite 24 = .ok (.aload_n 0, 1) := by decide +kernel
theorem dX1_opposite_25 : decode cX1_opposite 25 = .ok (.iload_n 1, 1) := by decide +kernel
theorem dX1_opposite_26 : decode cX1_opposite 26 = .ok (.iload_n 2, 1) := by decide +kernel
theorem dX1_opposite_27 : decode cX1_opposite 27 = .ok (.iconst 0, 1) := by decide +kernel
theorem dX1_opposite_28 : decode cX1_opposite 28 = .ok (.iconst 0, 1) := by decide +kernel
theorem dX1_opposite_29 : decode cX1_opposite 29 = .ok (.invokevirtual 28, 3) := by decide +kernel
theorem dX1_opposite_32 : decode cX1_opposite 32 = .ok (.baload, 1) := by decide +kernel
theorem dX1_opposite_33 : decode cX1_opposite 33 = .ok (.ifCond .ne 23, 3) := by decide +kernel
theorem dX1_opposite_36 : decode cX1_opposite 36 = .ok (.aload_n 0, 1) := by decide +kernel
theorem dX1_opposite_37 : decode cX1_opposite 37 = .ok (.getfield 13, 3) := by decide +kernel
theorem dX1_opposite_40 : decode cX1_opposite 40 = .ok (.aload_n 0, 1) := by decide +kernel
theorem dX1_opposite_41 : decode cX1_opposite 41 = .ok (.iload_n 1, 1) := by decide +kernel
theorem dX1_opposite_42 : decode cX1_opposite 42 = .ok (.iload_n 2, 1) := by decide +kernel
theorem dX1_opposite_43 : decode cX1_opposite 43 = .ok (.iconst 0, 1) := by decide +kernel
theorem dX1_opposite_44 : decode cX1_opposite 44 = .ok (.iconst 1, 1) := by decide +kernel
theorem dX1_opposite_45 : decode cX1_opposite 45 = .ok (.invokevirtual 28, 3) := by decide +kernel
theorem dX1_opposite_48 : decode cX1_opposite 48 = .ok (.baload, 1) := by decide +kernel
theorem dX1_opposite_49 : decode cX1_opposite 49 = .ok (.ifCond .ne 7, 3) := by decide +kernel
theorem dX1_opposite_52 : decode cX1_opposite 52 = .ok (.iconst 1, 1) := by decide +kernel
theorem dX1_opposite_53 : decode cX1_opposite 53 = .ok (.goto 4, 3) := by decide +kernel
theorem dX1_opposite_56 : decode cX1_opposite 56 = .ok (.iconst 0, 1) := by decide +kernel
theorem dX1_opposite_57 : decode cX1_opposite 57 = .ok (.ireturn, 1) := by decide +kernel
end
section
set_option maxRecDepth 100000
theorem dL_law_0 : decode cL_law 0 = .ok (.new 7, 3) := by decide +kernel
theorem dL_law_3 : decode cL_law 3 = .ok (.dup, 1) := by decide +kernel
theorem dL_law_4 : decode cL_law 4 = .ok (.invokespecial 9, 3) := by decide +kernel
theorem dL_law_7 : decode cL_law 7 = .ok (.astore_n 1, 1) := by decide +kernel
theorem dL_law_8 : decode cL_law 8 = .ok (.new 10, 3) := by decide +kernel
theorem dL_law_11 : decode cL_law 11 = .ok (.dup, 1) := by decide +kernel
theorem dL_law_12 : decode cL_law 12 = .ok (.invokespecial 12, 3) := by decide +kernel
theorem dL_law_15 : decode cL_law 15 = .ok (.astore_n 2, 1) := by decide +kernel
theorem dL_law_16 : decode cL_law 16 = .ok (.iconst 0, 1) := by decide +kernel
theorem dL_law_17 : decode cL_law 17 = .ok (.istore_n 3, 1) := by decide +kernel
theorem dL_law_18 : decode cL_law 18 = .ok (.iload_n 3, 1) := by decide +kernel
theorem dL_law_19 : decode cL_law 19 = .ok (.aload_n 0, 1) := by decide +kernel
theorem dL_law_20 : decode cL_law 20 = .ok (.arraylength, 1) := by decide +kernel
theorem dL_law_21 : decode cL_law 21 = .ok (.iconst 4, 1) := by decide +kernel
theorem dL_law_22 : decode cL_law 22 = .ok (.isub, 1) := by decide +kernel
theorem dL_law_23 : decode cL_law 23 = .ok (.if_icmp .gt 479, 3) := by decide +kernel
theorem dL_law_26 : decode cL_law 26 = .ok (.aload_n 0, 1) := by decide +kernel
theorem dL_law_27 : decode cL_law 27 = .ok (.iload_n 3, 1) := by decide +kernel
theorem dL_law_28 : decode cL_law 28 = .ok (.iaload, 1) := by decide +kernel
theorem dL_law_29 : decode cL_law 29 = .ok (.bipush 15, 2) := by decide +kernel
theorem dL_law_31 : decode cL_law 31 = .ok (.iand, 1) := by decide +kernel
theorem dL_law_32 : decode cL_law 32 = .ok (.tableswitch 464 0 13 #[72, 105, 118, 131, 164, 197, 230, 273, 316, 349, 372, 385, 408, 431], 72) := by decide +kernel
theorem dL_law_104 : decode cL_law 104 = .ok (.aload_n 1, 1) := by decide +kernel
theorem dL_law_105 : decode cL_law 105 = .ok (.aload_n 0, 1) := by decide +kernel
theorem dL_law_106 : decode cL_law 106 = .ok (.iload_n 3, 1) := by decide +kernel
theorem dL_law_107 : decode cL_law 107 = .ok (.iconst 1, 1) := by decide +kernel
theorem dL_law_108 : decode cL_law 108 = .ok (.iadd, 1) := by decide +kernel
theorem dL_law_109 : decode cL_law 109 = .ok (.iaload, 1) := by decide +kernel
theorem dL_law_110 : decode cL_law 110 = .ok (.aload_n 0, 1) := by decide +kernel
theorem dL_law_111 : decode cL_law 111 = .ok (.iload_n 3, 1) := by decide +kernel
theorem dL_law_112 : decode cL_law 112 = .ok (.iconst 2, 1) := by decide +kernel
theorem dL_law_113 : decode cL_law 113 = .ok (.iadd, 1) := by decide +kernel
theorem dL_law_114 : decode cL_law 114 = .ok (.iaload, 1) := by decide +kernel
theorem dL_law_115 : decode cL_law 115 = .ok (.invokevirtual 13, 3) := by decide +kernel
theorem dL_law_118 : decode cL_law 118 = .ok (.aload_n 2, 1) := by decide +kernel
theorem dL_law_119 : decode cL_law 119 = .ok (.aload_n 0, 1) := by decide +kernel
theorem dL_law_120 : decode cL_law 120 = .ok (.iload_n 3, 1) := by decide +kernel
theorem dL_law_121 : decode cL_law 121 = .ok (.iconst 1, 1) := by decide +kernel
theorem dL_law_122 : decode cL_law 122 = .ok (.iadd, 1) := by decide +kernel
theorem dL_law_123 : decode cL_law 123 = .ok (.iaload, 1) := by decide +kernel
theorem dL_law_124 : decode cL_law 124 = .ok (.aload_n 0, 1) := by decide +kernel
theorem dL_law_125 : decode cL_law 125 = .ok (.iload_n 3, 1) := by decide +kernel
theorem dL_law_126 : decode cL_law 126 = .ok (.iconst 2, 1) := by decide +kernel
theorem dL_law_127 : decode cL_law 127 = .ok (.iadd, 1) := by decide +kernel
theorem dL_law_128 : decode cL_law 128 = .ok (.iaload, 1) := by decide +kernel
theorem dL_law_129 : decode cL_law 129 = .ok (.invokevirtual 17, 3) := by decide +kernel
theorem dL_law_132 : decode cL_law 132 = .ok (.if_icmp .eq 364, 3) := by decide +kernel
theorem dL_law_135 : decode cL_law 135 = .ok (.iconst 0, 1) := by decide +kernel
theorem dL_law_136 : decode cL_law 136 = .ok (.ireturn, 1) := by decide +kernel
theorem dL_law_137 : decode cL_law 137 = .ok (.aload_n 1, 1) := by decide +kernel
theorem dL_law_138 : decode cL_law 138 = .ok (.invokevirtual 18, 3) := by decide +kernel
theorem dL_law_141 : decode cL_law 141 = .ok (.aload_n 2, 1) := by decide +kernel
theorem dL_law_142 : decode cL_law 142 = .ok (.invokevirtual 22, 3) := by decide +kernel
theorem dL_law_145 : decode cL_law 145 = .ok (.if_icmp .eq 351, 3) := by decide +kernel
theorem dL_law_148 : decode cL_law 148 = .ok (.iconst 0, 1) := by decide +kernel
theorem dL_law_149 : decode cL_law 149 = .ok (.ireturn, 1) := by decide +kernel
theorem dL_law_150 : decode cL_law 150 = .ok (.aload_n 1, 1) := by decide +kernel
theorem dL_law_151 : decode cL_law 151 = .ok (.invokevirtual 23, 3) := by decide +kernel
theorem dL_law_154 : decode cL_law 154 = .ok (.aload_n 2, 1) := by decide +kernel
theorem dL_law_155 : decode cL_law 155 = .ok (.invokevirtual 26, 3) := by decide +kernel
theorem dL_law_158 : decode cL_law 158 = .ok (.if_icmp .eq 338, 3) := by decide +kernel
theorem dL_law_161 : decode cL_law 161 = .ok (.iconst 0, 1) := by decide +kernel
theorem dL_law_162 : decode cL_law 162 = .ok (.ireturn, 1) := by decide +kernel
theorem dL_law_163 : decode cL_law 163 = .ok (.aload_n 1, 1) := by decide +kernel
theorem dL_law_164 : decode cL_law 164 = .ok (.aload_n 0, 1) := by decide +kernel
theorem dL_law_165 : decode cL_law 165 = .ok (.iload_n 3, 1) := by decide +kernel
theorem dL_law_166 : decode cL_law 166 = .ok (.iconst 1, 1) := by decide +kernel
theorem dL_law_167 : decode cL_law 167 = .ok (.iadd, 1) := by decide +kernel
theorem dL_law_168 : decode cL_law 168 = .ok (.iaload, 1) := by decide +kernel
theorem dL_law_169 : decode cL_law 169 = .ok (.aload_n 0, 1) := by decide +kernel
theorem dL_law_170 : decode cL_law 170 = .ok (.iload_n 3, 1) := by decide +kernel
theorem dL_law_171 : decode cL_law 171 = .ok (.iconst 2, 1) := by decide +kernel
theorem dL_law_172 : decode cL_law 172 = .ok (.iadd, 1) := by decide +kernel
theorem dL_law_173 : decode cL_law 173 = .ok (.iaload, 1) := by decide +kernel
theorem dL_law_174 : decode cL_law 174 = .ok (.invokevirtual 27, 3) := by decide +kernel
theorem dL_law_177 : decode cL_law 177 = .ok (.aload_n 2, 1) := by decide +kernel
theorem dL_law_178 : decode cL_law 178 = .ok (.aload_n 0, 1) := by decide +kernel
theorem dL_law_179 : decode cL_law 179 = .ok (.iload_n 3, 1) := by decide +kernel
theorem dL_law_180 : decode cL_law 180 = .ok (.iconst 1, 1) := by decide +kernel
theorem dL_law_181 : decode cL_law 181 = .ok (.iadd, 1) := by decide +kernel
theorem dL_law_182 : decode cL_law 182 = .ok (.iaload, 1) := by decide +kernel
theorem dL_law_183 : decode cL_law 183 = .ok (.aload_n 0, 1) := by decide +kernel
theorem dL_law_184 : decode cL_law 184 = .ok (.iload_n 3, 1) := by decide +kernel
theorem dL_law_185 : decode cL_law 185 = .ok (.iconst 2, 1) := by decide +kernel
theorem dL_law_186 : decode cL_law 186 = .ok (.iadd, 1) := by decide +kernel
theorem dL_law_187 : decode cL_law 187 = .ok (.iaload, 1) := by decide +kernel
theorem dL_law_188 : decode cL_law 188 = .ok (.invokevirtual 30, 3) := by decide +kernel
theorem dL_law_191 : decode cL_law 191 = .ok (.if_icmp .eq 305, 3) := by decide +kernel
theorem dL_law_194 : decode cL_law 194 = .ok (.iconst 0, 1) := by decide +kernel
theorem dL_law_195 : decode cL_law 195 = .ok (.ireturn, 1) := by decide +kernel
theorem dL_law_196 : decode cL_law 196 = .ok (.aload_n 1, 1) := by decide +kernel
theorem dL_law_197 : decode cL_law 197 = .ok (.aload_n 0, 1) := by decide +kernel
theorem dL_law_198 : decode cL_law 198 = .ok (.iload_n 3, 1) := by decide +kernel
theorem dL_law_199 : decode cL_law 199 = .ok (.iconst 1, 1) := by decide +kernel
theorem dL_law_200 : decode cL_law 200 = .ok (.iadd, 1) := by decide +kernel
theorem dL_law_201 : decode cL_law 201 = .ok (.iaload, 1) := by decide +kernel
theorem dL_law_202 : decode cL_law 202 = .ok (.aload_n 0, 1) := by decide +kernel
theorem dL_law_203 : decode cL_law 203 = .ok (.iload_n 3, 1) := by decide +kernel
theorem dL_law_204 : decode cL_law 204 = .ok (.iconst 2, 1) := by decide +kernel
theorem dL_law_205 : decode cL_law 205 = .ok (.iadd, 1) := by decide +kernel
theorem dL_law_206 : decode cL_law 206 = .ok (.iaload, 1) := by decide +kernel
theorem dL_law_207 : decode cL_law 207 = .ok (.invokevirtual 31, 3) := by decide +kernel
theorem dL_law_210 : decode cL_law 210 = .ok (.aload_n 2, 1) := by decide +kernel
theorem dL_law_211 : decode cL_law 211 = .ok (.aload_n 0, 1) := by decide +kernel
theorem dL_law_212 : decode cL_law 212 = .ok (.iload_n 3, 1) := by decide +kernel
theorem dL_law_213 : decode cL_law 213 = .ok (.iconst 1, 1) := by decide +kernel
theorem dL_law_214 : decode cL_law 214 = .ok (.iadd, 1) := by decide +kernel
theorem dL_law_215 : decode cL_law 215 = .ok (.iaload, 1) := by decide +kernel
theorem dL_law_216 : decode cL_law 216 = .ok (.aload_n 0, 1) := by decide +kernel
theorem dL_law_217 : decode cL_law 217 = .ok (.iload_n 3, 1) := by decide +kernel
theorem dL_law_218 : decode cL_law 218 = .ok (.iconst 2, 1) := by decide +kernel
theorem dL_law_219 : decode cL_law 219 = .ok (.iadd, 1) := by decide +kernel
end
section
set_option maxRecDepth 100000
theorem dL_law_220 : decode cL_law 220 = .ok (.iaload, 1) := by decide +kernel
theorem dL_law_221 : decode cL_law 221 = .ok (.invokevirtual 34, 3) := by decide +kernel
theorem dL_law_224 : decode cL_law 224 = .ok (.if_icmp .eq 272, 3) := by decide +kernel
theorem dL_law_227 : decode cL_law 227 = .ok (.iconst 0, 1) := by decide +kernel
theorem dL_law_228 : decode cL_law 228 = .ok (.ireturn, 1) := by decide +kernel
theorem dL_law_229 : decode cL_law 229 = .ok (.aload_n 1, 1) := by decide +kernel
theorem dL_law_230 : decode cL_law 230 = .ok (.aload_n 0, 1) := by decide +kernel
theorem dL_law_231 : decode cL_law 231 = .ok (.iload_n 3, 1) := by decide +kernel
theorem dL_law_232 : decode cL_law 232 = .ok (.iconst 1, 1) := by decide +kernel
theorem dL_law_233 : decode cL_law 233 = .ok (.iadd, 1) := by decide +kernel
theorem dL_law_234 : decode cL_law 234 = .ok (.iaload, 1) := by decide +kernel
theorem dL_law_235 : decode cL_law 235 = .ok (.aload_n 0, 1) := by decide +kernel
theorem dL_law_236 : decode cL_law 236 = .ok (.iload_n 3, 1) := by decide +kernel
theorem dL_law_237 : decode cL_law 237 = .ok (.iconst 2, 1) := by decide +kernel
theorem dL_law_238 : decode cL_law 238 = .ok (.iadd, 1) := by decide +kernel
theorem dL_law_239 : decode cL_law 239 = .ok (.iaload, 1) := by decide +kernel
theorem dL_law_240 : decode cL_law 240 = .ok (.invokevirtual 35, 3) := by decide +kernel
theorem dL_law_243 : decode cL_law 243 = .ok (.aload_n 2, 1) := by decide +kernel
theorem dL_law_244 : decode cL_law 244 = .ok (.aload_n 0, 1) := by decide +kernel
theorem dL_law_245 : decode cL_law 245 = .ok (.iload_n 3, 1) := by decide +kernel
theorem dL_law_246 : decode cL_law 246 = .ok (.iconst 1, 1) := by decide +kernel
theorem dL_law_247 : decode cL_law 247 = .ok (.iadd, 1) := by decide +kernel
theorem dL_law_248 : decode cL_law 248 = .ok (.iaload, 1) := by decide +kernel
theorem dL_law_249 : decode cL_law 249 = .ok (.aload_n 0, 1) := by decide +kernel
theorem dL_law_250 : decode cL_law 250 = .ok (.iload_n 3, 1) := by decide +kernel
theorem dL_law_251 : decode cL_law 251 = .ok (.iconst 2, 1) := by decide +kernel
theorem dL_law_252 : decode cL_law 252 = .ok (.iadd, 1) := by decide +kernel
theorem dL_law_253 : decode cL_law 253 = .ok (.iaload, 1) := by decide +kernel
theorem dL_law_254 : decode cL_law 254 = .ok (.invokevirtual 39, 3) := by decide +kernel
theorem dL_law_257 : decode cL_law 257 = .ok (.if_icmp .eq 239, 3) := by decide +kernel
theorem dL_law_260 : decode cL_law 260 = .ok (.iconst 0, 1) := by decide +kernel
theorem dL_law_261 : decode cL_law 261 = .ok (.ireturn, 1) := by decide +kernel
theorem dL_law_262 : decode cL_law 262 = .ok (.aload_n 1, 1) := by decide +kernel
theorem dL_law_263 : decode cL_law 263 = .ok (.aload_n 0, 1) := by decide +kernel
theorem dL_law_264 : decode cL_law 264 = .ok (.iload_n 3, 1) := by decide +kernel
theorem dL_law_265 : decode cL_law 265 = .ok (.iconst 1, 1) := by decide +kernel
theorem dL_law_266 : decode cL_law 266 = .ok (.iadd, 1) := by decide +kernel
theorem dL_law_267 : decode cL_law 267 = .ok (.iaload, 1) := by decide +kernel
theorem dL_law_268 : decode cL_law 268 = .ok (.aload_n 0, 1) := by decide +kernel
theorem dL_law_269 : decode cL_law 269 = .ok (.iload_n 3, 1) := by decide +kernel
theorem dL_law_270 : decode cL_law 270 = .ok (.iconst 2, 1) := by decide +kernel
theorem dL_law_271 : decode cL_law 271 = .ok (.iadd, 1) := by decide +kernel
theorem dL_law_272 : decode cL_law 272 = .ok (.iaload, 1) := by decide +kernel
theorem dL_law_273 : decode cL_law 273 = .ok (.aload_n 0, 1) := by decide +kernel
theorem dL_law_274 : decode cL_law 274 = .ok (.iload_n 3, 1) := by decide +kernel
theorem dL_law_275 : decode cL_law 275 = .ok (.iconst 3, 1) := by decide +kernel
theorem dL_law_276 : decode cL_law 276 = .ok (.iadd, 1) := by decide +kernel
theorem dL_law_277 : decode cL_law 277 = .ok (.iaload, 1) := by decide +kernel
theorem dL_law_278 : decode cL_law 278 = .ok (.invokevirtual 40, 3) := by decide +kernel
theorem dL_law_281 : decode cL_law 281 = .ok (.aload_n 2, 1) := by decide +kernel
theorem dL_law_282 : decode cL_law 282 = .ok (.aload_n 0, 1) := by decide +kernel
theorem dL_law_283 : decode cL_law 283 = .ok (.iload_n 3, 1) := by decide +kernel
theorem dL_law_284 : decode cL_law 284 = .ok (.iconst 1, 1) := by decide +kernel
theorem dL_law_285 : decode cL_law 285 = .ok (.iadd, 1) := by decide +kernel
theorem dL_law_286 : decode cL_law 286 = .ok (.iaload, 1) := by decide +kernel
theorem dL_law_287 : decode cL_law 287 = .ok (.aload_n 0, 1) := by decide +kernel
theorem dL_law_288 : decode cL_law 288 = .ok (.iload_n 3, 1) := by decide +kernel
theorem dL_law_289 : decode cL_law 289 = .ok (.iconst 2, 1) := by decide +kernel
theorem dL_law_290 : decode cL_law 290 = .ok (.iadd, 1) := by decide +kernel
theorem dL_law_291 : decode cL_law 291 = .ok (.iaload, 1) := by decide +kernel
theorem dL_law_292 : decode cL_law 292 = .ok (.aload_n 0, 1) := by decide +kernel
theorem dL_law_293 : decode cL_law 293 = .ok (.iload_n 3, 1) := by decide +kernel
theorem dL_law_294 : decode cL_law 294 = .ok (.iconst 3, 1) := by decide +kernel
theorem dL_law_295 : decode cL_law 295 = .ok (.iadd, 1) := by decide +kernel
theorem dL_law_296 : decode cL_law 296 = .ok (.iaload, 1) := by decide +kernel
theorem dL_law_297 : decode cL_law 297 = .ok (.invokevirtual 44, 3) := by decide +kernel
theorem dL_law_300 : decode cL_law 300 = .ok (.if_icmp .eq 196, 3) := by decide +kernel
theorem dL_law_303 : decode cL_law 303 = .ok (.iconst 0, 1) := by decide +kernel
theorem dL_law_304 : decode cL_law 304 = .ok (.ireturn, 1) := by decide +kernel
theorem dL_law_305 : decode cL_law 305 = .ok (.aload_n 1, 1) := by decide +kernel
theorem dL_law_306 : decode cL_law 306 = .ok (.aload_n 0, 1) := by decide +kernel
theorem dL_law_307 : decode cL_law 307 = .ok (.iload_n 3, 1) := by decide +kernel
theorem dL_law_308 : decode cL_law 308 = .ok (.iconst 1, 1) := by decide +kernel
theorem dL_law_309 : decode cL_law 309 = .ok (.iadd, 1) := by decide +kernel
theorem dL_law_310 : decode cL_law 310 = .ok (.iaload, 1) := by decide +kernel
theorem dL_law_311 : decode cL_law 311 = .ok (.aload_n 0, 1) := by decide +kernel
theorem dL_law_312 : decode cL_law 312 = .ok (.iload_n 3, 1) := by decide +kernel
theorem dL_law_313 : decode cL_law 313 = .ok (.iconst 2, 1) := by decide +kernel
theorem dL_law_314 : decode cL_law 314 = .ok (.iadd, 1) := by decide +kernel
theorem dL_law_315 : decode cL_law 315 = .ok (.iaload, 1) := by decide +kernel
theorem dL_law_316 : decode cL_law 316 = .ok (.aload_n 0, 1) := by decide +kernel
theorem dL_law_317 : decode cL_law 317 = .ok (.iload_n 3, 1) := by decide +kernel
theorem dL_law_318 : decode cL_law 318 = .ok (.iconst 3, 1) := by decide +kernel
theorem dL_law_319 : decode cL_law 319 = .ok (.iadd, 1) := by decide +kernel
theorem dL_law_320 : decode cL_law 320 = .ok (.iaload, 1) := by decide +kernel
theorem dL_law_321 : decode cL_law 321 = .ok (.invokevirtual 45, 3) := by decide +kernel
theorem dL_law_324 : decode cL_law 324 = .ok (.aload_n 2, 1) := by decide +kernel
theorem dL_law_325 : decode cL_law 325 = .ok (.aload_n 0, 1) := by decide +kernel
theorem dL_law_326 : decode cL_law 326 = .ok (.iload_n 3, 1) := by decide +kernel
theorem dL_law_327 : decode cL_law 327 = .ok (.iconst 1, 1) := by decide +kernel
theorem dL_law_328 : decode cL_law 328 = .ok (.iadd, 1) := by decide +kernel
theorem dL_law_329 : decode cL_law 329 = .ok (.iaload, 1) := by decide +kernel
theorem dL_law_330 : decode cL_law 330 = .ok (.aload_n 0, 1) := by decide +kernel
theorem dL_law_331 : decode cL_law 331 = .ok (.iload_n 3, 1) := by decide +kernel
theorem dL_law_332 : decode cL_law 332 = .ok (.iconst 2, 1) := by decide +kernel
theorem dL_law_333 : decode cL_law 333 = .ok (.iadd, 1) := by decide +kernel
theorem dL_law_334 : decode cL_law 334 = .ok (.iaload, 1) := by decide +kernel
theorem dL_law_335 : decode cL_law 335 = .ok (.aload_n 0, 1) := by decide +kernel
theorem dL_law_336 : decode cL_law 336 = .ok (.iload_n 3, 1) := by decide +kernel
theorem dL_law_337 : decode cL_law 337 = .ok (.iconst 3, 1) := by decide +kernel
theorem dL_law_338 : decode cL_law 338 = .ok (.iadd, 1) := by decide +kernel
theorem dL_law_339 : decode cL_law 339 = .ok (.iaload, 1) := by decide +kernel
theorem dL_law_340 : decode cL_law 340 = .ok (.invokevirtual 49, 3) := by decide +kernel
theorem dL_law_343 : decode cL_law 343 = .ok (.if_icmp .eq 153, 3) := by decide +kernel
theorem dL_law_346 : decode cL_law 346 = .ok (.iconst 0, 1) := by decide +kernel
theorem dL_law_347 : decode cL_law 347 = .ok (.ireturn, 1) := by decide +kernel
theorem dL_law_348 : decode cL_law 348 = .ok (.aload_n 1, 1) := by decide +kernel
theorem dL_law_349 : decode cL_law 349 = .ok (.aload_n 0, 1) := by decide +kernel
theorem dL_law_350 : decode cL_law 350 = .ok (.iload_n 3, 1) := by decide +kernel
theorem dL_law_351 : decode cL_law 351 = .ok (.iconst 1, 1) := by decide +kernel
theorem dL_law_352 : decode cL_law 352 = .ok (.iadd, 1) := by decide +kernel
theorem dL_law_353 : decode cL_law 353 = .ok (.iaload, 1) := by decide +kernel
end
section
set_option maxRecDepth 100000
theorem dL_law_354 : decode cL_law 354 = .ok (.aload_n 0, 1) := by decide +kernel
theorem dL_law_355 : decode cL_law 355 = .ok (.iload_n 3, 1) := by decide +kernel
theorem dL_law_356 : decode cL_law 356 = .ok (.iconst 2, 1) := by decide +kernel
theorem dL_law_357 : decode cL_law 357 = .ok (.iadd, 1) := by decide +kernel
theorem dL_law_358 : decode cL_law 358 = .ok (.iaload, 1) := by decide +kernel
theorem dL_law_359 : decode cL_law 359 = .ok (.invokevirtual 50, 3) := by decide +kernel
theorem dL_law_362 : decode cL_law 362 = .ok (.aload_n 2, 1) := by decide +kernel
theorem dL_law_363 : decode cL_law 363 = .ok (.aload_n 0, 1) := by decide +kernel
theorem dL_law_364 : decode cL_law 364 = .ok (.iload_n 3, 1) := by decide +kernel
theorem dL_law_365 : decode cL_law 365 = .ok (.iconst 1, 1) := by decide +kernel
theorem dL_law_366 : decode cL_law 366 = .ok (.iadd, 1) := by decide +kernel
theorem dL_law_367 : decode cL_law 367 = .ok (.iaload, 1) := by decide +kernel
theorem dL_law_368 : decode cL_law 368 = .ok (.aload_n 0, 1) := by decide +kernel
theorem dL_law_369 : decode cL_law 369 = .ok (.iload_n 3, 1) := by decide +kernel
theorem dL_law_370 : decode cL_law 370 = .ok (.iconst 2, 1) := by decide +kernel
theorem dL_law_371 : decode cL_law 371 = .ok (.iadd, 1) := by decide +kernel
theorem dL_law_372 : decode cL_law 372 = .ok (.iaload, 1) := by decide +kernel
theorem dL_law_373 : decode cL_law 373 = .ok (.invokevirtual 53, 3) := by decide +kernel
theorem dL_law_376 : decode cL_law 376 = .ok (.if_icmp .eq 120, 3) := by decide +kernel
theorem dL_law_379 : decode cL_law 379 = .ok (.iconst 0, 1) := by decide +kernel
theorem dL_law_380 : decode cL_law 380 = .ok (.ireturn, 1) := by decide +kernel
theorem dL_law_381 : decode cL_law 381 = .ok (.aload_n 1, 1) := by decide +kernel
theorem dL_law_382 : decode cL_law 382 = .ok (.aload_n 0, 1) := by decide +kernel
theorem dL_law_383 : decode cL_law 383 = .ok (.iload_n 3, 1) := by decide +kernel
theorem dL_law_384 : decode cL_law 384 = .ok (.iconst 1, 1) := by decide +kernel
theorem dL_law_385 : decode cL_law 385 = .ok (.iadd, 1) := by decide +kernel
theorem dL_law_386 : decode cL_law 386 = .ok (.iaload, 1) := by decide +kernel
theorem dL_law_387 : decode cL_law 387 = .ok (.invokevirtual 54, 3) := by decide +kernel
theorem dL_law_390 : decode cL_law 390 = .ok (.aload_n 2, 1) := by decide +kernel
theorem dL_law_391 : decode cL_law 391 = .ok (.aload_n 0, 1) := by decide +kernel
theorem dL_law_392 : decode cL_law 392 = .ok (.iload_n 3, 1) := by decide +kernel
theorem dL_law_393 : decode cL_law 393 = .ok (.iconst 1, 1) := by decide +kernel
theorem dL_law_394 : decode cL_law 394 = .ok (.iadd, 1) := by decide +kernel
theorem dL_law_395 : decode cL_law 395 = .ok (.iaload, 1) := by decide +kernel
theorem dL_law_396 : decode cL_law 396 = .ok (.invokevirtual 58, 3) := by decide +kernel
theorem dL_law_399 : decode cL_law 399 = .ok (.if_icmp .eq 97, 3) := by decide +kernel
theorem dL_law_402 : decode cL_law 402 = .ok (.iconst 0, 1) := by decide +kernel
theorem dL_law_403 : decode cL_law 403 = .ok (.ireturn, 1) := by decide +kernel
theorem dL_law_404 : decode cL_law 404 = .ok (.aload_n 1, 1) := by decide +kernel
theorem dL_law_405 : decode cL_law 405 = .ok (.invokevirtual 59, 3) := by decide +kernel
theorem dL_law_408 : decode cL_law 408 = .ok (.aload_n 2, 1) := by decide +kernel
theorem dL_law_409 : decode cL_law 409 = .ok (.invokevirtual 62, 3) := by decide +kernel
theorem dL_law_412 : decode cL_law 412 = .ok (.if_icmp .eq 84, 3) := by decide +kernel
theorem dL_law_415 : decode cL_law 415 = .ok (.iconst 0, 1) := by decide +kernel
theorem dL_law_416 : decode cL_law 416 = .ok (.ireturn, 1) := by decide +kernel
theorem dL_law_417 : decode cL_law 417 = .ok (.aload_n 1, 1) := by decide +kernel
theorem dL_law_418 : decode cL_law 418 = .ok (.aload_n 0, 1) := by decide +kernel
theorem dL_law_419 : decode cL_law 419 = .ok (.iload_n 3, 1) := by decide +kernel
theorem dL_law_420 : decode cL_law 420 = .ok (.iconst 1, 1) := by decide +kernel
theorem dL_law_421 : decode cL_law 421 = .ok (.iadd, 1) := by decide +kernel
theorem dL_law_422 : decode cL_law 422 = .ok (.iaload, 1) := by decide +kernel
theorem dL_law_423 : decode cL_law 423 = .ok (.invokevirtual 63, 3) := by decide +kernel
theorem dL_law_426 : decode cL_law 426 = .ok (.aload_n 2, 1) := by decide +kernel
theorem dL_law_427 : decode cL_law 427 = .ok (.aload_n 0, 1) := by decide +kernel
theorem dL_law_428 : decode cL_law 428 = .ok (.iload_n 3, 1) := by decide +kernel
theorem dL_law_429 : decode cL_law 429 = .ok (.iconst 1, 1) := by decide +kernel
theorem dL_law_430 : decode cL_law 430 = .ok (.iadd, 1) := by decide +kernel
theorem dL_law_431 : decode cL_law 431 = .ok (.iaload, 1) := by decide +kernel
theorem dL_law_432 : decode cL_law 432 = .ok (.invokevirtual 66, 3) := by decide +kernel
theorem dL_law_435 : decode cL_law 435 = .ok (.if_icmp .eq 61, 3) := by decide +kernel
theorem dL_law_438 : decode cL_law 438 = .ok (.iconst 0, 1) := by decide +kernel
theorem dL_law_439 : decode cL_law 439 = .ok (.ireturn, 1) := by decide +kernel
theorem dL_law_440 : decode cL_law 440 = .ok (.aload_n 1, 1) := by decide +kernel
theorem dL_law_441 : decode cL_law 441 = .ok (.aload_n 0, 1) := by decide +kernel
theorem dL_law_442 : decode cL_law 442 = .ok (.iload_n 3, 1) := by decide +kernel
theorem dL_law_443 : decode cL_law 443 = .ok (.iconst 1, 1) := by decide +kernel
theorem dL_law_444 : decode cL_law 444 = .ok (.iadd, 1) := by decide +kernel
theorem dL_law_445 : decode cL_law 445 = .ok (.iaload, 1) := by decide +kernel
theorem dL_law_446 : decode cL_law 446 = .ok (.invokevirtual 67, 3) := by decide +kernel
theorem dL_law_449 : decode cL_law 449 = .ok (.aload_n 2, 1) := by decide +kernel
theorem dL_law_450 : decode cL_law 450 = .ok (.aload_n 0, 1) := by decide +kernel
theorem dL_law_451 : decode cL_law 451 = .ok (.iload_n 3, 1) := by decide +kernel
theorem dL_law_452 : decode cL_law 452 = .ok (.iconst 1, 1) := by decide +kernel
theorem dL_law_453 : decode cL_law 453 = .ok (.iadd, 1) := by decide +kernel
theorem dL_law_454 : decode cL_law 454 = .ok (.iaload, 1) := by decide +kernel
theorem dL_law_455 : decode cL_law 455 = .ok (.invokevirtual 70, 3) := by decide +kernel
theorem dL_law_458 : decode cL_law 458 = .ok (.if_icmp .eq 38, 3) := by decide +kernel
theorem dL_law_461 : decode cL_law 461 = .ok (.iconst 0, 1) := by decide +kernel
theorem dL_law_462 : decode cL_law 462 = .ok (.ireturn, 1) := by decide +kernel
theorem dL_law_463 : decode cL_law 463 = .ok (.aload_n 1, 1) := by decide +kernel
theorem dL_law_464 : decode cL_law 464 = .ok (.aload_n 0, 1) := by decide +kernel
theorem dL_law_465 : decode cL_law 465 = .ok (.iload_n 3, 1) := by decide +kernel
theorem dL_law_466 : decode cL_law 466 = .ok (.iconst 1, 1) := by decide +kernel
theorem dL_law_467 : decode cL_law 467 = .ok (.iadd, 1) := by decide +kernel
theorem dL_law_468 : decode cL_law 468 = .ok (.iaload, 1) := by decide +kernel
theorem dL_law_469 : decode cL_law 469 = .ok (.aload_n 0, 1) := by decide +kernel
theorem dL_law_470 : decode cL_law 470 = .ok (.iload_n 3, 1) := by decide +kernel
theorem dL_law_471 : decode cL_law 471 = .ok (.iconst 2, 1) := by decide +kernel
theorem dL_law_472 : decode cL_law 472 = .ok (.iadd, 1) := by decide +kernel
theorem dL_law_473 : decode cL_law 473 = .ok (.iaload, 1) := by decide +kernel
theorem dL_law_474 : decode cL_law 474 = .ok (.invokevirtual 71, 3) := by decide +kernel
theorem dL_law_477 : decode cL_law 477 = .ok (.aload_n 2, 1) := by decide +kernel
theorem dL_law_478 : decode cL_law 478 = .ok (.aload_n 0, 1) := by decide +kernel
theorem dL_law_479 : decode cL_law 479 = .ok (.iload_n 3, 1) := by decide +kernel
theorem dL_law_480 : decode cL_law 480 = .ok (.iconst 1, 1) := by decide +kernel
theorem dL_law_481 : decode cL_law 481 = .ok (.iadd, 1) := by decide +kernel
theorem dL_law_482 : decode cL_law 482 = .ok (.iaload, 1) := by decide +kernel
theorem dL_law_483 : decode cL_law 483 = .ok (.aload_n 0, 1) := by decide +kernel
theorem dL_law_484 : decode cL_law 484 = .ok (.iload_n 3, 1) := by decide +kernel
theorem dL_law_485 : decode cL_law 485 = .ok (.iconst 2, 1) := by decide +kernel
theorem dL_law_486 : decode cL_law 486 = .ok (.iadd, 1) := by decide +kernel
theorem dL_law_487 : decode cL_law 487 = .ok (.iaload, 1) := by decide +kernel
theorem dL_law_488 : decode cL_law 488 = .ok (.invokevirtual 74, 3) := by decide +kernel
theorem dL_law_491 : decode cL_law 491 = .ok (.if_icmp .eq 5, 3) := by decide +kernel
theorem dL_law_494 : decode cL_law 494 = .ok (.iconst 0, 1) := by decide +kernel
theorem dL_law_495 : decode cL_law 495 = .ok (.ireturn, 1) := by decide +kernel
theorem dL_law_496 : decode cL_law 496 = .ok (.iinc 3 4, 3) := by decide +kernel
theorem dL_law_499 : decode cL_law 499 = .ok (.goto (-481), 3) := by decide +kernel
theorem dL_law_502 : decode cL_law 502 = .ok (.iconst 1, 1) := by decide +kernel
theorem dL_law_503 : decode cL_law 503 = .ok (.ireturn, 1) := by decide +kernel
end
section
/-! PURE: positions, who wins, the numbers that both classes compute; no program here -/
/-- a boolean as the machine has it -/
def gv_z (b : Bool) : Int32 := cond b 1 0
theorem gv_z0 {b : Bool} (h : gv_z b = 0) : b = false := by
  cases b
  · rfl
  · exact absurd h (by decide)
theorem gv_z1 {b : Bool} (h : ¬ gv_z b = 0) : b = true := by
  cases b
  · exact absurd rfl h
  · rfl
theorem gv_a1 {b : Bool} (h : b = true) : nI 1 = gv_z b := by rw [h]; decide
theorem gv_a0 {b : Bool} (h : b = false) : nI 0 = gv_z b := by rw [h]; decide
theorem gv_zeq {a b : Bool} (h : a = b) : gv_z a = gv_z b := by rw [h]
theorem gv_z_nI1 {b : Bool} (h : gv_z b = nI 1) : b = true := by
  cases b
  · exact absurd h (by decide)
  · rfl
theorem gv_z_nn1 {b : Bool} (h : ¬ gv_z b = nI 1) : b = false := by
  cases b
  · rfl
  · exact absurd (by decide) h
/-- is it a position: 0 ≤ x < n -/
def gv_h (n : Nat) (x : Int32) : Bool := !decide (x < 0) && !decide (nI n ≤ x)
theorem gv_hT {n : Nat} {x : Int32} (h : gv_h n x = true) (hn : n < 2 ^ 31) : ∃ k, k < n ∧ x = nI k := by
  rcases pk_ix x hn with a | a | a
  · rw [gv_h, decide_eq_true a] at h
    exact absurd h (by simp)
  · rw [gv_h, decide_eq_true a] at h
    exact absurd h (by simp)
  · exact a
theorem gv_hN {n k : Nat} (hk : k < n) (hn : n < 2 ^ 31) : gv_h n (nI k) = true := by
  rw [gv_h, decide_eq_false (nI_pos (by omega)), decide_eq_false (nI_ge hk hn)]
  rfl
/-- is it a set of positions below n -/
def gv_s (n : Nat) (x : Int32) : Bool := !decide (x < 0) && !decide (nI (2 ^ n) ≤ x)
theorem gv_p10 {n : Nat} (h : n ≤ 10) : 2 ^ n ≤ 1024 := Nat.pow_le_pow_right (n := 2) (by decide) h
theorem gv_sT {n : Nat} {x : Int32} (h : gv_s n x = true) (hn : n ≤ 10) : ∃ k, k < 2 ^ n ∧ x = nI k := by
  have := gv_p10 hn
  rcases pk_ix x (n := 2 ^ n) (by omega) with a | a | a
  · rw [gv_s, decide_eq_true a] at h
    exact absurd h (by simp)
  · rw [gv_s, decide_eq_true a] at h
    exact absurd h (by simp)
  · exact a
theorem gv_sN {n k : Nat} (hk : k < 2 ^ n) (hn : n ≤ 10) : gv_s n (nI k) = true := by
  have := gv_p10 hn
  rw [gv_s, decide_eq_false (nI_pos (by omega)), decide_eq_false (nI_ge hk (by omega))]
  rfl
/-- a side: 0 or 1 -/
def gv_sd (x : Int32) : Bool := decide (x = 0) || decide (x = nI 1)
theorem gv_sdT {x : Int32} (h : gv_sd x = true) : ∃ k, k < 2 ∧ x = nI k := by
  by_cases a : x = 0
  · exact ⟨0, by decide, a⟩
  · by_cases b : x = nI 1
    · exact ⟨1, by decide, b⟩
    · rw [gv_sd, decide_eq_false a, decide_eq_false b] at h
      exact absurd h (by simp)
/-! bits -/
theorem gv_sl : ∀ n, n < 32 → ((nI n &&& 31).toBitVec.smod 32).toNat = n := by decide +kernel
theorem gv_or (a b : Nat) : nI a ||| nI b = nI (a ||| b) := by
  apply Int32.toBitVec_inj.1
  show BitVec.ofNat 32 a ||| BitVec.ofNat 32 b = BitVec.ofNat 32 (a ||| b)
  apply BitVec.eq_of_getLsbD_eq
  intro i hi
  simp [hi]
theorem gv_shl {x : Nat} (hx : x < 31) : nI 1 <<< (nI x &&& 31) = nI (2 ^ x) := by
  have h : 2 ^ x < 2 ^ 31 := Nat.pow_lt_pow_right (by decide) hx
  rw [pk_shlN (n := 1) _ x (gv_sl x (by omega)) (by omega), Nat.one_mul]
theorem gv_bitI {S x : Nat} (hS : S < 2 ^ 31) (hx : x < 31) : (nI S >>> (nI x &&& 31)) &&& nI 1 = gv_z (S.testBit x) := by
  have h2 : S / 2 ^ x ≤ S := Nat.div_le_self _ _
  rw [pk_shrN hS _ x (gv_sl x (by omega)), pk_andN (by omega) 1 (by decide), Nat.testBit_eq_decide_div_mod_eq]
  generalize S / 2 ^ x = z
  show nI (z % 2) = _
  rcases Nat.mod_two_eq_zero_or_one z with e | e <;> rw [e] <;> decide
theorem gv_bitP {S p x : Nat} (h : S < 2 ^ p) (hb : S.testBit x = true) : x < p := by
  rcases Nat.lt_or_ge x p with q | q
  · exact q
  · have e := Nat.testBit_lt_two_pow (Nat.lt_of_lt_of_le h (Nat.pow_le_pow_right (n := 2) (by decide) q))
    rw [e] at hb
    cases hb
theorem gv_i2s : ∀ k, k < 1024 → (nI k).toInt16.toInt32 = nI k := by decide +kernel
theorem gv_mbits (X M : BitVec 32) : (X &&& (M ^^^ BitVec.allOnes 32)) = 0#32 ↔ X &&& M = X := by
  constructor
  · intro h
    apply BitVec.eq_of_getLsbD_eq
    intro i hi
    have e := congrArg (fun x => BitVec.getLsbD x i) h
    simp only [BitVec.getLsbD_and, BitVec.getLsbD_xor, BitVec.getLsbD_allOnes, BitVec.getLsbD_zero, hi, decide_true] at e ⊢
    revert e
    cases X.getLsbD i <;> cases M.getLsbD i <;> decide
  · intro h
    apply BitVec.eq_of_getLsbD_eq
    intro i hi
    have e := congrArg (fun x => BitVec.getLsbD x i) h
    simp only [BitVec.getLsbD_and, BitVec.getLsbD_xor, BitVec.getLsbD_allOnes, BitVec.getLsbD_zero, hi, decide_true] at e ⊢
    revert e
    cases X.getLsbD i <;> cases M.getLsbD i <;> decide
theorem gv_mask {n : Nat} (hn : n ≤ 10) (x : Int32) : (x &&& (nI (2 ^ n - 1) ^^^ (-1))) = 0 ↔ gv_s n x = true := by
  have hp := gv_p10 hn
  have h0 : 0 < 2 ^ n := Nat.two_pow_pos n
  have e0 : (-1 : Int32).toBitVec = BitVec.allOnes 32 := by decide
  have z0 : (0 : Int32).toBitVec = 0#32 := by decide
  rw [← Int32.toBitVec_inj, z0, Int32.toBitVec_and, Int32.toBitVec_xor, e0, gv_mbits, ← BitVec.toNat_inj, BitVec.toNat_and, pk_tn (by omega), Nat.and_two_pow_sub_one_eq_mod]
  constructor
  · intro h
    have t := Nat.mod_lt x.toBitVec.toNat h0
    rw [h] at t
    have e : x = nI x.toBitVec.toNat := by
      apply Int32.toBitVec_inj.1
      show x.toBitVec = BitVec.ofNat 32 x.toBitVec.toNat
      simp
    rw [e]
    exact gv_sN t hn
  · intro h
    obtain ⟨k, hk, rfl⟩ := gv_sT h hn
    rw [pk_tn (by omega)]
    exact Nat.mod_eq_of_lt hk
/-! moves, and who wins -/
def gv_mv (L R : Nat → Nat) (s p : Nat) : Nat := if s = 0 then L p else R p
def gv_ok (L R : Nat → Nat) : Prop := ∀ p, p < 10 → L p < 2 ^ p ∧ R p < 2 ^ p
theorem gv_mv_lt {L R : Nat → Nat} (hg : gv_ok L R) {s p : Nat} (hp : p < 10) : gv_mv L R s p < 2 ^ p := by
  unfold gv_mv
  split
  · exact (hg p hp).1
  · exact (hg p hp).2
theorem gv_mv_1024 {L R : Nat → Nat} (hg : gv_ok L R) {s p : Nat} (hp : p < 10) : gv_mv L R s p < 1024 := by
  have h1 := gv_mv_lt hg (s := s) hp
  have h2 := gv_p10 (n := p) (by omega)
  omega
theorem gv_L_1024 {L R : Nat → Nat} (hg : gv_ok L R) {p : Nat} (hp : p < 10) : L p < 1024 := by
  have h1 := (hg p hp).1
  have h2 := gv_p10 (n := p) (by omega)
  omega
theorem gv_R_1024 {L R : Nat → Nat} (hg : gv_ok L R) {p : Nat} (hp : p < 10) : R p < 1024 := by
  have h1 := (hg p hp).2
  have h2 := gv_p10 (n := p) (by omega)
  omega
theorem gv_mv_0 {L R : Nat → Nat} (hg : gv_ok L R) (s : Nat) : gv_mv L R s 0 = 0 := by
  have h := gv_mv_lt hg (s := s) (p := 0) (by decide)
  omega
/-- a move to x in one of the three parts, behind which the other side does not win -/
def gv_bd (L R : Nat → Nat) (g : Nat → Nat → Nat → Bool) (s a b c x : Nat) : Bool := ((gv_mv L R s a).testBit x && !g x b c) || ((gv_mv L R s b).testBit x && !g a x c) || ((gv_mv L R (1 - s) c).testBit x && !g a b x)
def gv_w (L R : Nat → Nat) : Nat → Nat → Nat → Nat → Nat → Bool
  | 0, _, _, _, _ => false
  | k + 1, s, a, b, c => (List.range 10).any (gv_bd L R (gv_w L R k (1 - s)) s a b c)
/-- the side s, moving first, wins a + b - c -/
def gv_win (L R : Nat → Nat) (s a b c : Nat) : Bool := gv_w L R 31 s a b c
theorem gv_bd_congr {L R : Nat → Nat} (hg : gv_ok L R) {s a b c : Nat} (ha : a < 10) (hb : b < 10) (hc : c < 10) {g g' : Nat → Nat → Nat → Bool} (h : ∀ x y z, x < 10 → y < 10 → z < 10 → x + y + z < a + b + c → g x y z = g' x y z) (x : Nat) : gv_bd L R g s a b c x = gv_bd L R g' s a b c x := by
  have e1 : ((gv_mv L R s a).testBit x && !g x b c) = ((gv_mv L R s a).testBit x && !g' x b c) := by
    cases hx : (gv_mv L R s a).testBit x with
    | false => rfl
    | true =>
      have := gv_bitP (gv_mv_lt hg ha) hx
      rw [h x b c (by omega) hb hc (by omega)]
  have e2 : ((gv_mv L R s b).testBit x && !g a x c) = ((gv_mv L R s b).testBit x && !g' a x c) := by
    cases hx : (gv_mv L R s b).testBit x with
    | false => rfl
    | true =>
      have := gv_bitP (gv_mv_lt hg hb) hx
      rw [h a x c ha (by omega) hc (by omega)]
  have e3 : ((gv_mv L R (1 - s) c).testBit x && !g a b x) = ((gv_mv L R (1 - s) c).testBit x && !g' a b x) := by
    cases hx : (gv_mv L R (1 - s) c).testBit x with
    | false => rfl
    | true =>
      have := gv_bitP (gv_mv_lt hg hc) hx
      rw [h a b x ha hb (by omega) (by omega)]
  unfold gv_bd
  rw [e1, e2, e3]
theorem gv_any {f g : Nat → Bool} (h : ∀ x, f x = g x) (N : List Nat) : N.any f = N.any g := by
  rw [show f = g from funext h]
theorem gv_w_mono {L R : Nat → Nat} (hg : gv_ok L R) : ∀ (k k' s a b c : Nat), a < 10 → b < 10 → c < 10 → a + b + c < k → a + b + c < k' → gv_w L R k s a b c = gv_w L R k' s a b c := by
  intro k
  induction k with
  | zero => intro k' s a b c _ _ _ h; exact absurd h (Nat.not_lt_zero _)
  | succ k ih =>
    intro k' s a b c ha hb hc h h'
    cases k' with
    | zero => exact absurd h' (Nat.not_lt_zero _)
    | succ k' =>
      show (List.range 10).any (gv_bd L R (gv_w L R k (1 - s)) s a b c) = (List.range 10).any (gv_bd L R (gv_w L R k' (1 - s)) s a b c)
      exact gv_any (gv_bd_congr hg ha hb hc (fun x y z hx hy hz hs => ih k' (1 - s) x y z hx hy hz (by omega) (by omega))) _
theorem gv_win_eq {L R : Nat → Nat} (hg : gv_ok L R) {s a b c : Nat} (ha : a < 10) (hb : b < 10) (hc : c < 10) : gv_win L R s a b c = (List.range 10).any (gv_bd L R (gv_win L R (1 - s)) s a b c) := by
  show (List.range 10).any (gv_bd L R (gv_w L R 30 (1 - s)) s a b c) = _
  exact gv_any (gv_bd_congr hg ha hb hc (fun x y z hx hy hz hs => gv_w_mono hg 30 31 (1 - s) x y z hx hy hz (by omega) (by omega))) _
/-- a good first move to x -/
def gv_b (L R : Nat → Nat) (s a b c x : Nat) : Bool := gv_bd L R (gv_win L R (1 - s)) s a b c x
theorem gv_win_t {L R : Nat → Nat} (hg : gv_ok L R) {s a b c x : Nat} (ha : a < 10) (hb : b < 10) (hc : c < 10) (hx : x < 10) (h : gv_b L R s a b c x = true) : gv_win L R s a b c = true := by
  rw [gv_win_eq hg ha hb hc]
  exact List.any_eq_true.mpr ⟨x, List.mem_range.mpr hx, h⟩
theorem gv_b_out {L R : Nat → Nat} (hg : gv_ok L R) {n s a b c x : Nat} (hn : n ≤ 10) (ha : a < n) (hb : b < n) (hc : c < n) (hx : n ≤ x) : gv_b L R s a b c x = false := by
  have f1 : (gv_mv L R s a).testBit x = false := by
    cases e : (gv_mv L R s a).testBit x with
    | false => rfl
    | true => have := gv_bitP (gv_mv_lt hg (by omega)) e; omega
  have f2 : (gv_mv L R s b).testBit x = false := by
    cases e : (gv_mv L R s b).testBit x with
    | false => rfl
    | true => have := gv_bitP (gv_mv_lt hg (by omega)) e; omega
  have f3 : (gv_mv L R (1 - s) c).testBit x = false := by
    cases e : (gv_mv L R (1 - s) c).testBit x with
    | false => rfl
    | true => have := gv_bitP (gv_mv_lt hg (by omega)) e; omega
  unfold gv_b gv_bd
  rw [f1, f2, f3]
  rfl
theorem gv_win_f {L R : Nat → Nat} (hg : gv_ok L R) {n s a b c : Nat} (hn : n ≤ 10) (ha : a < n) (hb : b < n) (hc : c < n) (h : ∀ x, x < n → gv_b L R s a b c x = false) : gv_win L R s a b c = false := by
  rw [gv_win_eq hg (by omega) (by omega) (by omega)]
  refine List.any_eq_false.mpr (fun x _ q => ?_)
  have q : gv_b L R s a b c x = true := q
  rcases Nat.lt_or_ge x n with e | e
  · rw [h x e] at q; cases q
  · rw [gv_b_out hg hn ha hb hc e] at q; cases q
theorem gv_w_sym {L R : Nat → Nat} (hg : gv_ok L R) : ∀ (k s a c : Nat), s ≤ 1 → gv_w L R k s a 0 c = gv_w L R k (1 - s) c 0 a := by
  intro k
  induction k with
  | zero => intro s a c _; rfl
  | succ k ih =>
    intro s a c hs
    show (List.range 10).any (gv_bd L R (gv_w L R k (1 - s)) s a 0 c) = (List.range 10).any (gv_bd L R (gv_w L R k (1 - (1 - s))) (1 - s) c 0 a)
    refine gv_any (fun x => ?_) _
    unfold gv_bd
    rw [gv_mv_0 hg s, gv_mv_0 hg (1 - s), ih (1 - s) x c (by omega), ih (1 - s) a x (by omega), show 1 - (1 - s) = s by omega, Nat.zero_testBit]
    cases (gv_mv L R s a).testBit x <;> cases (gv_mv L R (1 - s) c).testBit x <;> cases gv_w L R k s c 0 x <;> cases gv_w L R k s x 0 a <;> rfl
theorem gv_sym {L R : Nat → Nat} (hg : gv_ok L R) (a c : Nat) : gv_win L R 0 a 0 c = gv_win L R 1 c 0 a := gv_w_sym hg 31 0 a c (by decide)
theorem gv_refl {L R : Nat → Nat} (hg : gv_ok L R) : ∀ (N a s : Nat), a < N → a < 10 → s ≤ 1 → gv_win L R s a 0 a = false := by
  intro N
  induction N with
  | zero => intro a s h; exact absurd h (Nat.not_lt_zero _)
  | succ N ih =>
    intro a s h ha hs
    rw [gv_win_eq hg ha (by decide) ha]
    refine List.any_eq_false.mpr (fun x _ q => ?_)
    have hm : 1 - (1 - s) = s := by omega
    unfold gv_bd at q
    rw [gv_mv_0 hg s, Nat.zero_testBit] at q
    cases e1 : (gv_mv L R s a).testBit x with
    | true =>
      have hx := gv_bitP (gv_mv_lt hg ha) e1
      have w : gv_win L R (1 - s) x 0 a = true := by
        refine gv_win_t hg (x := x) (by omega) (by decide) ha (by omega) ?_
        unfold gv_b gv_bd
        rw [hm, e1, ih x s (by omega) (by omega) hs]
        simp
      rw [w, e1] at q
      cases e3 : (gv_mv L R (1 - s) a).testBit x with
      | false => rw [e3] at q; simp at q
      | true =>
        have w3 : gv_win L R (1 - s) a 0 x = true := by
          refine gv_win_t hg (x := x) ha (by decide) (by omega) (by omega) ?_
          unfold gv_b gv_bd
          rw [hm, e3, ih x s (by omega) (by omega) hs]
          simp
        rw [w3] at q
        simp at q
    | false =>
      rw [e1] at q
      cases e3 : (gv_mv L R (1 - s) a).testBit x with
      | false => rw [e3] at q; simp at q
      | true =>
        have hx := gv_bitP (gv_mv_lt hg ha) e3
        have w3 : gv_win L R (1 - s) a 0 x = true := by
          refine gv_win_t hg (x := x) ha (by decide) (by omega) (by omega) ?_
          unfold gv_b gv_bd
          rw [hm, e3, ih x s (by omega) (by omega) hs]
          simp
        rw [w3] at q
        simp at q
/-! sums of bits, counts, the first place -/
def gv_acc (f : Nat → Bool) (g : Nat → Nat) : Nat → Nat
  | 0 => 0
  | i + 1 => if f i = true then gv_acc f g i ||| 2 ^ g i else gv_acc f g i
theorem gv_acc_t {f : Nat → Bool} {g : Nat → Nat} {i : Nat} (h : f i = true) : gv_acc f g (i + 1) = gv_acc f g i ||| 2 ^ g i := if_pos h
theorem gv_acc_f {f : Nat → Bool} {g : Nat → Nat} {i : Nat} (h : f i = false) : gv_acc f g (i + 1) = gv_acc f g i := if_neg (by rw [h]; exact Bool.false_ne_true)
theorem gv_acc_bit (f : Nat → Bool) (g : Nat → Nat) (N k : Nat) : (gv_acc f g N).testBit k = true ↔ ∃ i, i < N ∧ f i = true ∧ g i = k := by
  induction N with
  | zero =>
    show (0 : Nat).testBit k = true ↔ _
    rw [Nat.zero_testBit]
    constructor
    · intro h; cases h
    · rintro ⟨i, h, -⟩; exact absurd h (Nat.not_lt_zero _)
  | succ N ih =>
    cases e : f N with
    | true =>
      rw [gv_acc_t e, Nat.testBit_or, Nat.testBit_two_pow, Bool.or_eq_true, ih, decide_eq_true_eq]
      constructor
      · rintro (⟨i, h1, h2, h3⟩ | h)
        · exact ⟨i, by omega, h2, h3⟩
        · exact ⟨N, by omega, e, h⟩
      · rintro ⟨i, h1, h2, h3⟩
        rcases Nat.lt_or_ge i N with q | q
        · exact Or.inl ⟨i, q, h2, h3⟩
        · have : i = N := by omega
          subst this
          exact Or.inr h3
    | false =>
      rw [gv_acc_f e, ih]
      constructor
      · rintro ⟨i, h1, h2, h3⟩
        exact ⟨i, by omega, h2, h3⟩
      · rintro ⟨i, h1, h2, h3⟩
        rcases Nat.lt_or_ge i N with q | q
        · exact ⟨i, q, h2, h3⟩
        · have : i = N := by omega
          subst this
          rw [e] at h2
          cases h2
def gv_cnt (f : Nat → Bool) : Nat → Nat
  | 0 => 0
  | i + 1 => if f i = true then gv_cnt f i + 1 else gv_cnt f i
theorem gv_cnt_t {f : Nat → Bool} {i : Nat} (h : f i = true) : gv_cnt f (i + 1) = gv_cnt f i + 1 := if_pos h
theorem gv_cnt_f {f : Nat → Bool} {i : Nat} (h : f i = false) : gv_cnt f (i + 1) = gv_cnt f i := if_neg (by rw [h]; exact Bool.false_ne_true)
theorem gv_cnt_le (f : Nat → Bool) (i : Nat) : gv_cnt f i ≤ i := by
  induction i with
  | zero => exact Nat.le_refl _
  | succ i ih =>
    cases e : f i with
    | true => rw [gv_cnt_t e]; omega
    | false => rw [gv_cnt_f e]; omega
def gv_fq (E : Nat → Bool) : Nat → Nat → Nat
  | 0, q => q
  | k + 1, q => if E q = true then q else gv_fq E k (q + 1)
theorem gv_fq_go {E : Nat → Bool} {p q : Nat} (hq : q ≤ p) (hf : ∀ j, j < q → E j = false) (he : q = p ∨ E q = true) : ∀ (k q0 : Nat), q0 + k = p → q0 ≤ q → gv_fq E k q0 = q := by
  intro k
  induction k with
  | zero =>
    intro q0 h1 h2
    show q0 = q
    omega
  | succ k ih =>
    intro q0 h1 h2
    show (if E q0 = true then q0 else gv_fq E k (q0 + 1)) = q
    rcases Nat.lt_or_ge q0 q with a | a
    · rw [if_neg (by rw [hf q0 a]; exact Bool.false_ne_true)]
      exact ih (q0 + 1) (by omega) (by omega)
    · have e : q0 = q := by omega
      subst e
      rcases he with b | b
      · omega
      · rw [if_pos b]
theorem gv_fq_eq {E : Nat → Bool} {p q : Nat} (hq : q ≤ p) (hf : ∀ j, j < q → E j = false) (he : q = p ∨ E q = true) : gv_fq E p 0 = q := gv_fq_go hq hf he p 0 (Nat.zero_add p) (Nat.zero_le q)
/-- the values of p and q are equal -/
def gv_E (L R : Nat → Nat) (p q : Nat) : Bool := !gv_win L R 1 p 0 q && !gv_win L R 1 q 0 p
theorem gv_E_self {L R : Nat → Nat} (hg : gv_ok L R) {p : Nat} (hp : p < 10) : gv_E L R p p = true := by
  unfold gv_E
  rw [gv_refl hg 10 p 1 hp hp (by decide)]
  rfl
/-! the longest way down -/
def gv_mx (f : Nat → Bool) (v : Nat → Nat) : Nat → Nat
  | 0 => 0
  | i + 1 => if f i = true ∧ gv_mx f v i < v i + 1 then v i + 1 else gv_mx f v i
theorem gv_mx_t {f : Nat → Bool} {v : Nat → Nat} {i : Nat} (h : f i = true) (h2 : gv_mx f v i < v i + 1) : gv_mx f v (i + 1) = v i + 1 := if_pos ⟨h, h2⟩
theorem gv_mx_f {f : Nat → Bool} {v : Nat → Nat} {i : Nat} (h : f i = false ∨ v i + 1 ≤ gv_mx f v i) : gv_mx f v (i + 1) = gv_mx f v i := if_neg (fun q => by
  rcases h with h | h
  · rw [h] at q; exact Bool.false_ne_true q.1
  · omega)
theorem gv_mx_congr {f : Nat → Bool} {v v' : Nat → Nat} (i : Nat) (h : ∀ x, x < i → v x = v' x) : gv_mx f v i = gv_mx f v' i := by
  induction i with
  | zero => rfl
  | succ i ih =>
    show (if f i = true ∧ gv_mx f v i < v i + 1 then v i + 1 else gv_mx f v i) = (if f i = true ∧ gv_mx f v' i < v' i + 1 then v' i + 1 else gv_mx f v' i)
    rw [ih (fun x hx => h x (by omega)), h i (by omega)]
theorem gv_mx_ge (f : Nat → Bool) (v : Nat → Nat) (j : Nat) : ∀ i, j + 1 ≤ gv_mx f v i ↔ ∃ x, x < i ∧ f x = true ∧ j ≤ v x := by
  intro i
  induction i with
  | zero =>
    constructor
    · intro h; exact absurd h (Nat.not_succ_le_zero _)
    · rintro ⟨x, h, -⟩; exact absurd h (Nat.not_lt_zero _)
  | succ i ih =>
    by_cases c : f i = true ∧ gv_mx f v i < v i + 1
    · rw [gv_mx_t c.1 c.2]
      constructor
      · intro h; exact ⟨i, by omega, c.1, by omega⟩
      · rintro ⟨x, h1, h2, h3⟩
        rcases Nat.lt_or_ge x i with q | q
        · have := ih.mpr ⟨x, q, h2, h3⟩
          omega
        · have : x = i := by omega
          subst this
          omega
    · have e : gv_mx f v (i + 1) = gv_mx f v i := if_neg c
      rw [e, ih]
      constructor
      · rintro ⟨x, h1, h2, h3⟩; exact ⟨x, by omega, h2, h3⟩
      · rintro ⟨x, h1, h2, h3⟩
        rcases Nat.lt_or_ge x i with q | q
        · exact ⟨x, q, h2, h3⟩
        · have : x = i := by omega
          subst this
          have g : v x + 1 ≤ gv_mx f v x := by
            rcases Nat.lt_or_ge (gv_mx f v x) (v x + 1) with a | a
            · exact absurd ⟨h2, a⟩ c
            · exact a
          exact ih.mp (by omega)
def gv_dk (L R : Nat → Nat) : Nat → Nat → Nat
  | 0, _ => 0
  | k + 1, q => gv_mx (fun x => (L q ||| R q).testBit x) (gv_dk L R k) q
def gv_D (L R : Nat → Nat) (q : Nat) : Nat := gv_dk L R 11 q
theorem gv_dk_mono (L R : Nat → Nat) : ∀ (k k' q : Nat), q < k → q < k' → gv_dk L R k q = gv_dk L R k' q := by
  intro k
  induction k with
  | zero => intro k' q h; exact absurd h (Nat.not_lt_zero _)
  | succ k ih =>
    intro k' q h h'
    cases k' with
    | zero => exact absurd h' (Nat.not_lt_zero _)
    | succ k' =>
      show gv_mx (fun x => (L q ||| R q).testBit x) (gv_dk L R k) q = gv_mx (fun x => (L q ||| R q).testBit x) (gv_dk L R k') q
      exact gv_mx_congr q (fun x hx => ih k' x (by omega) (by omega))
theorem gv_D_eq (L R : Nat → Nat) {q : Nat} (hq : q < 10) : gv_D L R q = gv_mx (fun x => (L q ||| R q).testBit x) (gv_D L R) q := by
  show gv_mx (fun x => (L q ||| R q).testBit x) (gv_dk L R 10) q = _
  exact gv_mx_congr q (fun x hx => gv_dk_mono L R 10 11 x (by omega) (by omega))
theorem gv_D_le (L R : Nat → Nat) : ∀ (N q : Nat), q < N → q < 10 → gv_D L R q ≤ q := by
  intro N
  induction N with
  | zero => intro q h; exact absurd h (Nat.not_lt_zero _)
  | succ N ih =>
    intro q h hq
    rcases Nat.lt_or_ge q (gv_D L R q) with a | a
    · rw [gv_D_eq L R hq] at a
      obtain ⟨x, h1, -, h3⟩ := (gv_mx_ge _ _ q q).mp a
      have := ih x (by omega) (by omega)
      omega
    · exact a
theorem gv_mxD_le (L R : Nat → Nat) {q : Nat} (hq : q < 10) (f : Nat → Bool) (i : Nat) (hi : i ≤ q) : gv_mx f (gv_D L R) i ≤ i := by
  rcases Nat.lt_or_ge i (gv_mx f (gv_D L R) i) with a | a
  · obtain ⟨x, h1, -, h3⟩ := (gv_mx_ge _ _ i i).mp a
    have := gv_D_le L R 10 x (by omega) (by omega)
    omega
  · exact a
/-! the sets that are reached by one move more -/
def gv_nx (L R : Nat → Nat) (S : Nat) : Nat → Nat
  | 0 => 0
  | q + 1 => gv_nx L R S q ||| (if S.testBit q = true then L q ||| R q else 0)
theorem gv_nx_t {L R : Nat → Nat} {S q : Nat} (h : S.testBit q = true) : gv_nx L R S (q + 1) = gv_nx L R S q ||| (L q ||| R q) := by
  show gv_nx L R S q ||| (if S.testBit q = true then L q ||| R q else 0) = _
  rw [if_pos h]
theorem gv_nx_f {L R : Nat → Nat} {S q : Nat} (h : S.testBit q = false) : gv_nx L R S (q + 1) = gv_nx L R S q ||| 0 := by
  show gv_nx L R S q ||| (if S.testBit q = true then L q ||| R q else 0) = _
  rw [if_neg (by rw [h]; exact Bool.false_ne_true)]
theorem gv_nx_bit (L R : Nat → Nat) (S x : Nat) : ∀ i, (gv_nx L R S i).testBit x = true ↔ ∃ q, q < i ∧ S.testBit q = true ∧ (L q ||| R q).testBit x = true := by
  intro i
  induction i with
  | zero =>
    show (0 : Nat).testBit x = true ↔ _
    rw [Nat.zero_testBit]
    constructor
    · intro h; cases h
    · rintro ⟨q, h, -⟩; exact absurd h (Nat.not_lt_zero _)
  | succ i ih =>
    cases e : S.testBit i with
    | true =>
      rw [gv_nx_t e, Nat.testBit_or, Bool.or_eq_true, ih]
      constructor
      · rintro (⟨q, h1, h2, h3⟩ | h)
        · exact ⟨q, by omega, h2, h3⟩
        · exact ⟨i, by omega, e, h⟩
      · rintro ⟨q, h1, h2, h3⟩
        rcases Nat.lt_or_ge q i with a | a
        · exact Or.inl ⟨q, a, h2, h3⟩
        · have : q = i := by omega
          subst this
          exact Or.inr h3
    | false =>
      rw [gv_nx_f e, Nat.or_zero, ih]
      constructor
      · rintro ⟨q, h1, h2, h3⟩; exact ⟨q, by omega, h2, h3⟩
      · rintro ⟨q, h1, h2, h3⟩
        rcases Nat.lt_or_ge q i with a | a
        · exact ⟨q, a, h2, h3⟩
        · have : q = i := by omega
          subst this
          rw [e] at h2
          cases h2
theorem gv_LR_bit {L R : Nat → Nat} (hg : gv_ok L R) {q x : Nat} (hq : q < 10) (h : (L q ||| R q).testBit x = true) : x < q :=
  gv_bitP (Nat.or_lt_two_pow (hg q hq).1 (hg q hq).2) h
theorem gv_nx_lt {L R : Nat → Nat} (hg : gv_ok L R) (S : Nat) : ∀ i, i ≤ 10 → gv_nx L R S i < 2 ^ 10 := by
  intro i
  induction i with
  | zero => intro _; show 0 < 2 ^ 10; decide
  | succ i ih =>
    intro h
    have h1 := gv_L_1024 hg (p := i) (by omega)
    have h2 := gv_R_1024 hg (p := i) (by omega)
    show gv_nx L R S i ||| (if S.testBit i = true then L i ||| R i else 0) < 2 ^ 10
    refine Nat.or_lt_two_pow (ih (by omega)) ?_
    split
    · exact Nat.or_lt_two_pow h1 h2
    · decide
def gv_rc (L R : Nat → Nat) (n p : Nat) : Nat → Nat
  | 0 => 2 ^ p
  | k + 1 => gv_nx L R (gv_rc L R n p k) n
theorem gv_rc_1024 {L R : Nat → Nat} (hg : gv_ok L R) {n p : Nat} (hn : n ≤ 10) (hp : p < n) : ∀ k, gv_rc L R n p k < 1024 := by
  intro k
  cases k with
  | zero =>
    show 2 ^ p < 2 ^ 10
    exact Nat.pow_lt_pow_right (by decide) (by omega)
  | succ k => exact gv_nx_lt hg _ n hn
theorem gv_rc_lt {L R : Nat → Nat} (hg : gv_ok L R) {n p : Nat} (hn : n ≤ 10) (hp : p < n) : ∀ k x, (gv_rc L R n p k).testBit x = true → x < n := by
  intro k x h
  cases k with
  | zero =>
    have h : (2 ^ p).testBit x = true := h
    rw [Nat.testBit_two_pow, decide_eq_true_eq] at h
    omega
  | succ k =>
    obtain ⟨q, h1, -, h3⟩ := (gv_nx_bit L R _ x n).mp h
    have := gv_LR_bit hg (by omega) h3
    omega
theorem gv_rc_D {L R : Nat → Nat} (hg : gv_ok L R) {n p : Nat} (hn : n ≤ 10) (hp : p < n) : ∀ k j, (∃ x, (gv_rc L R n p k).testBit x = true ∧ j ≤ gv_D L R x) ↔ k + j ≤ gv_D L R p := by
  intro k
  induction k with
  | zero =>
    intro j
    constructor
    · rintro ⟨x, h1, h2⟩
      have h1 : (2 ^ p).testBit x = true := h1
      rw [Nat.testBit_two_pow, decide_eq_true_eq] at h1
      subst h1
      omega
    · intro h
      refine ⟨p, ?_, by omega⟩
      show (2 ^ p).testBit p = true
      rw [Nat.testBit_two_pow, decide_eq_true_eq]
  | succ k ih =>
    intro j
    rw [show k + 1 + j = k + (j + 1) by omega, ← ih (j + 1)]
    constructor
    · rintro ⟨x, h1, h2⟩
      obtain ⟨q, g1, g2, g3⟩ := (gv_nx_bit L R _ x n).mp h1
      refine ⟨q, g2, ?_⟩
      rw [gv_D_eq L R (by omega)]
      exact (gv_mx_ge _ _ j q).mpr ⟨x, gv_LR_bit hg (by omega) g3, g3, h2⟩
    · rintro ⟨q, h1, h2⟩
      have hq := gv_rc_lt hg hn hp k q h1
      rw [gv_D_eq L R (by omega)] at h2
      obtain ⟨x, g1, g2, g3⟩ := (gv_mx_ge _ _ j q).mp h2
      exact ⟨x, (gv_nx_bit L R _ x n).mpr ⟨q, hq, h1, g2⟩, g3⟩
theorem gv_rc_ne {L R : Nat → Nat} (hg : gv_ok L R) {n p : Nat} (hn : n ≤ 10) (hp : p < n) (k : Nat) : ¬ gv_rc L R n p k = 0 ↔ k ≤ gv_D L R p := by
  have h := gv_rc_D hg hn hp k 0
  rw [Nat.add_zero] at h
  rw [← h]
  constructor
  · intro q
    refine Classical.byContradiction (fun z => q (Nat.eq_of_testBit_eq (fun i => ?_)))
    rw [Nat.zero_testBit]
    cases e : (gv_rc L R n p k).testBit i with
    | false => rfl
    | true => exact absurd ⟨i, e, Nat.zero_le _⟩ z
  · rintro ⟨x, h1, -⟩ q
    rw [q, Nat.zero_testBit] at h1
    cases h1
def gv_ct (L R : Nat → Nat) (n p : Nat) : Nat → Nat := gv_cnt (fun k => !decide (gv_rc L R n p (k + 1) = 0))
theorem gv_ct_min {L R : Nat → Nat} (hg : gv_ok L R) {n p : Nat} (hn : n ≤ 10) (hp : p < n) : ∀ k, gv_ct L R n p k = min k (gv_D L R p) := by
  intro k
  induction k with
  | zero =>
    show 0 = _
    omega
  | succ k ih =>
    have h := gv_rc_ne hg hn hp (k + 1)
    unfold gv_ct at ih ⊢
    by_cases c : gv_rc L R n p (k + 1) = 0
    · rw [gv_cnt_f (by rw [decide_eq_true c]; rfl), ih]
      have : ¬ k + 1 ≤ gv_D L R p := fun z => h.mpr z c
      omega
    · rw [gv_cnt_t (by rw [decide_eq_false c]; rfl), ih]
      have := h.mp c
      omega
theorem gv_ct_D {L R : Nat → Nat} (hg : gv_ok L R) {n p : Nat} (hn : n ≤ 10) (hp : p < n) : gv_ct L R n p 10 = gv_D L R p := by
  rw [gv_ct_min hg hn hp]
  have := gv_D_le L R 10 p (by omega) (by omega)
  omega
end
section
/-! BASE: worlds of the two objects, rows for cuts, loops and calls -/
abbrev gv_cl : List vw_C := [(RX0, TX0, 6), (RX1, TX1, 4)]
theorem gv_znar (b : Bool) : narrow .boolean (.int (gv_z b)) = .int (gv_z b) := by cases b <;> rfl
theorem gv_zvp (b : Bool) : vp_nar .boolean (gv_z b) = gv_z b := by cases b <;> rfl
theorem gv_ld (f : Nat → Int32) {e : Nat} (h : e < 2 ^ 31) : f (nI e).toNatClampNeg = f e := by rw [nI_clamp h]
theorem gv_inc (i : Nat) : nI i + Int32.ofInt 1 = nI (i + 1) := nI_1 i
/-- one place of a function of naturals is set -/
def gv_up (f : Nat → Nat) (n k : Nat) : Nat → Nat := fun j => if j = n then k else f j
/-- the reference's moves: place 2 * p + side -/
def gv_G (L R : Nat → Nat) (j : Nat) : Nat := if j % 2 = 0 then L (j / 2) else R (j / 2)
theorem gv_G_mv (L R : Nat → Nat) (p s : Nat) (hs : s < 2) : gv_G L R (2 * p + s) = gv_mv L R s p := by
  unfold gv_G gv_mv
  rcases (show s = 0 ∨ s = 1 by omega) with rfl | rfl
  · rw [if_pos (by omega), if_pos rfl, show (2 * p + 0) / 2 = p by omega]
  · rw [if_neg (by omega), if_neg (by decide), show (2 * p + 1) / 2 = p by omega]
theorem gv_G_0 (L R : Nat → Nat) (p : Nat) : gv_G L R (2 * p) = L p := by
  unfold gv_G
  rw [if_pos (by omega), show 2 * p / 2 = p by omega]
theorem gv_G_1 (L R : Nat → Nat) (p : Nat) : gv_G L R (2 * p + 1) = R p := by
  unfold gv_G
  rw [if_neg (by omega), show (2 * p + 1) / 2 = p by omega]
theorem gv_upX (L : Nat → Nat) {n k : Nat} {v : Int32} (hn : n < 2 ^ 31) (hv : v = nI k) : upd (fun j => nI (L j)) (nI n).toNatClampNeg v = fun j => nI (gv_up L n k j) := by
  rw [nI_clamp hn, hv]
  funext j
  unfold upd gv_up
  by_cases h : j = n
  · rw [if_pos h, if_pos h]
  · rw [if_neg h, if_neg h]
theorem gv_upM0 (L R : Nat → Nat) {n k : Nat} (hn : 2 * n < 2 ^ 31) : upd (fun j => nI (gv_G L R j)) (nI (2 * n)).toNatClampNeg (nI k) = fun j => nI (gv_G (gv_up L n k) R j) := by
  rw [nI_clamp hn]
  funext j
  unfold upd gv_G gv_up
  by_cases h : j = 2 * n
  · rw [if_pos h, if_pos (by omega), if_pos (by omega)]
  · rw [if_neg h]
    show nI (if j % 2 = 0 then L (j / 2) else R (j / 2)) = _
    by_cases h2 : j % 2 = 0
    · rw [if_pos h2, if_pos h2, if_neg (by omega)]
    · rw [if_neg h2, if_neg h2]
theorem gv_upM1 (L R : Nat → Nat) {n k : Nat} (hn : 2 * n + 1 < 2 ^ 31) : upd (fun j => nI (gv_G L R j)) (nI (2 * n + 1)).toNatClampNeg (nI k) = fun j => nI (gv_G L (gv_up R n k) j) := by
  rw [nI_clamp hn]
  funext j
  unfold upd gv_G gv_up
  by_cases h : j = 2 * n + 1
  · rw [if_pos h, if_neg (by omega), if_pos (by omega)]
  · rw [if_neg h]
    show nI (if j % 2 = 0 then L (j / 2) else R (j / 2)) = _
    by_cases h2 : j % 2 = 0
    · rw [if_pos h2, if_pos h2]
    · rw [if_neg h2, if_neg h2, if_neg (by omega)]
theorem gv_ok_up {L R : Nat → Nat} (hg : gv_ok L R) {n k k' : Nat} (hk : k < 2 ^ n) (hk' : k' < 2 ^ n) : gv_ok (gv_up L n k) (gv_up R n k') := by
  intro p hp
  unfold gv_up
  by_cases h : p = n
  · rw [if_pos h, if_pos h, h]; exact ⟨hk, hk'⟩
  · rw [if_neg h, if_neg h]; exact hg p hp
/-- the world of the first object: its cell, lefts, rights, atLeast, atMost -/
abbrev gv_xW (h : Nat → Nat) (d : Nat → ClassId) (n : Nat) (kn : Int32) (L R : Nat → Nat) (fa fm : Nat → Int32) : va_W := [(h 0, .inr (0, [.int (nI n), .ref (h 1), .ref (h 2), .int kn, .ref (h 3), .ref (h 4)])), (h 1, .inl (d 1, 10, .inl (fun j => nI (L j)))), (h 2, .inl (d 2, 10, .inl (fun j => nI (R j)))), (h 3, .inl (d 3, 1000, .inl fa)), (h 4, .inl (d 4, 1000, .inl fm))]
abbrev gv_xT (d : Nat → ClassId) : List (ClassId × FieldType) := [(d 1, .short), (d 2, .short), (d 3, .boolean), (d 4, .boolean)]
/-- the world of the reference: its cell, goes, won, deep -/
abbrev gv_mW (h : Nat → Nat) (d : Nat → ClassId) (n : Nat) (L R : Nat → Nat) (fw fd : Nat → Int32) : va_W := [(h 0, .inr (1, [.int (nI n), .ref (h 1), .ref (h 2), .ref (h 3)])), (h 1, .inl (d 1, 20, .inl (fun j => nI (gv_G L R j)))), (h 2, .inl (d 2, 2000, .inl fw)), (h 3, .inl (d 3, 10, .inl fd))]
abbrev gv_mT (d : Nat → ClassId) : List (ClassId × FieldType) := [(d 1, .int), (d 2, .boolean), (d 3, .int)]
abbrev gv_xB (dC : Nat → ClassId) (dI : Nat → Nat → Nat) (h : Nat → Nat) (d : Nat → ClassId) (n : Nat) (L R : Nat → Nat) (A : Nat → Prop) (u : Int32 × (Nat → Int32) × (Nat → Int32)) (t : State) : Prop := va_P (dC, dI) gv_cl (gv_xW h d n u.1 L R u.2.1 u.2.2) t.heap ∧ va_K (dC, dI) gv_cl (gv_xT d) t ∧ va_D A (gv_xW h d n u.1 L R u.2.1 u.2.2)
abbrev gv_mB (dC : Nat → ClassId) (dI : Nat → Nat → Nat) (h : Nat → Nat) (d : Nat → ClassId) (n : Nat) (L R : Nat → Nat) (A : Nat → Prop) (u : (Nat → Int32) × (Nat → Int32)) (t : State) : Prop := va_P (dC, dI) gv_cl (gv_mW h d n L R u.1 u.2) t.heap ∧ va_K (dC, dI) gv_cl (gv_mT d) t ∧ va_D A (gv_mW h d n L R u.1 u.2)
/-- the tables hold what they should -/
def gv_tab (n : Nat) (L R : Nat → Nat) (fa fm : Nat → Int32) : Prop := ∀ p q r, p < n → q < n → r < n → fa ((p * 10 + q) * 10 + r) = gv_z (!gv_win L R 1 p q r) ∧ fm ((p * 10 + q) * 10 + r) = gv_z (!gv_win L R 0 p q r)
def gv_k (n : Nat) (L R : Nat → Nat) (kn : Int32) (fa fm : Nat → Int32) : Prop := kn = 0 ∨ kn = 1 ∧ gv_tab n L R fa fm
def gv_wtab (n : Nat) (L R : Nat → Nat) (fw : Nat → Int32) : Prop := ∀ a b c s, a < n → b < n → c < n → s < 2 → fw (200 * a + 20 * b + 2 * c + s) = gv_z (gv_win L R s a b c)
section GvRows
variable {p : Program} {l : Launch} {e : Env} {R : Room} {s : State} {m : MethodId} {args : Array Value} {below : List Frame} {meth : Method} {c : Code} {H : Heap} {locs : List Loc} {cells slots : Nat} {Q : State → Prop}
variable {pc : Nat} {ls : Array Slot} {rest : List Value}
theorem gv_top {x y : Int32} (h : x = y) (k : W p l e R s m args below meth c H locs cells slots Q (F0 m pc ls (.int y :: rest))) : W p l e R s m args below meth c H locs cells slots Q (F0 m pc ls (.int x :: rest)) := by
  rw [h]
  exact k
theorem gv_mid {g1 g2 : JFrame} (k : W p l e R s m args below meth c H locs cells slots Q g1) (h : W p l e R s m args below meth c H locs cells slots Q g1 → W p l e R s m args below meth c H locs cells slots Q g2) : W p l e R s m args below meth c H locs cells slots Q g2 := h k
theorem gv_midP {P : Prop} {g1 g2 : JFrame} (k : P → W p l e R s m args below meth c H locs cells slots Q g1) (h : (P → W p l e R s m args below meth c H locs cells slots Q g1) → W p l e R s m args below meth c H locs cells slots Q g2) : W p l e R s m args below meth c H locs cells slots Q g2 := h k
/-- a loop whose head is at pc: i goes from i0 to N -/
theorem gv_for {nL : Nat} (N : Nat) (J : Nat → Heap → List Loc → Prop) (lv : Nat → List (Nat × Value))
    (hend : ∀ (H : Heap) (locs : List Loc) (ls : Array Slot), J N H locs → lv_has ls nL (lv N) → W p l e R s m args below meth c H locs cells slots Q (F0 m pc ls []))
    (hstep : ∀ (i : Nat) (H : Heap) (locs : List Loc) (ls : Array Slot), i < N → J i H locs → lv_has ls nL (lv i) → (∀ (H : Heap) (locs : List Loc) (ls : Array Slot), J (i + 1) H locs → lv_has ls nL (lv (i + 1)) → W p l e R s m args below meth c H locs cells slots Q (F0 m pc ls [])) → W p l e R s m args below meth c H locs cells slots Q (F0 m pc ls []))
    (i0 : Nat) (hi : i0 ≤ N) (h0 : J i0 H locs) (hl : lv_has ls nL (lv i0)) : W p l e R s m args below meth c H locs cells slots Q (F0 m pc ls []) := by
  have key : ∀ (k i : Nat), i ≤ N → N ≤ i + k → ∀ (H : Heap) (locs : List Loc) (ls : Array Slot), J i H locs → lv_has ls nL (lv i) → W p l e R s m args below meth c H locs cells slots Q (F0 m pc ls []) := by
    intro k
    induction k with
    | zero =>
      intro i h1 h2 H locs ls h3 h4
      have e : i = N := by omega
      rw [e] at h3 h4
      exact hend H locs ls h3 h4
    | succ k ih =>
      intro i h1 h2 H locs ls h3 h4
      rcases Nat.lt_or_ge i N with q | q
      · exact hstep i H locs ls q h3 h4 (fun H locs ls h5 h6 => ih (i + 1) (by omega) (by omega) H locs ls h5 h6)
      · have e : i = N := by omega
        rw [e] at h3 h4
        exact hend H locs ls h3 h4
  exact key N i0 hi (by omega) H locs ls h0 hl
/-- a loop that leaves the heap alone -/
theorem gv_forS {nL : Nat} (N : Nat) (J : Nat → Prop) (lv : Nat → List (Nat × Value))
    (hend : ∀ (ls : Array Slot), J N → lv_has ls nL (lv N) → W p l e R s m args below meth c H locs cells slots Q (F0 m pc ls []))
    (hstep : ∀ (i : Nat) (ls : Array Slot), i < N → J i → lv_has ls nL (lv i) → (∀ (ls : Array Slot), J (i + 1) → lv_has ls nL (lv (i + 1)) → W p l e R s m args below meth c H locs cells slots Q (F0 m pc ls [])) → W p l e R s m args below meth c H locs cells slots Q (F0 m pc ls []))
    (i0 : Nat) (hi : i0 ≤ N) (h0 : J i0) (hl : lv_has ls nL (lv i0)) : W p l e R s m args below meth c H locs cells slots Q (F0 m pc ls []) := by
  have key : ∀ (k i : Nat), i ≤ N → N ≤ i + k → ∀ (ls : Array Slot), J i → lv_has ls nL (lv i) → W p l e R s m args below meth c H locs cells slots Q (F0 m pc ls []) := by
    intro k
    induction k with
    | zero =>
      intro i h1 h2 ls h3 h4
      have e : i = N := by omega
      rw [e] at h3 h4
      exact hend ls h3 h4
    | succ k ih =>
      intro i h1 h2 ls h3 h4
      rcases Nat.lt_or_ge i N with q | q
      · exact hstep i ls q h3 h4 (fun ls h5 h6 => ih (i + 1) (by omega) (by omega) ls h5 h6)
      · have e : i = N := by omega
        rw [e] at h3 h4
        exact hend ls h3 h4
  exact key N i0 hi (by omega) ls h0 hl
theorem gv_preS {As : List Value} : PreS s H (va_Pc As (fun _ => True)) As := ⟨fun _ _ _ _ q => q, fun _ _ _ => ⟨rfl, trivial⟩⟩
theorem gv_preV {D : va_G} {cl : List vw_C} {a ci : Nat} {C : String} {T : u_T} {N : Nat} {fs : List Value} {ws : va_W} {tys : List (ClassId × FieldType)} {As : List Value} (hK : va_K D cl tys s) (hP : va_P D cl ws H) (hc : cl[ci]? = some (C, T, N)) (he : ws[0]? = some (a, .inr (ci, fs))) : PreV s H C a (va_Pc (.ref a :: As) (fun U => va_P D cl ws U.heap ∧ va_K D cl tys U)) As :=
  ⟨fun v U g mk z => by obtain ⟨z0, z1, z2⟩ := z; exact ⟨z0, z1, va_K.moved (u := U) (U := U.calling g mk v) (Vm.Alike.refl U.vm) z2⟩, va_recv (q := (C, T, N)) hK hP hc he, fun U hU hW => ⟨rfl, by rw [hU]; exact hP, va_K.moved hW.alike hK⟩⟩
theorem gv_preD {A : Nat → Prop} {D : va_G} {cl : List vw_C} {a ci : Nat} {C : String} {T : u_T} {N : Nat} {fs : List Value} {ws : va_W} {tys : List (ClassId × FieldType)} {As : List Value} (hK : va_K D cl tys s) (hP : va_P D cl ws H) (hD : va_D A ws) (hc : cl[ci]? = some (C, T, N)) (he : ws[0]? = some (a, .inr (ci, fs))) : PreV s H C a (va_Pc (.ref a :: As) (fun U => U.heap.size = H.size ∧ va_P D cl ws U.heap ∧ va_K D cl tys U ∧ va_D (fun _ => True) ws)) As :=
  ⟨fun v U g mk z => by obtain ⟨z0, z1, z2, z3, z4⟩ := z; exact ⟨z0, z1, z2, va_K.moved (u := U) (U := U.calling g mk v) (Vm.Alike.refl U.vm) z3, z4⟩, va_recv (q := (C, T, N)) hK hP hc he, fun U hU hW => ⟨rfl, by rw [hU], by rw [hU]; exact hP, va_K.moved hW.alike hK, hD.weaken (fun _ _ _ _ => trivial)⟩⟩
end GvRows
end
section
/-! SPEC: what the methods answer, and the plain laws between the two -/
theorem gv_n0 {s : Nat} (hs : s < 2) (h : nI s = 0) : s = 0 := by
  rcases (show s = 0 ∨ s = 1 by omega) with rfl | rfl
  · rfl
  · exact absurd h (by decide)
theorem gv_n1 {s : Nat} (hs : s < 2) (h : ¬ nI s = 0) : s = 1 := by
  rcases (show s = 0 ∨ s = 1 by omega) with rfl | rfl
  · exact absurd (by decide) h
  · rfl
/-- moves -/
def gv_movR (n : Nat) (L R : Nat → Nat) (x y : Int32) : Int32 := if (gv_h n x && gv_sd y) = true then nI (gv_mv L R y.toNatClampNeg x.toNatClampNeg) else -1
theorem gv_movR_t {n : Nat} {L R : Nat → Nat} {k s : Nat} (h1 : gv_h n (nI k) = true) (h2 : gv_sd (nI s) = true) (hk : k < 2 ^ 31) (hs : s < 2 ^ 31) : gv_movR n L R (nI k) (nI s) = nI (gv_mv L R s k) := by
  unfold gv_movR
  rw [h1, h2, nI_clamp hk, nI_clamp hs]
  rfl
theorem gv_movR_f {n : Nat} {L R : Nat → Nat} {x y : Int32} (h : (gv_h n x && gv_sd y) = false) : gv_movR n L R x y = -1 := by
  unfold gv_movR
  rw [h]
  rfl
/-- how a sum stands to a third position -/
def gv_st (a b : Bool) : Int32 := cond a (cond b (nI 0) (nI 1)) (cond b (nI 2) (nI 3))
def gv_csR (n : Nat) (L R : Nat → Nat) (x y z : Int32) : Int32 := if (gv_h n x && gv_h n y && gv_h n z) = true then gv_st (!gv_win L R 1 x.toNatClampNeg y.toNatClampNeg z.toNatClampNeg) (!gv_win L R 0 x.toNatClampNeg y.toNatClampNeg z.toNatClampNeg) else -1
theorem gv_csR_t {n : Nat} {L R : Nat → Nat} {a b c : Nat} (h1 : gv_h n (nI a) = true) (h2 : gv_h n (nI b) = true) (h3 : gv_h n (nI c) = true) (ha : a < 2 ^ 31) (hb : b < 2 ^ 31) (hc : c < 2 ^ 31) : gv_csR n L R (nI a) (nI b) (nI c) = gv_st (!gv_win L R 1 a b c) (!gv_win L R 0 a b c) := by
  unfold gv_csR
  rw [h1, h2, h3, nI_clamp ha, nI_clamp hb, nI_clamp hc]
  rfl
theorem gv_csR_f {n : Nat} {L R : Nat → Nat} {x y z : Int32} (h : (gv_h n x && gv_h n y && gv_h n z) = false) : gv_csR n L R x y z = -1 := by
  unfold gv_csR
  rw [h]
  rfl
/-- the reference's compare -/
def gv_cmR (n : Nat) (L R : Nat → Nat) (x y : Int32) : Int32 := if (gv_h n x && gv_h n y) = true then gv_st (!gv_win L R 1 x.toNatClampNeg 0 y.toNatClampNeg) (!gv_win L R 1 y.toNatClampNeg 0 x.toNatClampNeg) else -1
theorem gv_cmR_t {n : Nat} {L R : Nat → Nat} {a b : Nat} (h1 : gv_h n (nI a) = true) (h2 : gv_h n (nI b) = true) (ha : a < 2 ^ 31) (hb : b < 2 ^ 31) : gv_cmR n L R (nI a) (nI b) = gv_st (!gv_win L R 1 a 0 b) (!gv_win L R 1 b 0 a) := by
  unfold gv_cmR
  rw [h1, h2, nI_clamp ha, nI_clamp hb]
  rfl
theorem gv_cmR_f {n : Nat} {L R : Nat → Nat} {x y : Int32} (h : (gv_h n x && gv_h n y) = false) : gv_cmR n L R x y = -1 := by
  unfold gv_cmR
  rw [h]
  rfl
theorem gv_cm_cs {L R : Nat → Nat} (hg : gv_ok L R) {n : Nat} (hn1 : 1 ≤ n) (hn : n ≤ 10) (x y : Int32) : gv_csR n L R x (nI 0) y = gv_cmR n L R x y := by
  unfold gv_csR gv_cmR
  rw [gv_hN (show 0 < n by omega) (by omega), Bool.and_true, nI_clamp (show 0 < 2 ^ 31 by decide), gv_sym hg]
/-- who wins a sum -/
def gv_wsR (n : Nat) (L R : Nat → Nat) (x y z : Int32) : Bool := gv_h n x && gv_h n y && gv_sd z && gv_win L R z.toNatClampNeg x.toNatClampNeg y.toNatClampNeg 0
theorem gv_wsR_t {n : Nat} {L R : Nat → Nat} {a b s : Nat} (h1 : gv_h n (nI a) = true) (h2 : gv_h n (nI b) = true) (h3 : gv_sd (nI s) = true) (ha : a < 2 ^ 31) (hb : b < 2 ^ 31) (hs : s < 2 ^ 31) : gv_wsR n L R (nI a) (nI b) (nI s) = gv_win L R s a b 0 := by
  unfold gv_wsR
  rw [h1, h2, h3, nI_clamp ha, nI_clamp hb, nI_clamp hs]
  rfl
theorem gv_wsR_f {n : Nat} {L R : Nat → Nat} {x y z : Int32} (h : (gv_h n x && gv_h n y && gv_sd z) = false) : gv_wsR n L R x y z = false := by
  unfold gv_wsR
  rw [h]
  rfl
/-- opposite -/
def gv_opR (n : Nat) (L R : Nat → Nat) (x y : Int32) : Bool := gv_h n x && gv_h n y && !gv_win L R 0 x.toNatClampNeg y.toNatClampNeg 0 && !gv_win L R 1 x.toNatClampNeg y.toNatClampNeg 0
theorem gv_opR_t {n : Nat} {L R : Nat → Nat} {a b : Nat} (h1 : gv_h n (nI a) = true) (h2 : gv_h n (nI b) = true) (ha : a < 2 ^ 31) (hb : b < 2 ^ 31) : gv_opR n L R (nI a) (nI b) = (!gv_win L R 0 a b 0 && !gv_win L R 1 a b 0) := by
  unfold gv_opR
  rw [h1, h2, nI_clamp ha, nI_clamp hb]
  rfl
theorem gv_opR_f {n : Nat} {L R : Nat → Nat} {x y : Int32} (h : (gv_h n x && gv_h n y) = false) : gv_opR n L R x y = false := by
  unfold gv_opR
  rw [h]
  rfl
theorem gv_op_cs {n : Nat} {L R : Nat → Nat} (hn1 : 1 ≤ n) (hn : n ≤ 10) (x y : Int32) : (gv_csR n L R x y (nI 0) = 0 → gv_opR n L R x y = true) ∧ (¬ gv_csR n L R x y (nI 0) = 0 → gv_opR n L R x y = false) := by
  unfold gv_csR gv_opR
  rw [gv_hN (show 0 < n by omega) (by omega), Bool.and_true, nI_clamp (show 0 < 2 ^ 31 by decide)]
  generalize gv_win L R 1 x.toNatClampNeg y.toNatClampNeg 0 = w1
  generalize gv_win L R 0 x.toNatClampNeg y.toNatClampNeg 0 = w0
  generalize gv_h n x = e1
  generalize gv_h n y = e2
  revert e1 e2 w0 w1
  decide
/-- as good for a side -/
def gv_ag (L R : Nat → Nat) (s y x : Nat) : Bool := if s = 0 then !gv_win L R 1 y 0 x else !gv_win L R 1 x 0 y
def gv_dm (L R : Nat → Nat) (s M x y : Nat) : Bool := (!decide (x = y) && M.testBit x && M.testBit y) && gv_ag L R s y x && (decide (y < x) || !gv_ag L R s x y)
def gv_dmf (L R : Nat → Nat) (s M n : Nat) : Nat → Bool := fun c => gv_dm L R s M (c / n) (c % n)
theorem gv_dmf_eq (L R : Nat → Nat) (s M : Nat) {n i j : Nat} (hj : j < n) : gv_dmf L R s M n (i * n + j) = gv_dm L R s M i j := by
  have e1 : (i * n + j) / n = i := by rw [Nat.add_comm, Nat.add_mul_div_right _ _ (by omega), Nat.div_eq_of_lt hj, Nat.zero_add]
  have e2 : (i * n + j) % n = j := by rw [Nat.add_comm, Nat.add_mul_mod_self_right, Nat.mod_eq_of_lt hj]
  show gv_dm L R s M ((i * n + j) / n) ((i * n + j) % n) = _
  rw [e1, e2]
theorem gv_dmg_eq {n i j : Nat} (hj : j < n) : (i * n + j) / n = i := by
  rw [Nat.add_comm, Nat.add_mul_div_right _ _ (by omega), Nat.div_eq_of_lt hj, Nat.zero_add]
theorem gv_dm_bits {L R : Nat → Nat} {s M x y : Nat} (h : gv_dm L R s M x y = true) : M.testBit x = true ∧ M.testBit y = true := by
  unfold gv_dm at h
  cases e1 : M.testBit x <;> cases e2 : M.testBit y <;> rw [e1, e2] at h <;> simp at h ⊢
theorem gv_dm_same {L R : Nat → Nat} {s M n k : Nat} (hM : M < 2 ^ k) (hk : k ≤ n) (hn : n ≤ 10) : gv_acc (gv_dmf L R s M n) (fun c => c / n) (n * n) = gv_acc (gv_dmf L R s M 10) (fun c => c / 10) 100 := by
  apply Nat.eq_of_testBit_eq
  intro b
  have key : (gv_acc (gv_dmf L R s M n) (fun c => c / n) (n * n)).testBit b = true ↔ (gv_acc (gv_dmf L R s M 10) (fun c => c / 10) 100).testBit b = true := by
    rw [gv_acc_bit, gv_acc_bit]
    constructor
    · rintro ⟨c, h1, h2, h3⟩
      have h3 : c / n = b := h3
      have h2 : gv_dm L R s M (c / n) (c % n) = true := h2
      obtain ⟨b1, b2⟩ := gv_dm_bits h2
      have l1 := gv_bitP hM b1
      have l2 := gv_bitP hM b2
      refine ⟨(c / n) * 10 + c % n, by omega, ?_, ?_⟩
      · rw [gv_dmf_eq L R s M (by omega)]; exact h2
      · show ((c / n) * 10 + c % n) / 10 = b
        omega
    · rintro ⟨c, h1, h2, h3⟩
      have h3 : c / 10 = b := h3
      have h2 : gv_dm L R s M (c / 10) (c % 10) = true := h2
      obtain ⟨b1, b2⟩ := gv_dm_bits h2
      have l1 := gv_bitP hM b1
      have l2 := gv_bitP hM b2
      refine ⟨(c / 10) * n + c % 10, ?_, ?_, ?_⟩
      · have : (c / 10) * n + n ≤ n * n := by
          rw [← Nat.succ_mul]
          exact Nat.mul_le_mul_right n (by omega)
        omega
      · rw [gv_dmf_eq L R s M (by omega)]; exact h2
      · show ((c / 10) * n + c % 10) / n = b
        rw [gv_dmg_eq (by omega)]
        exact h3
  cases e1 : (gv_acc (gv_dmf L R s M n) (fun c => c / n) (n * n)).testBit b with
  | true => exact (key.mp e1).symm
  | false =>
    cases e2 : (gv_acc (gv_dmf L R s M 10) (fun c => c / 10) 100).testBit b with
    | false => rfl
    | true => rw [key.mpr e2] at e1; cases e1
def gv_dmR (n : Nat) (L R : Nat → Nat) (x y : Int32) : Int32 := if (gv_h n x && gv_sd y) = true then nI (gv_acc (gv_dmf L R y.toNatClampNeg (gv_mv L R y.toNatClampNeg x.toNatClampNeg) 10) (fun c => c / 10) 100) else -1
theorem gv_dmR_t {n : Nat} {L R : Nat → Nat} {k s : Nat} (h1 : gv_h n (nI k) = true) (h2 : gv_sd (nI s) = true) (hk : k < 2 ^ 31) (hs : s < 2 ^ 31) : gv_dmR n L R (nI k) (nI s) = nI (gv_acc (gv_dmf L R s (gv_mv L R s k) 10) (fun c => c / 10) 100) := by
  unfold gv_dmR
  rw [h1, h2, nI_clamp hk, nI_clamp hs]
  rfl
theorem gv_dmR_f {n : Nat} {L R : Nat → Nat} {x y : Int32} (h : (gv_h n x && gv_sd y) = false) : gv_dmR n L R x y = -1 := by
  unfold gv_dmR
  rw [h]
  rfl
/-- the first position of the same value -/
def gv_fsR (n : Nat) (L R : Nat → Nat) (x : Int32) : Int32 := if gv_h n x = true then nI (gv_fq (gv_E L R x.toNatClampNeg) x.toNatClampNeg 0) else -1
theorem gv_fsR_t {n : Nat} {L R : Nat → Nat} {k : Nat} (h1 : gv_h n (nI k) = true) (hk : k < 2 ^ 31) : gv_fsR n L R (nI k) = nI (gv_fq (gv_E L R k) k 0) := by
  unfold gv_fsR
  rw [h1, nI_clamp hk]
  rfl
theorem gv_fsR_f {n : Nat} {L R : Nat → Nat} {x : Int32} (h : gv_h n x = false) : gv_fsR n L R x = -1 := by
  unfold gv_fsR
  rw [h]
  rfl
theorem gv_fq_le (E : Nat → Bool) : ∀ k q, gv_fq E k q ≤ q + k := by
  intro k
  induction k with
  | zero => intro q; exact Nat.le_refl _
  | succ k ih =>
    intro q
    show (if E q = true then q else gv_fq E k (q + 1)) ≤ q + (k + 1)
    split
    · omega
    · have := ih (q + 1); omega
def gv_vf (L R : Nat → Nat) : Nat → Bool := fun p => decide (gv_fq (gv_E L R p) p 0 = p)
/-- depth -/
def gv_dpR (n : Nat) (L R : Nat → Nat) (x : Int32) : Int32 := if gv_h n x = true then nI (gv_D L R x.toNatClampNeg) else -1
theorem gv_dpR_t {n : Nat} {L R : Nat → Nat} {k : Nat} (h1 : gv_h n (nI k) = true) (hk : k < 2 ^ 31) : gv_dpR n L R (nI k) = nI (gv_D L R k) := by
  unfold gv_dpR
  rw [h1, nI_clamp hk]
  rfl
theorem gv_dpR_f {n : Nat} {L R : Nat → Nat} {x : Int32} (h : gv_h n x = false) : gv_dpR n L R x = -1 := by
  unfold gv_dpR
  rw [h]
  rfl
/-- above -/
def gv_abf (L R : Nat → Nat) (p : Nat) : Nat → Bool := fun q => !gv_win L R 1 q 0 p
def gv_abR (n : Nat) (L R : Nat → Nat) (x : Int32) : Int32 := if gv_h n x = true then nI (gv_acc (gv_abf L R x.toNatClampNeg) (fun q => q) n) else -1
theorem gv_abR_t {n : Nat} {L R : Nat → Nat} {k : Nat} (h1 : gv_h n (nI k) = true) (hk : k < 2 ^ 31) : gv_abR n L R (nI k) = nI (gv_acc (gv_abf L R k) (fun q => q) n) := by
  unfold gv_abR
  rw [h1, nI_clamp hk]
  rfl
theorem gv_abR_f {n : Nat} {L R : Nat → Nat} {x : Int32} (h : gv_h n x = false) : gv_abR n L R x = -1 := by
  unfold gv_abR
  rw [h]
  rfl
/-- add -/
def gv_adC (n : Nat) (x y : Int32) : Bool := gv_s n x && gv_s n y
def gv_adR (n : Nat) (x y : Int32) : Int32 := if gv_adC n x y = true then (if n < 10 then nI n else -2) else -1
def gv_adN (n : Nat) (x y : Int32) : Nat := if gv_adC n x y = true then (if n < 10 then n + 1 else n) else n
def gv_adL (n : Nat) (L : Nat → Nat) (x y z : Int32) : Nat → Nat := if gv_adC n x y = true then (if n < 10 then gv_up L n z.toNatClampNeg else L) else L
theorem gv_ad_bad {n : Nat} {x y : Int32} (h : gv_adC n x y = false) : gv_adR n x y = -1 ∧ gv_adN n x y = n ∧ ∀ (L : Nat → Nat) (z : Int32), gv_adL n L x y z = L := by
  unfold gv_adR gv_adN gv_adL
  rw [h]
  exact ⟨rfl, rfl, fun _ _ => rfl⟩
theorem gv_ad_full {n : Nat} {x y : Int32} (h : gv_adC n x y = true) (hn : ¬ n < 10) : gv_adR n x y = -2 ∧ gv_adN n x y = n ∧ ∀ (L : Nat → Nat) (z : Int32), gv_adL n L x y z = L := by
  unfold gv_adR gv_adN gv_adL
  rw [h]
  exact ⟨if_neg hn, if_neg hn, fun _ _ => if_neg hn⟩
theorem gv_ad_ok {n : Nat} {x y : Int32} (h : gv_adC n x y = true) (hn : n < 10) : gv_adR n x y = nI n ∧ gv_adN n x y = n + 1 ∧ ∀ (L : Nat → Nat) (z : Int32), gv_adL n L x y z = gv_up L n z.toNatClampNeg := by
  unfold gv_adR gv_adN gv_adL
  rw [h]
  exact ⟨if_pos hn, if_pos hn, fun _ _ => if_pos hn⟩
theorem gv_ad_keep {n : Nat} {x y : Int32} {L R : Nat → Nat} (hn1 : 1 ≤ n) (hn : n ≤ 10) (hg : gv_ok L R) : 1 ≤ gv_adN n x y ∧ gv_adN n x y ≤ 10 ∧ gv_ok (gv_adL n L x y x) (gv_adL n R x y y) := by
  cases h : gv_adC n x y with
  | false =>
    obtain ⟨-, e2, e3⟩ := gv_ad_bad h
    rw [e2, e3, e3]
    exact ⟨hn1, hn, hg⟩
  | true =>
    by_cases h2 : n < 10
    · obtain ⟨-, e2, e3⟩ := gv_ad_ok h h2
      rw [e2, e3, e3]
      unfold gv_adC at h
      rw [Bool.and_eq_true] at h
      obtain ⟨k, hk, rfl⟩ := gv_sT h.1 hn
      obtain ⟨k', hk', rfl⟩ := gv_sT h.2 hn
      have := gv_p10 hn
      rw [nI_clamp (by omega), nI_clamp (by omega)]
      exact ⟨by omega, by omega, gv_ok_up hg hk hk'⟩
    · obtain ⟨-, e2, e3⟩ := gv_ad_full h h2
      rw [e2, e3, e3]
      exact ⟨hn1, hn, hg⟩
/-- drop -/
def gv_drN (n : Nat) : Nat := if n = 1 then 1 else n - 1
def gv_drR (n : Nat) : Int32 := if n = 1 then -1 else nI (n - 1)
/-! the tables while they are being filled -/
def gv_tabI (n : Nat) (L R : Nat → Nat) (fa fm : Nat → Int32) (i : Nat) : Prop := ∀ p q r, p < n → q < n → r < n → (p * n + q) * n + r < i → fa ((p * 10 + q) * 10 + r) = gv_z (!gv_win L R 1 p q r) ∧ fm ((p * 10 + q) * 10 + r) = gv_z (!gv_win L R 0 p q r)
theorem gv_n3 {n : Nat} (hn : n ≤ 10) : n * n * n ≤ 1000 := Nat.mul_le_mul (Nat.mul_le_mul hn hn) hn
theorem gv_n2 {n : Nat} (hn : n ≤ 10) : n * n ≤ 100 := Nat.mul_le_mul hn hn
theorem gv_ix_lt {n p q r : Nat} (hp : p < n) (hq : q < n) (hr : r < n) : (p * n + q) * n + r < n * n * n := by
  have h1 : p * n + n ≤ n * n := by rw [← Nat.succ_mul]; exact Nat.mul_le_mul_right n hp
  have h2 : (p * n + q) * n + n ≤ n * n * n := by rw [← Nat.succ_mul]; exact Nat.mul_le_mul_right n (by omega)
  omega
theorem gv_split {n i : Nat} (hn : 1 ≤ n) (hi : i < n * n * n) : ∃ p q r, p < n ∧ q < n ∧ r < n ∧ (p * n + q) * n + r = i ∧ i / (n * n) = p ∧ i / n % n = q ∧ i % n = r := by
  refine ⟨i / (n * n), i / n % n, i % n, ?_, Nat.mod_lt _ hn, Nat.mod_lt _ hn, ?_, rfl, rfl, rfl⟩
  · exact Nat.div_lt_of_lt_mul hi
  · rw [← Nat.div_div_eq_div_mul, Nat.div_add_mod', Nat.div_add_mod']
theorem gv_dec {n i p q r : Nat} (hq : q < n) (hr : r < n) (e : (p * n + q) * n + r = i) : i / n / n = p ∧ i / n % n = q ∧ i % n = r := by
  subst e
  have e1 : ((p * n + q) * n + r) / n = p * n + q := gv_dmg_eq hr
  have e2 : ((p * n + q) * n + r) % n = r := by rw [Nat.add_comm, Nat.add_mul_mod_self_right, Nat.mod_eq_of_lt hr]
  rw [e1, e2]
  exact ⟨gv_dmg_eq hq, by rw [Nat.add_comm, Nat.add_mul_mod_self_right, Nat.mod_eq_of_lt hq], rfl⟩
theorem gv_ix_inj {n p q r p' q' r' : Nat} (hq : q < n) (hr : r < n) (hq' : q' < n) (hr' : r' < n) (e : (p * n + q) * n + r = (p' * n + q') * n + r') : p = p' ∧ q = q' ∧ r = r' := by
  obtain ⟨a1, a2, a3⟩ := gv_dec hq hr rfl
  obtain ⟨b1, b2, b3⟩ := gv_dec hq' hr' e.symm
  exact ⟨a1.symm.trans b1, a2.symm.trans b2, a3.symm.trans b3⟩
theorem gv_tabI_step {n : Nat} {L R : Nat → Nat} {fa fm : Nat → Int32} {i a b c : Nat} (hn : n ≤ 10) (h : gv_tabI n L R fa fm i) (ha : a < n) (hb : b < n) (hc : c < n) (e : (a * n + b) * n + c = i) : gv_tabI n L R (upd fa ((a * 10 + b) * 10 + c) (gv_z (!gv_win L R 1 a b c))) (upd fm ((a * 10 + b) * 10 + c) (gv_z (!gv_win L R 0 a b c))) (i + 1) := by
  intro p q r hp hq hr hlt
  by_cases w : (p * 10 + q) * 10 + r = (a * 10 + b) * 10 + c
  · have e1 : p = a := by omega
    have e2 : q = b := by omega
    have e3 : r = c := by omega
    subst e1 e2 e3
    rw [pk_us, pk_us]
    exact ⟨rfl, rfl⟩
  · rw [pk_un w, pk_un w]
    refine h p q r hp hq hr ?_
    rcases Nat.lt_or_ge ((p * n + q) * n + r) i with z | z
    · exact z
    · obtain ⟨e1, e2, e3⟩ := gv_ix_inj hq hr hb hc (show (p * n + q) * n + r = (a * n + b) * n + c by omega)
      subst e1 e2 e3
      exact absurd rfl w
theorem gv_tabI_m {n : Nat} {L R : Nat → Nat} {fa fm : Nat → Int32} {i a b c : Nat} (h : gv_tabI n L R fa fm i) (ha : a < n) (hb : b < n) (hc : c < n) (e : (a * n + b) * n + c = i) : ∀ x, (x < a → fm ((x * 10 + b) * 10 + c) = gv_z (!gv_win L R 0 x b c)) ∧ (x < b → fm ((a * 10 + x) * 10 + c) = gv_z (!gv_win L R 0 a x c)) ∧ (x < c → fm ((a * 10 + b) * 10 + x) = gv_z (!gv_win L R 0 a b x)) := by
  intro x
  refine ⟨fun hx => (h x b c (by omega) hb hc ?_).2, fun hx => (h a x c ha (by omega) hc ?_).2, fun hx => (h a b x ha hb (by omega) (by omega)).2⟩
  · have h1 : x * n + n ≤ a * n := by rw [← Nat.succ_mul]; exact Nat.mul_le_mul_right n hx
    have h2 : (x * n + b) * n < (a * n + b) * n := Nat.mul_lt_mul_of_pos_right (by omega) (by omega)
    omega
  · have h2 : (a * n + x) * n < (a * n + b) * n := Nat.mul_lt_mul_of_pos_right (by omega) (by omega)
    omega
theorem gv_tabI_a {n : Nat} {L R : Nat → Nat} {fa fm : Nat → Int32} {i a b c : Nat} {v : Int32} (hn : n ≤ 10) (h : gv_tabI n L R fa fm i) (ha : a < n) (hb : b < n) (hc : c < n) (e : (a * n + b) * n + c = i) : ∀ x, (x < a → upd fa ((a * 10 + b) * 10 + c) v ((x * 10 + b) * 10 + c) = gv_z (!gv_win L R 1 x b c)) ∧ (x < b → upd fa ((a * 10 + b) * 10 + c) v ((a * 10 + x) * 10 + c) = gv_z (!gv_win L R 1 a x c)) ∧ (x < c → upd fa ((a * 10 + b) * 10 + c) v ((a * 10 + b) * 10 + x) = gv_z (!gv_win L R 1 a b x)) := by
  intro x
  refine ⟨fun hx => ?_, fun hx => ?_, fun hx => ?_⟩
  · rw [pk_un (by omega)]
    refine (h x b c (by omega) hb hc ?_).1
    have h1 : x * n + n ≤ a * n := by rw [← Nat.succ_mul]; exact Nat.mul_le_mul_right n hx
    have h2 : (x * n + b) * n < (a * n + b) * n := Nat.mul_lt_mul_of_pos_right (by omega) (by omega)
    omega
  · rw [pk_un (by omega)]
    refine (h a x c ha (by omega) hc ?_).1
    have h2 : (a * n + x) * n < (a * n + b) * n := Nat.mul_lt_mul_of_pos_right (by omega) (by omega)
    omega
  · rw [pk_un (by omega)]
    exact (h a b x ha hb (by omega) (by omega)).1
/-! the reference's table -/
def gv_wI (n : Nat) (L R : Nat → Nat) (fw : Nat → Int32) (i : Nat) : Prop := ∀ a b c s, a < n → b < n → c < n → s < 2 → 100 * a + 10 * b + c < i → fw (200 * a + 20 * b + 2 * c + s) = gv_z (gv_win L R s a b c)
theorem gv_wI_skip {n : Nat} {L R : Nat → Nat} {fw : Nat → Int32} {i a b c : Nat} (hn : n ≤ 10) (h : gv_wI n L R fw i) (hb : b < 10) (hc : c < 10) (e : 100 * a + 10 * b + c = i) (hx : ¬ (a < n ∧ b < n ∧ c < n)) : gv_wI n L R fw (i + 1) := by
  intro a' b' c' s ha' hb' hc' hs hlt
  refine h a' b' c' s ha' hb' hc' hs ?_
  rcases Nat.lt_or_ge (100 * a' + 10 * b' + c') i with z | z
  · exact z
  · exact absurd ⟨by omega, by omega, by omega⟩ hx
theorem gv_wI_step {n : Nat} {L R : Nat → Nat} {fw : Nat → Int32} {i a b c : Nat} (hn : n ≤ 10) (h : gv_wI n L R fw i) (ha : a < n) (hb : b < n) (hc : c < n) (e : 100 * a + 10 * b + c = i) : gv_wI n L R (upd (upd fw (200 * a + 20 * b + 2 * c + 0) (gv_z (gv_win L R 0 a b c))) (200 * a + 20 * b + 2 * c + 1) (gv_z (gv_win L R 1 a b c))) (i + 1) := by
  intro a' b' c' s ha' hb' hc' hs hlt
  by_cases w1 : 200 * a' + 20 * b' + 2 * c' + s = 200 * a + 20 * b + 2 * c + 1
  · have e1 : a' = a := by omega
    have e2 : b' = b := by omega
    have e3 : c' = c := by omega
    have e4 : s = 1 := by omega
    subst e1 e2 e3 e4
    rw [pk_us]
  · rw [pk_un w1]
    by_cases w0 : 200 * a' + 20 * b' + 2 * c' + s = 200 * a + 20 * b + 2 * c + 0
    · have e1 : a' = a := by omega
      have e2 : b' = b := by omega
      have e3 : c' = c := by omega
      have e4 : s = 0 := by omega
      subst e1 e2 e3 e4
      rw [pk_us]
    · rw [pk_un w0]
      exact h a' b' c' s ha' hb' hc' hs (by omega)
/-- what canWin needs of the table -/
def gv_wlow (L R : Nat → Nat) (fw : Nat → Int32) (a b c s : Nat) : Prop := ∀ x, (x < a → fw (200 * x + 20 * b + 2 * c + s) = gv_z (gv_win L R s x b c)) ∧ (x < b → fw (200 * a + 20 * x + 2 * c + s) = gv_z (gv_win L R s a x c)) ∧ (x < c → fw (200 * a + 20 * b + 2 * x + s) = gv_z (gv_win L R s a b x))
theorem gv_wlow_of {n : Nat} {L R : Nat → Nat} {fw : Nat → Int32} {i a b c s : Nat} (hn : n ≤ 10) (h : gv_wI n L R fw i) (ha : a < n) (hb : b < n) (hc : c < n) (hs : s < 2) (e : 100 * a + 10 * b + c = i) : gv_wlow L R fw a b c s := by
  intro x
  exact ⟨fun hx => h x b c s (by omega) hb hc hs (by omega), fun hx => h a x c s ha (by omega) hc hs (by omega), fun hx => h a b x s ha hb (by omega) hs (by omega)⟩
theorem gv_wlow_up {L R : Nat → Nat} {fw : Nat → Int32} {a b c s s' : Nat} {v : Int32} (hs : s < 2) (hs' : s' < 2) (hb : b < 10) (hc : c < 10) (h : gv_wlow L R fw a b c s) : gv_wlow L R (upd fw (200 * a + 20 * b + 2 * c + s') v) a b c s := by
  intro x
  refine ⟨fun hx => ?_, fun hx => ?_, fun hx => ?_⟩
  · rw [pk_un (by omega)]; exact (h x).1 hx
  · rw [pk_un (by omega)]; exact (h x).2.1 hx
  · rw [pk_un (by omega)]; exact (h x).2.2 hx
end
section
theorem gv_nt {w : Bool} (h : (!w) = true) : w = false := by cases w; rfl; cases h
theorem gv_nf {w : Bool} (h : (!w) = false) : w = true := by cases w; cases h; rfl
end
section
set_option maxHeartbeats 4000000 in
set_option maxRecDepth 100000 in
/-- cell: (p * 10 + q) * 10 + r -/
theorem gv_x_cell (l : Launch) (a1 a2 a3 : Nat) : Met l yX0_cell (ws_ yX0_cell cX0_cell 3 (some .int)) ({ frames := 0, cells := 0, slots := 0, locals := 0 }) (va_Pc [.int (nI a1), .int (nI a2), .int (nI a3)] (fun _ => True)) (vp_Si (fun r => r = nI ((a1 * 10 + a2) * 10 + a3))) 0 0 (fun _ => False) := by
  refine Met.ofW (cc := cX0_cell) (maxL := 3) (ret := (some .int)) (by decide) rfl ?_
  intro p e s m args below meth c s₁ B hml hv
  obtain ⟨rfl, -⟩ := hv
  have hx := B.exec
  have hb := B.bytes
  have hr := B.returns
  have hts := atoms_spec (ws := ws_ yX0_cell cX0_cell 3 (some .int)) B.pre
  have hts : ∀ w ∈ lw_all, w.before _ s = true := fun w h => hts w (List.mem_cons_of_mem _ h)
  have hown : s.vm.findClass RX0 = some m.cls := findClass_of_methodNamed B.named
  have hlocks := B.notSynchronized
  have hl := lv_entry ([.int (nI a1), .int (nI a2), .int (nI a3)]) (n := 3) (Nat.le_of_ble_eq_true rfl)
  rw [lg_entry_eq]
  generalize (lg_sl ([.int (nI a1), .int (nI a2), .int (nI a3)]) ++ List.replicate (3 - (lg_sl ([.int (nI a1), .int (nI a2), .int (nI a3)])).length) Slot.unset).toArray = ls at hl ⊢
  have hl : lv_has ls 3 [(0, .int (nI a1)), (1, .int (nI a2)), (2, .int (nI a3))] := hl
  refine lv_iload_n hx hb dX0_cell_0 rfl (lv_at hl 0 rfl) ?_
  refine lv_bipush (v := nI 10) hx hb dX0_cell_1 (by decide) ?_
  refine lv_imul hx hb dX0_cell_3 ?_
  refine gv_top (y := nI (a1 * 10)) (pk_mul _ _) ?_
  refine lv_iload_n hx hb dX0_cell_4 rfl (lv_at hl 1 rfl) ?_
  refine lv_iadd hx hb dX0_cell_5 ?_
  refine gv_top (y := nI ((a1 * 10) + a2)) (nI_add _ _) ?_
  refine lv_bipush (v := nI 10) hx hb dX0_cell_6 (by decide) ?_
  refine lv_imul hx hb dX0_cell_8 ?_
  refine gv_top (y := nI (((a1 * 10) + a2) * 10)) (pk_mul _ _) ?_
  refine lv_iload_n hx hb dX0_cell_9 rfl (lv_at hl 2 rfl) ?_
  refine lv_iadd hx hb dX0_cell_10 ?_
  refine gv_top (y := nI ((((a1 * 10) + a2) * 10) + a3)) (nI_add _ _) ?_
  exact W.iret (v := nI ((((a1 * 10) + a2) * 10) + a3)) hx hb hr (fun t ht hW => ⟨_, rfl, rfl, ht⟩) (fun _ h => nomatch h) dX0_cell_11
set_option maxHeartbeats 4000000 in
set_option maxRecDepth 100000 in
/-- in: one bit -/
theorem gv_x_in (l : Launch) (S x : Nat) (hS1 : S < 2 ^ 31) (hx1 : x < 31) : Met l yX0_in (ws_ yX0_in cX0_in 2 (some .boolean)) ({ frames := 0, cells := 0, slots := 0, locals := 0 }) (va_Pc [.int (nI S), .int (nI x)] (fun _ => True)) (vp_Si (fun r => r = gv_z (S.testBit x))) 0 0 (fun _ => False) := by
  refine Met.ofW (cc := cX0_in) (maxL := 2) (ret := (some .boolean)) (by decide) rfl ?_
  intro p e s m args below meth c s₁ B hml hv
  obtain ⟨rfl, -⟩ := hv
  have hx := B.exec
  have hb := B.bytes
  have hr := B.returns
  have hts := atoms_spec (ws := ws_ yX0_in cX0_in 2 (some .boolean)) B.pre
  have hts : ∀ w ∈ lw_all, w.before _ s = true := fun w h => hts w (List.mem_cons_of_mem _ h)
  have hown : s.vm.findClass RX0 = some m.cls := findClass_of_methodNamed B.named
  have hlocks := B.notSynchronized
  have hl := lv_entry ([.int (nI S), .int (nI x)]) (n := 2) (Nat.le_of_ble_eq_true rfl)
  rw [lg_entry_eq]
  generalize (lg_sl ([.int (nI S), .int (nI x)]) ++ List.replicate (2 - (lg_sl ([.int (nI S), .int (nI x)])).length) Slot.unset).toArray = ls at hl ⊢
  have hl : lv_has ls 2 [(0, .int (nI S)), (1, .int (nI x))] := hl
  refine lv_iload_n hx hb dX0_in_0 rfl (lv_at hl 0 rfl) ?_
  refine lv_iload_n hx hb dX0_in_1 rfl (lv_at hl 1 rfl) ?_
  refine lv_ishr hx hb dX0_in_2 ?_
  refine lv_iconst (v := nI 1) hx hb dX0_in_3 (by decide) ?_
  refine lv_iand hx hb dX0_in_4 ?_
  refine gv_top (y := gv_z (S.testBit x)) (gv_bitI hS1 hx1) ?_
  refine lv_if_eq (tgt := 12) hx hb dX0_in_5 (by decide) (fun c1 => ?_) (fun c1 => ?_)
  · refine lv_iconst (v := nI 0) hx hb dX0_in_12 (by decide) ?_
    exact W.zret (v := nI 0) hx hb hr (rfl) (fun t ht hW => ⟨_, rfl, gv_a0 (gv_z0 c1), ht⟩) (fun _ h => nomatch h) dX0_in_13
  · refine lv_iconst (v := nI 1) hx hb dX0_in_8 (by decide) ?_
    refine lv_goto (tgt := 13) hx hb dX0_in_9 (by decide) ?_
    exact W.zret (v := nI 1) hx hb hr (rfl) (fun t ht hW => ⟨_, rfl, gv_a1 (gv_z1 c1), ht⟩) (fun _ h => nomatch h) dX0_in_13
set_option maxHeartbeats 4000000 in
set_option maxRecDepth 100000 in
/-- is it a position -/
theorem gv_x_has (l : Launch) (dC : Nat → ClassId) (dI : Nat → Nat → Nat) (h : Nat → Nat) (d : Nat → ClassId) (n : Nat) (kn : Int32) (L R : Nat → Nat) (fa fm : Nat → Int32) (x : Int32) : Met l yX0_has (ws_ yX0_has cX0_has 2 (some .boolean)) ({ frames := 0, cells := 0, slots := 0, locals := 0 }) (va_Pc [.ref (h 0), .int x] (fun U => va_P (dC, dI) gv_cl (gv_xW h d n kn L R fa fm) U.heap ∧ va_K (dC, dI) gv_cl (gv_xT d) U)) (vp_Si (fun r => r = gv_z (gv_h n x))) 0 0 (fun _ => False) := by
  refine Met.ofW (cc := cX0_has) (maxL := 2) (ret := (some .boolean)) (by decide) rfl ?_
  intro p e s m args below meth c s₁ B hml hv
  obtain ⟨rfl, hP, hK⟩ := hv
  have hx := B.exec
  have hb := B.bytes
  have hr := B.returns
  have hts := atoms_spec (ws := ws_ yX0_has cX0_has 2 (some .boolean)) B.pre
  have hts : ∀ w ∈ lw_all, w.before _ s = true := fun w h => hts w (List.mem_cons_of_mem _ h)
  have hown : s.vm.findClass RX0 = some m.cls := findClass_of_methodNamed B.named
  have hlocks := B.notSynchronized
  have hl := lv_entry ([.ref (h 0), .int x]) (n := 2) (Nat.le_of_ble_eq_true rfl)
  rw [lg_entry_eq]
  generalize (lg_sl ([.ref (h 0), .int x]) ++ List.replicate (2 - (lg_sl ([.ref (h 0), .int x])).length) Slot.unset).toArray = ls at hl ⊢
  have hl : lv_has ls 2 [(0, .ref (h 0)), (1, .int x)] := hl
  refine lv_iload_n hx hb dX0_has_0 rfl (lv_at hl 1 rfl) ?_
  refine lv_if_lt (tgt := 16) hx hb dX0_has_1 (by decide) (fun c1 => ?_) (fun c1 => ?_)
  · refine lv_iconst (v := nI 0) hx hb dX0_has_16 (by decide) ?_
    exact W.zret (v := nI 0) hx hb hr (rfl) (fun t ht hW => ⟨_, rfl, gv_a0 (by rw [gv_h, decide_eq_true c1]; rfl), ht⟩) (fun _ h => nomatch h) dX0_has_17
  · refine lv_iload_n hx hb dX0_has_4 rfl (lv_at hl 1 rfl) ?_
    refine lv_aload_n hx hb dX0_has_5 rfl (lv_at hl 0 rfl) ?_
    refine va_get (D := (dC, dI)) (ci := 0) (v := .int (nI n)) (C := RX0) (T := TX0) (N := 6) hx hb hts in_X0 hown hK hP 0 rfl rfl 0 (by decide) (hts _ q27) (fun _ h9 => h9) rfl dX0_has_6 ?_
    refine lv_icmp_ge (tgt := 16) hx hb dX0_has_9 (by decide) (fun c2 => ?_) (fun c2 => ?_)
    · refine lv_iconst (v := nI 0) hx hb dX0_has_16 (by decide) ?_
      exact W.zret (v := nI 0) hx hb hr (rfl) (fun t ht hW => ⟨_, rfl, gv_a0 (by rw [gv_h, decide_eq_true c2, Bool.not_true, Bool.and_false]), ht⟩) (fun _ h => nomatch h) dX0_has_17
    · refine lv_iconst (v := nI 1) hx hb dX0_has_12 (by decide) ?_
      refine lv_goto (tgt := 17) hx hb dX0_has_13 (by decide) ?_
      exact W.zret (v := nI 1) hx hb hr (rfl) (fun t ht hW => ⟨_, rfl, gv_a1 (by rw [gv_h, decide_eq_false c1, decide_eq_false c2]; rfl), ht⟩) (fun _ h => nomatch h) dX0_has_17
set_option maxHeartbeats 4000000 in
set_option maxRecDepth 100000 in
/-- is it a set of positions -/
theorem gv_x_isSet (l : Launch) (dC : Nat → ClassId) (dI : Nat → Nat → Nat) (h : Nat → Nat) (d : Nat → ClassId) (n : Nat) (kn : Int32) (L R : Nat → Nat) (fa fm : Nat → Int32) (x : Int32) (hn : n ≤ 10) : Met l yX0_isSet (ws_ yX0_isSet cX0_isSet 2 (some .boolean)) ({ frames := 0, cells := 0, slots := 0, locals := 0 }) (va_Pc [.ref (h 0), .int x] (fun U => va_P (dC, dI) gv_cl (gv_xW h d n kn L R fa fm) U.heap ∧ va_K (dC, dI) gv_cl (gv_xT d) U)) (vp_Si (fun r => r = gv_z (gv_s n x))) 0 0 (fun _ => False) := by
  refine Met.ofW (cc := cX0_isSet) (maxL := 2) (ret := (some .boolean)) (by decide) rfl ?_
  intro p e s m args below meth c s₁ B hml hv
  obtain ⟨rfl, hP, hK⟩ := hv
  have hx := B.exec
  have hb := B.bytes
  have hr := B.returns
  have hts := atoms_spec (ws := ws_ yX0_isSet cX0_isSet 2 (some .boolean)) B.pre
  have hts : ∀ w ∈ lw_all, w.before _ s = true := fun w h => hts w (List.mem_cons_of_mem _ h)
  have hown : s.vm.findClass RX0 = some m.cls := findClass_of_methodNamed B.named
  have hlocks := B.notSynchronized
  have hl := lv_entry ([.ref (h 0), .int x]) (n := 2) (Nat.le_of_ble_eq_true rfl)
  rw [lg_entry_eq]
  generalize (lg_sl ([.ref (h 0), .int x]) ++ List.replicate (2 - (lg_sl ([.ref (h 0), .int x])).length) Slot.unset).toArray = ls at hl ⊢
  have hl : lv_has ls 2 [(0, .ref (h 0)), (1, .int x)] := hl
  refine lv_iload_n hx hb dX0_isSet_0 rfl (lv_at hl 1 rfl) ?_
  refine lv_if_lt (tgt := 18) hx hb dX0_isSet_1 (by decide) (fun c1 => ?_) (fun c1 => ?_)
  · refine lv_iconst (v := nI 0) hx hb dX0_isSet_18 (by decide) ?_
    exact W.zret (v := nI 0) hx hb hr (rfl) (fun t ht hW => ⟨_, rfl, gv_a0 (by rw [gv_s, decide_eq_true c1]; rfl), ht⟩) (fun _ h => nomatch h) dX0_isSet_19
  · refine lv_iload_n hx hb dX0_isSet_4 rfl (lv_at hl 1 rfl) ?_
    refine lv_iconst (v := nI 1) hx hb dX0_isSet_5 (by decide) ?_
    refine lv_aload_n hx hb dX0_isSet_6 rfl (lv_at hl 0 rfl) ?_
    refine va_get (D := (dC, dI)) (ci := 0) (v := .int (nI n)) (C := RX0) (T := TX0) (N := 6) hx hb hts in_X0 hown hK hP 0 rfl rfl 0 (by decide) (hts _ q27) (fun _ h9 => h9) rfl dX0_isSet_7 ?_
    refine lv_ishl hx hb dX0_isSet_10 ?_
    refine gv_top (y := nI (2 ^ n)) (gv_shl (by omega)) ?_
    refine lv_icmp_ge (tgt := 18) hx hb dX0_isSet_11 (by decide) (fun c2 => ?_) (fun c2 => ?_)
    · refine lv_iconst (v := nI 0) hx hb dX0_isSet_18 (by decide) ?_
      exact W.zret (v := nI 0) hx hb hr (rfl) (fun t ht hW => ⟨_, rfl, gv_a0 (by rw [gv_s, decide_eq_true c2, Bool.not_true, Bool.and_false]), ht⟩) (fun _ h => nomatch h) dX0_isSet_19
    · refine lv_iconst (v := nI 1) hx hb dX0_isSet_14 (by decide) ?_
      refine lv_goto (tgt := 19) hx hb dX0_isSet_15 (by decide) ?_
      exact W.zret (v := nI 1) hx hb hr (rfl) (fun t ht hW => ⟨_, rfl, gv_a1 (by rw [gv_s, decide_eq_false c1, decide_eq_false c2]; rfl), ht⟩) (fun _ h => nomatch h) dX0_isSet_19
set_option maxHeartbeats 4000000 in
set_option maxRecDepth 100000 in
/-- the moves of a side -/
theorem gv_x_movesOf (l : Launch) (dC : Nat → ClassId) (dI : Nat → Nat → Nat) (h : Nat → Nat) (d : Nat → ClassId) (n : Nat) (kn : Int32) (L R : Nat → Nat) (fa fm : Nat → Int32) (k s1 : Nat) (hk : k < 10) (hs : s1 < 2) : Met l yX0_movesOf (ws_ yX0_movesOf cX0_movesOf 3 (some .int)) ({ frames := 0, cells := 0, slots := 0, locals := 0 }) (va_Pc [.ref (h 0), .int (nI k), .int (nI s1)] (fun U => va_P (dC, dI) gv_cl (gv_xW h d n kn L R fa fm) U.heap ∧ va_K (dC, dI) gv_cl (gv_xT d) U)) (vp_Si (fun r => r = nI (gv_mv L R s1 k))) 0 0 (fun _ => False) := by
  refine Met.ofW (cc := cX0_movesOf) (maxL := 3) (ret := (some .int)) (by decide) rfl ?_
  intro p e s m args below meth c s₁ B hml hv
  obtain ⟨rfl, hP, hK⟩ := hv
  have hx := B.exec
  have hb := B.bytes
  have hr := B.returns
  have hts := atoms_spec (ws := ws_ yX0_movesOf cX0_movesOf 3 (some .int)) B.pre
  have hts : ∀ w ∈ lw_all, w.before _ s = true := fun w h => hts w (List.mem_cons_of_mem _ h)
  have hown : s.vm.findClass RX0 = some m.cls := findClass_of_methodNamed B.named
  have hlocks := B.notSynchronized
  have hl := lv_entry ([.ref (h 0), .int (nI k), .int (nI s1)]) (n := 3) (Nat.le_of_ble_eq_true rfl)
  rw [lg_entry_eq]
  generalize (lg_sl ([.ref (h 0), .int (nI k), .int (nI s1)]) ++ List.replicate (3 - (lg_sl ([.ref (h 0), .int (nI k), .int (nI s1)])).length) Slot.unset).toArray = ls at hl ⊢
  have hl : lv_has ls 3 [(0, .ref (h 0)), (1, .int (nI k)), (2, .int (nI s1))] := hl
  refine lv_iload_n hx hb dX0_movesOf_0 rfl (lv_at hl 2 rfl) ?_
  refine lv_if_ne (tgt := 13) hx hb dX0_movesOf_1 (by decide) (fun c1 => ?_) (fun c1 => ?_)
  · refine lv_aload_n hx hb dX0_movesOf_13 rfl (lv_at hl 0 rfl) ?_
    refine va_get (D := (dC, dI)) (ci := 0) (v := .ref (h 2)) (C := RX0) (T := TX0) (N := 6) hx hb hts in_X0 hown hK hP 0 rfl rfl 2 (by decide) (hts _ q29) (fun _ h9 => h9) rfl dX0_movesOf_14 ?_
    refine lv_iload_n hx hb dX0_movesOf_17 rfl (lv_at hl 1 rfl) ?_
    refine va_sald hx hb hK hP 2 1 rfl rfl (vp_in_nI (n := k) (by omega) (by decide)) dX0_movesOf_18 ?_
    refine gv_top (y := nI (R k)) (gv_ld (fun j => nI (R j)) (e := k) (by omega)) ?_
    exact W.iret (v := nI (R k)) hx hb hr (fun t ht hW => ⟨_, rfl, by rw [gv_n1 hs c1]; rfl, ht⟩) (fun _ h => nomatch h) dX0_movesOf_19
  · refine lv_aload_n hx hb dX0_movesOf_4 rfl (lv_at hl 0 rfl) ?_
    refine va_get (D := (dC, dI)) (ci := 0) (v := .ref (h 1)) (C := RX0) (T := TX0) (N := 6) hx hb hts in_X0 hown hK hP 0 rfl rfl 1 (by decide) (hts _ q28) (fun _ h9 => h9) rfl dX0_movesOf_5 ?_
    refine lv_iload_n hx hb dX0_movesOf_8 rfl (lv_at hl 1 rfl) ?_
    refine va_sald hx hb hK hP 1 0 rfl rfl (vp_in_nI (n := k) (by omega) (by decide)) dX0_movesOf_9 ?_
    refine gv_top (y := nI (L k)) (gv_ld (fun j => nI (L j)) (e := k) (by omega)) ?_
    refine lv_goto (tgt := 19) hx hb dX0_movesOf_10 (by decide) ?_
    exact W.iret (v := nI (L k)) hx hb hr (fun t ht hW => ⟨_, rfl, by rw [gv_n0 hs c1]; rfl, ht⟩) (fun _ h => nomatch h) dX0_movesOf_19
set_option maxHeartbeats 4000000 in
set_option maxRecDepth 100000 in
/-- moves -/
theorem gv_x_moves (l : Launch) (dC : Nat → ClassId) (dI : Nat → Nat → Nat) (h : Nat → Nat) (d : Nat → ClassId) (n : Nat) (kn : Int32) (L R : Nat → Nat) (fa fm : Nat → Int32) (x y : Int32) (hn : n ≤ 10) : Met l yX0_moves (ws_ yX0_moves cX0_moves 3 (some .int)) ({ frames := 1, cells := 0, slots := 0, locals := 22 }) (va_Pc [.ref (h 0), .int x, .int y] (fun U => va_P (dC, dI) gv_cl (gv_xW h d n kn L R fa fm) U.heap ∧ va_K (dC, dI) gv_cl (gv_xT d) U)) (vp_Si (fun r => r = gv_movR n L R x y)) 0 0 (fun _ => False) := by
  refine Met.ofW (cc := cX0_moves) (maxL := 3) (ret := (some .int)) (by decide) rfl ?_
  intro p e s m args below meth c s₁ B hml hv
  obtain ⟨rfl, hP, hK⟩ := hv
  have hx := B.exec
  have hb := B.bytes
  have hr := B.returns
  have hts := atoms_spec (ws := ws_ yX0_moves cX0_moves 3 (some .int)) B.pre
  have hts : ∀ w ∈ lw_all, w.before _ s = true := fun w h => hts w (List.mem_cons_of_mem _ h)
  have hown : s.vm.findClass RX0 = some m.cls := findClass_of_methodNamed B.named
  have hlocks := B.notSynchronized
  have hl := lv_entry ([.ref (h 0), .int x, .int y]) (n := 3) (Nat.le_of_ble_eq_true rfl)
  rw [lg_entry_eq]
  generalize (lg_sl ([.ref (h 0), .int x, .int y]) ++ List.replicate (3 - (lg_sl ([.ref (h 0), .int x, .int y])).length) Slot.unset).toArray = ls at hl ⊢
  have hl : lv_has ls 3 [(0, .ref (h 0)), (1, .int x), (2, .int y)] := hl
  refine lv_aload_n hx hb dX0_moves_0 rfl (lv_at hl 0 rfl) ?_
  refine lv_iload_n hx hb dX0_moves_1 rfl (lv_at hl 1 rfl) ?_
  refine vp_callSi (W.runV (As := [.int x]) (rest := []) ⟨hx, hb, hml, hown, hts⟩ (gv_x_has l dC dI h d n kn L R fa fm x) (cwV 1 hts (lw_V q68 q70 qs1 q17 q71) rfl rfl rfl (by decide +kernel) ⟨Nat.le_of_ble_eq_true rfl, Nat.le_of_ble_eq_true rfl⟩) (gv_preV (ci := 0) hK hP rfl rfl) rfl rfl hl.1 rfl (lv_room (Nat.le_of_ble_eq_true rfl)) dX0_moves_2 ⟨Nat.le_of_ble_eq_true rfl, Nat.le_of_ble_eq_true rfl⟩) (fun r er => ?_)
  subst er
  refine lv_if_eq (tgt := 26) hx hb dX0_moves_5 (by decide) (fun c1 => ?_) (fun c1 => ?_)
  · refine lv_iconst (v := (-1)) hx hb dX0_moves_26 (by decide) ?_
    exact W.iret (v := (-1)) hx hb hr (fun t ht hW => ⟨_, rfl, (gv_movR_f (by rw [gv_z0 c1]; rfl)).symm, ht⟩) (fun _ h => nomatch h) dX0_moves_27
  · refine lv_iload_n hx hb dX0_moves_8 rfl (lv_at hl 2 rfl) ?_
    refine gv_midP (P := gv_sd y = true) (g1 := F0 m 17 ls []) (fun hsd => ?_) (fun K17 => ?_)
    · have hh := gv_z1 c1
      obtain ⟨k1, hk1, rfl⟩ := gv_hT hh (by omega)
      obtain ⟨s1, hs1, rfl⟩ := gv_sdT hsd
      refine lv_aload_n hx hb dX0_moves_17 rfl (lv_at hl 0 rfl) ?_
      refine lv_iload_n hx hb dX0_moves_18 rfl (lv_at hl 1 rfl) ?_
      refine lv_iload_n hx hb dX0_moves_19 rfl (lv_at hl 2 rfl) ?_
      refine vp_callSi (W.runV (As := [.int (nI k1), .int (nI s1)]) (rest := []) ⟨hx, hb, hml, hown, hts⟩ (gv_x_movesOf l dC dI h d n kn L R fa fm k1 s1 (by omega) hs1) (cwV 2 hts (lw_V q72 q74 qs2 q17 q75) rfl rfl rfl (by decide +kernel) ⟨Nat.le_of_ble_eq_true rfl, Nat.le_of_ble_eq_true rfl⟩) (gv_preV (ci := 0) hK hP rfl rfl) rfl rfl hl.1 rfl (lv_room (Nat.le_of_ble_eq_true rfl)) dX0_moves_20 ⟨Nat.le_of_ble_eq_true rfl, Nat.le_of_ble_eq_true rfl⟩) (fun r er => ?_)
      subst er
      refine lv_goto (tgt := 27) hx hb dX0_moves_23 (by decide) ?_
      exact W.iret (v := nI (gv_mv L R s1 k1)) hx hb hr (fun t ht hW => ⟨_, rfl, (gv_movR_t hh hsd (by omega) (by omega)).symm, ht⟩) (fun _ h => nomatch h) dX0_moves_27
    · refine lv_if_eq (tgt := 17) hx hb dX0_moves_9 (by decide) (fun c2 => ?_) (fun c2 => ?_)
      · exact K17 (by rw [gv_sd, decide_eq_true c2]; rfl)
      · refine lv_iload_n hx hb dX0_moves_12 rfl (lv_at hl 2 rfl) ?_
        refine lv_iconst (v := nI 1) hx hb dX0_moves_13 (by decide) ?_
        refine lv_icmp_ne (tgt := 26) hx hb dX0_moves_14 (by decide) (fun c3 => ?_) (fun c3 => ?_)
        · refine lv_iconst (v := (-1)) hx hb dX0_moves_26 (by decide) ?_
          exact W.iret (v := (-1)) hx hb hr (fun t ht hW => ⟨_, rfl, (gv_movR_f (by rw [gv_sd, decide_eq_false c2, decide_eq_false c3, Bool.or_false, Bool.and_false])).symm, ht⟩) (fun _ h => nomatch h) dX0_moves_27
        · exact K17 (by rw [gv_sd, decide_eq_true c3, Bool.or_true])
end
section
set_option maxHeartbeats 4000000 in
set_option maxRecDepth 100000 in
/-- staysAbove -/
theorem gv_x_staysAbove (l : Launch) (dC : Nat → ClassId) (dI : Nat → Nat → Nat) (h : Nat → Nat) (d : Nat → ClassId) (n : Nat) (kn : Int32) (L R : Nat → Nat) (fa fm : Nat → Int32) (a1 a2 a3 : Nat) (hg : gv_ok L R) (hn : n ≤ 10) (h1 : a1 < n) (h2 : a2 < n) (h3 : a3 < n) (ht : ∀ x, (x < a1 → fm ((x * 10 + a2) * 10 + a3) = gv_z (!gv_win L R 0 x a2 a3)) ∧ (x < a2 → fm ((a1 * 10 + x) * 10 + a3) = gv_z (!gv_win L R 0 a1 x a3)) ∧ (x < a3 → fm ((a1 * 10 + a2) * 10 + x) = gv_z (!gv_win L R 0 a1 a2 x))) : Met l yX0_staysAbove (ws_ yX0_staysAbove cX0_staysAbove 8 (some .boolean)) ({ frames := 1, cells := 0, slots := 0, locals := 22 }) (va_Pc [.ref (h 0), .int (nI a1), .int (nI a2), .int (nI a3)] (fun U => va_P (dC, dI) gv_cl (gv_xW h d n kn L R fa fm) U.heap ∧ va_K (dC, dI) gv_cl (gv_xT d) U)) (vp_Si (fun r => r = gv_z (!gv_win L R 1 a1 a2 a3))) 0 0 (fun _ => False) := by
  refine Met.ofW (cc := cX0_staysAbove) (maxL := 8) (ret := (some .boolean)) (by decide) rfl ?_
  intro p e s m args below meth c s₁ B hml hv
  obtain ⟨rfl, hP, hK⟩ := hv
  have hx := B.exec
  have hb := B.bytes
  have hr := B.returns
  have hts := atoms_spec (ws := ws_ yX0_staysAbove cX0_staysAbove 8 (some .boolean)) B.pre
  have hts : ∀ w ∈ lw_all, w.before _ s = true := fun w h => hts w (List.mem_cons_of_mem _ h)
  have hown : s.vm.findClass RX0 = some m.cls := findClass_of_methodNamed B.named
  have hlocks := B.notSynchronized
  have hl := lv_entry ([.ref (h 0), .int (nI a1), .int (nI a2), .int (nI a3)]) (n := 8) (Nat.le_of_ble_eq_true rfl)
  rw [lg_entry_eq]
  generalize (lg_sl ([.ref (h 0), .int (nI a1), .int (nI a2), .int (nI a3)]) ++ List.replicate (8 - (lg_sl ([.ref (h 0), .int (nI a1), .int (nI a2), .int (nI a3)])).length) Slot.unset).toArray = ls at hl ⊢
  have hl : lv_has ls 8 [(0, .ref (h 0)), (1, .int (nI a1)), (2, .int (nI a2)), (3, .int (nI a3))] := hl
  refine lv_iconst (v := nI 0) hx hb dX0_staysAbove_0 (by decide) ?_
  refine lv_istore (lv' := [(4, .int (nI 0)), (0, .ref (h 0)), (1, .int (nI a1)), (2, .int (nI a2)), (3, .int (nI a3))]) hx hb dX0_staysAbove_1 hl (by decide) rfl (fun ls hl => ?_)
  refine gv_forS (nL := 8) n (fun i => ∀ x, x < i → gv_b L R 1 a1 a2 a3 x = false) (fun i => [(0, .ref (h 0)), (1, .int (nI a1)), (2, .int (nI a2)), (3, .int (nI a3)), (4, .int (nI i))]) ?_ ?_ 0 (Nat.zero_le _) (fun x h => absurd h (Nat.not_lt_zero _)) (lv_sub hl [1, 2, 3, 4, 0] rfl)
  · intro ls hJ hl
    have hl : lv_has ls 8 [(0, .ref (h 0)), (1, .int (nI a1)), (2, .int (nI a2)), (3, .int (nI a3)), (4, .int (nI n))] := hl
    refine lv_iload hx hb dX0_staysAbove_3 (lv_at hl 4 rfl) ?_
    refine lv_aload_n hx hb dX0_staysAbove_5 rfl (lv_at hl 0 rfl) ?_
    refine va_get (D := (dC, dI)) (ci := 0) (v := .int (nI n)) (C := RX0) (T := TX0) (N := 6) hx hb hts in_X0 hown hK hP 0 rfl rfl 0 (by decide) (hts _ q27) (fun _ h9 => h9) rfl dX0_staysAbove_6 ?_
    refine lv_icmp_ge (tgt := 143) hx hb dX0_staysAbove_9 (by decide) (fun c1 => ?_) (fun c1 => ?_)
    · refine lv_iconst (v := nI 1) hx hb dX0_staysAbove_143 (by decide) ?_
      exact W.zret (v := nI 1) hx hb hr (rfl) (fun t ht hW => ⟨_, rfl, gv_a1 (by rw [gv_win_f hg hn h1 h2 h3 hJ]; rfl), ht⟩) (fun _ h => nomatch h) dX0_staysAbove_144
    · exact absurd (Int32.le_refl _) c1
  · intro i ls hi hJ hl ih
    have hl : lv_has ls 8 [(0, .ref (h 0)), (1, .int (nI a1)), (2, .int (nI a2)), (3, .int (nI a3)), (4, .int (nI i))] := hl
    refine lv_iload hx hb dX0_staysAbove_3 (lv_at hl 4 rfl) ?_
    refine lv_aload_n hx hb dX0_staysAbove_5 rfl (lv_at hl 0 rfl) ?_
    refine va_get (D := (dC, dI)) (ci := 0) (v := .int (nI n)) (C := RX0) (T := TX0) (N := 6) hx hb hts in_X0 hown hK hP 0 rfl rfl 0 (by decide) (hts _ q27) (fun _ h9 => h9) rfl dX0_staysAbove_6 ?_
    refine lv_icmp_ge (tgt := 143) hx hb dX0_staysAbove_9 (by decide) (fun c1 => ?_) (fun c1 => ?_)
    · exact absurd c1 (nI_ge hi (by omega))
    · refine lv_aload_n hx hb dX0_staysAbove_12 rfl (lv_at hl 0 rfl) ?_
      refine va_get (D := (dC, dI)) (ci := 0) (v := .ref (h 2)) (C := RX0) (T := TX0) (N := 6) hx hb hts in_X0 hown hK hP 0 rfl rfl 2 (by decide) (hts _ q29) (fun _ h9 => h9) rfl dX0_staysAbove_13 ?_
      refine lv_iload_n hx hb dX0_staysAbove_16 rfl (lv_at hl 1 rfl) ?_
      refine va_sald hx hb hK hP 2 1 rfl rfl (vp_in_nI (n := a1) (by omega) (by decide)) dX0_staysAbove_17 ?_
      refine gv_top (y := nI (R a1)) (gv_ld (fun j => nI (R j)) (e := a1) (by omega)) ?_
      refine lv_iload hx hb dX0_staysAbove_18 (lv_at hl 4 rfl) ?_
      refine vp_callSi (W.runS (As := [.int (nI (R a1)), .int (nI i)]) (rest := []) ⟨hx, hb, hml, hown, hts⟩ (gv_x_in l (R a1) i (by have := gv_R_1024 hg (p := a1) (by omega); omega) (by omega)) (va_cwS 2 hts (lw_S q95 q96 q17 q97) rfl rfl rfl (by decide +kernel) ⟨Nat.le_of_ble_eq_true rfl, Nat.le_of_ble_eq_true rfl⟩) gv_preS rfl rfl hl.1 rfl (lv_room (Nat.le_of_ble_eq_true rfl)) dX0_staysAbove_20 ⟨Nat.le_of_ble_eq_true rfl, Nat.le_of_ble_eq_true rfl⟩) (fun r er => ?_)
      subst er
      refine gv_mid (g1 := F0 m 46 ls [.int (gv_z ((R a1).testBit i && !gv_win L R 0 i a2 a3))]) ?_ (fun K46 => ?_)
      · refine lv_istore (lv' := [(5, .int (gv_z ((R a1).testBit i && !gv_win L R 0 i a2 a3))), (0, .ref (h 0)), (1, .int (nI a1)), (2, .int (nI a2)), (3, .int (nI a3)), (4, .int (nI i))]) hx hb dX0_staysAbove_46 hl (by decide) rfl (fun ls hl => ?_)
        refine lv_aload_n hx hb dX0_staysAbove_48 rfl (lv_at hl 1 rfl) ?_
        refine va_get (D := (dC, dI)) (ci := 0) (v := .ref (h 2)) (C := RX0) (T := TX0) (N := 6) hx hb hts in_X0 hown hK hP 0 rfl rfl 2 (by decide) (hts _ q29) (fun _ h9 => h9) rfl dX0_staysAbove_49 ?_
        refine lv_iload_n hx hb dX0_staysAbove_52 rfl (lv_at hl 3 rfl) ?_
        refine va_sald hx hb hK hP 2 1 rfl rfl (vp_in_nI (n := a2) (by omega) (by decide)) dX0_staysAbove_53 ?_
        refine gv_top (y := nI (R a2)) (gv_ld (fun j => nI (R j)) (e := a2) (by omega)) ?_
        refine lv_iload hx hb dX0_staysAbove_54 (lv_at hl 5 rfl) ?_
        refine vp_callSi (W.runS (As := [.int (nI (R a2)), .int (nI i)]) (rest := []) ⟨hx, hb, hml, hown, hts⟩ (gv_x_in l (R a2) i (by have := gv_R_1024 hg (p := a2) (by omega); omega) (by omega)) (va_cwS 2 hts (lw_S q95 q96 q17 q97) rfl rfl rfl (by decide +kernel) ⟨Nat.le_of_ble_eq_true rfl, Nat.le_of_ble_eq_true rfl⟩) gv_preS rfl rfl hl.1 rfl (lv_room (Nat.le_of_ble_eq_true rfl)) dX0_staysAbove_56 ⟨Nat.le_of_ble_eq_true rfl, Nat.le_of_ble_eq_true rfl⟩) (fun r er => ?_)
        subst er
        refine gv_mid (g1 := F0 m 82 ls [.int (gv_z ((R a2).testBit i && !gv_win L R 0 a1 i a3))]) ?_ (fun K82 => ?_)
        · refine lv_istore (lv' := [(6, .int (gv_z ((R a2).testBit i && !gv_win L R 0 a1 i a3))), (5, .int (gv_z ((R a1).testBit i && !gv_win L R 0 i a2 a3))), (0, .ref (h 0)), (1, .int (nI a1)), (2, .int (nI a2)), (3, .int (nI a3)), (4, .int (nI i))]) hx hb dX0_staysAbove_82 hl (by decide) rfl (fun ls hl => ?_)
          refine lv_aload_n hx hb dX0_staysAbove_84 rfl (lv_at hl 2 rfl) ?_
          refine va_get (D := (dC, dI)) (ci := 0) (v := .ref (h 1)) (C := RX0) (T := TX0) (N := 6) hx hb hts in_X0 hown hK hP 0 rfl rfl 1 (by decide) (hts _ q28) (fun _ h9 => h9) rfl dX0_staysAbove_85 ?_
          refine lv_iload_n hx hb dX0_staysAbove_88 rfl (lv_at hl 5 rfl) ?_
          refine va_sald hx hb hK hP 1 0 rfl rfl (vp_in_nI (n := a3) (by omega) (by decide)) dX0_staysAbove_89 ?_
          refine gv_top (y := nI (L a3)) (gv_ld (fun j => nI (L j)) (e := a3) (by omega)) ?_
          refine lv_iload hx hb dX0_staysAbove_90 (lv_at hl 6 rfl) ?_
          refine vp_callSi (W.runS (As := [.int (nI (L a3)), .int (nI i)]) (rest := []) ⟨hx, hb, hml, hown, hts⟩ (gv_x_in l (L a3) i (by have := gv_L_1024 hg (p := a3) (by omega); omega) (by omega)) (va_cwS 2 hts (lw_S q95 q96 q17 q97) rfl rfl rfl (by decide +kernel) ⟨Nat.le_of_ble_eq_true rfl, Nat.le_of_ble_eq_true rfl⟩) gv_preS rfl rfl hl.1 rfl (lv_room (Nat.le_of_ble_eq_true rfl)) dX0_staysAbove_92 ⟨Nat.le_of_ble_eq_true rfl, Nat.le_of_ble_eq_true rfl⟩) (fun r er => ?_)
          subst er
          refine gv_mid (g1 := F0 m 118 ls [.int (gv_z ((L a3).testBit i && !gv_win L R 0 a1 a2 i))]) ?_ (fun K118 => ?_)
          · refine lv_istore (lv' := [(7, .int (gv_z ((L a3).testBit i && !gv_win L R 0 a1 a2 i))), (6, .int (gv_z ((R a2).testBit i && !gv_win L R 0 a1 i a3))), (5, .int (gv_z ((R a1).testBit i && !gv_win L R 0 i a2 a3))), (0, .ref (h 0)), (1, .int (nI a1)), (2, .int (nI a2)), (3, .int (nI a3)), (4, .int (nI i))]) hx hb dX0_staysAbove_118 hl (by decide) rfl (fun ls hl => ?_)
            refine gv_midP (P := gv_b L R 1 a1 a2 a3 i = true) (g1 := F0 m 135 ls []) (fun hb1 => ?_) (fun K135 => ?_)
            · refine lv_iconst (v := nI 0) hx hb dX0_staysAbove_135 (by decide) ?_
              exact W.zret (v := nI 0) hx hb hr (rfl) (fun t ht hW => ⟨_, rfl, gv_a0 (by rw [gv_win_t hg (x := i) (by omega) (by omega) (by omega) (by omega) hb1]; rfl), ht⟩) (fun _ h => nomatch h) dX0_staysAbove_136
            · refine lv_iload hx hb dX0_staysAbove_120 (lv_at hl 2 rfl) ?_
              refine lv_if_ne (tgt := 135) hx hb dX0_staysAbove_122 (by decide) (fun c5 => ?_) (fun c5 => ?_)
              · exact K135 (by show (((R a1).testBit i && !gv_win L R 0 i a2 a3) || ((R a2).testBit i && !gv_win L R 0 a1 i a3) || ((L a3).testBit i && !gv_win L R 0 a1 a2 i)) = true; rw [gv_z1 c5]; rfl)
              · refine lv_iload hx hb dX0_staysAbove_125 (lv_at hl 1 rfl) ?_
                refine lv_if_ne (tgt := 135) hx hb dX0_staysAbove_127 (by decide) (fun c6 => ?_) (fun c6 => ?_)
                · exact K135 (by show (((R a1).testBit i && !gv_win L R 0 i a2 a3) || ((R a2).testBit i && !gv_win L R 0 a1 i a3) || ((L a3).testBit i && !gv_win L R 0 a1 a2 i)) = true; rw [gv_z0 c5, gv_z1 c6]; rfl)
                · refine lv_iload hx hb dX0_staysAbove_130 (lv_at hl 0 rfl) ?_
                  refine lv_if_eq (tgt := 137) hx hb dX0_staysAbove_132 (by decide) (fun c7 => ?_) (fun c7 => ?_)
                  · refine lv_iinc (v := nI (i + 1)) (lv' := [(4, .int (nI (i + 1))), (7, .int (gv_z ((L a3).testBit i && !gv_win L R 0 a1 a2 i))), (6, .int (gv_z ((R a2).testBit i && !gv_win L R 0 a1 i a3))), (5, .int (gv_z ((R a1).testBit i && !gv_win L R 0 i a2 a3))), (0, .ref (h 0)), (1, .int (nI a1)), (2, .int (nI a2)), (3, .int (nI a3))]) hx hb dX0_staysAbove_137 hl (k := 7) rfl (gv_inc _) (by decide) rfl (fun ls hl => ?_)
                    refine lv_goto (tgt := 3) hx hb dX0_staysAbove_140 (by decide) ?_
                    exact ih ls (lt_s hJ (by show (((R a1).testBit i && !gv_win L R 0 i a2 a3) || ((R a2).testBit i && !gv_win L R 0 a1 i a3) || ((L a3).testBit i && !gv_win L R 0 a1 a2 i)) = false; rw [gv_z0 c5, gv_z0 c6, gv_z0 c7]; rfl)) (lv_sub hl [4, 5, 6, 7, 0] rfl)
                  · exact K135 (by show (((R a1).testBit i && !gv_win L R 0 i a2 a3) || ((R a2).testBit i && !gv_win L R 0 a1 i a3) || ((L a3).testBit i && !gv_win L R 0 a1 a2 i)) = true; rw [gv_z0 c5, gv_z0 c6, gv_z1 c7]; rfl)
          · refine lv_if_eq (tgt := 117) hx hb dX0_staysAbove_95 (by decide) (fun d1 => ?_) (fun d1 => ?_)
            · refine lv_iconst (v := nI 0) hx hb dX0_staysAbove_117 (by decide) ?_
              exact gv_top (gv_a0 (by rw [gv_z0 d1]; rfl)) K118
            · refine lv_aload_n hx hb dX0_staysAbove_98 rfl (lv_at hl 2 rfl) ?_
              refine va_get (D := (dC, dI)) (ci := 0) (v := .ref (h 4)) (C := RX0) (T := TX0) (N := 6) hx hb hts in_X0 hown hK hP 0 rfl rfl 5 (by decide) (hts _ q32) (fun _ h9 => h9) rfl dX0_staysAbove_99 ?_
              refine lv_iload_n hx hb dX0_staysAbove_102 rfl (lv_at hl 3 rfl) ?_
              refine lv_iload_n hx hb dX0_staysAbove_103 rfl (lv_at hl 4 rfl) ?_
              refine lv_iload hx hb dX0_staysAbove_104 (lv_at hl 6 rfl) ?_
              refine vp_callSi (W.runS (As := [.int (nI a1), .int (nI a2), .int (nI i)]) (rest := [.ref (h 4)]) ⟨hx, hb, hml, hown, hts⟩ (gv_x_cell l a1 a2 i) (va_cwS 3 hts (lw_S q88 q89 q17 q90) rfl rfl rfl (by decide +kernel) ⟨Nat.le_of_ble_eq_true rfl, Nat.le_of_ble_eq_true rfl⟩) gv_preS rfl rfl hl.1 rfl (lv_room (Nat.le_of_ble_eq_true rfl)) dX0_staysAbove_106 ⟨Nat.le_of_ble_eq_true rfl, Nat.le_of_ble_eq_true rfl⟩) (fun r er => ?_)
              subst er
              refine va_zald hx hb hK hP 4 3 rfl rfl (vp_in_nI (n := (a1 * 10 + a2) * 10 + i) (by omega) (by decide)) dX0_staysAbove_109 ?_
              refine gv_top (y := gv_z (!gv_win L R 0 a1 a2 i)) ((gv_ld fm (e := (a1 * 10 + a2) * 10 + i) (by omega)).trans ((ht i).2.2 (gv_bitP (hg a3 (by omega)).1 (gv_z1 d1)))) ?_
              refine lv_if_eq (tgt := 117) hx hb dX0_staysAbove_110 (by decide) (fun d2 => ?_) (fun d2 => ?_)
              · refine lv_iconst (v := nI 0) hx hb dX0_staysAbove_117 (by decide) ?_
                exact gv_top (gv_a0 (by rw [gv_z1 d1, gv_z0 d2]; rfl)) K118
              · refine lv_iconst (v := nI 1) hx hb dX0_staysAbove_113 (by decide) ?_
                refine lv_goto (tgt := 118) hx hb dX0_staysAbove_114 (by decide) ?_
                exact gv_top (gv_a1 (by rw [gv_z1 d1, gv_z1 d2]; rfl)) K118
        · refine lv_if_eq (tgt := 81) hx hb dX0_staysAbove_59 (by decide) (fun d1 => ?_) (fun d1 => ?_)
          · refine lv_iconst (v := nI 0) hx hb dX0_staysAbove_81 (by decide) ?_
            exact gv_top (gv_a0 (by rw [gv_z0 d1]; rfl)) K82
          · refine lv_aload_n hx hb dX0_staysAbove_62 rfl (lv_at hl 1 rfl) ?_
            refine va_get (D := (dC, dI)) (ci := 0) (v := .ref (h 4)) (C := RX0) (T := TX0) (N := 6) hx hb hts in_X0 hown hK hP 0 rfl rfl 5 (by decide) (hts _ q32) (fun _ h9 => h9) rfl dX0_staysAbove_63 ?_
            refine lv_iload_n hx hb dX0_staysAbove_66 rfl (lv_at hl 2 rfl) ?_
            refine lv_iload hx hb dX0_staysAbove_67 (lv_at hl 5 rfl) ?_
            refine lv_iload_n hx hb dX0_staysAbove_69 rfl (lv_at hl 4 rfl) ?_
            refine vp_callSi (W.runS (As := [.int (nI a1), .int (nI i), .int (nI a3)]) (rest := [.ref (h 4)]) ⟨hx, hb, hml, hown, hts⟩ (gv_x_cell l a1 i a3) (va_cwS 3 hts (lw_S q88 q89 q17 q90) rfl rfl rfl (by decide +kernel) ⟨Nat.le_of_ble_eq_true rfl, Nat.le_of_ble_eq_true rfl⟩) gv_preS rfl rfl hl.1 rfl (lv_room (Nat.le_of_ble_eq_true rfl)) dX0_staysAbove_70 ⟨Nat.le_of_ble_eq_true rfl, Nat.le_of_ble_eq_true rfl⟩) (fun r er => ?_)
            subst er
            refine va_zald hx hb hK hP 4 3 rfl rfl (vp_in_nI (n := (a1 * 10 + i) * 10 + a3) (by omega) (by decide)) dX0_staysAbove_73 ?_
            refine gv_top (y := gv_z (!gv_win L R 0 a1 i a3)) ((gv_ld fm (e := (a1 * 10 + i) * 10 + a3) (by omega)).trans ((ht i).2.1 (gv_bitP (hg a2 (by omega)).2 (gv_z1 d1)))) ?_
            refine lv_if_eq (tgt := 81) hx hb dX0_staysAbove_74 (by decide) (fun d2 => ?_) (fun d2 => ?_)
            · refine lv_iconst (v := nI 0) hx hb dX0_staysAbove_81 (by decide) ?_
              exact gv_top (gv_a0 (by rw [gv_z1 d1, gv_z0 d2]; rfl)) K82
            · refine lv_iconst (v := nI 1) hx hb dX0_staysAbove_77 (by decide) ?_
              refine lv_goto (tgt := 82) hx hb dX0_staysAbove_78 (by decide) ?_
              exact gv_top (gv_a1 (by rw [gv_z1 d1, gv_z1 d2]; rfl)) K82
      · refine lv_if_eq (tgt := 45) hx hb dX0_staysAbove_23 (by decide) (fun d1 => ?_) (fun d1 => ?_)
        · refine lv_iconst (v := nI 0) hx hb dX0_staysAbove_45 (by decide) ?_
          exact gv_top (gv_a0 (by rw [gv_z0 d1]; rfl)) K46
        · refine lv_aload_n hx hb dX0_staysAbove_26 rfl (lv_at hl 0 rfl) ?_
          refine va_get (D := (dC, dI)) (ci := 0) (v := .ref (h 4)) (C := RX0) (T := TX0) (N := 6) hx hb hts in_X0 hown hK hP 0 rfl rfl 5 (by decide) (hts _ q32) (fun _ h9 => h9) rfl dX0_staysAbove_27 ?_
          refine lv_iload hx hb dX0_staysAbove_30 (lv_at hl 4 rfl) ?_
          refine lv_iload_n hx hb dX0_staysAbove_32 rfl (lv_at hl 2 rfl) ?_
          refine lv_iload_n hx hb dX0_staysAbove_33 rfl (lv_at hl 3 rfl) ?_
          refine vp_callSi (W.runS (As := [.int (nI i), .int (nI a2), .int (nI a3)]) (rest := [.ref (h 4)]) ⟨hx, hb, hml, hown, hts⟩ (gv_x_cell l i a2 a3) (va_cwS 3 hts (lw_S q88 q89 q17 q90) rfl rfl rfl (by decide +kernel) ⟨Nat.le_of_ble_eq_true rfl, Nat.le_of_ble_eq_true rfl⟩) gv_preS rfl rfl hl.1 rfl (lv_room (Nat.le_of_ble_eq_true rfl)) dX0_staysAbove_34 ⟨Nat.le_of_ble_eq_true rfl, Nat.le_of_ble_eq_true rfl⟩) (fun r er => ?_)
          subst er
          refine va_zald hx hb hK hP 4 3 rfl rfl (vp_in_nI (n := (i * 10 + a2) * 10 + a3) (by omega) (by decide)) dX0_staysAbove_37 ?_
          refine gv_top (y := gv_z (!gv_win L R 0 i a2 a3)) ((gv_ld fm (e := (i * 10 + a2) * 10 + a3) (by omega)).trans ((ht i).1 (gv_bitP (hg a1 (by omega)).2 (gv_z1 d1)))) ?_
          refine lv_if_eq (tgt := 45) hx hb dX0_staysAbove_38 (by decide) (fun d2 => ?_) (fun d2 => ?_)
          · refine lv_iconst (v := nI 0) hx hb dX0_staysAbove_45 (by decide) ?_
            exact gv_top (gv_a0 (by rw [gv_z1 d1, gv_z0 d2]; rfl)) K46
          · refine lv_iconst (v := nI 1) hx hb dX0_staysAbove_41 (by decide) ?_
            refine lv_goto (tgt := 46) hx hb dX0_staysAbove_42 (by decide) ?_
            exact gv_top (gv_a1 (by rw [gv_z1 d1, gv_z1 d2]; rfl)) K46
set_option maxHeartbeats 4000000 in
set_option maxRecDepth 100000 in
/-- staysBelow -/
theorem gv_x_staysBelow (l : Launch) (dC : Nat → ClassId) (dI : Nat → Nat → Nat) (h : Nat → Nat) (d : Nat → ClassId) (n : Nat) (kn : Int32) (L R : Nat → Nat) (fa fm : Nat → Int32) (a1 a2 a3 : Nat) (hg : gv_ok L R) (hn : n ≤ 10) (h1 : a1 < n) (h2 : a2 < n) (h3 : a3 < n) (ht : ∀ x, (x < a1 → fa ((x * 10 + a2) * 10 + a3) = gv_z (!gv_win L R 1 x a2 a3)) ∧ (x < a2 → fa ((a1 * 10 + x) * 10 + a3) = gv_z (!gv_win L R 1 a1 x a3)) ∧ (x < a3 → fa ((a1 * 10 + a2) * 10 + x) = gv_z (!gv_win L R 1 a1 a2 x))) : Met l yX0_staysBelow (ws_ yX0_staysBelow cX0_staysBelow 8 (some .boolean)) ({ frames := 1, cells := 0, slots := 0, locals := 22 }) (va_Pc [.ref (h 0), .int (nI a1), .int (nI a2), .int (nI a3)] (fun U => va_P (dC, dI) gv_cl (gv_xW h d n kn L R fa fm) U.heap ∧ va_K (dC, dI) gv_cl (gv_xT d) U)) (vp_Si (fun r => r = gv_z (!gv_win L R 0 a1 a2 a3))) 0 0 (fun _ => False) := by
  refine Met.ofW (cc := cX0_staysBelow) (maxL := 8) (ret := (some .boolean)) (by decide) rfl ?_
  intro p e s m args below meth c s₁ B hml hv
  obtain ⟨rfl, hP, hK⟩ := hv
  have hx := B.exec
  have hb := B.bytes
  have hr := B.returns
  have hts := atoms_spec (ws := ws_ yX0_staysBelow cX0_staysBelow 8 (some .boolean)) B.pre
  have hts : ∀ w ∈ lw_all, w.before _ s = true := fun w h => hts w (List.mem_cons_of_mem _ h)
  have hown : s.vm.findClass RX0 = some m.cls := findClass_of_methodNamed B.named
  have hlocks := B.notSynchronized
  have hl := lv_entry ([.ref (h 0), .int (nI a1), .int (nI a2), .int (nI a3)]) (n := 8) (Nat.le_of_ble_eq_true rfl)
  rw [lg_entry_eq]
  generalize (lg_sl ([.ref (h 0), .int (nI a1), .int (nI a2), .int (nI a3)]) ++ List.replicate (8 - (lg_sl ([.ref (h 0), .int (nI a1), .int (nI a2), .int (nI a3)])).length) Slot.unset).toArray = ls at hl ⊢
  have hl : lv_has ls 8 [(0, .ref (h 0)), (1, .int (nI a1)), (2, .int (nI a2)), (3, .int (nI a3))] := hl
  refine lv_iconst (v := nI 0) hx hb dX0_staysBelow_0 (by decide) ?_
  refine lv_istore (lv' := [(4, .int (nI 0)), (0, .ref (h 0)), (1, .int (nI a1)), (2, .int (nI a2)), (3, .int (nI a3))]) hx hb dX0_staysBelow_1 hl (by decide) rfl (fun ls hl => ?_)
  refine gv_forS (nL := 8) n (fun i => ∀ x, x < i → gv_b L R 0 a1 a2 a3 x = false) (fun i => [(0, .ref (h 0)), (1, .int (nI a1)), (2, .int (nI a2)), (3, .int (nI a3)), (4, .int (nI i))]) ?_ ?_ 0 (Nat.zero_le _) (fun x h => absurd h (Nat.not_lt_zero _)) (lv_sub hl [1, 2, 3, 4, 0] rfl)
  · intro ls hJ hl
    have hl : lv_has ls 8 [(0, .ref (h 0)), (1, .int (nI a1)), (2, .int (nI a2)), (3, .int (nI a3)), (4, .int (nI n))] := hl
    refine lv_iload hx hb dX0_staysBelow_3 (lv_at hl 4 rfl) ?_
    refine lv_aload_n hx hb dX0_staysBelow_5 rfl (lv_at hl 0 rfl) ?_
    refine va_get (D := (dC, dI)) (ci := 0) (v := .int (nI n)) (C := RX0) (T := TX0) (N := 6) hx hb hts in_X0 hown hK hP 0 rfl rfl 0 (by decide) (hts _ q27) (fun _ h9 => h9) rfl dX0_staysBelow_6 ?_
    refine lv_icmp_ge (tgt := 143) hx hb dX0_staysBelow_9 (by decide) (fun c1 => ?_) (fun c1 => ?_)
    · refine lv_iconst (v := nI 1) hx hb dX0_staysBelow_143 (by decide) ?_
      exact W.zret (v := nI 1) hx hb hr (rfl) (fun t ht hW => ⟨_, rfl, gv_a1 (by rw [gv_win_f hg hn h1 h2 h3 hJ]; rfl), ht⟩) (fun _ h => nomatch h) dX0_staysBelow_144
    · exact absurd (Int32.le_refl _) c1
  · intro i ls hi hJ hl ih
    have hl : lv_has ls 8 [(0, .ref (h 0)), (1, .int (nI a1)), (2, .int (nI a2)), (3, .int (nI a3)), (4, .int (nI i))] := hl
    refine lv_iload hx hb dX0_staysBelow_3 (lv_at hl 4 rfl) ?_
    refine lv_aload_n hx hb dX0_staysBelow_5 rfl (lv_at hl 0 rfl) ?_
    refine va_get (D := (dC, dI)) (ci := 0) (v := .int (nI n)) (C := RX0) (T := TX0) (N := 6) hx hb hts in_X0 hown hK hP 0 rfl rfl 0 (by decide) (hts _ q27) (fun _ h9 => h9) rfl dX0_staysBelow_6 ?_
    refine lv_icmp_ge (tgt := 143) hx hb dX0_staysBelow_9 (by decide) (fun c1 => ?_) (fun c1 => ?_)
    · exact absurd c1 (nI_ge hi (by omega))
    · refine lv_aload_n hx hb dX0_staysBelow_12 rfl (lv_at hl 0 rfl) ?_
      refine va_get (D := (dC, dI)) (ci := 0) (v := .ref (h 1)) (C := RX0) (T := TX0) (N := 6) hx hb hts in_X0 hown hK hP 0 rfl rfl 1 (by decide) (hts _ q28) (fun _ h9 => h9) rfl dX0_staysBelow_13 ?_
      refine lv_iload_n hx hb dX0_staysBelow_16 rfl (lv_at hl 1 rfl) ?_
      refine va_sald hx hb hK hP 1 0 rfl rfl (vp_in_nI (n := a1) (by omega) (by decide)) dX0_staysBelow_17 ?_
      refine gv_top (y := nI (L a1)) (gv_ld (fun j => nI (L j)) (e := a1) (by omega)) ?_
      refine lv_iload hx hb dX0_staysBelow_18 (lv_at hl 4 rfl) ?_
      refine vp_callSi (W.runS (As := [.int (nI (L a1)), .int (nI i)]) (rest := []) ⟨hx, hb, hml, hown, hts⟩ (gv_x_in l (L a1) i (by have := gv_L_1024 hg (p := a1) (by omega); omega) (by omega)) (va_cwS 2 hts (lw_S q95 q96 q17 q97) rfl rfl rfl (by decide +kernel) ⟨Nat.le_of_ble_eq_true rfl, Nat.le_of_ble_eq_true rfl⟩) gv_preS rfl rfl hl.1 rfl (lv_room (Nat.le_of_ble_eq_true rfl)) dX0_staysBelow_20 ⟨Nat.le_of_ble_eq_true rfl, Nat.le_of_ble_eq_true rfl⟩) (fun r er => ?_)
      subst er
      refine gv_mid (g1 := F0 m 46 ls [.int (gv_z ((L a1).testBit i && !gv_win L R 1 i a2 a3))]) ?_ (fun K46 => ?_)
      · refine lv_istore (lv' := [(5, .int (gv_z ((L a1).testBit i && !gv_win L R 1 i a2 a3))), (0, .ref (h 0)), (1, .int (nI a1)), (2, .int (nI a2)), (3, .int (nI a3)), (4, .int (nI i))]) hx hb dX0_staysBelow_46 hl (by decide) rfl (fun ls hl => ?_)
        refine lv_aload_n hx hb dX0_staysBelow_48 rfl (lv_at hl 1 rfl) ?_
        refine va_get (D := (dC, dI)) (ci := 0) (v := .ref (h 1)) (C := RX0) (T := TX0) (N := 6) hx hb hts in_X0 hown hK hP 0 rfl rfl 1 (by decide) (hts _ q28) (fun _ h9 => h9) rfl dX0_staysBelow_49 ?_
        refine lv_iload_n hx hb dX0_staysBelow_52 rfl (lv_at hl 3 rfl) ?_
        refine va_sald hx hb hK hP 1 0 rfl rfl (vp_in_nI (n := a2) (by omega) (by decide)) dX0_staysBelow_53 ?_
        refine gv_top (y := nI (L a2)) (gv_ld (fun j => nI (L j)) (e := a2) (by omega)) ?_
        refine lv_iload hx hb dX0_staysBelow_54 (lv_at hl 5 rfl) ?_
        refine vp_callSi (W.runS (As := [.int (nI (L a2)), .int (nI i)]) (rest := []) ⟨hx, hb, hml, hown, hts⟩ (gv_x_in l (L a2) i (by have := gv_L_1024 hg (p := a2) (by omega); omega) (by omega)) (va_cwS 2 hts (lw_S q95 q96 q17 q97) rfl rfl rfl (by decide +kernel) ⟨Nat.le_of_ble_eq_true rfl, Nat.le_of_ble_eq_true rfl⟩) gv_preS rfl rfl hl.1 rfl (lv_room (Nat.le_of_ble_eq_true rfl)) dX0_staysBelow_56 ⟨Nat.le_of_ble_eq_true rfl, Nat.le_of_ble_eq_true rfl⟩) (fun r er => ?_)
        subst er
        refine gv_mid (g1 := F0 m 82 ls [.int (gv_z ((L a2).testBit i && !gv_win L R 1 a1 i a3))]) ?_ (fun K82 => ?_)
        · refine lv_istore (lv' := [(6, .int (gv_z ((L a2).testBit i && !gv_win L R 1 a1 i a3))), (5, .int (gv_z ((L a1).testBit i && !gv_win L R 1 i a2 a3))), (0, .ref (h 0)), (1, .int (nI a1)), (2, .int (nI a2)), (3, .int (nI a3)), (4, .int (nI i))]) hx hb dX0_staysBelow_82 hl (by decide) rfl (fun ls hl => ?_)
          refine lv_aload_n hx hb dX0_staysBelow_84 rfl (lv_at hl 2 rfl) ?_
          refine va_get (D := (dC, dI)) (ci := 0) (v := .ref (h 2)) (C := RX0) (T := TX0) (N := 6) hx hb hts in_X0 hown hK hP 0 rfl rfl 2 (by decide) (hts _ q29) (fun _ h9 => h9) rfl dX0_staysBelow_85 ?_
          refine lv_iload_n hx hb dX0_staysBelow_88 rfl (lv_at hl 5 rfl) ?_
          refine va_sald hx hb hK hP 2 1 rfl rfl (vp_in_nI (n := a3) (by omega) (by decide)) dX0_staysBelow_89 ?_
          refine gv_top (y := nI (R a3)) (gv_ld (fun j => nI (R j)) (e := a3) (by omega)) ?_
          refine lv_iload hx hb dX0_staysBelow_90 (lv_at hl 6 rfl) ?_
          refine vp_callSi (W.runS (As := [.int (nI (R a3)), .int (nI i)]) (rest := []) ⟨hx, hb, hml, hown, hts⟩ (gv_x_in l (R a3) i (by have := gv_R_1024 hg (p := a3) (by omega); omega) (by omega)) (va_cwS 2 hts (lw_S q95 q96 q17 q97) rfl rfl rfl (by decide +kernel) ⟨Nat.le_of_ble_eq_true rfl, Nat.le_of_ble_eq_true rfl⟩) gv_preS rfl rfl hl.1 rfl (lv_room (Nat.le_of_ble_eq_true rfl)) dX0_staysBelow_92 ⟨Nat.le_of_ble_eq_true rfl, Nat.le_of_ble_eq_true rfl⟩) (fun r er => ?_)
          subst er
          refine gv_mid (g1 := F0 m 118 ls [.int (gv_z ((R a3).testBit i && !gv_win L R 1 a1 a2 i))]) ?_ (fun K118 => ?_)
          · refine lv_istore (lv' := [(7, .int (gv_z ((R a3).testBit i && !gv_win L R 1 a1 a2 i))), (6, .int (gv_z ((L a2).testBit i && !gv_win L R 1 a1 i a3))), (5, .int (gv_z ((L a1).testBit i && !gv_win L R 1 i a2 a3))), (0, .ref (h 0)), (1, .int (nI a1)), (2, .int (nI a2)), (3, .int (nI a3)), (4, .int (nI i))]) hx hb dX0_staysBelow_118 hl (by decide) rfl (fun ls hl => ?_)
            refine gv_midP (P := gv_b L R 0 a1 a2 a3 i = true) (g1 := F0 m 135 ls []) (fun hb1 => ?_) (fun K135 => ?_)
            · refine lv_iconst (v := nI 0) hx hb dX0_staysBelow_135 (by decide) ?_
              exact W.zret (v := nI 0) hx hb hr (rfl) (fun t ht hW => ⟨_, rfl, gv_a0 (by rw [gv_win_t hg (x := i) (by omega) (by omega) (by omega) (by omega) hb1]; rfl), ht⟩) (fun _ h => nomatch h) dX0_staysBelow_136
            · refine lv_iload hx hb dX0_staysBelow_120 (lv_at hl 2 rfl) ?_
              refine lv_if_ne (tgt := 135) hx hb dX0_staysBelow_122 (by decide) (fun c5 => ?_) (fun c5 => ?_)
              · exact K135 (by show (((L a1).testBit i && !gv_win L R 1 i a2 a3) || ((L a2).testBit i && !gv_win L R 1 a1 i a3) || ((R a3).testBit i && !gv_win L R 1 a1 a2 i)) = true; rw [gv_z1 c5]; rfl)
              · refine lv_iload hx hb dX0_staysBelow_125 (lv_at hl 1 rfl) ?_
                refine lv_if_ne (tgt := 135) hx hb dX0_staysBelow_127 (by decide) (fun c6 => ?_) (fun c6 => ?_)
                · exact K135 (by show (((L a1).testBit i && !gv_win L R 1 i a2 a3) || ((L a2).testBit i && !gv_win L R 1 a1 i a3) || ((R a3).testBit i && !gv_win L R 1 a1 a2 i)) = true; rw [gv_z0 c5, gv_z1 c6]; rfl)
                · refine lv_iload hx hb dX0_staysBelow_130 (lv_at hl 0 rfl) ?_
                  refine lv_if_eq (tgt := 137) hx hb dX0_staysBelow_132 (by decide) (fun c7 => ?_) (fun c7 => ?_)
                  · refine lv_iinc (v := nI (i + 1)) (lv' := [(4, .int (nI (i + 1))), (7, .int (gv_z ((R a3).testBit i && !gv_win L R 1 a1 a2 i))), (6, .int (gv_z ((L a2).testBit i && !gv_win L R 1 a1 i a3))), (5, .int (gv_z ((L a1).testBit i && !gv_win L R 1 i a2 a3))), (0, .ref (h 0)), (1, .int (nI a1)), (2, .int (nI a2)), (3, .int (nI a3))]) hx hb dX0_staysBelow_137 hl (k := 7) rfl (gv_inc _) (by decide) rfl (fun ls hl => ?_)
                    refine lv_goto (tgt := 3) hx hb dX0_staysBelow_140 (by decide) ?_
                    exact ih ls (lt_s hJ (by show (((L a1).testBit i && !gv_win L R 1 i a2 a3) || ((L a2).testBit i && !gv_win L R 1 a1 i a3) || ((R a3).testBit i && !gv_win L R 1 a1 a2 i)) = false; rw [gv_z0 c5, gv_z0 c6, gv_z0 c7]; rfl)) (lv_sub hl [4, 5, 6, 7, 0] rfl)
                  · exact K135 (by show (((L a1).testBit i && !gv_win L R 1 i a2 a3) || ((L a2).testBit i && !gv_win L R 1 a1 i a3) || ((R a3).testBit i && !gv_win L R 1 a1 a2 i)) = true; rw [gv_z0 c5, gv_z0 c6, gv_z1 c7]; rfl)
          · refine lv_if_eq (tgt := 117) hx hb dX0_staysBelow_95 (by decide) (fun d1 => ?_) (fun d1 => ?_)
            · refine lv_iconst (v := nI 0) hx hb dX0_staysBelow_117 (by decide) ?_
              exact gv_top (gv_a0 (by rw [gv_z0 d1]; rfl)) K118
            · refine lv_aload_n hx hb dX0_staysBelow_98 rfl (lv_at hl 2 rfl) ?_
              refine va_get (D := (dC, dI)) (ci := 0) (v := .ref (h 3)) (C := RX0) (T := TX0) (N := 6) hx hb hts in_X0 hown hK hP 0 rfl rfl 4 (by decide) (hts _ q31) (fun _ h9 => h9) rfl dX0_staysBelow_99 ?_
              refine lv_iload_n hx hb dX0_staysBelow_102 rfl (lv_at hl 3 rfl) ?_
              refine lv_iload_n hx hb dX0_staysBelow_103 rfl (lv_at hl 4 rfl) ?_
              refine lv_iload hx hb dX0_staysBelow_104 (lv_at hl 6 rfl) ?_
              refine vp_callSi (W.runS (As := [.int (nI a1), .int (nI a2), .int (nI i)]) (rest := [.ref (h 3)]) ⟨hx, hb, hml, hown, hts⟩ (gv_x_cell l a1 a2 i) (va_cwS 3 hts (lw_S q88 q89 q17 q90) rfl rfl rfl (by decide +kernel) ⟨Nat.le_of_ble_eq_true rfl, Nat.le_of_ble_eq_true rfl⟩) gv_preS rfl rfl hl.1 rfl (lv_room (Nat.le_of_ble_eq_true rfl)) dX0_staysBelow_106 ⟨Nat.le_of_ble_eq_true rfl, Nat.le_of_ble_eq_true rfl⟩) (fun r er => ?_)
              subst er
              refine va_zald hx hb hK hP 3 2 rfl rfl (vp_in_nI (n := (a1 * 10 + a2) * 10 + i) (by omega) (by decide)) dX0_staysBelow_109 ?_
              refine gv_top (y := gv_z (!gv_win L R 1 a1 a2 i)) ((gv_ld fa (e := (a1 * 10 + a2) * 10 + i) (by omega)).trans ((ht i).2.2 (gv_bitP (hg a3 (by omega)).2 (gv_z1 d1)))) ?_
              refine lv_if_eq (tgt := 117) hx hb dX0_staysBelow_110 (by decide) (fun d2 => ?_) (fun d2 => ?_)
              · refine lv_iconst (v := nI 0) hx hb dX0_staysBelow_117 (by decide) ?_
                exact gv_top (gv_a0 (by rw [gv_z1 d1, gv_z0 d2]; rfl)) K118
              · refine lv_iconst (v := nI 1) hx hb dX0_staysBelow_113 (by decide) ?_
                refine lv_goto (tgt := 118) hx hb dX0_staysBelow_114 (by decide) ?_
                exact gv_top (gv_a1 (by rw [gv_z1 d1, gv_z1 d2]; rfl)) K118
        · refine lv_if_eq (tgt := 81) hx hb dX0_staysBelow_59 (by decide) (fun d1 => ?_) (fun d1 => ?_)
          · refine lv_iconst (v := nI 0) hx hb dX0_staysBelow_81 (by decide) ?_
            exact gv_top (gv_a0 (by rw [gv_z0 d1]; rfl)) K82
          · refine lv_aload_n hx hb dX0_staysBelow_62 rfl (lv_at hl 1 rfl) ?_
            refine va_get (D := (dC, dI)) (ci := 0) (v := .ref (h 3)) (C := RX0) (T := TX0) (N := 6) hx hb hts in_X0 hown hK hP 0 rfl rfl 4 (by decide) (hts _ q31) (fun _ h9 => h9) rfl dX0_staysBelow_63 ?_
            refine lv_iload_n hx hb dX0_staysBelow_66 rfl (lv_at hl 2 rfl) ?_
            refine lv_iload hx hb dX0_staysBelow_67 (lv_at hl 5 rfl) ?_
            refine lv_iload_n hx hb dX0_staysBelow_69 rfl (lv_at hl 4 rfl) ?_
            refine vp_callSi (W.runS (As := [.int (nI a1), .int (nI i), .int (nI a3)]) (rest := [.ref (h 3)]) ⟨hx, hb, hml, hown, hts⟩ (gv_x_cell l a1 i a3) (va_cwS 3 hts (lw_S q88 q89 q17 q90) rfl rfl rfl (by decide +kernel) ⟨Nat.le_of_ble_eq_true rfl, Nat.le_of_ble_eq_true rfl⟩) gv_preS rfl rfl hl.1 rfl (lv_room (Nat.le_of_ble_eq_true rfl)) dX0_staysBelow_70 ⟨Nat.le_of_ble_eq_true rfl, Nat.le_of_ble_eq_true rfl⟩) (fun r er => ?_)
            subst er
            refine va_zald hx hb hK hP 3 2 rfl rfl (vp_in_nI (n := (a1 * 10 + i) * 10 + a3) (by omega) (by decide)) dX0_staysBelow_73 ?_
            refine gv_top (y := gv_z (!gv_win L R 1 a1 i a3)) ((gv_ld fa (e := (a1 * 10 + i) * 10 + a3) (by omega)).trans ((ht i).2.1 (gv_bitP (hg a2 (by omega)).1 (gv_z1 d1)))) ?_
            refine lv_if_eq (tgt := 81) hx hb dX0_staysBelow_74 (by decide) (fun d2 => ?_) (fun d2 => ?_)
            · refine lv_iconst (v := nI 0) hx hb dX0_staysBelow_81 (by decide) ?_
              exact gv_top (gv_a0 (by rw [gv_z1 d1, gv_z0 d2]; rfl)) K82
            · refine lv_iconst (v := nI 1) hx hb dX0_staysBelow_77 (by decide) ?_
              refine lv_goto (tgt := 82) hx hb dX0_staysBelow_78 (by decide) ?_
              exact gv_top (gv_a1 (by rw [gv_z1 d1, gv_z1 d2]; rfl)) K82
      · refine lv_if_eq (tgt := 45) hx hb dX0_staysBelow_23 (by decide) (fun d1 => ?_) (fun d1 => ?_)
        · refine lv_iconst (v := nI 0) hx hb dX0_staysBelow_45 (by decide) ?_
          exact gv_top (gv_a0 (by rw [gv_z0 d1]; rfl)) K46
        · refine lv_aload_n hx hb dX0_staysBelow_26 rfl (lv_at hl 0 rfl) ?_
          refine va_get (D := (dC, dI)) (ci := 0) (v := .ref (h 3)) (C := RX0) (T := TX0) (N := 6) hx hb hts in_X0 hown hK hP 0 rfl rfl 4 (by decide) (hts _ q31) (fun _ h9 => h9) rfl dX0_staysBelow_27 ?_
          refine lv_iload hx hb dX0_staysBelow_30 (lv_at hl 4 rfl) ?_
          refine lv_iload_n hx hb dX0_staysBelow_32 rfl (lv_at hl 2 rfl) ?_
          refine lv_iload_n hx hb dX0_staysBelow_33 rfl (lv_at hl 3 rfl) ?_
          refine vp_callSi (W.runS (As := [.int (nI i), .int (nI a2), .int (nI a3)]) (rest := [.ref (h 3)]) ⟨hx, hb, hml, hown, hts⟩ (gv_x_cell l i a2 a3) (va_cwS 3 hts (lw_S q88 q89 q17 q90) rfl rfl rfl (by decide +kernel) ⟨Nat.le_of_ble_eq_true rfl, Nat.le_of_ble_eq_true rfl⟩) gv_preS rfl rfl hl.1 rfl (lv_room (Nat.le_of_ble_eq_true rfl)) dX0_staysBelow_34 ⟨Nat.le_of_ble_eq_true rfl, Nat.le_of_ble_eq_true rfl⟩) (fun r er => ?_)
          subst er
          refine va_zald hx hb hK hP 3 2 rfl rfl (vp_in_nI (n := (i * 10 + a2) * 10 + a3) (by omega) (by decide)) dX0_staysBelow_37 ?_
          refine gv_top (y := gv_z (!gv_win L R 1 i a2 a3)) ((gv_ld fa (e := (i * 10 + a2) * 10 + a3) (by omega)).trans ((ht i).1 (gv_bitP (hg a1 (by omega)).1 (gv_z1 d1)))) ?_
          refine lv_if_eq (tgt := 45) hx hb dX0_staysBelow_38 (by decide) (fun d2 => ?_) (fun d2 => ?_)
          · refine lv_iconst (v := nI 0) hx hb dX0_staysBelow_45 (by decide) ?_
            exact gv_top (gv_a0 (by rw [gv_z1 d1, gv_z0 d2]; rfl)) K46
          · refine lv_iconst (v := nI 1) hx hb dX0_staysBelow_41 (by decide) ?_
            refine lv_goto (tgt := 46) hx hb dX0_staysBelow_42 (by decide) ?_
            exact gv_top (gv_a1 (by rw [gv_z1 d1, gv_z1 d2]; rfl)) K46
end
section
set_option maxHeartbeats 4000000 in
set_option maxRecDepth 100000 in
/-- learn: behind it the tables hold what they should -/
theorem gv_x_learn (l : Launch) (dC : Nat → ClassId) (dI : Nat → Nat → Nat) (h : Nat → Nat) (d : Nat → ClassId) (sz : Nat) (n : Nat) (kn : Int32) (L R : Nat → Nat) (fa fm : Nat → Int32) (hg : gv_ok L R) (hn1 : 1 ≤ n) (hn : n ≤ 10) (hk : gv_k n L R kn fa fm) : Met l yX0_learn (ws_ yX0_learn cX0_learn 6 none) ({ frames := 2, cells := 0, slots := 0, locals := 49 }) (va_Pc [.ref (h 0)] (fun U => U.heap.size = sz ∧ va_P (dC, dI) gv_cl (gv_xW h d n kn L R fa fm) U.heap ∧ va_K (dC, dI) gv_cl (gv_xT d) U ∧ va_D (fun _ => True) (gv_xW h d n kn L R fa fm))) (va_Qv (fun u : Int32 × (Nat → Int32) × (Nat → Int32) => u.1 = 1 ∧ gv_tab n L R u.2.1 u.2.2) (gv_xB dC dI h d n L R (va_A (gv_xW h d n kn L R fa fm) sz)) (va_A (gv_xW h d n kn L R fa fm) sz)) 0 0 (va_A (gv_xW h d n kn L R fa fm) sz) := by
  refine Met.ofW (cc := cX0_learn) (maxL := 6) (ret := none) (by decide) rfl ?_
  intro p e s m args below meth c s₁ B hml hv
  obtain ⟨rfl, hsz, hP, hK, hD0⟩ := hv
  have hx := B.exec
  have hb := B.bytes
  have hr := B.returns
  have hts := atoms_spec (ws := ws_ yX0_learn cX0_learn 6 none) B.pre
  have hts : ∀ w ∈ lw_all, w.before _ s = true := fun w h => hts w (List.mem_cons_of_mem _ h)
  have hown : s.vm.findClass RX0 = some m.cls := findClass_of_methodNamed B.named
  have hlocks := B.notSynchronized
  subst hsz
  have hD := hD0.self (sz := s.heap.size)
  generalize hAe : va_A (gv_xW h d n kn L R fa fm) s.heap.size = A at hD ⊢
  have hA : ∀ q : Nat, s.heap.size ≤ q → A q := fun q h => by rw [← hAe]; exact Or.inr h
  have hS : va_S A s.heap s.heap [] := va_S.rf
  have hP : va_P (dC, dI) gv_cl (gv_xW h d n kn L R fa fm) s.heap := hP
  have hl := lv_entry ([.ref (h 0)]) (n := 6) (Nat.le_of_ble_eq_true rfl)
  rw [lg_entry_eq]
  generalize (lg_sl ([.ref (h 0)]) ++ List.replicate (6 - (lg_sl ([.ref (h 0)])).length) Slot.unset).toArray = ls at hl ⊢
  have hl : lv_has ls 6 [(0, .ref (h 0))] := hl
  refine lv_aload_n hx hb dX0_learn_0 rfl (lv_at hl 0 rfl) ?_
  refine va_get (D := (dC, dI)) (ci := 0) (v := .int kn) (C := RX0) (T := TX0) (N := 6) hx hb hts in_X0 hown hK hP 0 rfl rfl 3 (by decide) (hts _ q30) (fun _ h9 => h9) rfl dX0_learn_1 ?_
  refine lv_if_eq (tgt := 8) hx hb dX0_learn_4 (by decide) (fun c1 => ?_) (fun c1 => ?_)
  · refine lv_aload_n hx hb dX0_learn_8 rfl (lv_at hl 0 rfl) ?_
    refine lv_iconst (v := nI 1) hx hb dX0_learn_9 (by decide) ?_
    refine va_put (D := (dC, dI)) (ci := 0) (v := .int (nI 1)) (ty := .boolean) (C := RX0) (T := TX0) (N := 6) hx hb hts in_X0 tyX0 tyX0_ok nmX0 hown hK hP hD hS 0 rfl rfl 3 (by decide) (hts _ q30) (fun _ h9 => h9) rfl (by decide +kernel) rfl rfl (Nat.le_of_ble_eq_true rfl) dX0_learn_10 (fun H locs hP hD hS => ?_)
    have hP : va_P (dC, dI) gv_cl (gv_xW h d n (nI 1) L R fa fm) H := hP
    have hD : va_D A (gv_xW h d n (nI 1) L R fa fm) := hD
    refine lv_iconst (v := nI 0) hx hb dX0_learn_13 (by decide) ?_
    refine lv_istore_n (lv' := [(1, .int (nI 0)), (0, .ref (h 0))]) hx hb dX0_learn_14 rfl hl (by decide) rfl (fun ls hl => ?_)
    have hN3 := gv_n3 hn
    have hN2 := gv_n2 hn
    have hp2 : 0 < n * n := Nat.mul_pos hn1 hn1
    refine gv_for (nL := 6) (n * n * n) (fun i H locs => ∃ ga gm : Nat → Int32, va_P (dC, dI) gv_cl (gv_xW h d n (nI 1) L R ga gm) H ∧ va_D A (gv_xW h d n (nI 1) L R ga gm) ∧ va_S A s.heap H locs ∧ gv_tabI n L R ga gm i) (fun i => [(0, .ref (h 0)), (1, .int (nI i))]) ?_ ?_ 0 (Nat.zero_le _) ⟨fa, fm, hP, hD, hS, fun _ _ _ _ _ _ z => absurd z (Nat.not_lt_zero _)⟩ (lv_sub hl [1, 0] rfl)
    · intro H locs ls hJ hl
      obtain ⟨ga, gm, hP, hD, hS, hJ⟩ := hJ
      have hl : lv_has ls 6 [(0, .ref (h 0)), (1, .int (nI (n * n * n)))] := hl
      refine lv_iload_n hx hb dX0_learn_15 rfl (lv_at hl 1 rfl) ?_
      refine lv_aload_n hx hb dX0_learn_16 rfl (lv_at hl 0 rfl) ?_
      refine va_get (D := (dC, dI)) (ci := 0) (v := .int (nI n)) (C := RX0) (T := TX0) (N := 6) hx hb hts in_X0 hown hK hP 0 rfl rfl 0 (by decide) (hts _ q27) (fun _ h9 => h9) rfl dX0_learn_17 ?_
      refine lv_aload_n hx hb dX0_learn_20 rfl (lv_at hl 0 rfl) ?_
      refine va_get (D := (dC, dI)) (ci := 0) (v := .int (nI n)) (C := RX0) (T := TX0) (N := 6) hx hb hts in_X0 hown hK hP 0 rfl rfl 0 (by decide) (hts _ q27) (fun _ h9 => h9) rfl dX0_learn_21 ?_
      refine lv_imul hx hb dX0_learn_24 ?_
      refine gv_top (y := nI (n * n)) (pk_mul _ _) ?_
      refine lv_aload_n hx hb dX0_learn_25 rfl (lv_at hl 0 rfl) ?_
      refine va_get (D := (dC, dI)) (ci := 0) (v := .int (nI n)) (C := RX0) (T := TX0) (N := 6) hx hb hts in_X0 hown hK hP 0 rfl rfl 0 (by decide) (hts _ q27) (fun _ h9 => h9) rfl dX0_learn_26 ?_
      refine lv_imul hx hb dX0_learn_29 ?_
      refine gv_top (y := nI ((n * n) * n)) (pk_mul _ _) ?_
      refine lv_icmp_ge (tgt := 110) hx hb dX0_learn_30 (by decide) (fun c2 => ?_) (fun c2 => ?_)
      · exact W.vret hx hb hr (fun t ht hW => ⟨⟨(nI 1, ga, gm), rfl, ⟨(show nI 1 = 1 by decide), fun p q r hp hq hr => hJ p q r hp hq hr (gv_ix_lt hp hq hr)⟩, by rw [ht]; exact hP, va_K.moved hW.alike hK, hD⟩, hS.F ht⟩) hS.2.2 dX0_learn_110
      · exact absurd (Int32.le_refl _) c2
    · intro i H locs ls hi hJ hl ih
      obtain ⟨ga, gm, hP, hD, hS, hJ⟩ := hJ
      have hl : lv_has ls 6 [(0, .ref (h 0)), (1, .int (nI i))] := hl
      refine lv_iload_n hx hb dX0_learn_15 rfl (lv_at hl 1 rfl) ?_
      refine lv_aload_n hx hb dX0_learn_16 rfl (lv_at hl 0 rfl) ?_
      refine va_get (D := (dC, dI)) (ci := 0) (v := .int (nI n)) (C := RX0) (T := TX0) (N := 6) hx hb hts in_X0 hown hK hP 0 rfl rfl 0 (by decide) (hts _ q27) (fun _ h9 => h9) rfl dX0_learn_17 ?_
      refine lv_aload_n hx hb dX0_learn_20 rfl (lv_at hl 0 rfl) ?_
      refine va_get (D := (dC, dI)) (ci := 0) (v := .int (nI n)) (C := RX0) (T := TX0) (N := 6) hx hb hts in_X0 hown hK hP 0 rfl rfl 0 (by decide) (hts _ q27) (fun _ h9 => h9) rfl dX0_learn_21 ?_
      refine lv_imul hx hb dX0_learn_24 ?_
      refine gv_top (y := nI (n * n)) (pk_mul _ _) ?_
      refine lv_aload_n hx hb dX0_learn_25 rfl (lv_at hl 0 rfl) ?_
      refine va_get (D := (dC, dI)) (ci := 0) (v := .int (nI n)) (C := RX0) (T := TX0) (N := 6) hx hb hts in_X0 hown hK hP 0 rfl rfl 0 (by decide) (hts _ q27) (fun _ h9 => h9) rfl dX0_learn_26 ?_
      refine lv_imul hx hb dX0_learn_29 ?_
      refine gv_top (y := nI ((n * n) * n)) (pk_mul _ _) ?_
      refine lv_icmp_ge (tgt := 110) hx hb dX0_learn_30 (by decide) (fun c2 => ?_) (fun c2 => ?_)
      · exact absurd c2 (nI_ge hi (by omega))
      · obtain ⟨a1, a2, a3, h1, h2, h3, ei, e1, e2, e3⟩ := gv_split hn1 hi
        have hdn : i / n ≤ i := Nat.div_le_self i n
        refine lv_iload_n hx hb dX0_learn_33 rfl (lv_at hl 1 rfl) ?_
        refine lv_aload_n hx hb dX0_learn_34 rfl (lv_at hl 0 rfl) ?_
        refine va_get (D := (dC, dI)) (ci := 0) (v := .int (nI n)) (C := RX0) (T := TX0) (N := 6) hx hb hts in_X0 hown hK hP 0 rfl rfl 0 (by decide) (hts _ q27) (fun _ h9 => h9) rfl dX0_learn_35 ?_
        refine lv_aload_n hx hb dX0_learn_38 rfl (lv_at hl 0 rfl) ?_
        refine va_get (D := (dC, dI)) (ci := 0) (v := .int (nI n)) (C := RX0) (T := TX0) (N := 6) hx hb hts in_X0 hown hK hP 0 rfl rfl 0 (by decide) (hts _ q27) (fun _ h9 => h9) rfl dX0_learn_39 ?_
        refine lv_imul hx hb dX0_learn_42 ?_
        refine gv_top (y := nI (n * n)) (pk_mul _ _) ?_
        refine lv_idiv hx hb dX0_learn_43 (nI_ne0 hp2 (by omega)) ?_
        refine gv_top (y := nI a1) ((pk_div (by omega) hp2 (by omega)).trans (by rw [e1])) ?_
        refine lv_istore_n (lv' := [(2, .int (nI a1)), (0, .ref (h 0)), (1, .int (nI i))]) hx hb dX0_learn_44 rfl hl (by decide) rfl (fun ls hl => ?_)
        refine lv_iload_n hx hb dX0_learn_45 rfl (lv_at hl 2 rfl) ?_
        refine lv_aload_n hx hb dX0_learn_46 rfl (lv_at hl 1 rfl) ?_
        refine va_get (D := (dC, dI)) (ci := 0) (v := .int (nI n)) (C := RX0) (T := TX0) (N := 6) hx hb hts in_X0 hown hK hP 0 rfl rfl 0 (by decide) (hts _ q27) (fun _ h9 => h9) rfl dX0_learn_47 ?_
        refine lv_idiv hx hb dX0_learn_50 (nI_ne0 hn1 (by omega)) ?_
        refine gv_top (y := nI (i / n)) (pk_div (by omega) hn1 (by omega)) ?_
        refine lv_aload_n hx hb dX0_learn_51 rfl (lv_at hl 1 rfl) ?_
        refine va_get (D := (dC, dI)) (ci := 0) (v := .int (nI n)) (C := RX0) (T := TX0) (N := 6) hx hb hts in_X0 hown hK hP 0 rfl rfl 0 (by decide) (hts _ q27) (fun _ h9 => h9) rfl dX0_learn_52 ?_
        refine lv_irem hx hb dX0_learn_55 (nI_ne0 hn1 (by omega)) ?_
        refine gv_top (y := nI a2) ((pk_rem (by omega) hn1 (by omega)).trans (by rw [e2])) ?_
        refine lv_istore_n (lv' := [(3, .int (nI a2)), (2, .int (nI a1)), (0, .ref (h 0)), (1, .int (nI i))]) hx hb dX0_learn_56 rfl hl (by decide) rfl (fun ls hl => ?_)
        refine lv_iload_n hx hb dX0_learn_57 rfl (lv_at hl 3 rfl) ?_
        refine lv_aload_n hx hb dX0_learn_58 rfl (lv_at hl 2 rfl) ?_
        refine va_get (D := (dC, dI)) (ci := 0) (v := .int (nI n)) (C := RX0) (T := TX0) (N := 6) hx hb hts in_X0 hown hK hP 0 rfl rfl 0 (by decide) (hts _ q27) (fun _ h9 => h9) rfl dX0_learn_59 ?_
        refine lv_irem hx hb dX0_learn_62 (nI_ne0 hn1 (by omega)) ?_
        refine gv_top (y := nI a3) ((pk_rem (by omega) hn1 (by omega)).trans (by rw [e3])) ?_
        refine lv_istore (lv' := [(4, .int (nI a3)), (3, .int (nI a2)), (2, .int (nI a1)), (0, .ref (h 0)), (1, .int (nI i))]) hx hb dX0_learn_63 hl (by decide) rfl (fun ls hl => ?_)
        refine lv_iload_n hx hb dX0_learn_65 rfl (lv_at hl 2 rfl) ?_
        refine lv_iload_n hx hb dX0_learn_66 rfl (lv_at hl 1 rfl) ?_
        refine lv_iload hx hb dX0_learn_67 (lv_at hl 0 rfl) ?_
        refine vp_callSi (W.runS (As := [.int (nI a1), .int (nI a2), .int (nI a3)]) (rest := []) ⟨hx, hb, hml, hown, hts⟩ (gv_x_cell l a1 a2 a3) (va_cwS 3 hts (lw_S q88 q89 q17 q90) rfl rfl rfl (by decide +kernel) ⟨Nat.le_of_ble_eq_true rfl, Nat.le_of_ble_eq_true rfl⟩) gv_preS rfl rfl hl.1 rfl (lv_room (Nat.le_of_ble_eq_true rfl)) dX0_learn_69 ⟨Nat.le_of_ble_eq_true rfl, Nat.le_of_ble_eq_true rfl⟩) (fun r er => ?_)
        subst er
        refine lv_istore (lv' := [(5, .int (nI ((a1 * 10 + a2) * 10 + a3))), (4, .int (nI a3)), (3, .int (nI a2)), (2, .int (nI a1)), (0, .ref (h 0)), (1, .int (nI i))]) hx hb dX0_learn_72 hl (by decide) rfl (fun ls hl => ?_)
        refine lv_aload_n hx hb dX0_learn_74 rfl (lv_at hl 4 rfl) ?_
        refine va_get (D := (dC, dI)) (ci := 0) (v := .ref (h 3)) (C := RX0) (T := TX0) (N := 6) hx hb hts in_X0 hown hK hP 0 rfl rfl 4 (by decide) (hts _ q31) (fun _ h9 => h9) rfl dX0_learn_75 ?_
        refine lv_iload hx hb dX0_learn_78 (lv_at hl 0 rfl) ?_
        refine lv_aload_n hx hb dX0_learn_80 rfl (lv_at hl 4 rfl) ?_
        refine lv_iload_n hx hb dX0_learn_81 rfl (lv_at hl 3 rfl) ?_
        refine lv_iload_n hx hb dX0_learn_82 rfl (lv_at hl 2 rfl) ?_
        refine lv_iload hx hb dX0_learn_83 (lv_at hl 1 rfl) ?_
        refine vp_callSi (W.runV (As := [.int (nI a1), .int (nI a2), .int (nI a3)]) (rest := [.int (nI ((a1 * 10 + a2) * 10 + a3)), .ref (h 3)]) ⟨hx, hb, hml, hown, hts⟩ (gv_x_staysAbove l dC dI h d n (nI 1) L R ga gm a1 a2 a3 hg hn h1 h2 h3 (gv_tabI_m hJ h1 h2 h3 ei)) (cwV 3 hts (lw_V q91 q93 qs4 q17 q94) rfl rfl rfl (by decide +kernel) ⟨Nat.le_of_ble_eq_true rfl, Nat.le_of_ble_eq_true rfl⟩) (gv_preV (ci := 0) hK hP rfl rfl) rfl rfl hl.1 rfl (lv_room (Nat.le_of_ble_eq_true rfl)) dX0_learn_85 ⟨Nat.le_of_ble_eq_true rfl, Nat.le_of_ble_eq_true rfl⟩) (fun r er => ?_)
        subst er
        refine va_zast hx hb hK hP hD hS 3 2 rfl rfl (vp_in_nI (n := (a1 * 10 + a2) * 10 + a3) (by omega) (by decide)) dX0_learn_88 (fun H locs hP hD hS => ?_)
        have hup : upd ga (nI ((a1 * 10 + a2) * 10 + a3)).toNatClampNeg (vp_nar .boolean (gv_z (!gv_win L R 1 a1 a2 a3))) = (upd ga ((a1 * 10 + a2) * 10 + a3) (gv_z (!gv_win L R 1 a1 a2 a3))) := by rw [nI_clamp (by omega), gv_zvp]
        rw [hup] at hP hD
        have hP : va_P (dC, dI) gv_cl (gv_xW h d n (nI 1) L R (upd ga ((a1 * 10 + a2) * 10 + a3) (gv_z (!gv_win L R 1 a1 a2 a3))) gm) H := hP
        have hD : va_D A (gv_xW h d n (nI 1) L R (upd ga ((a1 * 10 + a2) * 10 + a3) (gv_z (!gv_win L R 1 a1 a2 a3))) gm) := hD
        refine lv_aload_n hx hb dX0_learn_89 rfl (lv_at hl 4 rfl) ?_
        refine va_get (D := (dC, dI)) (ci := 0) (v := .ref (h 4)) (C := RX0) (T := TX0) (N := 6) hx hb hts in_X0 hown hK hP 0 rfl rfl 5 (by decide) (hts _ q32) (fun _ h9 => h9) rfl dX0_learn_90 ?_
        refine lv_iload hx hb dX0_learn_93 (lv_at hl 0 rfl) ?_
        refine lv_aload_n hx hb dX0_learn_95 rfl (lv_at hl 4 rfl) ?_
        refine lv_iload_n hx hb dX0_learn_96 rfl (lv_at hl 3 rfl) ?_
        refine lv_iload_n hx hb dX0_learn_97 rfl (lv_at hl 2 rfl) ?_
        refine lv_iload hx hb dX0_learn_98 (lv_at hl 1 rfl) ?_
        refine vp_callSi (W.runV (As := [.int (nI a1), .int (nI a2), .int (nI a3)]) (rest := [.int (nI ((a1 * 10 + a2) * 10 + a3)), .ref (h 4)]) ⟨hx, hb, hml, hown, hts⟩ (gv_x_staysBelow l dC dI h d n (nI 1) L R (upd ga ((a1 * 10 + a2) * 10 + a3) (gv_z (!gv_win L R 1 a1 a2 a3))) gm a1 a2 a3 hg hn h1 h2 h3 (gv_tabI_a hn hJ h1 h2 h3 ei)) (cwV 3 hts (lw_V q98 q100 qs5 q17 q101) rfl rfl rfl (by decide +kernel) ⟨Nat.le_of_ble_eq_true rfl, Nat.le_of_ble_eq_true rfl⟩) (gv_preV (ci := 0) hK hP rfl rfl) rfl rfl hl.1 rfl (lv_room (Nat.le_of_ble_eq_true rfl)) dX0_learn_100 ⟨Nat.le_of_ble_eq_true rfl, Nat.le_of_ble_eq_true rfl⟩) (fun r er => ?_)
        subst er
        refine va_zast hx hb hK hP hD hS 4 3 rfl rfl (vp_in_nI (n := (a1 * 10 + a2) * 10 + a3) (by omega) (by decide)) dX0_learn_103 (fun H locs hP hD hS => ?_)
        have hup : upd gm (nI ((a1 * 10 + a2) * 10 + a3)).toNatClampNeg (vp_nar .boolean (gv_z (!gv_win L R 0 a1 a2 a3))) = (upd gm ((a1 * 10 + a2) * 10 + a3) (gv_z (!gv_win L R 0 a1 a2 a3))) := by rw [nI_clamp (by omega), gv_zvp]
        rw [hup] at hP hD
        have hP : va_P (dC, dI) gv_cl (gv_xW h d n (nI 1) L R (upd ga ((a1 * 10 + a2) * 10 + a3) (gv_z (!gv_win L R 1 a1 a2 a3))) (upd gm ((a1 * 10 + a2) * 10 + a3) (gv_z (!gv_win L R 0 a1 a2 a3)))) H := hP
        have hD : va_D A (gv_xW h d n (nI 1) L R (upd ga ((a1 * 10 + a2) * 10 + a3) (gv_z (!gv_win L R 1 a1 a2 a3))) (upd gm ((a1 * 10 + a2) * 10 + a3) (gv_z (!gv_win L R 0 a1 a2 a3)))) := hD
        refine lv_iinc (v := nI (i + 1)) (lv' := [(1, .int (nI (i + 1))), (5, .int (nI ((a1 * 10 + a2) * 10 + a3))), (4, .int (nI a3)), (3, .int (nI a2)), (2, .int (nI a1)), (0, .ref (h 0))]) hx hb dX0_learn_104 hl (k := 5) rfl (gv_inc _) (by decide) rfl (fun ls hl => ?_)
        refine lv_goto (tgt := 15) hx hb dX0_learn_107 (by decide) ?_
        exact ih H locs ls ⟨_, _, hP, hD, hS, gv_tabI_step hn hJ h1 h2 h3 ei⟩ (lv_sub hl [5, 0] rfl)
  · exact W.vret hx hb hr (fun t ht hW => ⟨⟨(kn, fa, fm), rfl, (by rcases hk with z | z; exact absurd z c1; exact z), by rw [ht]; exact hP, va_K.moved hW.alike hK, hD⟩, hS.F ht⟩) hS.2.2 dX0_learn_7
set_option maxHeartbeats 4000000 in
set_option maxRecDepth 100000 in
/-- is p at least q -/
theorem gv_x_isAtLeast (l : Launch) (dC : Nat → ClassId) (dI : Nat → Nat → Nat) (h : Nat → Nat) (d : Nat → ClassId) (n : Nat) (kn : Int32) (L R : Nat → Nat) (fa fm : Nat → Int32) (a1 a2 : Nat) (hn : n ≤ 10) (h1 : a1 < n) (h2 : a2 < n) (ht : gv_tab n L R fa fm) : Met l yX0_isAtLeast (ws_ yX0_isAtLeast cX0_isAtLeast 3 (some .boolean)) ({ frames := 0, cells := 0, slots := 0, locals := 0 }) (va_Pc [.ref (h 0), .int (nI a1), .int (nI a2)] (fun U => va_P (dC, dI) gv_cl (gv_xW h d n kn L R fa fm) U.heap ∧ va_K (dC, dI) gv_cl (gv_xT d) U)) (vp_Si (fun r => r = gv_z (!gv_win L R 1 a1 0 a2))) 0 0 (fun _ => False) := by
  refine Met.ofW (cc := cX0_isAtLeast) (maxL := 3) (ret := (some .boolean)) (by decide) rfl ?_
  intro p e s m args below meth c s₁ B hml hv
  obtain ⟨rfl, hP, hK⟩ := hv
  have hx := B.exec
  have hb := B.bytes
  have hr := B.returns
  have hts := atoms_spec (ws := ws_ yX0_isAtLeast cX0_isAtLeast 3 (some .boolean)) B.pre
  have hts : ∀ w ∈ lw_all, w.before _ s = true := fun w h => hts w (List.mem_cons_of_mem _ h)
  have hown : s.vm.findClass RX0 = some m.cls := findClass_of_methodNamed B.named
  have hlocks := B.notSynchronized
  have hl := lv_entry ([.ref (h 0), .int (nI a1), .int (nI a2)]) (n := 3) (Nat.le_of_ble_eq_true rfl)
  rw [lg_entry_eq]
  generalize (lg_sl ([.ref (h 0), .int (nI a1), .int (nI a2)]) ++ List.replicate (3 - (lg_sl ([.ref (h 0), .int (nI a1), .int (nI a2)])).length) Slot.unset).toArray = ls at hl ⊢
  have hl : lv_has ls 3 [(0, .ref (h 0)), (1, .int (nI a1)), (2, .int (nI a2))] := hl
  refine lv_aload_n hx hb dX0_isAtLeast_0 rfl (lv_at hl 0 rfl) ?_
  refine va_get (D := (dC, dI)) (ci := 0) (v := .ref (h 3)) (C := RX0) (T := TX0) (N := 6) hx hb hts in_X0 hown hK hP 0 rfl rfl 4 (by decide) (hts _ q31) (fun _ h9 => h9) rfl dX0_isAtLeast_1 ?_
  refine lv_iload_n hx hb dX0_isAtLeast_4 rfl (lv_at hl 1 rfl) ?_
  refine lv_bipush (v := nI 100) hx hb dX0_isAtLeast_5 (by decide) ?_
  refine lv_imul hx hb dX0_isAtLeast_7 ?_
  refine gv_top (y := nI (a1 * 100)) (pk_mul _ _) ?_
  refine lv_iload_n hx hb dX0_isAtLeast_8 rfl (lv_at hl 2 rfl) ?_
  refine lv_iadd hx hb dX0_isAtLeast_9 ?_
  refine gv_top (y := nI ((a1 * 100) + a2)) (nI_add _ _) ?_
  refine va_zald hx hb hK hP 3 2 rfl rfl (vp_in_nI (n := (a1 * 100) + a2) (by omega) (by decide)) dX0_isAtLeast_10 ?_
  refine gv_top (y := gv_z (!gv_win L R 1 a1 0 a2)) ((gv_ld fa (e := (a1 * 100) + a2) (by omega)).trans ((congrArg fa (show (a1 * 100) + a2 = (a1 * 10 + 0) * 10 + a2 by omega)).trans (ht a1 0 a2 h1 (by omega) h2).1)) ?_
  exact W.zret (v := gv_z (!gv_win L R 1 a1 0 a2)) hx hb hr (gv_znar _) (fun t ht hW => ⟨_, rfl, rfl, ht⟩) (fun _ h => nomatch h) dX0_isAtLeast_11
set_option maxHeartbeats 4000000 in
set_option maxRecDepth 100000 in
/-- how it stands -/
theorem gv_x_standing (l : Launch) (dC : Nat → ClassId) (dI : Nat → Nat → Nat) (h : Nat → Nat) (d : Nat → ClassId) (n : Nat) (kn : Int32) (L R : Nat → Nat) (fa fm : Nat → Int32) (k : Nat) (u v : Bool) (hk : k < 1000) (hu : fa k = gv_z u) (hv1 : fm k = gv_z v) : Met l yX0_standing (ws_ yX0_standing cX0_standing 2 (some .int)) ({ frames := 0, cells := 0, slots := 0, locals := 0 }) (va_Pc [.ref (h 0), .int (nI k)] (fun U => va_P (dC, dI) gv_cl (gv_xW h d n kn L R fa fm) U.heap ∧ va_K (dC, dI) gv_cl (gv_xT d) U)) (vp_Si (fun r => r = gv_st u v)) 0 0 (fun _ => False) := by
  refine Met.ofW (cc := cX0_standing) (maxL := 2) (ret := (some .int)) (by decide) rfl ?_
  intro p e s m args below meth c s₁ B hml hv
  obtain ⟨rfl, hP, hK⟩ := hv
  have hx := B.exec
  have hb := B.bytes
  have hr := B.returns
  have hts := atoms_spec (ws := ws_ yX0_standing cX0_standing 2 (some .int)) B.pre
  have hts : ∀ w ∈ lw_all, w.before _ s = true := fun w h => hts w (List.mem_cons_of_mem _ h)
  have hown : s.vm.findClass RX0 = some m.cls := findClass_of_methodNamed B.named
  have hlocks := B.notSynchronized
  have hl := lv_entry ([.ref (h 0), .int (nI k)]) (n := 2) (Nat.le_of_ble_eq_true rfl)
  rw [lg_entry_eq]
  generalize (lg_sl ([.ref (h 0), .int (nI k)]) ++ List.replicate (2 - (lg_sl ([.ref (h 0), .int (nI k)])).length) Slot.unset).toArray = ls at hl ⊢
  have hl : lv_has ls 2 [(0, .ref (h 0)), (1, .int (nI k))] := hl
  refine lv_aload_n hx hb dX0_standing_0 rfl (lv_at hl 0 rfl) ?_
  refine va_get (D := (dC, dI)) (ci := 0) (v := .ref (h 3)) (C := RX0) (T := TX0) (N := 6) hx hb hts in_X0 hown hK hP 0 rfl rfl 4 (by decide) (hts _ q31) (fun _ h9 => h9) rfl dX0_standing_1 ?_
  refine lv_iload_n hx hb dX0_standing_4 rfl (lv_at hl 1 rfl) ?_
  refine va_zald hx hb hK hP 3 2 rfl rfl (vp_in_nI (n := k) (by omega) (by decide)) dX0_standing_5 ?_
  refine gv_top (y := gv_z u) ((gv_ld fa (e := k) (by omega)).trans hu) ?_
  refine lv_if_eq (tgt := 24) hx hb dX0_standing_6 (by decide) (fun c1 => ?_) (fun c1 => ?_)
  · refine lv_aload_n hx hb dX0_standing_24 rfl (lv_at hl 0 rfl) ?_
    refine va_get (D := (dC, dI)) (ci := 0) (v := .ref (h 4)) (C := RX0) (T := TX0) (N := 6) hx hb hts in_X0 hown hK hP 0 rfl rfl 5 (by decide) (hts _ q32) (fun _ h9 => h9) rfl dX0_standing_25 ?_
    refine lv_iload_n hx hb dX0_standing_28 rfl (lv_at hl 1 rfl) ?_
    refine va_zald hx hb hK hP 4 3 rfl rfl (vp_in_nI (n := k) (by omega) (by decide)) dX0_standing_29 ?_
    refine gv_top (y := gv_z v) ((gv_ld fm (e := k) (by omega)).trans hv1) ?_
    refine lv_if_eq (tgt := 37) hx hb dX0_standing_30 (by decide) (fun c2 => ?_) (fun c2 => ?_)
    · refine lv_iconst (v := nI 3) hx hb dX0_standing_37 (by decide) ?_
      exact W.iret (v := nI 3) hx hb hr (fun t ht hW => ⟨_, rfl, by rw [gv_z0 c1, gv_z0 c2]; rfl, ht⟩) (fun _ h => nomatch h) dX0_standing_38
    · refine lv_iconst (v := nI 2) hx hb dX0_standing_33 (by decide) ?_
      refine lv_goto (tgt := 38) hx hb dX0_standing_34 (by decide) ?_
      exact W.iret (v := nI 2) hx hb hr (fun t ht hW => ⟨_, rfl, by rw [gv_z0 c1, gv_z1 c2]; rfl, ht⟩) (fun _ h => nomatch h) dX0_standing_38
  · refine lv_aload_n hx hb dX0_standing_9 rfl (lv_at hl 0 rfl) ?_
    refine va_get (D := (dC, dI)) (ci := 0) (v := .ref (h 4)) (C := RX0) (T := TX0) (N := 6) hx hb hts in_X0 hown hK hP 0 rfl rfl 5 (by decide) (hts _ q32) (fun _ h9 => h9) rfl dX0_standing_10 ?_
    refine lv_iload_n hx hb dX0_standing_13 rfl (lv_at hl 1 rfl) ?_
    refine va_zald hx hb hK hP 4 3 rfl rfl (vp_in_nI (n := k) (by omega) (by decide)) dX0_standing_14 ?_
    refine gv_top (y := gv_z v) ((gv_ld fm (e := k) (by omega)).trans hv1) ?_
    refine lv_if_eq (tgt := 22) hx hb dX0_standing_15 (by decide) (fun c2 => ?_) (fun c2 => ?_)
    · refine lv_iconst (v := nI 1) hx hb dX0_standing_22 (by decide) ?_
      exact W.iret (v := nI 1) hx hb hr (fun t ht hW => ⟨_, rfl, by rw [gv_z1 c1, gv_z0 c2]; rfl, ht⟩) (fun _ h => nomatch h) dX0_standing_23
    · refine lv_iconst (v := nI 0) hx hb dX0_standing_18 (by decide) ?_
      refine lv_goto (tgt := 23) hx hb dX0_standing_19 (by decide) ?_
      exact W.iret (v := nI 0) hx hb hr (fun t ht hW => ⟨_, rfl, by rw [gv_z1 c1, gv_z1 c2]; rfl, ht⟩) (fun _ h => nomatch h) dX0_standing_23
end
section
set_option maxHeartbeats 4000000 in
set_option maxRecDepth 100000 in
/-- compareSum -/
theorem gv_x_compareSum (l : Launch) (dC : Nat → ClassId) (dI : Nat → Nat → Nat) (h : Nat → Nat) (d : Nat → ClassId) (sz : Nat) (n : Nat) (kn : Int32) (L R : Nat → Nat) (fa fm : Nat → Int32) (x y z : Int32) (hg : gv_ok L R) (hn1 : 1 ≤ n) (hn : n ≤ 10) (hk : gv_k n L R kn fa fm) : Met l yX0_compareSum (ws_ yX0_compareSum cX0_compareSum 5 (some .int)) ({ frames := 3, cells := 0, slots := 0, locals := 74 }) (va_Pc [.ref (h 0), .int x, .int y, .int z] (fun U => U.heap.size = sz ∧ va_P (dC, dI) gv_cl (gv_xW h d n kn L R fa fm) U.heap ∧ va_K (dC, dI) gv_cl (gv_xT d) U ∧ va_D (fun _ => True) (gv_xW h d n kn L R fa fm))) (va_Qi (fun (r : Int32) (u : Int32 × (Nat → Int32) × (Nat → Int32)) => r = gv_csR n L R x y z ∧ gv_k n L R u.1 u.2.1 u.2.2) (gv_xB dC dI h d n L R (va_A (gv_xW h d n kn L R fa fm) sz)) (va_A (gv_xW h d n kn L R fa fm) sz)) 0 0 (va_A (gv_xW h d n kn L R fa fm) sz) := by
  refine Met.ofW (cc := cX0_compareSum) (maxL := 5) (ret := (some .int)) (by decide) rfl ?_
  intro p e s m args below meth c s₁ B hml hv
  obtain ⟨rfl, hsz, hP, hK, hD0⟩ := hv
  have hx := B.exec
  have hb := B.bytes
  have hr := B.returns
  have hts := atoms_spec (ws := ws_ yX0_compareSum cX0_compareSum 5 (some .int)) B.pre
  have hts : ∀ w ∈ lw_all, w.before _ s = true := fun w h => hts w (List.mem_cons_of_mem _ h)
  have hown : s.vm.findClass RX0 = some m.cls := findClass_of_methodNamed B.named
  have hlocks := B.notSynchronized
  subst hsz
  have hD := hD0.self (sz := s.heap.size)
  generalize hAe : va_A (gv_xW h d n kn L R fa fm) s.heap.size = A at hD ⊢
  have hA : ∀ q : Nat, s.heap.size ≤ q → A q := fun q h => by rw [← hAe]; exact Or.inr h
  have hS : va_S A s.heap s.heap [] := va_S.rf
  have hP : va_P (dC, dI) gv_cl (gv_xW h d n kn L R fa fm) s.heap := hP
  have hl := lv_entry ([.ref (h 0), .int x, .int y, .int z]) (n := 5) (Nat.le_of_ble_eq_true rfl)
  rw [lg_entry_eq]
  generalize (lg_sl ([.ref (h 0), .int x, .int y, .int z]) ++ List.replicate (5 - (lg_sl ([.ref (h 0), .int x, .int y, .int z])).length) Slot.unset).toArray = ls at hl ⊢
  have hl : lv_has ls 5 [(0, .ref (h 0)), (1, .int x), (2, .int y), (3, .int z)] := hl
  refine lv_aload_n hx hb dX0_compareSum_0 rfl (lv_at hl 0 rfl) ?_
  refine lv_iload_n hx hb dX0_compareSum_1 rfl (lv_at hl 1 rfl) ?_
  refine vp_callSi (W.runV (As := [.int x]) (rest := []) ⟨hx, hb, hml, hown, hts⟩ (gv_x_has l dC dI h d n kn L R fa fm x) (cwV 1 hts (lw_V q68 q70 qs1 q17 q71) rfl rfl rfl (by decide +kernel) ⟨Nat.le_of_ble_eq_true rfl, Nat.le_of_ble_eq_true rfl⟩) (gv_preV (ci := 0) hK hP rfl rfl) rfl rfl hl.1 rfl (lv_room (Nat.le_of_ble_eq_true rfl)) dX0_compareSum_2 ⟨Nat.le_of_ble_eq_true rfl, Nat.le_of_ble_eq_true rfl⟩) (fun r er => ?_)
  subst er
  refine lv_if_eq (tgt := 24) hx hb dX0_compareSum_5 (by decide) (fun c1 => ?_) (fun c1 => ?_)
  · refine lv_iconst (v := (-1)) hx hb dX0_compareSum_24 (by decide) ?_
    exact W.iret (v := (-1)) hx hb hr (fun t ht hW => ⟨⟨(-1), (kn, fa, fm), rfl, ⟨(gv_csR_f (by rw [gv_z0 c1]; rfl)).symm, hk⟩, by rw [ht]; exact hP, va_K.moved hW.alike hK, hD⟩, hS.F ht⟩) hS.2.2 dX0_compareSum_25
  · refine lv_aload_n hx hb dX0_compareSum_8 rfl (lv_at hl 0 rfl) ?_
    refine lv_iload_n hx hb dX0_compareSum_9 rfl (lv_at hl 2 rfl) ?_
    refine vp_callSi (W.runV (As := [.int y]) (rest := []) ⟨hx, hb, hml, hown, hts⟩ (gv_x_has l dC dI h d n kn L R fa fm y) (cwV 1 hts (lw_V q68 q70 qs1 q17 q71) rfl rfl rfl (by decide +kernel) ⟨Nat.le_of_ble_eq_true rfl, Nat.le_of_ble_eq_true rfl⟩) (gv_preV (ci := 0) hK hP rfl rfl) rfl rfl hl.1 rfl (lv_room (Nat.le_of_ble_eq_true rfl)) dX0_compareSum_10 ⟨Nat.le_of_ble_eq_true rfl, Nat.le_of_ble_eq_true rfl⟩) (fun r er => ?_)
    subst er
    refine lv_if_eq (tgt := 24) hx hb dX0_compareSum_13 (by decide) (fun c2 => ?_) (fun c2 => ?_)
    · refine lv_iconst (v := (-1)) hx hb dX0_compareSum_24 (by decide) ?_
      exact W.iret (v := (-1)) hx hb hr (fun t ht hW => ⟨⟨(-1), (kn, fa, fm), rfl, ⟨(gv_csR_f (by rw [gv_z0 c2, Bool.and_false]; rfl)).symm, hk⟩, by rw [ht]; exact hP, va_K.moved hW.alike hK, hD⟩, hS.F ht⟩) hS.2.2 dX0_compareSum_25
    · refine lv_aload_n hx hb dX0_compareSum_16 rfl (lv_at hl 0 rfl) ?_
      refine lv_iload_n hx hb dX0_compareSum_17 rfl (lv_at hl 3 rfl) ?_
      refine vp_callSi (W.runV (As := [.int z]) (rest := []) ⟨hx, hb, hml, hown, hts⟩ (gv_x_has l dC dI h d n kn L R fa fm z) (cwV 1 hts (lw_V q68 q70 qs1 q17 q71) rfl rfl rfl (by decide +kernel) ⟨Nat.le_of_ble_eq_true rfl, Nat.le_of_ble_eq_true rfl⟩) (gv_preV (ci := 0) hK hP rfl rfl) rfl rfl hl.1 rfl (lv_room (Nat.le_of_ble_eq_true rfl)) dX0_compareSum_18 ⟨Nat.le_of_ble_eq_true rfl, Nat.le_of_ble_eq_true rfl⟩) (fun r er => ?_)
      subst er
      refine lv_if_ne (tgt := 26) hx hb dX0_compareSum_21 (by decide) (fun c3 => ?_) (fun c3 => ?_)
      · have q1 := gv_z1 c1
        have q2 := gv_z1 c2
        have q3 := gv_z1 c3
        clear c1 c2 c3
        obtain ⟨k1, j1, rfl⟩ := gv_hT q1 (by omega)
        obtain ⟨k2, j2, rfl⟩ := gv_hT q2 (by omega)
        obtain ⟨k3, j3, rfl⟩ := gv_hT q3 (by omega)
        refine lv_aload_n hx hb dX0_compareSum_26 rfl (lv_at hl 0 rfl) ?_
        have hFc := va_free (wc := gv_xW h d n kn L R fa fm) hD hS hA [0, 1, 2, 3, 4] rfl
        refine va_callv (va_runV (As := []) (rest := []) ⟨hx, hb, hml, hown, hts⟩ (gv_x_learn l dC dI h d _ n kn L R fa fm hg hn1 hn hk) (cwV 0 hts (lw_V q84 q86 qs3 q17 q87) rfl rfl rfl (by decide +kernel) ⟨Nat.le_of_ble_eq_true rfl, Nat.le_of_ble_eq_true rfl⟩) (gv_preD (ci := 0) hK hP hD rfl rfl) rfl rfl hl.1 rfl (lv_room (Nat.le_of_ble_eq_true rfl)) dX0_compareSum_27 ⟨Nat.le_of_ble_eq_true rfl, Nat.le_of_ble_eq_true rfl⟩) hS (fun q _ h => hFc q h) hFc (fun u t H1 locs ht hvm hw hB hz1 hk1 hS => ?_)
        obtain ⟨kn1, fa1, fm1⟩ := u
        obtain ⟨hP1, hK1, hD1⟩ := hB
        rw [ht] at hP1
        have hP : va_P (dC, dI) gv_cl (gv_xW h d n kn1 L R fa1 fm1) H1 := hP1
        have hD : va_D A (gv_xW h d n kn1 L R fa1 fm1) := hD1.weaken (fun _ q _ h => hFc q.1 h)
        clear hP1 hK1 hD1 hFc
        have ht1 : gv_tab n L R fa1 fm1 := hw.2
        have hk1 : gv_k n L R kn1 fa1 fm1 := Or.inr hw
        refine lv_iload_n hx hb dX0_compareSum_30 rfl (lv_at hl 1 rfl) ?_
        refine lv_iload_n hx hb dX0_compareSum_31 rfl (lv_at hl 2 rfl) ?_
        refine lv_iload_n hx hb dX0_compareSum_32 rfl (lv_at hl 3 rfl) ?_
        refine vp_callSi (W.runS (As := [.int (nI k1), .int (nI k2), .int (nI k3)]) (rest := []) ⟨hx, hb, hml, hown, hts⟩ (gv_x_cell l k1 k2 k3) (va_cwS 3 hts (lw_S q88 q89 q17 q90) rfl rfl rfl (by decide +kernel) ⟨Nat.le_of_ble_eq_true rfl, Nat.le_of_ble_eq_true rfl⟩) gv_preS rfl rfl hl.1 rfl (lv_room (Nat.le_of_ble_eq_true rfl)) dX0_compareSum_33 ⟨Nat.le_of_ble_eq_true rfl, Nat.le_of_ble_eq_true rfl⟩) (fun r er => ?_)
        subst er
        refine lv_istore (lv' := [(4, .int (nI ((k1 * 10 + k2) * 10 + k3))), (0, .ref (h 0)), (1, .int (nI k1)), (2, .int (nI k2)), (3, .int (nI k3))]) hx hb dX0_compareSum_36 hl (by decide) rfl (fun ls hl => ?_)
        refine lv_aload_n hx hb dX0_compareSum_38 rfl (lv_at hl 1 rfl) ?_
        refine lv_iload hx hb dX0_compareSum_39 (lv_at hl 0 rfl) ?_
        refine vp_callSi (W.runV (As := [.int (nI ((k1 * 10 + k2) * 10 + k3))]) (rest := []) ⟨hx, hb, hml, hown, hts⟩ (gv_x_standing l dC dI h d n kn1 L R fa1 fm1 ((k1 * 10 + k2) * 10 + k3) (!gv_win L R 1 k1 k2 k3) (!gv_win L R 0 k1 k2 k3) (by omega) (ht1 k1 k2 k3 j1 j2 j3).1 (ht1 k1 k2 k3 j1 j2 j3).2) (cwV 1 hts (lw_V q102 q104 qs6 q17 q105) rfl rfl rfl (by decide +kernel) ⟨Nat.le_of_ble_eq_true rfl, Nat.le_of_ble_eq_true rfl⟩) (gv_preV (ci := 0) hK hP rfl rfl) rfl rfl hl.1 rfl (lv_room (Nat.le_of_ble_eq_true rfl)) dX0_compareSum_41 ⟨Nat.le_of_ble_eq_true rfl, Nat.le_of_ble_eq_true rfl⟩) (fun r er => ?_)
        subst er
        exact W.iret (v := (gv_st (!gv_win L R 1 k1 k2 k3) (!gv_win L R 0 k1 k2 k3))) hx hb hr (fun t ht hW => ⟨⟨(gv_st (!gv_win L R 1 k1 k2 k3) (!gv_win L R 0 k1 k2 k3)), (kn1, fa1, fm1), rfl, ⟨(gv_csR_t q1 q2 q3 (by omega) (by omega) (by omega)).symm, hk1⟩, by rw [ht]; exact hP, va_K.moved hW.alike hK, hD⟩, hS.F ht⟩) hS.2.2 dX0_compareSum_44
      · refine lv_iconst (v := (-1)) hx hb dX0_compareSum_24 (by decide) ?_
        exact W.iret (v := (-1)) hx hb hr (fun t ht hW => ⟨⟨(-1), (kn, fa, fm), rfl, ⟨(gv_csR_f (by rw [gv_z0 c3, Bool.and_false])).symm, hk⟩, by rw [ht]; exact hP, va_K.moved hW.alike hK, hD⟩, hS.F ht⟩) hS.2.2 dX0_compareSum_25
set_option maxHeartbeats 4000000 in
set_option maxRecDepth 100000 in
/-- compare -/
theorem gv_x_compare (l : Launch) (dC : Nat → ClassId) (dI : Nat → Nat → Nat) (h : Nat → Nat) (d : Nat → ClassId) (sz : Nat) (n : Nat) (kn : Int32) (L R : Nat → Nat) (fa fm : Nat → Int32) (x y : Int32) (hg : gv_ok L R) (hn1 : 1 ≤ n) (hn : n ≤ 10) (hk : gv_k n L R kn fa fm) : Met l yX0_compare (ws_ yX0_compare cX0_compare 3 (some .int)) ({ frames := 4, cells := 0, slots := 0, locals := 98 }) (va_Pc [.ref (h 0), .int x, .int y] (fun U => U.heap.size = sz ∧ va_P (dC, dI) gv_cl (gv_xW h d n kn L R fa fm) U.heap ∧ va_K (dC, dI) gv_cl (gv_xT d) U ∧ va_D (fun _ => True) (gv_xW h d n kn L R fa fm))) (va_Qi (fun (r : Int32) (u : Int32 × (Nat → Int32) × (Nat → Int32)) => r = gv_csR n L R x (nI 0) y ∧ gv_k n L R u.1 u.2.1 u.2.2) (gv_xB dC dI h d n L R (va_A (gv_xW h d n kn L R fa fm) sz)) (va_A (gv_xW h d n kn L R fa fm) sz)) 0 0 (va_A (gv_xW h d n kn L R fa fm) sz) := by
  refine Met.ofW (cc := cX0_compare) (maxL := 3) (ret := (some .int)) (by decide) rfl ?_
  intro p e s m args below meth c s₁ B hml hv
  obtain ⟨rfl, hsz, hP, hK, hD0⟩ := hv
  have hx := B.exec
  have hb := B.bytes
  have hr := B.returns
  have hts := atoms_spec (ws := ws_ yX0_compare cX0_compare 3 (some .int)) B.pre
  have hts : ∀ w ∈ lw_all, w.before _ s = true := fun w h => hts w (List.mem_cons_of_mem _ h)
  have hown : s.vm.findClass RX0 = some m.cls := findClass_of_methodNamed B.named
  have hlocks := B.notSynchronized
  subst hsz
  have hD := hD0.self (sz := s.heap.size)
  generalize hAe : va_A (gv_xW h d n kn L R fa fm) s.heap.size = A at hD ⊢
  have hA : ∀ q : Nat, s.heap.size ≤ q → A q := fun q h => by rw [← hAe]; exact Or.inr h
  have hS : va_S A s.heap s.heap [] := va_S.rf
  have hP : va_P (dC, dI) gv_cl (gv_xW h d n kn L R fa fm) s.heap := hP
  have hl := lv_entry ([.ref (h 0), .int x, .int y]) (n := 3) (Nat.le_of_ble_eq_true rfl)
  rw [lg_entry_eq]
  generalize (lg_sl ([.ref (h 0), .int x, .int y]) ++ List.replicate (3 - (lg_sl ([.ref (h 0), .int x, .int y])).length) Slot.unset).toArray = ls at hl ⊢
  have hl : lv_has ls 3 [(0, .ref (h 0)), (1, .int x), (2, .int y)] := hl
  refine lv_aload_n hx hb dX0_compare_0 rfl (lv_at hl 0 rfl) ?_
  refine lv_iload_n hx hb dX0_compare_1 rfl (lv_at hl 1 rfl) ?_
  refine lv_iconst (v := nI 0) hx hb dX0_compare_2 (by decide) ?_
  refine lv_iload_n hx hb dX0_compare_3 rfl (lv_at hl 2 rfl) ?_
  have hFc := va_free (wc := gv_xW h d n kn L R fa fm) hD hS hA [0, 1, 2, 3, 4] rfl
  refine va_calli (va_runV (As := [.int x, .int (nI 0), .int y]) (rest := []) ⟨hx, hb, hml, hown, hts⟩ (gv_x_compareSum l dC dI h d _ n kn L R fa fm x (nI 0) y hg hn1 hn hk) (cwV 3 hts (lw_V q80 q81 q82 q17 q83) rfl rfl rfl (by decide +kernel) ⟨Nat.le_of_ble_eq_true rfl, Nat.le_of_ble_eq_true rfl⟩) (gv_preD (ci := 0) hK hP hD rfl rfl) rfl rfl hl.1 rfl (lv_room (Nat.le_of_ble_eq_true rfl)) dX0_compare_4 ⟨Nat.le_of_ble_eq_true rfl, Nat.le_of_ble_eq_true rfl⟩) hS (fun q _ h => hFc q h) hFc (fun r u t H1 locs ht hvm hw hB hz1 hk1 hS => ?_)
  obtain ⟨kn1, fa1, fm1⟩ := u
  obtain ⟨hP1, hK1, hD1⟩ := hB
  rw [ht] at hP1
  have hP : va_P (dC, dI) gv_cl (gv_xW h d n kn1 L R fa1 fm1) H1 := hP1
  have hD : va_D A (gv_xW h d n kn1 L R fa1 fm1) := hD1.weaken (fun _ q _ h => hFc q.1 h)
  clear hP1 hK1 hD1 hFc
  exact W.iret (v := r) hx hb hr (fun t ht hW => ⟨⟨r, (kn1, fa1, fm1), rfl, hw, by rw [ht]; exact hP, va_K.moved hW.alike hK, hD⟩, hS.F ht⟩) hS.2.2 dX0_compare_7
set_option maxHeartbeats 4000000 in
set_option maxRecDepth 100000 in
/-- winsSum -/
theorem gv_x_winsSum (l : Launch) (dC : Nat → ClassId) (dI : Nat → Nat → Nat) (h : Nat → Nat) (d : Nat → ClassId) (sz : Nat) (n : Nat) (kn : Int32) (L R : Nat → Nat) (fa fm : Nat → Int32) (x y z : Int32) (hg : gv_ok L R) (hn1 : 1 ≤ n) (hn : n ≤ 10) (hk : gv_k n L R kn fa fm) : Met l yX0_winsSum (ws_ yX0_winsSum cX0_winsSum 5 (some .boolean)) ({ frames := 3, cells := 0, slots := 0, locals := 74 }) (va_Pc [.ref (h 0), .int x, .int y, .int z] (fun U => U.heap.size = sz ∧ va_P (dC, dI) gv_cl (gv_xW h d n kn L R fa fm) U.heap ∧ va_K (dC, dI) gv_cl (gv_xT d) U ∧ va_D (fun _ => True) (gv_xW h d n kn L R fa fm))) (va_Qi (fun (r : Int32) (u : Int32 × (Nat → Int32) × (Nat → Int32)) => r = gv_z (gv_wsR n L R x y z) ∧ gv_k n L R u.1 u.2.1 u.2.2) (gv_xB dC dI h d n L R (va_A (gv_xW h d n kn L R fa fm) sz)) (va_A (gv_xW h d n kn L R fa fm) sz)) 0 0 (va_A (gv_xW h d n kn L R fa fm) sz) := by
  refine Met.ofW (cc := cX0_winsSum) (maxL := 5) (ret := (some .boolean)) (by decide) rfl ?_
  intro p e s m args below meth c s₁ B hml hv
  obtain ⟨rfl, hsz, hP, hK, hD0⟩ := hv
  have hx := B.exec
  have hb := B.bytes
  have hr := B.returns
  have hts := atoms_spec (ws := ws_ yX0_winsSum cX0_winsSum 5 (some .boolean)) B.pre
  have hts : ∀ w ∈ lw_all, w.before _ s = true := fun w h => hts w (List.mem_cons_of_mem _ h)
  have hown : s.vm.findClass RX0 = some m.cls := findClass_of_methodNamed B.named
  have hlocks := B.notSynchronized
  subst hsz
  have hD := hD0.self (sz := s.heap.size)
  generalize hAe : va_A (gv_xW h d n kn L R fa fm) s.heap.size = A at hD ⊢
  have hA : ∀ q : Nat, s.heap.size ≤ q → A q := fun q h => by rw [← hAe]; exact Or.inr h
  have hS : va_S A s.heap s.heap [] := va_S.rf
  have hP : va_P (dC, dI) gv_cl (gv_xW h d n kn L R fa fm) s.heap := hP
  have hl := lv_entry ([.ref (h 0), .int x, .int y, .int z]) (n := 5) (Nat.le_of_ble_eq_true rfl)
  rw [lg_entry_eq]
  generalize (lg_sl ([.ref (h 0), .int x, .int y, .int z]) ++ List.replicate (5 - (lg_sl ([.ref (h 0), .int x, .int y, .int z])).length) Slot.unset).toArray = ls at hl ⊢
  have hl : lv_has ls 5 [(0, .ref (h 0)), (1, .int x), (2, .int y), (3, .int z)] := hl
  refine lv_aload_n hx hb dX0_winsSum_0 rfl (lv_at hl 0 rfl) ?_
  refine lv_iload_n hx hb dX0_winsSum_1 rfl (lv_at hl 1 rfl) ?_
  refine vp_callSi (W.runV (As := [.int x]) (rest := []) ⟨hx, hb, hml, hown, hts⟩ (gv_x_has l dC dI h d n kn L R fa fm x) (cwV 1 hts (lw_V q68 q70 qs1 q17 q71) rfl rfl rfl (by decide +kernel) ⟨Nat.le_of_ble_eq_true rfl, Nat.le_of_ble_eq_true rfl⟩) (gv_preV (ci := 0) hK hP rfl rfl) rfl rfl hl.1 rfl (lv_room (Nat.le_of_ble_eq_true rfl)) dX0_winsSum_2 ⟨Nat.le_of_ble_eq_true rfl, Nat.le_of_ble_eq_true rfl⟩) (fun r er => ?_)
  subst er
  refine lv_if_eq (tgt := 25) hx hb dX0_winsSum_5 (by decide) (fun c1 => ?_) (fun c1 => ?_)
  · refine lv_iconst (v := nI 0) hx hb dX0_winsSum_25 (by decide) ?_
    exact W.zret (v := nI 0) hx hb hr (rfl) (fun t ht hW => ⟨⟨nI 0, (kn, fa, fm), rfl, ⟨gv_a0 (gv_wsR_f (by rw [gv_z0 c1]; rfl)), hk⟩, by rw [ht]; exact hP, va_K.moved hW.alike hK, hD⟩, hS.F ht⟩) hS.2.2 dX0_winsSum_26
  · refine lv_aload_n hx hb dX0_winsSum_8 rfl (lv_at hl 0 rfl) ?_
    refine lv_iload_n hx hb dX0_winsSum_9 rfl (lv_at hl 2 rfl) ?_
    refine vp_callSi (W.runV (As := [.int y]) (rest := []) ⟨hx, hb, hml, hown, hts⟩ (gv_x_has l dC dI h d n kn L R fa fm y) (cwV 1 hts (lw_V q68 q70 qs1 q17 q71) rfl rfl rfl (by decide +kernel) ⟨Nat.le_of_ble_eq_true rfl, Nat.le_of_ble_eq_true rfl⟩) (gv_preV (ci := 0) hK hP rfl rfl) rfl rfl hl.1 rfl (lv_room (Nat.le_of_ble_eq_true rfl)) dX0_winsSum_10 ⟨Nat.le_of_ble_eq_true rfl, Nat.le_of_ble_eq_true rfl⟩) (fun r er => ?_)
    subst er
    refine lv_if_eq (tgt := 25) hx hb dX0_winsSum_13 (by decide) (fun c2 => ?_) (fun c2 => ?_)
    · refine lv_iconst (v := nI 0) hx hb dX0_winsSum_25 (by decide) ?_
      exact W.zret (v := nI 0) hx hb hr (rfl) (fun t ht hW => ⟨⟨nI 0, (kn, fa, fm), rfl, ⟨gv_a0 (gv_wsR_f (by rw [gv_z0 c2, Bool.and_false]; rfl)), hk⟩, by rw [ht]; exact hP, va_K.moved hW.alike hK, hD⟩, hS.F ht⟩) hS.2.2 dX0_winsSum_26
    · refine lv_iload_n hx hb dX0_winsSum_16 rfl (lv_at hl 3 rfl) ?_
      refine gv_midP (P := gv_sd z = true) (g1 := F0 m 27 ls []) (fun q3 => ?_) (fun K27 => ?_)
      · have q1 := gv_z1 c1
        have q2 := gv_z1 c2
        clear c1 c2
        obtain ⟨k1, j1, rfl⟩ := gv_hT q1 (by omega)
        obtain ⟨k2, j2, rfl⟩ := gv_hT q2 (by omega)
        obtain ⟨s1, j3, rfl⟩ := gv_sdT q3
        refine lv_aload_n hx hb dX0_winsSum_27 rfl (lv_at hl 0 rfl) ?_
        have hFc := va_free (wc := gv_xW h d n kn L R fa fm) hD hS hA [0, 1, 2, 3, 4] rfl
        refine va_callv (va_runV (As := []) (rest := []) ⟨hx, hb, hml, hown, hts⟩ (gv_x_learn l dC dI h d _ n kn L R fa fm hg hn1 hn hk) (cwV 0 hts (lw_V q84 q86 qs3 q17 q87) rfl rfl rfl (by decide +kernel) ⟨Nat.le_of_ble_eq_true rfl, Nat.le_of_ble_eq_true rfl⟩) (gv_preD (ci := 0) hK hP hD rfl rfl) rfl rfl hl.1 rfl (lv_room (Nat.le_of_ble_eq_true rfl)) dX0_winsSum_28 ⟨Nat.le_of_ble_eq_true rfl, Nat.le_of_ble_eq_true rfl⟩) hS (fun q _ h => hFc q h) hFc (fun u t H1 locs ht hvm hw hB hz1 hk1 hS => ?_)
        obtain ⟨kn1, fa1, fm1⟩ := u
        obtain ⟨hP1, hK1, hD1⟩ := hB
        rw [ht] at hP1
        have hP : va_P (dC, dI) gv_cl (gv_xW h d n kn1 L R fa1 fm1) H1 := hP1
        have hD : va_D A (gv_xW h d n kn1 L R fa1 fm1) := hD1.weaken (fun _ q _ h => hFc q.1 h)
        clear hP1 hK1 hD1 hFc
        have ht1 : gv_tab n L R fa1 fm1 := hw.2
        have hk1 : gv_k n L R kn1 fa1 fm1 := Or.inr hw
        have eR := gv_wsR_t (L := L) (R := R) q1 q2 q3 (by omega) (by omega) (by omega)
        refine lv_iload_n hx hb dX0_winsSum_31 rfl (lv_at hl 1 rfl) ?_
        refine lv_iload_n hx hb dX0_winsSum_32 rfl (lv_at hl 2 rfl) ?_
        refine lv_iconst (v := nI 0) hx hb dX0_winsSum_33 (by decide) ?_
        refine vp_callSi (W.runS (As := [.int (nI k1), .int (nI k2), .int (nI 0)]) (rest := []) ⟨hx, hb, hml, hown, hts⟩ (gv_x_cell l k1 k2 0) (va_cwS 3 hts (lw_S q88 q89 q17 q90) rfl rfl rfl (by decide +kernel) ⟨Nat.le_of_ble_eq_true rfl, Nat.le_of_ble_eq_true rfl⟩) gv_preS rfl rfl hl.1 rfl (lv_room (Nat.le_of_ble_eq_true rfl)) dX0_winsSum_34 ⟨Nat.le_of_ble_eq_true rfl, Nat.le_of_ble_eq_true rfl⟩) (fun r er => ?_)
        subst er
        refine lv_istore (lv' := [(4, .int (nI ((k1 * 10 + k2) * 10 + 0))), (0, .ref (h 0)), (1, .int (nI k1)), (2, .int (nI k2)), (3, .int (nI s1))]) hx hb dX0_winsSum_37 hl (by decide) rfl (fun ls hl => ?_)
        refine lv_iload_n hx hb dX0_winsSum_39 rfl (lv_at hl 4 rfl) ?_
        refine lv_if_ne (tgt := 61) hx hb dX0_winsSum_40 (by decide) (fun c3 => ?_) (fun c3 => ?_)
        · refine lv_aload_n hx hb dX0_winsSum_61 rfl (lv_at hl 1 rfl) ?_
          refine va_get (D := (dC, dI)) (ci := 0) (v := .ref (h 3)) (C := RX0) (T := TX0) (N := 6) hx hb hts in_X0 hown hK hP 0 rfl rfl 4 (by decide) (hts _ q31) (fun _ h9 => h9) rfl dX0_winsSum_62 ?_
          refine lv_iload hx hb dX0_winsSum_65 (lv_at hl 0 rfl) ?_
          refine va_zald hx hb hK hP 3 2 rfl rfl (vp_in_nI (n := (k1 * 10 + k2) * 10 + 0) (by omega) (by decide)) dX0_winsSum_67 ?_
          refine gv_top (y := gv_z (!gv_win L R 1 k1 k2 0)) ((gv_ld fa1 (e := (k1 * 10 + k2) * 10 + 0) (by omega)).trans ((ht1 k1 k2 0 j1 j2 (by omega)).1)) ?_
          refine lv_if_ne (tgt := 75) hx hb dX0_winsSum_68 (by decide) (fun c4 => ?_) (fun c4 => ?_)
          · refine lv_iconst (v := nI 0) hx hb dX0_winsSum_75 (by decide) ?_
            exact W.zret (v := nI 0) hx hb hr (rfl) (fun t ht hW => ⟨⟨nI 0, (kn1, fa1, fm1), rfl, ⟨gv_a0 (by rw [eR, gv_n1 j3 c3]; exact gv_nt (gv_z1 c4)), hk1⟩, by rw [ht]; exact hP, va_K.moved hW.alike hK, hD⟩, hS.F ht⟩) hS.2.2 dX0_winsSum_76
          · refine lv_iconst (v := nI 1) hx hb dX0_winsSum_71 (by decide) ?_
            refine lv_goto (tgt := 76) hx hb dX0_winsSum_72 (by decide) ?_
            exact W.zret (v := nI 1) hx hb hr (rfl) (fun t ht hW => ⟨⟨nI 1, (kn1, fa1, fm1), rfl, ⟨gv_a1 (by rw [eR, gv_n1 j3 c3]; exact gv_nf (gv_z0 c4)), hk1⟩, by rw [ht]; exact hP, va_K.moved hW.alike hK, hD⟩, hS.F ht⟩) hS.2.2 dX0_winsSum_76
        · refine lv_aload_n hx hb dX0_winsSum_43 rfl (lv_at hl 1 rfl) ?_
          refine va_get (D := (dC, dI)) (ci := 0) (v := .ref (h 4)) (C := RX0) (T := TX0) (N := 6) hx hb hts in_X0 hown hK hP 0 rfl rfl 5 (by decide) (hts _ q32) (fun _ h9 => h9) rfl dX0_winsSum_44 ?_
          refine lv_iload hx hb dX0_winsSum_47 (lv_at hl 0 rfl) ?_
          refine va_zald hx hb hK hP 4 3 rfl rfl (vp_in_nI (n := (k1 * 10 + k2) * 10 + 0) (by omega) (by decide)) dX0_winsSum_49 ?_
          refine gv_top (y := gv_z (!gv_win L R 0 k1 k2 0)) ((gv_ld fm1 (e := (k1 * 10 + k2) * 10 + 0) (by omega)).trans ((ht1 k1 k2 0 j1 j2 (by omega)).2)) ?_
          refine lv_if_ne (tgt := 57) hx hb dX0_winsSum_50 (by decide) (fun c4 => ?_) (fun c4 => ?_)
          · refine lv_iconst (v := nI 0) hx hb dX0_winsSum_57 (by decide) ?_
            refine lv_goto (tgt := 76) hx hb dX0_winsSum_58 (by decide) ?_
            exact W.zret (v := nI 0) hx hb hr (rfl) (fun t ht hW => ⟨⟨nI 0, (kn1, fa1, fm1), rfl, ⟨gv_a0 (by rw [eR, gv_n0 j3 c3]; exact gv_nt (gv_z1 c4)), hk1⟩, by rw [ht]; exact hP, va_K.moved hW.alike hK, hD⟩, hS.F ht⟩) hS.2.2 dX0_winsSum_76
          · refine lv_iconst (v := nI 1) hx hb dX0_winsSum_53 (by decide) ?_
            refine lv_goto (tgt := 76) hx hb dX0_winsSum_54 (by decide) ?_
            exact W.zret (v := nI 1) hx hb hr (rfl) (fun t ht hW => ⟨⟨nI 1, (kn1, fa1, fm1), rfl, ⟨gv_a1 (by rw [eR, gv_n0 j3 c3]; exact gv_nf (gv_z0 c4)), hk1⟩, by rw [ht]; exact hP, va_K.moved hW.alike hK, hD⟩, hS.F ht⟩) hS.2.2 dX0_winsSum_76
      · refine lv_if_eq (tgt := 27) hx hb dX0_winsSum_17 (by decide) (fun c3 => ?_) (fun c3 => ?_)
        · exact K27 (by rw [gv_sd, decide_eq_true c3]; rfl)
        · refine lv_iload_n hx hb dX0_winsSum_20 rfl (lv_at hl 3 rfl) ?_
          refine lv_iconst (v := nI 1) hx hb dX0_winsSum_21 (by decide) ?_
          refine lv_icmp_eq (tgt := 27) hx hb dX0_winsSum_22 (by decide) (fun c4 => ?_) (fun c4 => ?_)
          · exact K27 (by rw [gv_sd, decide_eq_true c4, Bool.or_true])
          · refine lv_iconst (v := nI 0) hx hb dX0_winsSum_25 (by decide) ?_
            exact W.zret (v := nI 0) hx hb hr (rfl) (fun t ht hW => ⟨⟨nI 0, (kn, fa, fm), rfl, ⟨gv_a0 (gv_wsR_f (by rw [gv_sd, decide_eq_false c3, decide_eq_false c4, Bool.or_false, Bool.and_false])), hk⟩, by rw [ht]; exact hP, va_K.moved hW.alike hK, hD⟩, hS.F ht⟩) hS.2.2 dX0_winsSum_26
set_option maxHeartbeats 4000000 in
set_option maxRecDepth 100000 in
/-- wins -/
theorem gv_x_wins (l : Launch) (dC : Nat → ClassId) (dI : Nat → Nat → Nat) (h : Nat → Nat) (d : Nat → ClassId) (sz : Nat) (n : Nat) (kn : Int32) (L R : Nat → Nat) (fa fm : Nat → Int32) (x y : Int32) (hg : gv_ok L R) (hn1 : 1 ≤ n) (hn : n ≤ 10) (hk : gv_k n L R kn fa fm) : Met l yX0_wins (ws_ yX0_wins cX0_wins 3 (some .boolean)) ({ frames := 4, cells := 0, slots := 0, locals := 98 }) (va_Pc [.ref (h 0), .int x, .int y] (fun U => U.heap.size = sz ∧ va_P (dC, dI) gv_cl (gv_xW h d n kn L R fa fm) U.heap ∧ va_K (dC, dI) gv_cl (gv_xT d) U ∧ va_D (fun _ => True) (gv_xW h d n kn L R fa fm))) (va_Qi (fun (r : Int32) (u : Int32 × (Nat → Int32) × (Nat → Int32)) => r = gv_z (gv_wsR n L R x (nI 0) y) ∧ gv_k n L R u.1 u.2.1 u.2.2) (gv_xB dC dI h d n L R (va_A (gv_xW h d n kn L R fa fm) sz)) (va_A (gv_xW h d n kn L R fa fm) sz)) 0 0 (va_A (gv_xW h d n kn L R fa fm) sz) := by
  refine Met.ofW (cc := cX0_wins) (maxL := 3) (ret := (some .boolean)) (by decide) rfl ?_
  intro p e s m args below meth c s₁ B hml hv
  obtain ⟨rfl, hsz, hP, hK, hD0⟩ := hv
  have hx := B.exec
  have hb := B.bytes
  have hr := B.returns
  have hts := atoms_spec (ws := ws_ yX0_wins cX0_wins 3 (some .boolean)) B.pre
  have hts : ∀ w ∈ lw_all, w.before _ s = true := fun w h => hts w (List.mem_cons_of_mem _ h)
  have hown : s.vm.findClass RX0 = some m.cls := findClass_of_methodNamed B.named
  have hlocks := B.notSynchronized
  subst hsz
  have hD := hD0.self (sz := s.heap.size)
  generalize hAe : va_A (gv_xW h d n kn L R fa fm) s.heap.size = A at hD ⊢
  have hA : ∀ q : Nat, s.heap.size ≤ q → A q := fun q h => by rw [← hAe]; exact Or.inr h
  have hS : va_S A s.heap s.heap [] := va_S.rf
  have hP : va_P (dC, dI) gv_cl (gv_xW h d n kn L R fa fm) s.heap := hP
  have hl := lv_entry ([.ref (h 0), .int x, .int y]) (n := 3) (Nat.le_of_ble_eq_true rfl)
  rw [lg_entry_eq]
  generalize (lg_sl ([.ref (h 0), .int x, .int y]) ++ List.replicate (3 - (lg_sl ([.ref (h 0), .int x, .int y])).length) Slot.unset).toArray = ls at hl ⊢
  have hl : lv_has ls 3 [(0, .ref (h 0)), (1, .int x), (2, .int y)] := hl
  refine lv_aload_n hx hb dX0_wins_0 rfl (lv_at hl 0 rfl) ?_
  refine lv_iload_n hx hb dX0_wins_1 rfl (lv_at hl 1 rfl) ?_
  refine lv_iconst (v := nI 0) hx hb dX0_wins_2 (by decide) ?_
  refine lv_iload_n hx hb dX0_wins_3 rfl (lv_at hl 2 rfl) ?_
  have hFc := va_free (wc := gv_xW h d n kn L R fa fm) hD hS hA [0, 1, 2, 3, 4] rfl
  refine va_calli (va_runV (As := [.int x, .int (nI 0), .int y]) (rest := []) ⟨hx, hb, hml, hown, hts⟩ (gv_x_winsSum l dC dI h d _ n kn L R fa fm x (nI 0) y hg hn1 hn hk) (cwV 3 hts (lw_V q110 q111 q112 q17 q113) rfl rfl rfl (by decide +kernel) ⟨Nat.le_of_ble_eq_true rfl, Nat.le_of_ble_eq_true rfl⟩) (gv_preD (ci := 0) hK hP hD rfl rfl) rfl rfl hl.1 rfl (lv_room (Nat.le_of_ble_eq_true rfl)) dX0_wins_4 ⟨Nat.le_of_ble_eq_true rfl, Nat.le_of_ble_eq_true rfl⟩) hS (fun q _ h => hFc q h) hFc (fun r u t H1 locs ht hvm hw hB hz1 hk1 hS => ?_)
  obtain ⟨kn1, fa1, fm1⟩ := u
  obtain ⟨hP1, hK1, hD1⟩ := hB
  rw [ht] at hP1
  have hP : va_P (dC, dI) gv_cl (gv_xW h d n kn1 L R fa1 fm1) H1 := hP1
  have hD : va_D A (gv_xW h d n kn1 L R fa1 fm1) := hD1.weaken (fun _ q _ h => hFc q.1 h)
  clear hP1 hK1 hD1 hFc
  have er := hw.1
  subst er
  exact W.zret (v := gv_z (gv_wsR n L R x (nI 0) y)) hx hb hr (gv_znar _) (fun t ht hW => ⟨⟨gv_z (gv_wsR n L R x (nI 0) y), (kn1, fa1, fm1), rfl, ⟨rfl, hw.2⟩, by rw [ht]; exact hP, va_K.moved hW.alike hK, hD⟩, hS.F ht⟩) hS.2.2 dX0_wins_7
set_option maxHeartbeats 4000000 in
set_option maxRecDepth 100000 in
/-- as good for a side -/
theorem gv_x_asGood (l : Launch) (dC : Nat → ClassId) (dI : Nat → Nat → Nat) (h : Nat → Nat) (d : Nat → ClassId) (n : Nat) (kn : Int32) (L R : Nat → Nat) (fa fm : Nat → Int32) (a1 a2 s1 : Nat) (hn : n ≤ 10) (h1 : a1 < n) (h2 : a2 < n) (hs : s1 < 2) (ht : gv_tab n L R fa fm) : Met l yX0_asGood (ws_ yX0_asGood cX0_asGood 4 (some .boolean)) ({ frames := 1, cells := 0, slots := 0, locals := 22 }) (va_Pc [.ref (h 0), .int (nI a1), .int (nI a2), .int (nI s1)] (fun U => va_P (dC, dI) gv_cl (gv_xW h d n kn L R fa fm) U.heap ∧ va_K (dC, dI) gv_cl (gv_xT d) U)) (vp_Si (fun r => r = gv_z (gv_ag L R s1 a1 a2))) 0 0 (fun _ => False) := by
  refine Met.ofW (cc := cX0_asGood) (maxL := 4) (ret := (some .boolean)) (by decide) rfl ?_
  intro p e s m args below meth c s₁ B hml hv
  obtain ⟨rfl, hP, hK⟩ := hv
  have hx := B.exec
  have hb := B.bytes
  have hr := B.returns
  have hts := atoms_spec (ws := ws_ yX0_asGood cX0_asGood 4 (some .boolean)) B.pre
  have hts : ∀ w ∈ lw_all, w.before _ s = true := fun w h => hts w (List.mem_cons_of_mem _ h)
  have hown : s.vm.findClass RX0 = some m.cls := findClass_of_methodNamed B.named
  have hlocks := B.notSynchronized
  have hl := lv_entry ([.ref (h 0), .int (nI a1), .int (nI a2), .int (nI s1)]) (n := 4) (Nat.le_of_ble_eq_true rfl)
  rw [lg_entry_eq]
  generalize (lg_sl ([.ref (h 0), .int (nI a1), .int (nI a2), .int (nI s1)]) ++ List.replicate (4 - (lg_sl ([.ref (h 0), .int (nI a1), .int (nI a2), .int (nI s1)])).length) Slot.unset).toArray = ls at hl ⊢
  have hl : lv_has ls 4 [(0, .ref (h 0)), (1, .int (nI a1)), (2, .int (nI a2)), (3, .int (nI s1))] := hl
  refine lv_iload_n hx hb dX0_asGood_0 rfl (lv_at hl 3 rfl) ?_
  refine lv_if_ne (tgt := 13) hx hb dX0_asGood_1 (by decide) (fun c1 => ?_) (fun c1 => ?_)
  · refine lv_aload_n hx hb dX0_asGood_13 rfl (lv_at hl 0 rfl) ?_
    refine lv_iload_n hx hb dX0_asGood_14 rfl (lv_at hl 2 rfl) ?_
    refine lv_iload_n hx hb dX0_asGood_15 rfl (lv_at hl 1 rfl) ?_
    refine vp_callSi (W.runV (As := [.int (nI a2), .int (nI a1)]) (rest := []) ⟨hx, hb, hml, hown, hts⟩ (gv_x_isAtLeast l dC dI h d n kn L R fa fm a2 a1 hn h2 h1 ht) (cwV 2 hts (lw_V q125 q127 qs8 q17 q128) rfl rfl rfl (by decide +kernel) ⟨Nat.le_of_ble_eq_true rfl, Nat.le_of_ble_eq_true rfl⟩) (gv_preV (ci := 0) hK hP rfl rfl) rfl rfl hl.1 rfl (lv_room (Nat.le_of_ble_eq_true rfl)) dX0_asGood_16 ⟨Nat.le_of_ble_eq_true rfl, Nat.le_of_ble_eq_true rfl⟩) (fun r er => ?_)
    subst er
    exact W.zret (v := gv_z (!gv_win L R 1 a2 0 a1)) hx hb hr (gv_znar _) (fun t ht hW => ⟨_, rfl, gv_zeq (by rw [gv_n1 hs c1]; rfl), ht⟩) (fun _ h => nomatch h) dX0_asGood_19
  · refine lv_aload_n hx hb dX0_asGood_4 rfl (lv_at hl 0 rfl) ?_
    refine lv_iload_n hx hb dX0_asGood_5 rfl (lv_at hl 1 rfl) ?_
    refine lv_iload_n hx hb dX0_asGood_6 rfl (lv_at hl 2 rfl) ?_
    refine vp_callSi (W.runV (As := [.int (nI a1), .int (nI a2)]) (rest := []) ⟨hx, hb, hml, hown, hts⟩ (gv_x_isAtLeast l dC dI h d n kn L R fa fm a1 a2 hn h1 h2 ht) (cwV 2 hts (lw_V q125 q127 qs8 q17 q128) rfl rfl rfl (by decide +kernel) ⟨Nat.le_of_ble_eq_true rfl, Nat.le_of_ble_eq_true rfl⟩) (gv_preV (ci := 0) hK hP rfl rfl) rfl rfl hl.1 rfl (lv_room (Nat.le_of_ble_eq_true rfl)) dX0_asGood_7 ⟨Nat.le_of_ble_eq_true rfl, Nat.le_of_ble_eq_true rfl⟩) (fun r er => ?_)
    subst er
    refine lv_goto (tgt := 19) hx hb dX0_asGood_10 (by decide) ?_
    exact W.zret (v := gv_z (!gv_win L R 1 a1 0 a2)) hx hb hr (gv_znar _) (fun t ht hW => ⟨_, rfl, gv_zeq (by rw [gv_n0 hs c1]; rfl), ht⟩) (fun _ h => nomatch h) dX0_asGood_19
end
section
set_option maxHeartbeats 4000000 in
set_option maxRecDepth 100000 in
/-- dominated -/
theorem gv_x_dominated (l : Launch) (dC : Nat → ClassId) (dI : Nat → Nat → Nat) (h : Nat → Nat) (d : Nat → ClassId) (sz : Nat) (n : Nat) (kn : Int32) (L R : Nat → Nat) (fa fm : Nat → Int32) (x y : Int32) (hg : gv_ok L R) (hn1 : 1 ≤ n) (hn : n ≤ 10) (hk : gv_k n L R kn fa fm) : Met l yX0_dominated (ws_ yX0_dominated cX0_dominated 8 (some .int)) ({ frames := 3, cells := 0, slots := 0, locals := 74 }) (va_Pc [.ref (h 0), .int x, .int y] (fun U => U.heap.size = sz ∧ va_P (dC, dI) gv_cl (gv_xW h d n kn L R fa fm) U.heap ∧ va_K (dC, dI) gv_cl (gv_xT d) U ∧ va_D (fun _ => True) (gv_xW h d n kn L R fa fm))) (va_Qi (fun (r : Int32) (u : Int32 × (Nat → Int32) × (Nat → Int32)) => r = gv_dmR n L R x y ∧ gv_k n L R u.1 u.2.1 u.2.2) (gv_xB dC dI h d n L R (va_A (gv_xW h d n kn L R fa fm) sz)) (va_A (gv_xW h d n kn L R fa fm) sz)) 0 0 (va_A (gv_xW h d n kn L R fa fm) sz) := by
  refine Met.ofW (cc := cX0_dominated) (maxL := 8) (ret := (some .int)) (by decide) rfl ?_
  intro p e s m args below meth c s₁ B hml hv
  obtain ⟨rfl, hsz, hP, hK, hD0⟩ := hv
  have hx := B.exec
  have hb := B.bytes
  have hr := B.returns
  have hts := atoms_spec (ws := ws_ yX0_dominated cX0_dominated 8 (some .int)) B.pre
  have hts : ∀ w ∈ lw_all, w.before _ s = true := fun w h => hts w (List.mem_cons_of_mem _ h)
  have hown : s.vm.findClass RX0 = some m.cls := findClass_of_methodNamed B.named
  have hlocks := B.notSynchronized
  subst hsz
  have hD := hD0.self (sz := s.heap.size)
  generalize hAe : va_A (gv_xW h d n kn L R fa fm) s.heap.size = A at hD ⊢
  have hA : ∀ q : Nat, s.heap.size ≤ q → A q := fun q h => by rw [← hAe]; exact Or.inr h
  have hS : va_S A s.heap s.heap [] := va_S.rf
  have hP : va_P (dC, dI) gv_cl (gv_xW h d n kn L R fa fm) s.heap := hP
  have hl := lv_entry ([.ref (h 0), .int x, .int y]) (n := 8) (Nat.le_of_ble_eq_true rfl)
  rw [lg_entry_eq]
  generalize (lg_sl ([.ref (h 0), .int x, .int y]) ++ List.replicate (8 - (lg_sl ([.ref (h 0), .int x, .int y])).length) Slot.unset).toArray = ls at hl ⊢
  have hl : lv_has ls 8 [(0, .ref (h 0)), (1, .int x), (2, .int y)] := hl
  cases hq : (gv_h n x && gv_sd y)
  · refine lv_aload_n hx hb dX0_dominated_0 rfl (lv_at hl 0 rfl) ?_
    refine lv_iload_n hx hb dX0_dominated_1 rfl (lv_at hl 1 rfl) ?_
    refine lv_iload_n hx hb dX0_dominated_2 rfl (lv_at hl 2 rfl) ?_
    refine vp_callSi (W.runV (As := [.int x, .int y]) (rest := []) ⟨hx, hb, hml, hown, hts⟩ (gv_x_moves l dC dI h d n kn L R fa fm x y hn) (cwV 2 hts (lw_V q120 q65 q66 q17 q67) rfl rfl rfl (by decide +kernel) ⟨Nat.le_of_ble_eq_true rfl, Nat.le_of_ble_eq_true rfl⟩) (gv_preV (ci := 0) hK hP rfl rfl) rfl rfl hl.1 rfl (lv_room (Nat.le_of_ble_eq_true rfl)) dX0_dominated_3 ⟨Nat.le_of_ble_eq_true rfl, Nat.le_of_ble_eq_true rfl⟩) (fun r er => ?_)
    subst er
    refine gv_top (y := (-1)) (gv_movR_f hq) ?_
    refine lv_istore_n (lv' := [(3, .int (-1)), (0, .ref (h 0)), (1, .int x), (2, .int y)]) hx hb dX0_dominated_6 rfl hl (by decide) rfl (fun ls hl => ?_)
    refine lv_iload_n hx hb dX0_dominated_7 rfl (lv_at hl 0 rfl) ?_
    refine lv_if_ge (tgt := 13) hx hb dX0_dominated_8 (by decide) (fun c1 => ?_) (fun c1 => ?_)
    · exact absurd c1 (by decide)
    · refine lv_iconst (v := (-1)) hx hb dX0_dominated_11 (by decide) ?_
      exact W.iret (v := (-1)) hx hb hr (fun t ht hW => ⟨⟨(-1), (kn, fa, fm), rfl, ⟨(gv_dmR_f hq).symm, hk⟩, by rw [ht]; exact hP, va_K.moved hW.alike hK, hD⟩, hS.F ht⟩) hS.2.2 dX0_dominated_12
  · rw [Bool.and_eq_true] at hq
    obtain ⟨q1, q2⟩ := hq
    obtain ⟨k1, j1, rfl⟩ := gv_hT q1 (by omega)
    obtain ⟨s1, j2, rfl⟩ := gv_sdT q2
    obtain ⟨M, hM⟩ : ∃ M, M = gv_mv L R s1 k1 := ⟨_, rfl⟩
    have hMl : M < 2 ^ k1 := by rw [hM]; exact gv_mv_lt hg (by omega)
    have hMk : M < 1024 := by rw [hM]; exact gv_mv_1024 hg (by omega)
    refine lv_aload_n hx hb dX0_dominated_0 rfl (lv_at hl 0 rfl) ?_
    refine lv_iload_n hx hb dX0_dominated_1 rfl (lv_at hl 1 rfl) ?_
    refine lv_iload_n hx hb dX0_dominated_2 rfl (lv_at hl 2 rfl) ?_
    refine vp_callSi (W.runV (As := [.int (nI k1), .int (nI s1)]) (rest := []) ⟨hx, hb, hml, hown, hts⟩ (gv_x_moves l dC dI h d n kn L R fa fm (nI k1) (nI s1) hn) (cwV 2 hts (lw_V q120 q65 q66 q17 q67) rfl rfl rfl (by decide +kernel) ⟨Nat.le_of_ble_eq_true rfl, Nat.le_of_ble_eq_true rfl⟩) (gv_preV (ci := 0) hK hP rfl rfl) rfl rfl hl.1 rfl (lv_room (Nat.le_of_ble_eq_true rfl)) dX0_dominated_3 ⟨Nat.le_of_ble_eq_true rfl, Nat.le_of_ble_eq_true rfl⟩) (fun r er => ?_)
    subst er
    refine gv_top (y := nI M) ((gv_movR_t q1 q2 (by omega) (by omega)).trans (by rw [hM])) ?_
    refine lv_istore_n (lv' := [(3, .int (nI M)), (0, .ref (h 0)), (1, .int (nI k1)), (2, .int (nI s1))]) hx hb dX0_dominated_6 rfl hl (by decide) rfl (fun ls hl => ?_)
    refine lv_iload_n hx hb dX0_dominated_7 rfl (lv_at hl 0 rfl) ?_
    refine lv_if_ge (tgt := 13) hx hb dX0_dominated_8 (by decide) (fun c1 => ?_) (fun c1 => ?_)
    · refine lv_aload_n hx hb dX0_dominated_13 rfl (lv_at hl 1 rfl) ?_
      have hFc := va_free (wc := gv_xW h d n kn L R fa fm) hD hS hA [0, 1, 2, 3, 4] rfl
      refine va_callv (va_runV (As := []) (rest := []) ⟨hx, hb, hml, hown, hts⟩ (gv_x_learn l dC dI h d _ n kn L R fa fm hg hn1 hn hk) (cwV 0 hts (lw_V q84 q86 qs3 q17 q87) rfl rfl rfl (by decide +kernel) ⟨Nat.le_of_ble_eq_true rfl, Nat.le_of_ble_eq_true rfl⟩) (gv_preD (ci := 0) hK hP hD rfl rfl) rfl rfl hl.1 rfl (lv_room (Nat.le_of_ble_eq_true rfl)) dX0_dominated_14 ⟨Nat.le_of_ble_eq_true rfl, Nat.le_of_ble_eq_true rfl⟩) hS (fun q _ h => hFc q h) hFc (fun u t H1 locs ht hvm hw hB hz1 hk1 hS => ?_)
      obtain ⟨kn1, fa1, fm1⟩ := u
      obtain ⟨hP1, hK1, hD1⟩ := hB
      rw [ht] at hP1
      have hP : va_P (dC, dI) gv_cl (gv_xW h d n kn1 L R fa1 fm1) H1 := hP1
      have hD : va_D A (gv_xW h d n kn1 L R fa1 fm1) := hD1.weaken (fun _ q _ h => hFc q.1 h)
      clear hP1 hK1 hD1 hFc
      have ht1 : gv_tab n L R fa1 fm1 := hw.2
      have hk1 : gv_k n L R kn1 fa1 fm1 := Or.inr hw
      refine lv_iconst (v := nI 0) hx hb dX0_dominated_17 (by decide) ?_
      refine gv_top (y := nI (gv_acc (gv_dmf L R s1 M n) (fun c => c / n) (0 * n))) (by rw [Nat.zero_mul]; rfl) ?_
      refine lv_istore (lv' := [(4, .int (nI (gv_acc (gv_dmf L R s1 M n) (fun c => c / n) (0 * n)))), (3, .int (nI M)), (0, .ref (h 0)), (1, .int (nI k1)), (2, .int (nI s1))]) hx hb dX0_dominated_18 hl (by decide) rfl (fun ls hl => ?_)
      refine lv_iconst (v := nI 0) hx hb dX0_dominated_20 (by decide) ?_
      refine lv_istore (lv' := [(5, .int (nI 0)), (4, .int (nI (gv_acc (gv_dmf L R s1 M n) (fun c => c / n) (0 * n)))), (3, .int (nI M)), (0, .ref (h 0)), (1, .int (nI k1)), (2, .int (nI s1))]) hx hb dX0_dominated_21 hl (by decide) rfl (fun ls hl => ?_)
      refine gv_forS (nL := 8) n (fun _ => True) (fun i => [(0, .ref (h 0)), (2, .int (nI s1)), (3, .int (nI M)), (4, .int (nI (gv_acc (gv_dmf L R s1 M n) (fun c => c / n) (i * n)))), (5, .int (nI i))]) ?_ ?_ 0 (Nat.zero_le _) trivial (lv_sub hl [3, 5, 2, 1, 0] rfl)
      · intro ls _ hl
        have hl : lv_has ls 8 [(0, .ref (h 0)), (2, .int (nI s1)), (3, .int (nI M)), (4, .int (nI (gv_acc (gv_dmf L R s1 M n) (fun c => c / n) (n * n)))), (5, .int (nI n))] := hl
        refine lv_iload hx hb dX0_dominated_23 (lv_at hl 4 rfl) ?_
        refine lv_aload_n hx hb dX0_dominated_25 rfl (lv_at hl 0 rfl) ?_
        refine va_get (D := (dC, dI)) (ci := 0) (v := .int (nI n)) (C := RX0) (T := TX0) (N := 6) hx hb hts in_X0 hown hK hP 0 rfl rfl 0 (by decide) (hts _ q27) (fun _ h9 => h9) rfl dX0_dominated_26 ?_
        refine lv_icmp_ge (tgt := 133) hx hb dX0_dominated_29 (by decide) (fun c2 => ?_) (fun c2 => ?_)
        · refine lv_iload hx hb dX0_dominated_133 (lv_at hl 3 rfl) ?_
          exact W.iret (v := nI (gv_acc (gv_dmf L R s1 M n) (fun c => c / n) (n * n))) hx hb hr (fun t ht hW => ⟨⟨nI (gv_acc (gv_dmf L R s1 M n) (fun c => c / n) (n * n)), (kn1, fa1, fm1), rfl, ⟨((gv_dmR_t q1 q2 (by omega) (by omega)).trans (by rw [← hM, gv_dm_same hMl (by omega) hn])).symm, hk1⟩, by rw [ht]; exact hP, va_K.moved hW.alike hK, hD⟩, hS.F ht⟩) hS.2.2 dX0_dominated_135
        · exact absurd (Int32.le_refl _) c2
      · intro i ls hi _ hl ihO
        have hl : lv_has ls 8 [(0, .ref (h 0)), (2, .int (nI s1)), (3, .int (nI M)), (4, .int (nI (gv_acc (gv_dmf L R s1 M n) (fun c => c / n) (i * n)))), (5, .int (nI i))] := hl
        refine lv_iload hx hb dX0_dominated_23 (lv_at hl 4 rfl) ?_
        refine lv_aload_n hx hb dX0_dominated_25 rfl (lv_at hl 0 rfl) ?_
        refine va_get (D := (dC, dI)) (ci := 0) (v := .int (nI n)) (C := RX0) (T := TX0) (N := 6) hx hb hts in_X0 hown hK hP 0 rfl rfl 0 (by decide) (hts _ q27) (fun _ h9 => h9) rfl dX0_dominated_26 ?_
        refine lv_icmp_ge (tgt := 133) hx hb dX0_dominated_29 (by decide) (fun c2 => ?_) (fun c2 => ?_)
        · exact absurd c2 (nI_ge hi (by omega))
        · refine lv_iconst (v := nI 0) hx hb dX0_dominated_32 (by decide) ?_
          refine lv_istore (lv' := [(6, .int (nI 0)), (0, .ref (h 0)), (2, .int (nI s1)), (3, .int (nI M)), (4, .int (nI (gv_acc (gv_dmf L R s1 M n) (fun c => c / n) (i * n)))), (5, .int (nI i))]) hx hb dX0_dominated_33 hl (by decide) rfl (fun ls hl => ?_)
          refine gv_forS (nL := 8) n (fun _ => True) (fun j => [(0, .ref (h 0)), (2, .int (nI s1)), (3, .int (nI M)), (4, .int (nI (gv_acc (gv_dmf L R s1 M n) (fun c => c / n) (i * n + j)))), (5, .int (nI i)), (6, .int (nI j))]) ?_ ?_ 0 (Nat.zero_le _) trivial (lv_sub hl [1, 2, 3, 4, 5, 0] rfl)
          · intro ls _ hl
            have hl : lv_has ls 8 [(0, .ref (h 0)), (2, .int (nI s1)), (3, .int (nI M)), (4, .int (nI (gv_acc (gv_dmf L R s1 M n) (fun c => c / n) (i * n + n)))), (5, .int (nI i)), (6, .int (nI n))] := hl
            refine lv_iload hx hb dX0_dominated_35 (lv_at hl 5 rfl) ?_
            refine lv_aload_n hx hb dX0_dominated_37 rfl (lv_at hl 0 rfl) ?_
            refine va_get (D := (dC, dI)) (ci := 0) (v := .int (nI n)) (C := RX0) (T := TX0) (N := 6) hx hb hts in_X0 hown hK hP 0 rfl rfl 0 (by decide) (hts _ q27) (fun _ h9 => h9) rfl dX0_dominated_38 ?_
            refine lv_icmp_ge (tgt := 127) hx hb dX0_dominated_41 (by decide) (fun c3 => ?_) (fun c3 => ?_)
            · rw [show i * n + n = (i + 1) * n from (Nat.succ_mul i n).symm] at hl
              refine lv_iinc (v := nI (i + 1)) (lv' := [(5, .int (nI (i + 1))), (0, .ref (h 0)), (2, .int (nI s1)), (3, .int (nI M)), (4, .int (nI (gv_acc (gv_dmf L R s1 M n) (fun c => c / n) ((i + 1) * n)))), (6, .int (nI n))]) hx hb dX0_dominated_127 hl (k := 4) rfl (gv_inc _) (by decide) rfl (fun ls hl => ?_)
              refine lv_goto (tgt := 23) hx hb dX0_dominated_130 (by decide) ?_
              exact ihO ls trivial (lv_sub hl [1, 2, 3, 4, 0] rfl)
            · exact absurd (Int32.le_refl _) c3
          · intro j ls hj _ hl ihI
            have hl : lv_has ls 8 [(0, .ref (h 0)), (2, .int (nI s1)), (3, .int (nI M)), (4, .int (nI (gv_acc (gv_dmf L R s1 M n) (fun c => c / n) (i * n + j)))), (5, .int (nI i)), (6, .int (nI j))] := hl
            have hfc : gv_dmf L R s1 M n (i * n + j) = gv_dm L R s1 M i j := gv_dmf_eq L R s1 M hj
            have hgc : (i * n + j) / n = i := gv_dmg_eq hj
            refine lv_iload hx hb dX0_dominated_35 (lv_at hl 5 rfl) ?_
            refine lv_aload_n hx hb dX0_dominated_37 rfl (lv_at hl 0 rfl) ?_
            refine va_get (D := (dC, dI)) (ci := 0) (v := .int (nI n)) (C := RX0) (T := TX0) (N := 6) hx hb hts in_X0 hown hK hP 0 rfl rfl 0 (by decide) (hts _ q27) (fun _ h9 => h9) rfl dX0_dominated_38 ?_
            refine lv_icmp_ge (tgt := 127) hx hb dX0_dominated_41 (by decide) (fun c3 => ?_) (fun c3 => ?_)
            · exact absurd c3 (nI_ge hj (by omega))
            · refine gv_mid (g1 := F0 m 74 ls [.int (gv_z (!decide (i = j) && M.testBit i && M.testBit j))]) ?_ (fun K74 => ?_)
              · refine lv_istore (lv' := [(7, .int (gv_z (!decide (i = j) && M.testBit i && M.testBit j))), (0, .ref (h 0)), (2, .int (nI s1)), (3, .int (nI M)), (4, .int (nI (gv_acc (gv_dmf L R s1 M n) (fun c => c / n) (i * n + j)))), (5, .int (nI i)), (6, .int (nI j))]) hx hb dX0_dominated_74 hl (by decide) rfl (fun ls hl => ?_)
                refine gv_midP (P := gv_dm L R s1 M i j = false) (g1 := F0 m 121 ls []) (fun hz => ?_) (fun KN => ?_)
                · rw [← gv_acc_f (f := gv_dmf L R s1 M n) (g := fun c => c / n) (hfc.trans hz)] at hl
                  have hl : lv_has ls 8 [(7, .int (gv_z (!decide (i = j) && M.testBit i && M.testBit j))), (0, .ref (h 0)), (2, .int (nI s1)), (3, .int (nI M)), (4, .int (nI (gv_acc (gv_dmf L R s1 M n) (fun c => c / n) (i * n + (j + 1))))), (5, .int (nI i)), (6, .int (nI j))] := hl
                  refine lv_iinc (v := nI (j + 1)) (lv' := [(6, .int (nI (j + 1))), (7, .int (gv_z (!decide (i = j) && M.testBit i && M.testBit j))), (0, .ref (h 0)), (2, .int (nI s1)), (3, .int (nI M)), (4, .int (nI (gv_acc (gv_dmf L R s1 M n) (fun c => c / n) (i * n + (j + 1))))), (5, .int (nI i))]) hx hb dX0_dominated_121 hl (k := 6) rfl (gv_inc _) (by decide) rfl (fun ls hl => ?_)
                  refine lv_goto (tgt := 35) hx hb dX0_dominated_124 (by decide) ?_
                  exact ihI ls trivial (lv_sub hl [2, 3, 4, 5, 6, 0] rfl)
                · refine gv_midP (P := gv_dm L R s1 M i j = true) (g1 := F0 m 112 ls []) (fun hz => ?_) (fun KY => ?_)
                  · refine lv_iload hx hb dX0_dominated_112 (lv_at hl 4 rfl) ?_
                    refine lv_iconst (v := nI 1) hx hb dX0_dominated_114 (by decide) ?_
                    refine lv_iload hx hb dX0_dominated_115 (lv_at hl 5 rfl) ?_
                    refine lv_ishl hx hb dX0_dominated_117 ?_
                    refine gv_top (y := nI (2 ^ i)) (gv_shl (by omega)) ?_
                    refine lv_ior hx hb dX0_dominated_118 ?_
                    refine gv_top (y := nI ((gv_acc (gv_dmf L R s1 M n) (fun c => c / n) (i * n + j)) ||| (2 ^ i))) (gv_or _ _) ?_
                    refine gv_top (y := nI (gv_acc (gv_dmf L R s1 M n) (fun c => c / n) (i * n + (j + 1)))) (by rw [show i * n + (j + 1) = i * n + j + 1 from rfl, gv_acc_t (f := gv_dmf L R s1 M n) (g := fun c => c / n) (hfc.trans hz), hgc]) ?_
                    refine lv_istore (lv' := [(4, .int (nI (gv_acc (gv_dmf L R s1 M n) (fun c => c / n) (i * n + (j + 1))))), (7, .int (gv_z (!decide (i = j) && M.testBit i && M.testBit j))), (0, .ref (h 0)), (2, .int (nI s1)), (3, .int (nI M)), (5, .int (nI i)), (6, .int (nI j))]) hx hb dX0_dominated_119 hl (by decide) rfl (fun ls hl => ?_)
                    refine lv_iinc (v := nI (j + 1)) (lv' := [(6, .int (nI (j + 1))), (4, .int (nI (gv_acc (gv_dmf L R s1 M n) (fun c => c / n) (i * n + (j + 1))))), (7, .int (gv_z (!decide (i = j) && M.testBit i && M.testBit j))), (0, .ref (h 0)), (2, .int (nI s1)), (3, .int (nI M)), (5, .int (nI i))]) hx hb dX0_dominated_121 hl (k := 6) rfl (gv_inc _) (by decide) rfl (fun ls hl => ?_)
                    refine lv_goto (tgt := 35) hx hb dX0_dominated_124 (by decide) ?_
                    exact ihI ls trivial (lv_sub hl [3, 4, 5, 1, 6, 0] rfl)
                  · refine lv_iload hx hb dX0_dominated_76 (lv_at hl 0 rfl) ?_
                    refine lv_if_eq (tgt := 121) hx hb dX0_dominated_78 (by decide) (fun c6 => ?_) (fun c6 => ?_)
                    · exact KN (by unfold gv_dm; rw [gv_z0 c6]; rfl)
                    · refine lv_aload_n hx hb dX0_dominated_81 rfl (lv_at hl 1 rfl) ?_
                      refine lv_iload hx hb dX0_dominated_82 (lv_at hl 6 rfl) ?_
                      refine lv_iload hx hb dX0_dominated_84 (lv_at hl 5 rfl) ?_
                      refine lv_iload_n hx hb dX0_dominated_86 rfl (lv_at hl 2 rfl) ?_
                      refine vp_callSi (W.runV (As := [.int (nI j), .int (nI i), .int (nI s1)]) (rest := []) ⟨hx, hb, hml, hown, hts⟩ (gv_x_asGood l dC dI h d n kn1 L R fa1 fm1 j i s1 hn hj hi j2 ht1) (cwV 3 hts (lw_V q121 q123 qs7 q17 q124) rfl rfl rfl (by decide +kernel) ⟨Nat.le_of_ble_eq_true rfl, Nat.le_of_ble_eq_true rfl⟩) (gv_preV (ci := 0) hK hP rfl rfl) rfl rfl hl.1 rfl (lv_room (Nat.le_of_ble_eq_true rfl)) dX0_dominated_87 ⟨Nat.le_of_ble_eq_true rfl, Nat.le_of_ble_eq_true rfl⟩) (fun r er => ?_)
                      subst er
                      refine lv_if_eq (tgt := 121) hx hb dX0_dominated_90 (by decide) (fun c7 => ?_) (fun c7 => ?_)
                      · exact KN (by unfold gv_dm; rw [gv_z0 c7, Bool.and_false]; rfl)
                      · refine lv_iload hx hb dX0_dominated_93 (lv_at hl 6 rfl) ?_
                        refine lv_iload hx hb dX0_dominated_95 (lv_at hl 5 rfl) ?_
                        refine lv_icmp_lt (tgt := 112) hx hb dX0_dominated_97 (by decide) (fun c8 => ?_) (fun c8 => ?_)
                        · exact KY (by unfold gv_dm; rw [gv_z1 c6, gv_z1 c7, decide_eq_true ((nI_ltI (by omega) (by omega)).mp c8)]; rfl)
                        · refine lv_aload_n hx hb dX0_dominated_100 rfl (lv_at hl 1 rfl) ?_
                          refine lv_iload hx hb dX0_dominated_101 (lv_at hl 5 rfl) ?_
                          refine lv_iload hx hb dX0_dominated_103 (lv_at hl 6 rfl) ?_
                          refine lv_iload_n hx hb dX0_dominated_105 rfl (lv_at hl 2 rfl) ?_
                          refine vp_callSi (W.runV (As := [.int (nI i), .int (nI j), .int (nI s1)]) (rest := []) ⟨hx, hb, hml, hown, hts⟩ (gv_x_asGood l dC dI h d n kn1 L R fa1 fm1 i j s1 hn hi hj j2 ht1) (cwV 3 hts (lw_V q121 q123 qs7 q17 q124) rfl rfl rfl (by decide +kernel) ⟨Nat.le_of_ble_eq_true rfl, Nat.le_of_ble_eq_true rfl⟩) (gv_preV (ci := 0) hK hP rfl rfl) rfl rfl hl.1 rfl (lv_room (Nat.le_of_ble_eq_true rfl)) dX0_dominated_106 ⟨Nat.le_of_ble_eq_true rfl, Nat.le_of_ble_eq_true rfl⟩) (fun r er => ?_)
                          subst er
                          refine lv_if_ne (tgt := 121) hx hb dX0_dominated_109 (by decide) (fun c9 => ?_) (fun c9 => ?_)
                          · exact KN (by unfold gv_dm; rw [decide_eq_false (fun z => c8 (nI_lt z (by omega))), gv_z1 c9]; exact Bool.and_false _)
                          · exact KY (by unfold gv_dm; rw [gv_z1 c6, gv_z1 c7, gv_z0 c9, decide_eq_false (fun z => c8 (nI_lt z (by omega)))]; rfl)
              · refine lv_iload hx hb dX0_dominated_44 (lv_at hl 4 rfl) ?_
                refine lv_iload hx hb dX0_dominated_46 (lv_at hl 5 rfl) ?_
                refine lv_icmp_eq (tgt := 73) hx hb dX0_dominated_48 (by decide) (fun c4 => ?_) (fun c4 => ?_)
                · refine lv_iconst (v := nI 0) hx hb dX0_dominated_73 (by decide) ?_
                  exact gv_top (gv_a0 (by rw [decide_eq_true ((nI_eq (by omega) (by omega)).mp c4)]; rfl)) K74
                · refine lv_iload_n hx hb dX0_dominated_51 rfl (lv_at hl 2 rfl) ?_
                  refine lv_iload hx hb dX0_dominated_52 (lv_at hl 4 rfl) ?_
                  refine vp_callSi (W.runS (As := [.int (nI M), .int (nI i)]) (rest := []) ⟨hx, hb, hml, hown, hts⟩ (gv_x_in l M i (by omega) (by omega)) (va_cwS 2 hts (lw_S q95 q96 q17 q97) rfl rfl rfl (by decide +kernel) ⟨Nat.le_of_ble_eq_true rfl, Nat.le_of_ble_eq_true rfl⟩) gv_preS rfl rfl hl.1 rfl (lv_room (Nat.le_of_ble_eq_true rfl)) dX0_dominated_54 ⟨Nat.le_of_ble_eq_true rfl, Nat.le_of_ble_eq_true rfl⟩) (fun r er => ?_)
                  subst er
                  refine lv_if_eq (tgt := 73) hx hb dX0_dominated_57 (by decide) (fun c5 => ?_) (fun c5 => ?_)
                  · refine lv_iconst (v := nI 0) hx hb dX0_dominated_73 (by decide) ?_
                    exact gv_top (gv_a0 (by rw [gv_z0 c5, Bool.and_false]; rfl)) K74
                  · refine lv_iload_n hx hb dX0_dominated_60 rfl (lv_at hl 2 rfl) ?_
                    refine lv_iload hx hb dX0_dominated_61 (lv_at hl 5 rfl) ?_
                    refine vp_callSi (W.runS (As := [.int (nI M), .int (nI j)]) (rest := []) ⟨hx, hb, hml, hown, hts⟩ (gv_x_in l M j (by omega) (by omega)) (va_cwS 2 hts (lw_S q95 q96 q17 q97) rfl rfl rfl (by decide +kernel) ⟨Nat.le_of_ble_eq_true rfl, Nat.le_of_ble_eq_true rfl⟩) gv_preS rfl rfl hl.1 rfl (lv_room (Nat.le_of_ble_eq_true rfl)) dX0_dominated_63 ⟨Nat.le_of_ble_eq_true rfl, Nat.le_of_ble_eq_true rfl⟩) (fun r er => ?_)
                    subst er
                    refine lv_if_eq (tgt := 73) hx hb dX0_dominated_66 (by decide) (fun c6 => ?_) (fun c6 => ?_)
                    · refine lv_iconst (v := nI 0) hx hb dX0_dominated_73 (by decide) ?_
                      exact gv_top (gv_a0 (by rw [gv_z0 c6, Bool.and_false])) K74
                    · refine lv_iconst (v := nI 1) hx hb dX0_dominated_69 (by decide) ?_
                      refine lv_goto (tgt := 74) hx hb dX0_dominated_70 (by decide) ?_
                      exact gv_top (gv_a1 (by rw [decide_eq_false (fun z => c4 (by rw [z])), gv_z1 c5, gv_z1 c6]; rfl)) K74
    · exact absurd (nI_pos' (by omega)) c1
end
section
set_option maxHeartbeats 4000000 in
set_option maxRecDepth 100000 in
/-- first -/
theorem gv_x_first (l : Launch) (dC : Nat → ClassId) (dI : Nat → Nat → Nat) (h : Nat → Nat) (d : Nat → ClassId) (sz : Nat) (n : Nat) (kn : Int32) (L R : Nat → Nat) (fa fm : Nat → Int32) (x : Int32) (hg : gv_ok L R) (hn1 : 1 ≤ n) (hn : n ≤ 10) (hk : gv_k n L R kn fa fm) : Met l yX0_first (ws_ yX0_first cX0_first 3 (some .int)) ({ frames := 3, cells := 0, slots := 0, locals := 74 }) (va_Pc [.ref (h 0), .int x] (fun U => U.heap.size = sz ∧ va_P (dC, dI) gv_cl (gv_xW h d n kn L R fa fm) U.heap ∧ va_K (dC, dI) gv_cl (gv_xT d) U ∧ va_D (fun _ => True) (gv_xW h d n kn L R fa fm))) (va_Qi (fun (r : Int32) (u : Int32 × (Nat → Int32) × (Nat → Int32)) => r = gv_fsR n L R x ∧ gv_k n L R u.1 u.2.1 u.2.2) (gv_xB dC dI h d n L R (va_A (gv_xW h d n kn L R fa fm) sz)) (va_A (gv_xW h d n kn L R fa fm) sz)) 0 0 (va_A (gv_xW h d n kn L R fa fm) sz) := by
  refine Met.ofW (cc := cX0_first) (maxL := 3) (ret := (some .int)) (by decide) rfl ?_
  intro p e s m args below meth c s₁ B hml hv
  obtain ⟨rfl, hsz, hP, hK, hD0⟩ := hv
  have hx := B.exec
  have hb := B.bytes
  have hr := B.returns
  have hts := atoms_spec (ws := ws_ yX0_first cX0_first 3 (some .int)) B.pre
  have hts : ∀ w ∈ lw_all, w.before _ s = true := fun w h => hts w (List.mem_cons_of_mem _ h)
  have hown : s.vm.findClass RX0 = some m.cls := findClass_of_methodNamed B.named
  have hlocks := B.notSynchronized
  subst hsz
  have hD := hD0.self (sz := s.heap.size)
  generalize hAe : va_A (gv_xW h d n kn L R fa fm) s.heap.size = A at hD ⊢
  have hA : ∀ q : Nat, s.heap.size ≤ q → A q := fun q h => by rw [← hAe]; exact Or.inr h
  have hS : va_S A s.heap s.heap [] := va_S.rf
  have hP : va_P (dC, dI) gv_cl (gv_xW h d n kn L R fa fm) s.heap := hP
  have hl := lv_entry ([.ref (h 0), .int x]) (n := 3) (Nat.le_of_ble_eq_true rfl)
  rw [lg_entry_eq]
  generalize (lg_sl ([.ref (h 0), .int x]) ++ List.replicate (3 - (lg_sl ([.ref (h 0), .int x])).length) Slot.unset).toArray = ls at hl ⊢
  have hl : lv_has ls 3 [(0, .ref (h 0)), (1, .int x)] := hl
  refine lv_aload_n hx hb dX0_first_0 rfl (lv_at hl 0 rfl) ?_
  refine lv_iload_n hx hb dX0_first_1 rfl (lv_at hl 1 rfl) ?_
  refine vp_callSi (W.runV (As := [.int x]) (rest := []) ⟨hx, hb, hml, hown, hts⟩ (gv_x_has l dC dI h d n kn L R fa fm x) (cwV 1 hts (lw_V q68 q70 qs1 q17 q71) rfl rfl rfl (by decide +kernel) ⟨Nat.le_of_ble_eq_true rfl, Nat.le_of_ble_eq_true rfl⟩) (gv_preV (ci := 0) hK hP rfl rfl) rfl rfl hl.1 rfl (lv_room (Nat.le_of_ble_eq_true rfl)) dX0_first_2 ⟨Nat.le_of_ble_eq_true rfl, Nat.le_of_ble_eq_true rfl⟩) (fun r er => ?_)
  subst er
  refine lv_if_ne (tgt := 10) hx hb dX0_first_5 (by decide) (fun c1 => ?_) (fun c1 => ?_)
  · have q1 := gv_z1 c1
    clear c1
    obtain ⟨k1, j1, rfl⟩ := gv_hT q1 (by omega)
    refine lv_aload_n hx hb dX0_first_10 rfl (lv_at hl 0 rfl) ?_
    have hFc := va_free (wc := gv_xW h d n kn L R fa fm) hD hS hA [0, 1, 2, 3, 4] rfl
    refine va_callv (va_runV (As := []) (rest := []) ⟨hx, hb, hml, hown, hts⟩ (gv_x_learn l dC dI h d _ n kn L R fa fm hg hn1 hn hk) (cwV 0 hts (lw_V q84 q86 qs3 q17 q87) rfl rfl rfl (by decide +kernel) ⟨Nat.le_of_ble_eq_true rfl, Nat.le_of_ble_eq_true rfl⟩) (gv_preD (ci := 0) hK hP hD rfl rfl) rfl rfl hl.1 rfl (lv_room (Nat.le_of_ble_eq_true rfl)) dX0_first_11 ⟨Nat.le_of_ble_eq_true rfl, Nat.le_of_ble_eq_true rfl⟩) hS (fun q _ h => hFc q h) hFc (fun u t H1 locs ht hvm hw hB hz1 hk1 hS => ?_)
    obtain ⟨kn1, fa1, fm1⟩ := u
    obtain ⟨hP1, hK1, hD1⟩ := hB
    rw [ht] at hP1
    have hP : va_P (dC, dI) gv_cl (gv_xW h d n kn1 L R fa1 fm1) H1 := hP1
    have hD : va_D A (gv_xW h d n kn1 L R fa1 fm1) := hD1.weaken (fun _ q _ h => hFc q.1 h)
    clear hP1 hK1 hD1 hFc
    have ht1 : gv_tab n L R fa1 fm1 := hw.2
    have hk1 : gv_k n L R kn1 fa1 fm1 := Or.inr hw
    refine lv_iconst (v := nI 0) hx hb dX0_first_14 (by decide) ?_
    refine lv_istore_n (lv' := [(2, .int (nI 0)), (0, .ref (h 0)), (1, .int (nI k1))]) hx hb dX0_first_15 rfl hl (by decide) rfl (fun ls hl => ?_)
    refine gv_forS (nL := 3) k1 (fun i => ∀ x, x < i → gv_E L R k1 x = false) (fun i => [(0, .ref (h 0)), (1, .int (nI k1)), (2, .int (nI i))]) ?_ ?_ 0 (Nat.zero_le _) (fun x h => absurd h (Nat.not_lt_zero _)) (lv_sub hl [1, 2, 0] rfl)
    · intro ls hJ hl
      have hl : lv_has ls 3 [(0, .ref (h 0)), (1, .int (nI k1)), (2, .int (nI k1))] := hl
      refine lv_iload_n hx hb dX0_first_16 rfl (lv_at hl 2 rfl) ?_
      refine lv_iload_n hx hb dX0_first_17 rfl (lv_at hl 1 rfl) ?_
      refine lv_icmp_ge (tgt := 45) hx hb dX0_first_18 (by decide) (fun c2 => ?_) (fun c2 => ?_)
      · refine lv_iload_n hx hb dX0_first_45 rfl (lv_at hl 2 rfl) ?_
        exact W.iret (v := nI k1) hx hb hr (fun t ht hW => ⟨⟨nI k1, (kn1, fa1, fm1), rfl, ⟨((gv_fsR_t q1 (by omega)).trans (congrArg nI (gv_fq_eq (Nat.le_refl _) hJ (Or.inl rfl)))).symm, hk1⟩, by rw [ht]; exact hP, va_K.moved hW.alike hK, hD⟩, hS.F ht⟩) hS.2.2 dX0_first_46
      · exact absurd (Int32.le_refl _) c2
    · intro i ls hi hJ hl ih
      have hl : lv_has ls 3 [(0, .ref (h 0)), (1, .int (nI k1)), (2, .int (nI i))] := hl
      refine lv_iload_n hx hb dX0_first_16 rfl (lv_at hl 2 rfl) ?_
      refine lv_iload_n hx hb dX0_first_17 rfl (lv_at hl 1 rfl) ?_
      refine lv_icmp_ge (tgt := 45) hx hb dX0_first_18 (by decide) (fun c2 => ?_) (fun c2 => ?_)
      · exact absurd c2 (nI_ge hi (by omega))
      · refine lv_aload_n hx hb dX0_first_21 rfl (lv_at hl 0 rfl) ?_
        refine lv_iload_n hx hb dX0_first_22 rfl (lv_at hl 1 rfl) ?_
        refine lv_iload_n hx hb dX0_first_23 rfl (lv_at hl 2 rfl) ?_
        refine vp_callSi (W.runV (As := [.int (nI k1), .int (nI i)]) (rest := []) ⟨hx, hb, hml, hown, hts⟩ (gv_x_isAtLeast l dC dI h d n kn1 L R fa1 fm1 k1 i hn j1 (by omega) ht1) (cwV 2 hts (lw_V q125 q127 qs8 q17 q128) rfl rfl rfl (by decide +kernel) ⟨Nat.le_of_ble_eq_true rfl, Nat.le_of_ble_eq_true rfl⟩) (gv_preV (ci := 0) hK hP rfl rfl) rfl rfl hl.1 rfl (lv_room (Nat.le_of_ble_eq_true rfl)) dX0_first_24 ⟨Nat.le_of_ble_eq_true rfl, Nat.le_of_ble_eq_true rfl⟩) (fun r er => ?_)
        subst er
        refine lv_if_eq (tgt := 39) hx hb dX0_first_27 (by decide) (fun c3 => ?_) (fun c3 => ?_)
        · refine lv_iinc (v := nI (i + 1)) (lv' := [(2, .int (nI (i + 1))), (0, .ref (h 0)), (1, .int (nI k1))]) hx hb dX0_first_39 hl (k := 2) rfl (gv_inc _) (by decide) rfl (fun ls hl => ?_)
          refine lv_goto (tgt := 16) hx hb dX0_first_42 (by decide) ?_
          exact ih ls (lt_s hJ (by unfold gv_E; rw [gv_z0 c3]; rfl)) (lv_sub hl [1, 2, 0] rfl)
        · refine lv_aload_n hx hb dX0_first_30 rfl (lv_at hl 0 rfl) ?_
          refine lv_iload_n hx hb dX0_first_31 rfl (lv_at hl 2 rfl) ?_
          refine lv_iload_n hx hb dX0_first_32 rfl (lv_at hl 1 rfl) ?_
          refine vp_callSi (W.runV (As := [.int (nI i), .int (nI k1)]) (rest := []) ⟨hx, hb, hml, hown, hts⟩ (gv_x_isAtLeast l dC dI h d n kn1 L R fa1 fm1 i k1 hn (by omega) j1 ht1) (cwV 2 hts (lw_V q125 q127 qs8 q17 q128) rfl rfl rfl (by decide +kernel) ⟨Nat.le_of_ble_eq_true rfl, Nat.le_of_ble_eq_true rfl⟩) (gv_preV (ci := 0) hK hP rfl rfl) rfl rfl hl.1 rfl (lv_room (Nat.le_of_ble_eq_true rfl)) dX0_first_33 ⟨Nat.le_of_ble_eq_true rfl, Nat.le_of_ble_eq_true rfl⟩) (fun r er => ?_)
          subst er
          refine lv_if_ne (tgt := 45) hx hb dX0_first_36 (by decide) (fun c4 => ?_) (fun c4 => ?_)
          · refine lv_iload_n hx hb dX0_first_45 rfl (lv_at hl 2 rfl) ?_
            exact W.iret (v := nI i) hx hb hr (fun t ht hW => ⟨⟨nI i, (kn1, fa1, fm1), rfl, ⟨((gv_fsR_t q1 (by omega)).trans (congrArg nI (gv_fq_eq (by omega) hJ (Or.inr (by unfold gv_E; rw [gv_z1 c3, gv_z1 c4]; rfl))))).symm, hk1⟩, by rw [ht]; exact hP, va_K.moved hW.alike hK, hD⟩, hS.F ht⟩) hS.2.2 dX0_first_46
          · refine lv_iinc (v := nI (i + 1)) (lv' := [(2, .int (nI (i + 1))), (0, .ref (h 0)), (1, .int (nI k1))]) hx hb dX0_first_39 hl (k := 2) rfl (gv_inc _) (by decide) rfl (fun ls hl => ?_)
            refine lv_goto (tgt := 16) hx hb dX0_first_42 (by decide) ?_
            exact ih ls (lt_s hJ (by unfold gv_E; rw [gv_z0 c4, Bool.and_false])) (lv_sub hl [1, 2, 0] rfl)
  · refine lv_iconst (v := (-1)) hx hb dX0_first_8 (by decide) ?_
    exact W.iret (v := (-1)) hx hb hr (fun t ht hW => ⟨⟨(-1), (kn, fa, fm), rfl, ⟨(gv_fsR_f (gv_z0 c1)).symm, hk⟩, by rw [ht]; exact hP, va_K.moved hW.alike hK, hD⟩, hS.F ht⟩) hS.2.2 dX0_first_9
set_option maxHeartbeats 4000000 in
set_option maxRecDepth 100000 in
/-- values -/
theorem gv_x_values (l : Launch) (dC : Nat → ClassId) (dI : Nat → Nat → Nat) (h : Nat → Nat) (d : Nat → ClassId) (sz : Nat) (n : Nat) (kn : Int32) (L R : Nat → Nat) (fa fm : Nat → Int32) (hg : gv_ok L R) (hn1 : 1 ≤ n) (hn : n ≤ 10) (hk : gv_k n L R kn fa fm) : Met l yX0_values (ws_ yX0_values cX0_values 3 (some .int)) ({ frames := 4, cells := 0, slots := 0, locals := 96 }) (va_Pc [.ref (h 0)] (fun U => U.heap.size = sz ∧ va_P (dC, dI) gv_cl (gv_xW h d n kn L R fa fm) U.heap ∧ va_K (dC, dI) gv_cl (gv_xT d) U ∧ va_D (fun _ => True) (gv_xW h d n kn L R fa fm))) (va_Qi (fun (r : Int32) (u : Int32 × (Nat → Int32) × (Nat → Int32)) => r = nI (gv_cnt (gv_vf L R) n) ∧ gv_k n L R u.1 u.2.1 u.2.2) (gv_xB dC dI h d n L R (va_A (gv_xW h d n kn L R fa fm) sz)) (va_A (gv_xW h d n kn L R fa fm) sz)) 0 0 (va_A (gv_xW h d n kn L R fa fm) sz) := by
  refine Met.ofW (cc := cX0_values) (maxL := 3) (ret := (some .int)) (by decide) rfl ?_
  intro p e s m args below meth c s₁ B hml hv
  obtain ⟨rfl, hsz, hP, hK, hD0⟩ := hv
  have hx := B.exec
  have hb := B.bytes
  have hr := B.returns
  have hts := atoms_spec (ws := ws_ yX0_values cX0_values 3 (some .int)) B.pre
  have hts : ∀ w ∈ lw_all, w.before _ s = true := fun w h => hts w (List.mem_cons_of_mem _ h)
  have hown : s.vm.findClass RX0 = some m.cls := findClass_of_methodNamed B.named
  have hlocks := B.notSynchronized
  subst hsz
  have hD := hD0.self (sz := s.heap.size)
  generalize hAe : va_A (gv_xW h d n kn L R fa fm) s.heap.size = A at hD ⊢
  have hA : ∀ q : Nat, s.heap.size ≤ q → A q := fun q h => by rw [← hAe]; exact Or.inr h
  have hS : va_S A s.heap s.heap [] := va_S.rf
  have hP : va_P (dC, dI) gv_cl (gv_xW h d n kn L R fa fm) s.heap := hP
  have hl := lv_entry ([.ref (h 0)]) (n := 3) (Nat.le_of_ble_eq_true rfl)
  rw [lg_entry_eq]
  generalize (lg_sl ([.ref (h 0)]) ++ List.replicate (3 - (lg_sl ([.ref (h 0)])).length) Slot.unset).toArray = ls at hl ⊢
  have hl : lv_has ls 3 [(0, .ref (h 0))] := hl
  refine lv_iconst (v := nI 0) hx hb dX0_values_0 (by decide) ?_
  refine lv_istore_n (lv' := [(1, .int (nI 0)), (0, .ref (h 0))]) hx hb dX0_values_1 rfl hl (by decide) rfl (fun ls hl => ?_)
  refine lv_iconst (v := nI 0) hx hb dX0_values_2 (by decide) ?_
  refine lv_istore_n (lv' := [(2, .int (nI 0)), (1, .int (nI 0)), (0, .ref (h 0))]) hx hb dX0_values_3 rfl hl (by decide) rfl (fun ls hl => ?_)
  refine gv_for (nL := 3) n (fun i H locs => ∃ (kn : Int32) (fa fm : Nat → Int32), va_P (dC, dI) gv_cl (gv_xW h d n kn L R fa fm) H ∧ va_D A (gv_xW h d n kn L R fa fm) ∧ va_S A s.heap H locs ∧ gv_k n L R kn fa fm) (fun i => [(0, .ref (h 0)), (1, .int (nI (gv_cnt (gv_vf L R) i))), (2, .int (nI i))]) ?_ ?_ 0 (Nat.zero_le _) ⟨kn, fa, fm, hP, hD, hS, hk⟩ (lv_sub hl [2, 1, 0] rfl)
  · intro H locs ls hJ hl
    obtain ⟨kn, fa, fm, hP, hD, hS, hk⟩ := hJ
    have hl : lv_has ls 3 [(0, .ref (h 0)), (1, .int (nI (gv_cnt (gv_vf L R) n))), (2, .int (nI n))] := hl
    refine lv_iload_n hx hb dX0_values_4 rfl (lv_at hl 2 rfl) ?_
    refine lv_aload_n hx hb dX0_values_5 rfl (lv_at hl 0 rfl) ?_
    refine va_get (D := (dC, dI)) (ci := 0) (v := .int (nI n)) (C := RX0) (T := TX0) (N := 6) hx hb hts in_X0 hown hK hP 0 rfl rfl 0 (by decide) (hts _ q27) (fun _ h9 => h9) rfl dX0_values_6 ?_
    refine lv_icmp_ge (tgt := 35) hx hb dX0_values_9 (by decide) (fun c1 => ?_) (fun c1 => ?_)
    · refine lv_iload_n hx hb dX0_values_35 rfl (lv_at hl 1 rfl) ?_
      exact W.iret (v := nI (gv_cnt (gv_vf L R) n)) hx hb hr (fun t ht hW => ⟨⟨nI (gv_cnt (gv_vf L R) n), (kn, fa, fm), rfl, ⟨rfl, hk⟩, by rw [ht]; exact hP, va_K.moved hW.alike hK, hD⟩, hS.F ht⟩) hS.2.2 dX0_values_36
    · exact absurd (Int32.le_refl _) c1
  · intro i H locs ls hi hJ hl ih
    obtain ⟨kn, fa, fm, hP, hD, hS, hk⟩ := hJ
    have hl : lv_has ls 3 [(0, .ref (h 0)), (1, .int (nI (gv_cnt (gv_vf L R) i))), (2, .int (nI i))] := hl
    refine lv_iload_n hx hb dX0_values_4 rfl (lv_at hl 2 rfl) ?_
    refine lv_aload_n hx hb dX0_values_5 rfl (lv_at hl 0 rfl) ?_
    refine va_get (D := (dC, dI)) (ci := 0) (v := .int (nI n)) (C := RX0) (T := TX0) (N := 6) hx hb hts in_X0 hown hK hP 0 rfl rfl 0 (by decide) (hts _ q27) (fun _ h9 => h9) rfl dX0_values_6 ?_
    refine lv_icmp_ge (tgt := 35) hx hb dX0_values_9 (by decide) (fun c1 => ?_) (fun c1 => ?_)
    · exact absurd c1 (nI_ge hi (by omega))
    · refine lv_iload_n hx hb dX0_values_12 rfl (lv_at hl 1 rfl) ?_
      refine lv_aload_n hx hb dX0_values_13 rfl (lv_at hl 0 rfl) ?_
      refine lv_iload_n hx hb dX0_values_14 rfl (lv_at hl 2 rfl) ?_
      have hFc := va_free (wc := gv_xW h d n kn L R fa fm) hD hS hA [0, 1, 2, 3, 4] rfl
      refine va_calli (va_runV (As := [.int (nI i)]) (rest := [.int (nI (gv_cnt (gv_vf L R) i))]) ⟨hx, hb, hml, hown, hts⟩ (gv_x_first l dC dI h d _ n kn L R fa fm (nI i) hg hn1 hn hk) (cwV 1 hts (lw_V q137 q130 q131 q17 q132) rfl rfl rfl (by decide +kernel) ⟨Nat.le_of_ble_eq_true rfl, Nat.le_of_ble_eq_true rfl⟩) (gv_preD (ci := 0) hK hP hD rfl rfl) rfl rfl hl.1 rfl (lv_room (Nat.le_of_ble_eq_true rfl)) dX0_values_15 ⟨Nat.le_of_ble_eq_true rfl, Nat.le_of_ble_eq_true rfl⟩) hS (fun q _ h => hFc q h) hFc (fun r u t H1 locs ht hvm hw hB hz1 hk1 hS => ?_)
      obtain ⟨kn1, fa1, fm1⟩ := u
      obtain ⟨hP1, hK1, hD1⟩ := hB
      rw [ht] at hP1
      have hP : va_P (dC, dI) gv_cl (gv_xW h d n kn1 L R fa1 fm1) H1 := hP1
      have hD : va_D A (gv_xW h d n kn1 L R fa1 fm1) := hD1.weaken (fun _ q _ h => hFc q.1 h)
      clear hP1 hK1 hD1 hFc
      have er : r = nI (gv_fq (gv_E L R i) i 0) := hw.1.trans (gv_fsR_t (gv_hN hi (by omega)) (by omega))
      have hk1 := hw.2
      clear hw
      subst er
      have hle := gv_fq_le (gv_E L R i) i 0
      refine lv_iload_n hx hb dX0_values_18 rfl (lv_at hl 2 rfl) ?_
      refine lv_icmp_ne (tgt := 26) hx hb dX0_values_19 (by decide) (fun c2 => ?_) (fun c2 => ?_)
      · refine lv_iconst (v := nI 0) hx hb dX0_values_26 (by decide) ?_
        refine lv_iadd hx hb dX0_values_27 ?_
        refine gv_top (y := nI ((gv_cnt (gv_vf L R) i) + 0)) (nI_add _ _) ?_
        refine gv_top (y := nI (gv_cnt (gv_vf L R) (i + 1))) ((congrArg nI (gv_cnt_f (f := gv_vf L R) (i := i) (decide_eq_false (fun z => c2 (by rw [z]))))).symm) ?_
        refine lv_istore_n (lv' := [(1, .int (nI (gv_cnt (gv_vf L R) (i + 1)))), (0, .ref (h 0)), (2, .int (nI i))]) hx hb dX0_values_28 rfl hl (by decide) rfl (fun ls hl => ?_)
        refine lv_iinc (v := nI (i + 1)) (lv' := [(2, .int (nI (i + 1))), (1, .int (nI (gv_cnt (gv_vf L R) (i + 1)))), (0, .ref (h 0))]) hx hb dX0_values_29 hl (k := 2) rfl (gv_inc _) (by decide) rfl (fun ls hl => ?_)
        refine lv_goto (tgt := 4) hx hb dX0_values_32 (by decide) ?_
        exact ih H1 locs ls ⟨kn1, fa1, fm1, hP, hD, hS, hk1⟩ (lv_sub hl [2, 1, 0] rfl)
      · refine lv_iconst (v := nI 1) hx hb dX0_values_22 (by decide) ?_
        refine lv_goto (tgt := 27) hx hb dX0_values_23 (by decide) ?_
        refine lv_iadd hx hb dX0_values_27 ?_
        refine gv_top (y := nI ((gv_cnt (gv_vf L R) i) + 1)) (nI_add _ _) ?_
        refine gv_top (y := nI (gv_cnt (gv_vf L R) (i + 1))) ((congrArg nI (gv_cnt_t (f := gv_vf L R) (i := i) (decide_eq_true ((nI_eq (by omega) (by omega)).mp c2)))).symm) ?_
        refine lv_istore_n (lv' := [(1, .int (nI (gv_cnt (gv_vf L R) (i + 1)))), (0, .ref (h 0)), (2, .int (nI i))]) hx hb dX0_values_28 rfl hl (by decide) rfl (fun ls hl => ?_)
        refine lv_iinc (v := nI (i + 1)) (lv' := [(2, .int (nI (i + 1))), (1, .int (nI (gv_cnt (gv_vf L R) (i + 1)))), (0, .ref (h 0))]) hx hb dX0_values_29 hl (k := 2) rfl (gv_inc _) (by decide) rfl (fun ls hl => ?_)
        refine lv_goto (tgt := 4) hx hb dX0_values_32 (by decide) ?_
        exact ih H1 locs ls ⟨kn1, fa1, fm1, hP, hD, hS, hk1⟩ (lv_sub hl [2, 1, 0] rfl)
set_option maxHeartbeats 4000000 in
set_option maxRecDepth 100000 in
/-- depth -/
theorem gv_x_depth (l : Launch) (dC : Nat → ClassId) (dI : Nat → Nat → Nat) (h : Nat → Nat) (d : Nat → ClassId) (n : Nat) (kn : Int32) (L R : Nat → Nat) (fa fm : Nat → Int32) (x : Int32) (hg : gv_ok L R) (hn : n ≤ 10) : Met l yX0_depth (ws_ yX0_depth cX0_depth 7 (some .int)) ({ frames := 1, cells := 0, slots := 0, locals := 21 }) (va_Pc [.ref (h 0), .int x] (fun U => va_P (dC, dI) gv_cl (gv_xW h d n kn L R fa fm) U.heap ∧ va_K (dC, dI) gv_cl (gv_xT d) U)) (vp_Si (fun r => r = gv_dpR n L R x)) 0 0 (fun _ => False) := by
  refine Met.ofW (cc := cX0_depth) (maxL := 7) (ret := (some .int)) (by decide) rfl ?_
  intro p e s m args below meth c s₁ B hml hv
  obtain ⟨rfl, hP, hK⟩ := hv
  have hx := B.exec
  have hb := B.bytes
  have hr := B.returns
  have hts := atoms_spec (ws := ws_ yX0_depth cX0_depth 7 (some .int)) B.pre
  have hts : ∀ w ∈ lw_all, w.before _ s = true := fun w h => hts w (List.mem_cons_of_mem _ h)
  have hown : s.vm.findClass RX0 = some m.cls := findClass_of_methodNamed B.named
  have hlocks := B.notSynchronized
  have hl := lv_entry ([.ref (h 0), .int x]) (n := 7) (Nat.le_of_ble_eq_true rfl)
  rw [lg_entry_eq]
  generalize (lg_sl ([.ref (h 0), .int x]) ++ List.replicate (7 - (lg_sl ([.ref (h 0), .int x])).length) Slot.unset).toArray = ls at hl ⊢
  have hl : lv_has ls 7 [(0, .ref (h 0)), (1, .int x)] := hl
  refine lv_aload_n hx hb dX0_depth_0 rfl (lv_at hl 0 rfl) ?_
  refine lv_iload_n hx hb dX0_depth_1 rfl (lv_at hl 1 rfl) ?_
  refine vp_callSi (W.runV (As := [.int x]) (rest := []) ⟨hx, hb, hml, hown, hts⟩ (gv_x_has l dC dI h d n kn L R fa fm x) (cwV 1 hts (lw_V q68 q70 qs1 q17 q71) rfl rfl rfl (by decide +kernel) ⟨Nat.le_of_ble_eq_true rfl, Nat.le_of_ble_eq_true rfl⟩) (gv_preV (ci := 0) hK hP rfl rfl) rfl rfl hl.1 rfl (lv_room (Nat.le_of_ble_eq_true rfl)) dX0_depth_2 ⟨Nat.le_of_ble_eq_true rfl, Nat.le_of_ble_eq_true rfl⟩) (fun r er => ?_)
  subst er
  refine lv_if_ne (tgt := 10) hx hb dX0_depth_5 (by decide) (fun c1 => ?_) (fun c1 => ?_)
  · have q1 := gv_z1 c1
    clear c1
    obtain ⟨k1, j1, rfl⟩ := gv_hT q1 (by omega)
    refine lv_iconst (v := nI 1) hx hb dX0_depth_10 (by decide) ?_
    refine lv_iload_n hx hb dX0_depth_11 rfl (lv_at hl 1 rfl) ?_
    refine lv_ishl hx hb dX0_depth_12 ?_
    refine gv_top (y := nI (2 ^ k1)) (gv_shl (by omega)) ?_
    refine lv_istore_n (lv' := [(2, .int (nI (2 ^ k1))), (0, .ref (h 0)), (1, .int (nI k1))]) hx hb dX0_depth_13 rfl hl (by decide) rfl (fun ls hl => ?_)
    refine lv_iconst (v := nI 0) hx hb dX0_depth_14 (by decide) ?_
    refine lv_istore_n (lv' := [(3, .int (nI 0)), (2, .int (nI (2 ^ k1))), (0, .ref (h 0)), (1, .int (nI k1))]) hx hb dX0_depth_15 rfl hl (by decide) rfl (fun ls hl => ?_)
    refine lv_iconst (v := nI 0) hx hb dX0_depth_16 (by decide) ?_
    refine lv_istore (lv' := [(4, .int (nI 0)), (3, .int (nI 0)), (2, .int (nI (2 ^ k1))), (0, .ref (h 0)), (1, .int (nI k1))]) hx hb dX0_depth_17 hl (by decide) rfl (fun ls hl => ?_)
    refine gv_forS (nL := 7) 10 (fun _ => True) (fun i => [(0, .ref (h 0)), (2, .int (nI (gv_rc L R n k1 i))), (3, .int (nI (gv_ct L R n k1 i))), (4, .int (nI i))]) ?_ ?_ 0 (Nat.zero_le _) trivial (lv_sub hl [3, 2, 1, 0] rfl)
    · intro ls _ hl
      have hl : lv_has ls 7 [(0, .ref (h 0)), (2, .int (nI (gv_rc L R n k1 10))), (3, .int (nI (gv_ct L R n k1 10))), (4, .int (nI 10))] := hl
      refine lv_iload hx hb dX0_depth_19 (lv_at hl 3 rfl) ?_
      refine lv_bipush (v := nI 10) hx hb dX0_depth_21 (by decide) ?_
      refine lv_icmp_ge (tgt := 102) hx hb dX0_depth_23 (by decide) (fun c2 => ?_) (fun c2 => ?_)
      · refine lv_iload_n hx hb dX0_depth_102 rfl (lv_at hl 2 rfl) ?_
        exact W.iret (v := nI (gv_ct L R n k1 10)) hx hb hr (fun t ht hW => ⟨_, rfl, ((gv_dpR_t q1 (by omega)).trans (by rw [gv_ct_D hg hn j1])).symm, ht⟩) (fun _ h => nomatch h) dX0_depth_103
      · exact absurd (Int32.le_refl _) c2
    · intro i ls hi _ hl ihO
      have hl : lv_has ls 7 [(0, .ref (h 0)), (2, .int (nI (gv_rc L R n k1 i))), (3, .int (nI (gv_ct L R n k1 i))), (4, .int (nI i))] := hl
      have hrk := gv_rc_1024 hg hn j1 i
      have hrk2 := gv_rc_1024 hg hn j1 (i + 1)
      refine lv_iload hx hb dX0_depth_19 (lv_at hl 3 rfl) ?_
      refine lv_bipush (v := nI 10) hx hb dX0_depth_21 (by decide) ?_
      refine lv_icmp_ge (tgt := 102) hx hb dX0_depth_23 (by decide) (fun c2 => ?_) (fun c2 => ?_)
      · exact absurd c2 (nI_ge hi (by omega))
      · refine lv_iconst (v := nI 0) hx hb dX0_depth_26 (by decide) ?_
        refine lv_istore (lv' := [(5, .int (nI 0)), (0, .ref (h 0)), (2, .int (nI (gv_rc L R n k1 i))), (3, .int (nI (gv_ct L R n k1 i))), (4, .int (nI i))]) hx hb dX0_depth_27 hl (by decide) rfl (fun ls hl => ?_)
        refine lv_iconst (v := nI 0) hx hb dX0_depth_29 (by decide) ?_
        refine lv_istore (lv' := [(6, .int (nI 0)), (5, .int (nI 0)), (0, .ref (h 0)), (2, .int (nI (gv_rc L R n k1 i))), (3, .int (nI (gv_ct L R n k1 i))), (4, .int (nI i))]) hx hb dX0_depth_30 hl (by decide) rfl (fun ls hl => ?_)
        refine gv_forS (nL := 7) n (fun _ => True) (fun j => [(0, .ref (h 0)), (2, .int (nI (gv_rc L R n k1 i))), (3, .int (nI (gv_ct L R n k1 i))), (4, .int (nI i)), (5, .int (nI (gv_nx L R (gv_rc L R n k1 i) j))), (6, .int (nI j))]) ?_ ?_ 0 (Nat.zero_le _) trivial (lv_sub hl [2, 3, 4, 5, 1, 0] rfl)
        · intro ls _ hl
          have hl : lv_has ls 7 [(0, .ref (h 0)), (2, .int (nI (gv_rc L R n k1 i))), (3, .int (nI (gv_ct L R n k1 i))), (4, .int (nI i)), (5, .int (nI (gv_nx L R (gv_rc L R n k1 i) n))), (6, .int (nI n))] := hl
          refine lv_iload hx hb dX0_depth_32 (lv_at hl 5 rfl) ?_
          refine lv_aload_n hx hb dX0_depth_34 rfl (lv_at hl 0 rfl) ?_
          refine va_get (D := (dC, dI)) (ci := 0) (v := .int (nI n)) (C := RX0) (T := TX0) (N := 6) hx hb hts in_X0 hown hK hP 0 rfl rfl 0 (by decide) (hts _ q27) (fun _ h9 => h9) rfl dX0_depth_35 ?_
          refine lv_icmp_ge (tgt := 80) hx hb dX0_depth_38 (by decide) (fun c3 => ?_) (fun c3 => ?_)
          · refine lv_iload_n hx hb dX0_depth_80 rfl (lv_at hl 2 rfl) ?_
            refine lv_iload hx hb dX0_depth_81 (lv_at hl 4 rfl) ?_
            refine gv_top (y := nI (gv_rc L R n k1 (i + 1))) rfl ?_
            refine lv_if_eq (tgt := 90) hx hb dX0_depth_83 (by decide) (fun c4 => ?_) (fun c4 => ?_)
            · refine lv_iconst (v := nI 0) hx hb dX0_depth_90 (by decide) ?_
              refine lv_iadd hx hb dX0_depth_91 ?_
              refine gv_top (y := nI ((gv_ct L R n k1 i) + 0)) (nI_add _ _) ?_
              refine gv_top (y := nI (gv_ct L R n k1 (i + 1))) ((congrArg nI (gv_cnt_f (f := fun k => !decide (gv_rc L R n k1 (k + 1) = 0)) (i := i) (by show (!decide (gv_rc L R n k1 (i + 1) = 0)) = false; rw [decide_eq_true ((nI_eq (b := 0) (by omega) (by decide)).mp c4)]; rfl))).symm) ?_
              refine lv_istore_n (lv' := [(3, .int (nI (gv_ct L R n k1 (i + 1)))), (0, .ref (h 0)), (2, .int (nI (gv_rc L R n k1 i))), (4, .int (nI i)), (5, .int (nI (gv_nx L R (gv_rc L R n k1 i) n))), (6, .int (nI n))]) hx hb dX0_depth_92 rfl hl (by decide) rfl (fun ls hl => ?_)
              refine lv_iload hx hb dX0_depth_93 (lv_at hl 4 rfl) ?_
              refine gv_top (y := nI (gv_rc L R n k1 (i + 1))) rfl ?_
              refine lv_istore_n (lv' := [(2, .int (nI (gv_rc L R n k1 (i + 1)))), (3, .int (nI (gv_ct L R n k1 (i + 1)))), (0, .ref (h 0)), (4, .int (nI i)), (5, .int (nI (gv_nx L R (gv_rc L R n k1 i) n))), (6, .int (nI n))]) hx hb dX0_depth_95 rfl hl (by decide) rfl (fun ls hl => ?_)
              refine lv_iinc (v := nI (i + 1)) (lv' := [(4, .int (nI (i + 1))), (2, .int (nI (gv_rc L R n k1 (i + 1)))), (3, .int (nI (gv_ct L R n k1 (i + 1)))), (0, .ref (h 0)), (5, .int (nI (gv_nx L R (gv_rc L R n k1 i) n))), (6, .int (nI n))]) hx hb dX0_depth_96 hl (k := 3) rfl (gv_inc _) (by decide) rfl (fun ls hl => ?_)
              refine lv_goto (tgt := 19) hx hb dX0_depth_99 (by decide) ?_
              exact ihO ls trivial (lv_sub hl [3, 1, 2, 0] rfl)
            · refine lv_iconst (v := nI 1) hx hb dX0_depth_86 (by decide) ?_
              refine lv_goto (tgt := 91) hx hb dX0_depth_87 (by decide) ?_
              refine lv_iadd hx hb dX0_depth_91 ?_
              refine gv_top (y := nI ((gv_ct L R n k1 i) + 1)) (nI_add _ _) ?_
              refine gv_top (y := nI (gv_ct L R n k1 (i + 1))) ((congrArg nI (gv_cnt_t (f := fun k => !decide (gv_rc L R n k1 (k + 1) = 0)) (i := i) (by show (!decide (gv_rc L R n k1 (i + 1) = 0)) = true; rw [decide_eq_false (fun z => c4 (by rw [z]; rfl))]; rfl))).symm) ?_
              refine lv_istore_n (lv' := [(3, .int (nI (gv_ct L R n k1 (i + 1)))), (0, .ref (h 0)), (2, .int (nI (gv_rc L R n k1 i))), (4, .int (nI i)), (5, .int (nI (gv_nx L R (gv_rc L R n k1 i) n))), (6, .int (nI n))]) hx hb dX0_depth_92 rfl hl (by decide) rfl (fun ls hl => ?_)
              refine lv_iload hx hb dX0_depth_93 (lv_at hl 4 rfl) ?_
              refine gv_top (y := nI (gv_rc L R n k1 (i + 1))) rfl ?_
              refine lv_istore_n (lv' := [(2, .int (nI (gv_rc L R n k1 (i + 1)))), (3, .int (nI (gv_ct L R n k1 (i + 1)))), (0, .ref (h 0)), (4, .int (nI i)), (5, .int (nI (gv_nx L R (gv_rc L R n k1 i) n))), (6, .int (nI n))]) hx hb dX0_depth_95 rfl hl (by decide) rfl (fun ls hl => ?_)
              refine lv_iinc (v := nI (i + 1)) (lv' := [(4, .int (nI (i + 1))), (2, .int (nI (gv_rc L R n k1 (i + 1)))), (3, .int (nI (gv_ct L R n k1 (i + 1)))), (0, .ref (h 0)), (5, .int (nI (gv_nx L R (gv_rc L R n k1 i) n))), (6, .int (nI n))]) hx hb dX0_depth_96 hl (k := 3) rfl (gv_inc _) (by decide) rfl (fun ls hl => ?_)
              refine lv_goto (tgt := 19) hx hb dX0_depth_99 (by decide) ?_
              exact ihO ls trivial (lv_sub hl [3, 1, 2, 0] rfl)
          · exact absurd (Int32.le_refl _) c3
        · intro j ls hj _ hl ihI
          have hl : lv_has ls 7 [(0, .ref (h 0)), (2, .int (nI (gv_rc L R n k1 i))), (3, .int (nI (gv_ct L R n k1 i))), (4, .int (nI i)), (5, .int (nI (gv_nx L R (gv_rc L R n k1 i) j))), (6, .int (nI j))] := hl
          refine lv_iload hx hb dX0_depth_32 (lv_at hl 5 rfl) ?_
          refine lv_aload_n hx hb dX0_depth_34 rfl (lv_at hl 0 rfl) ?_
          refine va_get (D := (dC, dI)) (ci := 0) (v := .int (nI n)) (C := RX0) (T := TX0) (N := 6) hx hb hts in_X0 hown hK hP 0 rfl rfl 0 (by decide) (hts _ q27) (fun _ h9 => h9) rfl dX0_depth_35 ?_
          refine lv_icmp_ge (tgt := 80) hx hb dX0_depth_38 (by decide) (fun c3 => ?_) (fun c3 => ?_)
          · exact absurd c3 (nI_ge hj (by omega))
          · refine lv_iload hx hb dX0_depth_41 (lv_at hl 4 rfl) ?_
            refine lv_iload_n hx hb dX0_depth_43 rfl (lv_at hl 1 rfl) ?_
            refine lv_iload hx hb dX0_depth_44 (lv_at hl 5 rfl) ?_
            refine vp_callSi (W.runS (As := [.int (nI (gv_rc L R n k1 i)), .int (nI j)]) (rest := [.int (nI (gv_nx L R (gv_rc L R n k1 i) j))]) ⟨hx, hb, hml, hown, hts⟩ (gv_x_in l (gv_rc L R n k1 i) j (by omega) (by omega)) (va_cwS 2 hts (lw_S q95 q96 q17 q97) rfl rfl rfl (by decide +kernel) ⟨Nat.le_of_ble_eq_true rfl, Nat.le_of_ble_eq_true rfl⟩) gv_preS rfl rfl hl.1 rfl (lv_room (Nat.le_of_ble_eq_true rfl)) dX0_depth_46 ⟨Nat.le_of_ble_eq_true rfl, Nat.le_of_ble_eq_true rfl⟩) (fun r er => ?_)
            subst er
            refine lv_if_eq (tgt := 70) hx hb dX0_depth_49 (by decide) (fun c4 => ?_) (fun c4 => ?_)
            · refine lv_iconst (v := nI 0) hx hb dX0_depth_70 (by decide) ?_
              refine lv_ior hx hb dX0_depth_71 ?_
              refine gv_top (y := nI ((gv_nx L R (gv_rc L R n k1 i) j) ||| 0)) (gv_or _ _) ?_
              refine gv_top (y := nI (gv_nx L R (gv_rc L R n k1 i) (j + 1))) ((congrArg nI (gv_nx_f (gv_z0 c4))).symm) ?_
              refine lv_istore (lv' := [(5, .int (nI (gv_nx L R (gv_rc L R n k1 i) (j + 1)))), (0, .ref (h 0)), (2, .int (nI (gv_rc L R n k1 i))), (3, .int (nI (gv_ct L R n k1 i))), (4, .int (nI i)), (6, .int (nI j))]) hx hb dX0_depth_72 hl (by decide) rfl (fun ls hl => ?_)
              refine lv_iinc (v := nI (j + 1)) (lv' := [(6, .int (nI (j + 1))), (5, .int (nI (gv_nx L R (gv_rc L R n k1 i) (j + 1)))), (0, .ref (h 0)), (2, .int (nI (gv_rc L R n k1 i))), (3, .int (nI (gv_ct L R n k1 i))), (4, .int (nI i))]) hx hb dX0_depth_74 hl (k := 5) rfl (gv_inc _) (by decide) rfl (fun ls hl => ?_)
              refine lv_goto (tgt := 32) hx hb dX0_depth_77 (by decide) ?_
              exact ihI ls trivial (lv_sub hl [2, 3, 4, 5, 1, 0] rfl)
            · refine lv_aload_n hx hb dX0_depth_52 rfl (lv_at hl 0 rfl) ?_
              refine va_get (D := (dC, dI)) (ci := 0) (v := .ref (h 1)) (C := RX0) (T := TX0) (N := 6) hx hb hts in_X0 hown hK hP 0 rfl rfl 1 (by decide) (hts _ q28) (fun _ h9 => h9) rfl dX0_depth_53 ?_
              refine lv_iload hx hb dX0_depth_56 (lv_at hl 5 rfl) ?_
              refine va_sald hx hb hK hP 1 0 rfl rfl (vp_in_nI (n := j) (by omega) (by decide)) dX0_depth_58 ?_
              refine gv_top (y := nI (L j)) (gv_ld (fun j => nI (L j)) (e := j) (by omega)) ?_
              refine lv_aload_n hx hb dX0_depth_59 rfl (lv_at hl 0 rfl) ?_
              refine va_get (D := (dC, dI)) (ci := 0) (v := .ref (h 2)) (C := RX0) (T := TX0) (N := 6) hx hb hts in_X0 hown hK hP 0 rfl rfl 2 (by decide) (hts _ q29) (fun _ h9 => h9) rfl dX0_depth_60 ?_
              refine lv_iload hx hb dX0_depth_63 (lv_at hl 5 rfl) ?_
              refine va_sald hx hb hK hP 2 1 rfl rfl (vp_in_nI (n := j) (by omega) (by decide)) dX0_depth_65 ?_
              refine gv_top (y := nI (R j)) (gv_ld (fun j => nI (R j)) (e := j) (by omega)) ?_
              refine lv_ior hx hb dX0_depth_66 ?_
              refine gv_top (y := nI ((L j) ||| (R j))) (gv_or _ _) ?_
              refine lv_goto (tgt := 71) hx hb dX0_depth_67 (by decide) ?_
              refine lv_ior hx hb dX0_depth_71 ?_
              refine gv_top (y := nI ((gv_nx L R (gv_rc L R n k1 i) j) ||| ((L j) ||| (R j)))) (gv_or _ _) ?_
              refine gv_top (y := nI (gv_nx L R (gv_rc L R n k1 i) (j + 1))) ((congrArg nI (gv_nx_t (gv_z1 c4))).symm) ?_
              refine lv_istore (lv' := [(5, .int (nI (gv_nx L R (gv_rc L R n k1 i) (j + 1)))), (0, .ref (h 0)), (2, .int (nI (gv_rc L R n k1 i))), (3, .int (nI (gv_ct L R n k1 i))), (4, .int (nI i)), (6, .int (nI j))]) hx hb dX0_depth_72 hl (by decide) rfl (fun ls hl => ?_)
              refine lv_iinc (v := nI (j + 1)) (lv' := [(6, .int (nI (j + 1))), (5, .int (nI (gv_nx L R (gv_rc L R n k1 i) (j + 1)))), (0, .ref (h 0)), (2, .int (nI (gv_rc L R n k1 i))), (3, .int (nI (gv_ct L R n k1 i))), (4, .int (nI i))]) hx hb dX0_depth_74 hl (k := 5) rfl (gv_inc _) (by decide) rfl (fun ls hl => ?_)
              refine lv_goto (tgt := 32) hx hb dX0_depth_77 (by decide) ?_
              exact ihI ls trivial (lv_sub hl [2, 3, 4, 5, 1, 0] rfl)
  · refine lv_iconst (v := (-1)) hx hb dX0_depth_8 (by decide) ?_
    exact W.iret (v := (-1)) hx hb hr (fun t ht hW => ⟨_, rfl, (gv_dpR_f (gv_z0 c1)).symm, ht⟩) (fun _ h => nomatch h) dX0_depth_9
set_option maxHeartbeats 4000000 in
set_option maxRecDepth 100000 in
/-- above -/
theorem gv_x_above (l : Launch) (dC : Nat → ClassId) (dI : Nat → Nat → Nat) (h : Nat → Nat) (d : Nat → ClassId) (sz : Nat) (n : Nat) (kn : Int32) (L R : Nat → Nat) (fa fm : Nat → Int32) (x : Int32) (hg : gv_ok L R) (hn1 : 1 ≤ n) (hn : n ≤ 10) (hk : gv_k n L R kn fa fm) : Met l yX0_above (ws_ yX0_above cX0_above 4 (some .int)) ({ frames := 3, cells := 0, slots := 0, locals := 74 }) (va_Pc [.ref (h 0), .int x] (fun U => U.heap.size = sz ∧ va_P (dC, dI) gv_cl (gv_xW h d n kn L R fa fm) U.heap ∧ va_K (dC, dI) gv_cl (gv_xT d) U ∧ va_D (fun _ => True) (gv_xW h d n kn L R fa fm))) (va_Qi (fun (r : Int32) (u : Int32 × (Nat → Int32) × (Nat → Int32)) => r = gv_abR n L R x ∧ gv_k n L R u.1 u.2.1 u.2.2) (gv_xB dC dI h d n L R (va_A (gv_xW h d n kn L R fa fm) sz)) (va_A (gv_xW h d n kn L R fa fm) sz)) 0 0 (va_A (gv_xW h d n kn L R fa fm) sz) := by
  refine Met.ofW (cc := cX0_above) (maxL := 4) (ret := (some .int)) (by decide) rfl ?_
  intro p e s m args below meth c s₁ B hml hv
  obtain ⟨rfl, hsz, hP, hK, hD0⟩ := hv
  have hx := B.exec
  have hb := B.bytes
  have hr := B.returns
  have hts := atoms_spec (ws := ws_ yX0_above cX0_above 4 (some .int)) B.pre
  have hts : ∀ w ∈ lw_all, w.before _ s = true := fun w h => hts w (List.mem_cons_of_mem _ h)
  have hown : s.vm.findClass RX0 = some m.cls := findClass_of_methodNamed B.named
  have hlocks := B.notSynchronized
  subst hsz
  have hD := hD0.self (sz := s.heap.size)
  generalize hAe : va_A (gv_xW h d n kn L R fa fm) s.heap.size = A at hD ⊢
  have hA : ∀ q : Nat, s.heap.size ≤ q → A q := fun q h => by rw [← hAe]; exact Or.inr h
  have hS : va_S A s.heap s.heap [] := va_S.rf
  have hP : va_P (dC, dI) gv_cl (gv_xW h d n kn L R fa fm) s.heap := hP
  have hl := lv_entry ([.ref (h 0), .int x]) (n := 4) (Nat.le_of_ble_eq_true rfl)
  rw [lg_entry_eq]
  generalize (lg_sl ([.ref (h 0), .int x]) ++ List.replicate (4 - (lg_sl ([.ref (h 0), .int x])).length) Slot.unset).toArray = ls at hl ⊢
  have hl : lv_has ls 4 [(0, .ref (h 0)), (1, .int x)] := hl
  refine lv_aload_n hx hb dX0_above_0 rfl (lv_at hl 0 rfl) ?_
  refine lv_iload_n hx hb dX0_above_1 rfl (lv_at hl 1 rfl) ?_
  refine vp_callSi (W.runV (As := [.int x]) (rest := []) ⟨hx, hb, hml, hown, hts⟩ (gv_x_has l dC dI h d n kn L R fa fm x) (cwV 1 hts (lw_V q68 q70 qs1 q17 q71) rfl rfl rfl (by decide +kernel) ⟨Nat.le_of_ble_eq_true rfl, Nat.le_of_ble_eq_true rfl⟩) (gv_preV (ci := 0) hK hP rfl rfl) rfl rfl hl.1 rfl (lv_room (Nat.le_of_ble_eq_true rfl)) dX0_above_2 ⟨Nat.le_of_ble_eq_true rfl, Nat.le_of_ble_eq_true rfl⟩) (fun r er => ?_)
  subst er
  refine lv_if_ne (tgt := 10) hx hb dX0_above_5 (by decide) (fun c1 => ?_) (fun c1 => ?_)
  · have q1 := gv_z1 c1
    clear c1
    obtain ⟨k1, j1, rfl⟩ := gv_hT q1 (by omega)
    refine lv_aload_n hx hb dX0_above_10 rfl (lv_at hl 0 rfl) ?_
    have hFc := va_free (wc := gv_xW h d n kn L R fa fm) hD hS hA [0, 1, 2, 3, 4] rfl
    refine va_callv (va_runV (As := []) (rest := []) ⟨hx, hb, hml, hown, hts⟩ (gv_x_learn l dC dI h d _ n kn L R fa fm hg hn1 hn hk) (cwV 0 hts (lw_V q84 q86 qs3 q17 q87) rfl rfl rfl (by decide +kernel) ⟨Nat.le_of_ble_eq_true rfl, Nat.le_of_ble_eq_true rfl⟩) (gv_preD (ci := 0) hK hP hD rfl rfl) rfl rfl hl.1 rfl (lv_room (Nat.le_of_ble_eq_true rfl)) dX0_above_11 ⟨Nat.le_of_ble_eq_true rfl, Nat.le_of_ble_eq_true rfl⟩) hS (fun q _ h => hFc q h) hFc (fun u t H1 locs ht hvm hw hB hz1 hk1 hS => ?_)
    obtain ⟨kn1, fa1, fm1⟩ := u
    obtain ⟨hP1, hK1, hD1⟩ := hB
    rw [ht] at hP1
    have hP : va_P (dC, dI) gv_cl (gv_xW h d n kn1 L R fa1 fm1) H1 := hP1
    have hD : va_D A (gv_xW h d n kn1 L R fa1 fm1) := hD1.weaken (fun _ q _ h => hFc q.1 h)
    clear hP1 hK1 hD1 hFc
    have ht1 : gv_tab n L R fa1 fm1 := hw.2
    have hk1 : gv_k n L R kn1 fa1 fm1 := Or.inr hw
    refine lv_iconst (v := nI 0) hx hb dX0_above_14 (by decide) ?_
    refine lv_istore_n (lv' := [(2, .int (nI 0)), (0, .ref (h 0)), (1, .int (nI k1))]) hx hb dX0_above_15 rfl hl (by decide) rfl (fun ls hl => ?_)
    refine lv_iconst (v := nI 0) hx hb dX0_above_16 (by decide) ?_
    refine lv_istore_n (lv' := [(3, .int (nI 0)), (2, .int (nI 0)), (0, .ref (h 0)), (1, .int (nI k1))]) hx hb dX0_above_17 rfl hl (by decide) rfl (fun ls hl => ?_)
    refine gv_forS (nL := 4) n (fun _ => True) (fun i => [(0, .ref (h 0)), (1, .int (nI k1)), (2, .int (nI (gv_acc (gv_abf L R k1) (fun q => q) i))), (3, .int (nI i))]) ?_ ?_ 0 (Nat.zero_le _) trivial (lv_sub hl [2, 3, 1, 0] rfl)
    · intro ls _ hl
      have hl : lv_has ls 4 [(0, .ref (h 0)), (1, .int (nI k1)), (2, .int (nI (gv_acc (gv_abf L R k1) (fun q => q) n))), (3, .int (nI n))] := hl
      refine lv_iload_n hx hb dX0_above_18 rfl (lv_at hl 3 rfl) ?_
      refine lv_aload_n hx hb dX0_above_19 rfl (lv_at hl 0 rfl) ?_
      refine va_get (D := (dC, dI)) (ci := 0) (v := .int (nI n)) (C := RX0) (T := TX0) (N := 6) hx hb hts in_X0 hown hK hP 0 rfl rfl 0 (by decide) (hts _ q27) (fun _ h9 => h9) rfl dX0_above_20 ?_
      refine lv_icmp_ge (tgt := 51) hx hb dX0_above_23 (by decide) (fun c2 => ?_) (fun c2 => ?_)
      · refine lv_iload_n hx hb dX0_above_51 rfl (lv_at hl 2 rfl) ?_
        exact W.iret (v := nI (gv_acc (gv_abf L R k1) (fun q => q) n)) hx hb hr (fun t ht hW => ⟨⟨nI (gv_acc (gv_abf L R k1) (fun q => q) n), (kn1, fa1, fm1), rfl, ⟨(gv_abR_t q1 (by omega)).symm, hk1⟩, by rw [ht]; exact hP, va_K.moved hW.alike hK, hD⟩, hS.F ht⟩) hS.2.2 dX0_above_52
      · exact absurd (Int32.le_refl _) c2
    · intro i ls hi _ hl ih
      have hl : lv_has ls 4 [(0, .ref (h 0)), (1, .int (nI k1)), (2, .int (nI (gv_acc (gv_abf L R k1) (fun q => q) i))), (3, .int (nI i))] := hl
      refine lv_iload_n hx hb dX0_above_18 rfl (lv_at hl 3 rfl) ?_
      refine lv_aload_n hx hb dX0_above_19 rfl (lv_at hl 0 rfl) ?_
      refine va_get (D := (dC, dI)) (ci := 0) (v := .int (nI n)) (C := RX0) (T := TX0) (N := 6) hx hb hts in_X0 hown hK hP 0 rfl rfl 0 (by decide) (hts _ q27) (fun _ h9 => h9) rfl dX0_above_20 ?_
      refine lv_icmp_ge (tgt := 51) hx hb dX0_above_23 (by decide) (fun c2 => ?_) (fun c2 => ?_)
      · exact absurd c2 (nI_ge hi (by omega))
      · refine lv_iload_n hx hb dX0_above_26 rfl (lv_at hl 2 rfl) ?_
        refine lv_aload_n hx hb dX0_above_27 rfl (lv_at hl 0 rfl) ?_
        refine lv_iload_n hx hb dX0_above_28 rfl (lv_at hl 3 rfl) ?_
        refine lv_iload_n hx hb dX0_above_29 rfl (lv_at hl 1 rfl) ?_
        refine vp_callSi (W.runV (As := [.int (nI i), .int (nI k1)]) (rest := [.int (nI (gv_acc (gv_abf L R k1) (fun q => q) i))]) ⟨hx, hb, hml, hown, hts⟩ (gv_x_isAtLeast l dC dI h d n kn1 L R fa1 fm1 i k1 hn hi j1 ht1) (cwV 2 hts (lw_V q125 q127 qs8 q17 q128) rfl rfl rfl (by decide +kernel) ⟨Nat.le_of_ble_eq_true rfl, Nat.le_of_ble_eq_true rfl⟩) (gv_preV (ci := 0) hK hP rfl rfl) rfl rfl hl.1 rfl (lv_room (Nat.le_of_ble_eq_true rfl)) dX0_above_30 ⟨Nat.le_of_ble_eq_true rfl, Nat.le_of_ble_eq_true rfl⟩) (fun r er => ?_)
        subst er
        refine lv_if_eq (tgt := 42) hx hb dX0_above_33 (by decide) (fun c3 => ?_) (fun c3 => ?_)
        · refine lv_iconst (v := nI 0) hx hb dX0_above_42 (by decide) ?_
          refine lv_ior hx hb dX0_above_43 ?_
          refine gv_top (y := nI ((gv_acc (gv_abf L R k1) (fun q => q) i) ||| 0)) (gv_or _ _) ?_
          refine gv_top (y := nI (gv_acc (gv_abf L R k1) (fun q => q) (i + 1))) (by rw [Nat.or_zero, gv_acc_f (f := gv_abf L R k1) (g := fun q => q) (i := i) (gv_z0 c3)]) ?_
          refine lv_istore_n (lv' := [(2, .int (nI (gv_acc (gv_abf L R k1) (fun q => q) (i + 1)))), (0, .ref (h 0)), (1, .int (nI k1)), (3, .int (nI i))]) hx hb dX0_above_44 rfl hl (by decide) rfl (fun ls hl => ?_)
          refine lv_iinc (v := nI (i + 1)) (lv' := [(3, .int (nI (i + 1))), (2, .int (nI (gv_acc (gv_abf L R k1) (fun q => q) (i + 1)))), (0, .ref (h 0)), (1, .int (nI k1))]) hx hb dX0_above_45 hl (k := 3) rfl (gv_inc _) (by decide) rfl (fun ls hl => ?_)
          refine lv_goto (tgt := 18) hx hb dX0_above_48 (by decide) ?_
          exact ih ls trivial (lv_sub hl [2, 3, 1, 0] rfl)
        · refine lv_iconst (v := nI 1) hx hb dX0_above_36 (by decide) ?_
          refine lv_iload_n hx hb dX0_above_37 rfl (lv_at hl 3 rfl) ?_
          refine lv_ishl hx hb dX0_above_38 ?_
          refine gv_top (y := nI (2 ^ i)) (gv_shl (by omega)) ?_
          refine lv_goto (tgt := 43) hx hb dX0_above_39 (by decide) ?_
          refine lv_ior hx hb dX0_above_43 ?_
          refine gv_top (y := nI ((gv_acc (gv_abf L R k1) (fun q => q) i) ||| (2 ^ i))) (gv_or _ _) ?_
          refine gv_top (y := nI (gv_acc (gv_abf L R k1) (fun q => q) (i + 1))) ((congrArg nI (gv_acc_t (f := gv_abf L R k1) (g := fun q => q) (i := i) (gv_z1 c3))).symm) ?_
          refine lv_istore_n (lv' := [(2, .int (nI (gv_acc (gv_abf L R k1) (fun q => q) (i + 1)))), (0, .ref (h 0)), (1, .int (nI k1)), (3, .int (nI i))]) hx hb dX0_above_44 rfl hl (by decide) rfl (fun ls hl => ?_)
          refine lv_iinc (v := nI (i + 1)) (lv' := [(3, .int (nI (i + 1))), (2, .int (nI (gv_acc (gv_abf L R k1) (fun q => q) (i + 1)))), (0, .ref (h 0)), (1, .int (nI k1))]) hx hb dX0_above_45 hl (k := 3) rfl (gv_inc _) (by decide) rfl (fun ls hl => ?_)
          refine lv_goto (tgt := 18) hx hb dX0_above_48 (by decide) ?_
          exact ih ls trivial (lv_sub hl [2, 3, 1, 0] rfl)
  · refine lv_iconst (v := (-1)) hx hb dX0_above_8 (by decide) ?_
    exact W.iret (v := (-1)) hx hb hr (fun t ht hW => ⟨⟨(-1), (kn, fa, fm), rfl, ⟨(gv_abR_f (gv_z0 c1)).symm, hk⟩, by rw [ht]; exact hP, va_K.moved hW.alike hK, hD⟩, hS.F ht⟩) hS.2.2 dX0_above_9
set_option maxHeartbeats 4000000 in
set_option maxRecDepth 100000 in
/-- opposite -/
theorem gv_x_opposite (l : Launch) (dC : Nat → ClassId) (dI : Nat → Nat → Nat) (h : Nat → Nat) (d : Nat → ClassId) (sz : Nat) (n : Nat) (kn : Int32) (L R : Nat → Nat) (fa fm : Nat → Int32) (x y : Int32) (hg : gv_ok L R) (hn1 : 1 ≤ n) (hn : n ≤ 10) (hk : gv_k n L R kn fa fm) : Met l yX0_opposite (ws_ yX0_opposite cX0_opposite 3 (some .boolean)) ({ frames := 4, cells := 0, slots := 0, locals := 98 }) (va_Pc [.ref (h 0), .int x, .int y] (fun U => U.heap.size = sz ∧ va_P (dC, dI) gv_cl (gv_xW h d n kn L R fa fm) U.heap ∧ va_K (dC, dI) gv_cl (gv_xT d) U ∧ va_D (fun _ => True) (gv_xW h d n kn L R fa fm))) (va_Qi (fun (r : Int32) (u : Int32 × (Nat → Int32) × (Nat → Int32)) => r = gv_z (gv_opR n L R x y) ∧ gv_k n L R u.1 u.2.1 u.2.2) (gv_xB dC dI h d n L R (va_A (gv_xW h d n kn L R fa fm) sz)) (va_A (gv_xW h d n kn L R fa fm) sz)) 0 0 (va_A (gv_xW h d n kn L R fa fm) sz) := by
  refine Met.ofW (cc := cX0_opposite) (maxL := 3) (ret := (some .boolean)) (by decide) rfl ?_
  intro p e s m args below meth c s₁ B hml hv
  obtain ⟨rfl, hsz, hP, hK, hD0⟩ := hv
  have hx := B.exec
  have hb := B.bytes
  have hr := B.returns
  have hts := atoms_spec (ws := ws_ yX0_opposite cX0_opposite 3 (some .boolean)) B.pre
  have hts : ∀ w ∈ lw_all, w.before _ s = true := fun w h => hts w (List.mem_cons_of_mem _ h)
  have hown : s.vm.findClass RX0 = some m.cls := findClass_of_methodNamed B.named
  have hlocks := B.notSynchronized
  subst hsz
  have hD := hD0.self (sz := s.heap.size)
  generalize hAe : va_A (gv_xW h d n kn L R fa fm) s.heap.size = A at hD ⊢
  have hA : ∀ q : Nat, s.heap.size ≤ q → A q := fun q h => by rw [← hAe]; exact Or.inr h
  have hS : va_S A s.heap s.heap [] := va_S.rf
  have hP : va_P (dC, dI) gv_cl (gv_xW h d n kn L R fa fm) s.heap := hP
  have hl := lv_entry ([.ref (h 0), .int x, .int y]) (n := 3) (Nat.le_of_ble_eq_true rfl)
  rw [lg_entry_eq]
  generalize (lg_sl ([.ref (h 0), .int x, .int y]) ++ List.replicate (3 - (lg_sl ([.ref (h 0), .int x, .int y])).length) Slot.unset).toArray = ls at hl ⊢
  have hl : lv_has ls 3 [(0, .ref (h 0)), (1, .int x), (2, .int y)] := hl
  refine lv_aload_n hx hb dX0_opposite_0 rfl (lv_at hl 0 rfl) ?_
  refine lv_iload_n hx hb dX0_opposite_1 rfl (lv_at hl 1 rfl) ?_
  refine lv_iload_n hx hb dX0_opposite_2 rfl (lv_at hl 2 rfl) ?_
  refine lv_iconst (v := nI 0) hx hb dX0_opposite_3 (by decide) ?_
  have hFc := va_free (wc := gv_xW h d n kn L R fa fm) hD hS hA [0, 1, 2, 3, 4] rfl
  refine va_calli (va_runV (As := [.int x, .int y, .int (nI 0)]) (rest := []) ⟨hx, hb, hml, hown, hts⟩ (gv_x_compareSum l dC dI h d _ n kn L R fa fm x y (nI 0) hg hn1 hn hk) (cwV 3 hts (lw_V q80 q81 q82 q17 q83) rfl rfl rfl (by decide +kernel) ⟨Nat.le_of_ble_eq_true rfl, Nat.le_of_ble_eq_true rfl⟩) (gv_preD (ci := 0) hK hP hD rfl rfl) rfl rfl hl.1 rfl (lv_room (Nat.le_of_ble_eq_true rfl)) dX0_opposite_4 ⟨Nat.le_of_ble_eq_true rfl, Nat.le_of_ble_eq_true rfl⟩) hS (fun q _ h => hFc q h) hFc (fun r u t H1 locs ht hvm hw hB hz1 hk1 hS => ?_)
  obtain ⟨kn1, fa1, fm1⟩ := u
  obtain ⟨hP1, hK1, hD1⟩ := hB
  rw [ht] at hP1
  have hP : va_P (dC, dI) gv_cl (gv_xW h d n kn1 L R fa1 fm1) H1 := hP1
  have hD : va_D A (gv_xW h d n kn1 L R fa1 fm1) := hD1.weaken (fun _ q _ h => hFc q.1 h)
  clear hP1 hK1 hD1 hFc
  refine lv_if_ne (tgt := 14) hx hb dX0_opposite_7 (by decide) (fun c1 => ?_) (fun c1 => ?_)
  · refine lv_iconst (v := nI 0) hx hb dX0_opposite_14 (by decide) ?_
    exact W.zret (v := nI 0) hx hb hr (rfl) (fun t ht hW => ⟨⟨nI 0, (kn1, fa1, fm1), rfl, ⟨gv_a0 ((gv_op_cs hn1 hn x y).2 (by rw [← hw.1]; exact c1)), hw.2⟩, by rw [ht]; exact hP, va_K.moved hW.alike hK, hD⟩, hS.F ht⟩) hS.2.2 dX0_opposite_15
  · refine lv_iconst (v := nI 1) hx hb dX0_opposite_10 (by decide) ?_
    refine lv_goto (tgt := 15) hx hb dX0_opposite_11 (by decide) ?_
    exact W.zret (v := nI 1) hx hb hr (rfl) (fun t ht hW => ⟨⟨nI 1, (kn1, fa1, fm1), rfl, ⟨gv_a1 ((gv_op_cs hn1 hn x y).1 (by rw [← hw.1]; exact c1)), hw.2⟩, by rw [ht]; exact hP, va_K.moved hW.alike hK, hD⟩, hS.F ht⟩) hS.2.2 dX0_opposite_15
end
section
set_option maxHeartbeats 4000000 in
set_option maxRecDepth 100000 in
/-- add -/
theorem gv_x_add (l : Launch) (dC : Nat → ClassId) (dI : Nat → Nat → Nat) (h : Nat → Nat) (d : Nat → ClassId) (sz : Nat) (n : Nat) (kn : Int32) (L R : Nat → Nat) (fa fm : Nat → Int32) (x y : Int32) (hn : n ≤ 10) (hk : gv_k n L R kn fa fm) : Met l yX0_add (ws_ yX0_add cX0_add 3 (some .int)) ({ frames := 1, cells := 0, slots := 0, locals := 21 }) (va_Pc [.ref (h 0), .int x, .int y] (fun U => U.heap.size = sz ∧ va_P (dC, dI) gv_cl (gv_xW h d n kn L R fa fm) U.heap ∧ va_K (dC, dI) gv_cl (gv_xT d) U ∧ va_D (fun _ => True) (gv_xW h d n kn L R fa fm))) (va_Qi (fun (r : Int32) (u : Nat × (Nat → Nat) × (Nat → Nat) × Int32) => r = gv_adR n x y ∧ u.1 = gv_adN n x y ∧ u.2.1 = gv_adL n L x y x ∧ u.2.2.1 = gv_adL n R x y y ∧ gv_k u.1 u.2.1 u.2.2.1 u.2.2.2 fa fm) (fun u t => va_P (dC, dI) gv_cl (gv_xW h d u.1 u.2.2.2 u.2.1 u.2.2.1 fa fm) t.heap ∧ va_K (dC, dI) gv_cl (gv_xT d) t ∧ va_D (va_A (gv_xW h d n kn L R fa fm) sz) (gv_xW h d u.1 u.2.2.2 u.2.1 u.2.2.1 fa fm)) (va_A (gv_xW h d n kn L R fa fm) sz)) 0 0 (va_A (gv_xW h d n kn L R fa fm) sz) := by
  refine Met.ofW (cc := cX0_add) (maxL := 3) (ret := (some .int)) (by decide) rfl ?_
  intro p e s m args below meth c s₁ B hml hv
  obtain ⟨rfl, hsz, hP, hK, hD0⟩ := hv
  have hx := B.exec
  have hb := B.bytes
  have hr := B.returns
  have hts := atoms_spec (ws := ws_ yX0_add cX0_add 3 (some .int)) B.pre
  have hts : ∀ w ∈ lw_all, w.before _ s = true := fun w h => hts w (List.mem_cons_of_mem _ h)
  have hown : s.vm.findClass RX0 = some m.cls := findClass_of_methodNamed B.named
  have hlocks := B.notSynchronized
  subst hsz
  have hD := hD0.self (sz := s.heap.size)
  generalize hAe : va_A (gv_xW h d n kn L R fa fm) s.heap.size = A at hD ⊢
  have hA : ∀ q : Nat, s.heap.size ≤ q → A q := fun q h => by rw [← hAe]; exact Or.inr h
  have hS : va_S A s.heap s.heap [] := va_S.rf
  have hP : va_P (dC, dI) gv_cl (gv_xW h d n kn L R fa fm) s.heap := hP
  have hl := lv_entry ([.ref (h 0), .int x, .int y]) (n := 3) (Nat.le_of_ble_eq_true rfl)
  rw [lg_entry_eq]
  generalize (lg_sl ([.ref (h 0), .int x, .int y]) ++ List.replicate (3 - (lg_sl ([.ref (h 0), .int x, .int y])).length) Slot.unset).toArray = ls at hl ⊢
  have hl : lv_has ls 3 [(0, .ref (h 0)), (1, .int x), (2, .int y)] := hl
  refine lv_aload_n hx hb dX0_add_0 rfl (lv_at hl 0 rfl) ?_
  refine lv_iload_n hx hb dX0_add_1 rfl (lv_at hl 1 rfl) ?_
  refine vp_callSi (W.runV (As := [.int x]) (rest := []) ⟨hx, hb, hml, hown, hts⟩ (gv_x_isSet l dC dI h d n kn L R fa fm x hn) (cwV 1 hts (lw_V q52 q54 qs0 q17 q55) rfl rfl rfl (by decide +kernel) ⟨Nat.le_of_ble_eq_true rfl, Nat.le_of_ble_eq_true rfl⟩) (gv_preV (ci := 0) hK hP rfl rfl) rfl rfl hl.1 rfl (lv_room (Nat.le_of_ble_eq_true rfl)) dX0_add_2 ⟨Nat.le_of_ble_eq_true rfl, Nat.le_of_ble_eq_true rfl⟩) (fun r er => ?_)
  subst er
  refine lv_if_eq (tgt := 16) hx hb dX0_add_5 (by decide) (fun c1 => ?_) (fun c1 => ?_)
  · have e := gv_ad_bad (n := n) (x := x) (y := y) (by unfold gv_adC; rw [gv_z0 c1]; rfl)
    refine lv_iconst (v := (-1)) hx hb dX0_add_16 (by decide) ?_
    exact W.iret (v := (-1)) hx hb hr (fun t ht hW => ⟨⟨(-1), (n, L, R, kn), rfl, ⟨e.1.symm, e.2.1.symm, (e.2.2 L x).symm, (e.2.2 R y).symm, hk⟩, by rw [ht]; exact hP, va_K.moved hW.alike hK, hD⟩, hS.F ht⟩) hS.2.2 dX0_add_17
  · refine lv_aload_n hx hb dX0_add_8 rfl (lv_at hl 0 rfl) ?_
    refine lv_iload_n hx hb dX0_add_9 rfl (lv_at hl 2 rfl) ?_
    refine vp_callSi (W.runV (As := [.int y]) (rest := []) ⟨hx, hb, hml, hown, hts⟩ (gv_x_isSet l dC dI h d n kn L R fa fm y hn) (cwV 1 hts (lw_V q52 q54 qs0 q17 q55) rfl rfl rfl (by decide +kernel) ⟨Nat.le_of_ble_eq_true rfl, Nat.le_of_ble_eq_true rfl⟩) (gv_preV (ci := 0) hK hP rfl rfl) rfl rfl hl.1 rfl (lv_room (Nat.le_of_ble_eq_true rfl)) dX0_add_10 ⟨Nat.le_of_ble_eq_true rfl, Nat.le_of_ble_eq_true rfl⟩) (fun r er => ?_)
    subst er
    refine lv_if_ne (tgt := 18) hx hb dX0_add_13 (by decide) (fun c2 => ?_) (fun c2 => ?_)
    · have q1 := gv_z1 c1
      have q2 := gv_z1 c2
      have hC : gv_adC n x y = true := by unfold gv_adC; rw [q1, q2]; rfl
      clear c1 c2
      refine lv_aload_n hx hb dX0_add_18 rfl (lv_at hl 0 rfl) ?_
      refine va_get (D := (dC, dI)) (ci := 0) (v := .int (nI n)) (C := RX0) (T := TX0) (N := 6) hx hb hts in_X0 hown hK hP 0 rfl rfl 0 (by decide) (hts _ q27) (fun _ h9 => h9) rfl dX0_add_19 ?_
      refine lv_bipush (v := nI 10) hx hb dX0_add_22 (by decide) ?_
      refine lv_icmp_lt (tgt := 30) hx hb dX0_add_24 (by decide) (fun c3 => ?_) (fun c3 => ?_)
      · have hlt : n < 10 := (nI_ltI (by omega) (by decide)).mp c3
        have e := gv_ad_ok hC hlt
        have hp := gv_p10 hn
        obtain ⟨k1, j1, rfl⟩ := gv_sT q1 hn
        obtain ⟨k2, j2, rfl⟩ := gv_sT q2 hn
        refine lv_aload_n hx hb dX0_add_30 rfl (lv_at hl 0 rfl) ?_
        refine va_get (D := (dC, dI)) (ci := 0) (v := .ref (h 1)) (C := RX0) (T := TX0) (N := 6) hx hb hts in_X0 hown hK hP 0 rfl rfl 1 (by decide) (hts _ q28) (fun _ h9 => h9) rfl dX0_add_31 ?_
        refine lv_aload_n hx hb dX0_add_34 rfl (lv_at hl 0 rfl) ?_
        refine va_get (D := (dC, dI)) (ci := 0) (v := .int (nI n)) (C := RX0) (T := TX0) (N := 6) hx hb hts in_X0 hown hK hP 0 rfl rfl 0 (by decide) (hts _ q27) (fun _ h9 => h9) rfl dX0_add_35 ?_
        refine lv_iload_n hx hb dX0_add_38 rfl (lv_at hl 1 rfl) ?_
        refine lv_i2s (v := nI k1) hx hb dX0_add_39 (gv_i2s k1 (by omega)) ?_
        refine va_sast hx hb hK hP hD hS 1 0 rfl rfl (vp_in_nI (n := n) (by omega) (by decide)) dX0_add_40 (fun H locs hP hD hS => ?_)
        have hup : upd (fun j => nI (L j)) (nI n).toNatClampNeg (vp_nar .short (nI k1)) = (fun j => nI ((gv_up L n k1) j)) := gv_upX L (by omega) ((vp_nar_short _).trans (gv_i2s k1 (by omega)))
        rw [hup] at hP hD
        have hP : va_P (dC, dI) gv_cl (gv_xW h d n kn (gv_up L n k1) R fa fm) H := hP
        have hD : va_D A (gv_xW h d n kn (gv_up L n k1) R fa fm) := hD
        refine lv_aload_n hx hb dX0_add_41 rfl (lv_at hl 0 rfl) ?_
        refine va_get (D := (dC, dI)) (ci := 0) (v := .ref (h 2)) (C := RX0) (T := TX0) (N := 6) hx hb hts in_X0 hown hK hP 0 rfl rfl 2 (by decide) (hts _ q29) (fun _ h9 => h9) rfl dX0_add_42 ?_
        refine lv_aload_n hx hb dX0_add_45 rfl (lv_at hl 0 rfl) ?_
        refine va_get (D := (dC, dI)) (ci := 0) (v := .int (nI n)) (C := RX0) (T := TX0) (N := 6) hx hb hts in_X0 hown hK hP 0 rfl rfl 0 (by decide) (hts _ q27) (fun _ h9 => h9) rfl dX0_add_46 ?_
        refine lv_iload_n hx hb dX0_add_49 rfl (lv_at hl 2 rfl) ?_
        refine lv_i2s (v := nI k2) hx hb dX0_add_50 (gv_i2s k2 (by omega)) ?_
        refine va_sast hx hb hK hP hD hS 2 1 rfl rfl (vp_in_nI (n := n) (by omega) (by decide)) dX0_add_51 (fun H locs hP hD hS => ?_)
        have hup : upd (fun j => nI (R j)) (nI n).toNatClampNeg (vp_nar .short (nI k2)) = (fun j => nI ((gv_up R n k2) j)) := gv_upX R (by omega) ((vp_nar_short _).trans (gv_i2s k2 (by omega)))
        rw [hup] at hP hD
        have hP : va_P (dC, dI) gv_cl (gv_xW h d n kn (gv_up L n k1) (gv_up R n k2) fa fm) H := hP
        have hD : va_D A (gv_xW h d n kn (gv_up L n k1) (gv_up R n k2) fa fm) := hD
        refine lv_aload_n hx hb dX0_add_52 rfl (lv_at hl 0 rfl) ?_
        refine lv_dup hx hb dX0_add_53 rfl ?_
        refine va_get (D := (dC, dI)) (ci := 0) (v := .int (nI n)) (C := RX0) (T := TX0) (N := 6) hx hb hts in_X0 hown hK hP 0 rfl rfl 0 (by decide) (hts _ q27) (fun _ h9 => h9) rfl dX0_add_54 ?_
        refine lv_iconst (v := nI 1) hx hb dX0_add_57 (by decide) ?_
        refine lv_iadd hx hb dX0_add_58 ?_
        refine gv_top (y := nI (n + 1)) (nI_add _ _) ?_
        refine va_put (D := (dC, dI)) (ci := 0) (v := .int (nI (n + 1))) (ty := .int) (C := RX0) (T := TX0) (N := 6) hx hb hts in_X0 tyX0 tyX0_ok nmX0 hown hK hP hD hS 0 rfl rfl 0 (by decide) (hts _ q27) (fun _ h9 => h9) rfl (by decide +kernel) rfl rfl (Nat.le_of_ble_eq_true rfl) dX0_add_59 (fun H locs hP hD hS => ?_)
        have hP : va_P (dC, dI) gv_cl (gv_xW h d (n + 1) kn (gv_up L n k1) (gv_up R n k2) fa fm) H := hP
        have hD : va_D A (gv_xW h d (n + 1) kn (gv_up L n k1) (gv_up R n k2) fa fm) := hD
        refine lv_aload_n hx hb dX0_add_62 rfl (lv_at hl 0 rfl) ?_
        refine lv_iconst (v := nI 0) hx hb dX0_add_63 (by decide) ?_
        refine va_put (D := (dC, dI)) (ci := 0) (v := .int (nI 0)) (ty := .boolean) (C := RX0) (T := TX0) (N := 6) hx hb hts in_X0 tyX0 tyX0_ok nmX0 hown hK hP hD hS 0 rfl rfl 3 (by decide) (hts _ q30) (fun _ h9 => h9) rfl (by decide +kernel) rfl rfl (Nat.le_of_ble_eq_true rfl) dX0_add_64 (fun H locs hP hD hS => ?_)
        have hP : va_P (dC, dI) gv_cl (gv_xW h d (n + 1) (nI 0) (gv_up L n k1) (gv_up R n k2) fa fm) H := hP
        have hD : va_D A (gv_xW h d (n + 1) (nI 0) (gv_up L n k1) (gv_up R n k2) fa fm) := hD
        refine lv_aload_n hx hb dX0_add_67 rfl (lv_at hl 0 rfl) ?_
        refine va_get (D := (dC, dI)) (ci := 0) (v := .int (nI (n + 1))) (C := RX0) (T := TX0) (N := 6) hx hb hts in_X0 hown hK hP 0 rfl rfl 0 (by decide) (hts _ q27) (fun _ h9 => h9) rfl dX0_add_68 ?_
        refine lv_iconst (v := nI 1) hx hb dX0_add_71 (by decide) ?_
        refine lv_isub hx hb dX0_add_72 ?_
        refine gv_top (y := nI n) (pk_sub (a := n + 1) (b := 1) (by omega)) ?_
        exact W.iret (v := nI n) hx hb hr (fun t ht hW => ⟨⟨nI n, (n + 1, gv_up L n k1, gv_up R n k2, nI 0), rfl, ⟨e.1.symm, e.2.1.symm, ((e.2.2 L (nI k1)).trans (by rw [nI_clamp (by omega)])).symm, ((e.2.2 R (nI k2)).trans (by rw [nI_clamp (by omega)])).symm, Or.inl (show nI 0 = 0 by decide)⟩, by rw [ht]; exact hP, va_K.moved hW.alike hK, hD⟩, hS.F ht⟩) hS.2.2 dX0_add_73
      · have e := gv_ad_full hC (fun z => c3 (nI_lt z (by decide)))
        refine lv_bipush (v := (-2)) hx hb dX0_add_27 (by decide) ?_
        exact W.iret (v := (-2)) hx hb hr (fun t ht hW => ⟨⟨(-2), (n, L, R, kn), rfl, ⟨e.1.symm, e.2.1.symm, (e.2.2 L x).symm, (e.2.2 R y).symm, hk⟩, by rw [ht]; exact hP, va_K.moved hW.alike hK, hD⟩, hS.F ht⟩) hS.2.2 dX0_add_29
    · have e := gv_ad_bad (n := n) (x := x) (y := y) (by unfold gv_adC; rw [gv_z0 c2, Bool.and_false])
      refine lv_iconst (v := (-1)) hx hb dX0_add_16 (by decide) ?_
      exact W.iret (v := (-1)) hx hb hr (fun t ht hW => ⟨⟨(-1), (n, L, R, kn), rfl, ⟨e.1.symm, e.2.1.symm, (e.2.2 L x).symm, (e.2.2 R y).symm, hk⟩, by rw [ht]; exact hP, va_K.moved hW.alike hK, hD⟩, hS.F ht⟩) hS.2.2 dX0_add_17
set_option maxHeartbeats 4000000 in
set_option maxRecDepth 100000 in
/-- drop -/
theorem gv_x_drop (l : Launch) (dC : Nat → ClassId) (dI : Nat → Nat → Nat) (h : Nat → Nat) (d : Nat → ClassId) (sz : Nat) (n : Nat) (kn : Int32) (L R : Nat → Nat) (fa fm : Nat → Int32) (hn1 : 1 ≤ n) (hn : n ≤ 10) (hk : gv_k n L R kn fa fm) : Met l yX0_drop (ws_ yX0_drop cX0_drop 1 (some .int)) ({ frames := 0, cells := 0, slots := 0, locals := 0 }) (va_Pc [.ref (h 0)] (fun U => U.heap.size = sz ∧ va_P (dC, dI) gv_cl (gv_xW h d n kn L R fa fm) U.heap ∧ va_K (dC, dI) gv_cl (gv_xT d) U ∧ va_D (fun _ => True) (gv_xW h d n kn L R fa fm))) (va_Qi (fun (r : Int32) (u : Nat × Int32) => r = gv_drR n ∧ u.1 = gv_drN n ∧ gv_k u.1 L R u.2 fa fm) (fun u t => va_P (dC, dI) gv_cl (gv_xW h d u.1 u.2 L R fa fm) t.heap ∧ va_K (dC, dI) gv_cl (gv_xT d) t ∧ va_D (va_A (gv_xW h d n kn L R fa fm) sz) (gv_xW h d u.1 u.2 L R fa fm)) (va_A (gv_xW h d n kn L R fa fm) sz)) 0 0 (va_A (gv_xW h d n kn L R fa fm) sz) := by
  refine Met.ofW (cc := cX0_drop) (maxL := 1) (ret := (some .int)) (by decide) rfl ?_
  intro p e s m args below meth c s₁ B hml hv
  obtain ⟨rfl, hsz, hP, hK, hD0⟩ := hv
  have hx := B.exec
  have hb := B.bytes
  have hr := B.returns
  have hts := atoms_spec (ws := ws_ yX0_drop cX0_drop 1 (some .int)) B.pre
  have hts : ∀ w ∈ lw_all, w.before _ s = true := fun w h => hts w (List.mem_cons_of_mem _ h)
  have hown : s.vm.findClass RX0 = some m.cls := findClass_of_methodNamed B.named
  have hlocks := B.notSynchronized
  subst hsz
  have hD := hD0.self (sz := s.heap.size)
  generalize hAe : va_A (gv_xW h d n kn L R fa fm) s.heap.size = A at hD ⊢
  have hA : ∀ q : Nat, s.heap.size ≤ q → A q := fun q h => by rw [← hAe]; exact Or.inr h
  have hS : va_S A s.heap s.heap [] := va_S.rf
  have hP : va_P (dC, dI) gv_cl (gv_xW h d n kn L R fa fm) s.heap := hP
  have hl := lv_entry ([.ref (h 0)]) (n := 1) (Nat.le_of_ble_eq_true rfl)
  rw [lg_entry_eq]
  generalize (lg_sl ([.ref (h 0)]) ++ List.replicate (1 - (lg_sl ([.ref (h 0)])).length) Slot.unset).toArray = ls at hl ⊢
  have hl : lv_has ls 1 [(0, .ref (h 0))] := hl
  refine lv_aload_n hx hb dX0_drop_0 rfl (lv_at hl 0 rfl) ?_
  refine va_get (D := (dC, dI)) (ci := 0) (v := .int (nI n)) (C := RX0) (T := TX0) (N := 6) hx hb hts in_X0 hown hK hP 0 rfl rfl 0 (by decide) (hts _ q27) (fun _ h9 => h9) rfl dX0_drop_1 ?_
  refine lv_iconst (v := nI 1) hx hb dX0_drop_4 (by decide) ?_
  refine lv_icmp_ne (tgt := 10) hx hb dX0_drop_5 (by decide) (fun c1 => ?_) (fun c1 => ?_)
  · have e : ¬ n = 1 := fun z => c1 (by rw [z])
    refine lv_aload_n hx hb dX0_drop_10 rfl (lv_at hl 0 rfl) ?_
    refine lv_dup hx hb dX0_drop_11 rfl ?_
    refine va_get (D := (dC, dI)) (ci := 0) (v := .int (nI n)) (C := RX0) (T := TX0) (N := 6) hx hb hts in_X0 hown hK hP 0 rfl rfl 0 (by decide) (hts _ q27) (fun _ h9 => h9) rfl dX0_drop_12 ?_
    refine lv_iconst (v := nI 1) hx hb dX0_drop_15 (by decide) ?_
    refine lv_isub hx hb dX0_drop_16 ?_
    refine gv_top (y := nI (n - 1)) (pk_sub (a := n) (b := 1) (by omega)) ?_
    refine va_put (D := (dC, dI)) (ci := 0) (v := .int (nI (n - 1))) (ty := .int) (C := RX0) (T := TX0) (N := 6) hx hb hts in_X0 tyX0 tyX0_ok nmX0 hown hK hP hD hS 0 rfl rfl 0 (by decide) (hts _ q27) (fun _ h9 => h9) rfl (by decide +kernel) rfl rfl (Nat.le_of_ble_eq_true rfl) dX0_drop_17 (fun H locs hP hD hS => ?_)
    have hP : va_P (dC, dI) gv_cl (gv_xW h d (n - 1) kn L R fa fm) H := hP
    have hD : va_D A (gv_xW h d (n - 1) kn L R fa fm) := hD
    refine lv_aload_n hx hb dX0_drop_20 rfl (lv_at hl 0 rfl) ?_
    refine lv_iconst (v := nI 0) hx hb dX0_drop_21 (by decide) ?_
    refine va_put (D := (dC, dI)) (ci := 0) (v := .int (nI 0)) (ty := .boolean) (C := RX0) (T := TX0) (N := 6) hx hb hts in_X0 tyX0 tyX0_ok nmX0 hown hK hP hD hS 0 rfl rfl 3 (by decide) (hts _ q30) (fun _ h9 => h9) rfl (by decide +kernel) rfl rfl (Nat.le_of_ble_eq_true rfl) dX0_drop_22 (fun H locs hP hD hS => ?_)
    have hP : va_P (dC, dI) gv_cl (gv_xW h d (n - 1) (nI 0) L R fa fm) H := hP
    have hD : va_D A (gv_xW h d (n - 1) (nI 0) L R fa fm) := hD
    refine lv_aload_n hx hb dX0_drop_25 rfl (lv_at hl 0 rfl) ?_
    refine va_get (D := (dC, dI)) (ci := 0) (v := .int (nI (n - 1))) (C := RX0) (T := TX0) (N := 6) hx hb hts in_X0 hown hK hP 0 rfl rfl 0 (by decide) (hts _ q27) (fun _ h9 => h9) rfl dX0_drop_26 ?_
    exact W.iret (v := nI (n - 1)) hx hb hr (fun t ht hW => ⟨⟨nI (n - 1), (n - 1, nI 0), rfl, ⟨by unfold gv_drR; rw [if_neg e], by unfold gv_drN; rw [if_neg e], Or.inl (show nI 0 = 0 by decide)⟩, by rw [ht]; exact hP, va_K.moved hW.alike hK, hD⟩, hS.F ht⟩) hS.2.2 dX0_drop_29
  · have e : n = 1 := (nI_eq (by omega) (by decide)).mp c1
    refine lv_iconst (v := (-1)) hx hb dX0_drop_8 (by decide) ?_
    exact W.iret (v := (-1)) hx hb hr (fun t ht hW => ⟨⟨(-1), (n, kn), rfl, ⟨by unfold gv_drR; rw [if_pos e], by unfold gv_drN; rw [if_pos e]; exact e, hk⟩, by rw [ht]; exact hP, va_K.moved hW.alike hK, hD⟩, hS.F ht⟩) hS.2.2 dX0_drop_9
set_option maxHeartbeats 4000000 in
set_option maxRecDepth 100000 in
/-- positions -/
theorem gv_x_positions (l : Launch) (dC : Nat → ClassId) (dI : Nat → Nat → Nat) (h : Nat → Nat) (d : Nat → ClassId) (n : Nat) (kn : Int32) (L R : Nat → Nat) (fa fm : Nat → Int32) : Met l yX0_positions (ws_ yX0_positions cX0_positions 1 (some .int)) ({ frames := 0, cells := 0, slots := 0, locals := 0 }) (va_Pc [.ref (h 0)] (fun U => va_P (dC, dI) gv_cl (gv_xW h d n kn L R fa fm) U.heap ∧ va_K (dC, dI) gv_cl (gv_xT d) U)) (vp_Si (fun r => r = nI n)) 0 0 (fun _ => False) := by
  refine Met.ofW (cc := cX0_positions) (maxL := 1) (ret := (some .int)) (by decide) rfl ?_
  intro p e s m args below meth c s₁ B hml hv
  obtain ⟨rfl, hP, hK⟩ := hv
  have hx := B.exec
  have hb := B.bytes
  have hr := B.returns
  have hts := atoms_spec (ws := ws_ yX0_positions cX0_positions 1 (some .int)) B.pre
  have hts : ∀ w ∈ lw_all, w.before _ s = true := fun w h => hts w (List.mem_cons_of_mem _ h)
  have hown : s.vm.findClass RX0 = some m.cls := findClass_of_methodNamed B.named
  have hlocks := B.notSynchronized
  have hl := lv_entry ([.ref (h 0)]) (n := 1) (Nat.le_of_ble_eq_true rfl)
  rw [lg_entry_eq]
  generalize (lg_sl ([.ref (h 0)]) ++ List.replicate (1 - (lg_sl ([.ref (h 0)])).length) Slot.unset).toArray = ls at hl ⊢
  have hl : lv_has ls 1 [(0, .ref (h 0))] := hl
  refine lv_aload_n hx hb dX0_positions_0 rfl (lv_at hl 0 rfl) ?_
  refine va_get (D := (dC, dI)) (ci := 0) (v := .int (nI n)) (C := RX0) (T := TX0) (N := 6) hx hb hts in_X0 hown hK hP 0 rfl rfl 0 (by decide) (hts _ q27) (fun _ h9 => h9) rfl dX0_positions_1 ?_
  exact W.iret (v := nI n) hx hb hr (fun t ht hW => ⟨_, rfl, rfl, ht⟩) (fun _ h => nomatch h) dX0_positions_4
end
section
theorem gv_st_0 {a b : Bool} : (gv_st a b = 0 → (a && b) = true) ∧ (¬ gv_st a b = 0 → (a && b) = false) := by
  revert a b
  decide
theorem gv_mask_f {n : Nat} (hn : n ≤ 10) {x : Int32} (h : ¬ (x &&& (nI (2 ^ n - 1) ^^^ (-1))) = 0) : gv_s n x = false := by
  cases e : gv_s n x with
  | false => rfl
  | true => exact absurd ((gv_mask hn x).mpr e) h
def gv_anyU (f : Nat → Bool) : Nat → Bool
  | 0 => false
  | i + 1 => gv_anyU f i || f i
theorem gv_anyU_eq (f : Nat → Bool) (N : Nat) : gv_anyU f N = (List.range N).any f := by
  induction N with
  | zero => rfl
  | succ N ih =>
    show (gv_anyU f N || f N) = _
    rw [ih, List.range_succ, List.any_append]
    simp
theorem gv_win_U {L R : Nat → Nat} (hg : gv_ok L R) {s a b c : Nat} (ha : a < 10) (hb : b < 10) (hc : c < 10) : gv_anyU (gv_b L R s a b c) 10 = gv_win L R s a b c := by
  rw [gv_win_eq hg ha hb hc, gv_anyU_eq]
  rfl
end
section
set_option maxHeartbeats 4000000 in
set_option maxRecDepth 100000 in
/-- is it a position -/
theorem gv_m_is (l : Launch) (dC : Nat → ClassId) (dI : Nat → Nat → Nat) (h : Nat → Nat) (d : Nat → ClassId) (n : Nat) (L R : Nat → Nat) (fw fd : Nat → Int32) (x : Int32) : Met l yX1_is (ws_ yX1_is cX1_is 2 (some .boolean)) ({ frames := 0, cells := 0, slots := 0, locals := 0 }) (va_Pc [.ref (h 0), .int x] (fun U => va_P (dC, dI) gv_cl (gv_mW h d n L R fw fd) U.heap ∧ va_K (dC, dI) gv_cl (gv_mT d) U)) (vp_Si (fun r => r = gv_z (gv_h n x))) 0 0 (fun _ => False) := by
  refine Met.ofW (cc := cX1_is) (maxL := 2) (ret := (some .boolean)) (by decide) rfl ?_
  intro p e s m args below meth c s₁ B hml hv
  obtain ⟨rfl, hP, hK⟩ := hv
  have hx := B.exec
  have hb := B.bytes
  have hr := B.returns
  have hts := atoms_spec (ws := ws_ yX1_is cX1_is 2 (some .boolean)) B.pre
  have hts : ∀ w ∈ lw_all, w.before _ s = true := fun w h => hts w (List.mem_cons_of_mem _ h)
  have hown : s.vm.findClass RX1 = some m.cls := findClass_of_methodNamed B.named
  have hlocks := B.notSynchronized
  have hl := lv_entry ([.ref (h 0), .int x]) (n := 2) (Nat.le_of_ble_eq_true rfl)
  rw [lg_entry_eq]
  generalize (lg_sl ([.ref (h 0), .int x]) ++ List.replicate (2 - (lg_sl ([.ref (h 0), .int x])).length) Slot.unset).toArray = ls at hl ⊢
  have hl : lv_has ls 2 [(0, .ref (h 0)), (1, .int x)] := hl
  refine lv_iload_n hx hb dX1_is_0 rfl (lv_at hl 1 rfl) ?_
  refine lv_if_lt (tgt := 16) hx hb dX1_is_1 (by decide) (fun c1 => ?_) (fun c1 => ?_)
  · refine lv_iconst (v := nI 0) hx hb dX1_is_16 (by decide) ?_
    exact W.zret (v := nI 0) hx hb hr (rfl) (fun t ht hW => ⟨_, rfl, gv_a0 (by rw [gv_h, decide_eq_true c1]; rfl), ht⟩) (fun _ h => nomatch h) dX1_is_17
  · refine lv_iload_n hx hb dX1_is_4 rfl (lv_at hl 1 rfl) ?_
    refine lv_aload_n hx hb dX1_is_5 rfl (lv_at hl 0 rfl) ?_
    refine va_get (D := (dC, dI)) (ci := 1) (v := .int (nI n)) (C := RX1) (T := TX1) (N := 4) hx hb hts in_X1 hown hK hP 0 rfl rfl 0 (by decide) (hts _ q156) (fun _ h9 => h9) rfl dX1_is_6 ?_
    refine lv_icmp_ge (tgt := 16) hx hb dX1_is_9 (by decide) (fun c2 => ?_) (fun c2 => ?_)
    · refine lv_iconst (v := nI 0) hx hb dX1_is_16 (by decide) ?_
      exact W.zret (v := nI 0) hx hb hr (rfl) (fun t ht hW => ⟨_, rfl, gv_a0 (by rw [gv_h, decide_eq_true c2, Bool.not_true, Bool.and_false]), ht⟩) (fun _ h => nomatch h) dX1_is_17
    · refine lv_iconst (v := nI 1) hx hb dX1_is_12 (by decide) ?_
      refine lv_goto (tgt := 17) hx hb dX1_is_13 (by decide) ?_
      exact W.zret (v := nI 1) hx hb hr (rfl) (fun t ht hW => ⟨_, rfl, gv_a1 (by rw [gv_h, decide_eq_false c1, decide_eq_false c2]; rfl), ht⟩) (fun _ h => nomatch h) dX1_is_17
set_option maxHeartbeats 4000000 in
set_option maxRecDepth 100000 in
/-- cell -/
theorem gv_m_cell (l : Launch) (dC : Nat → ClassId) (dI : Nat → Nat → Nat) (h : Nat → Nat) (d : Nat → ClassId) (n : Nat) (L R : Nat → Nat) (fw fd : Nat → Int32) (a1 a2 a3 a4 : Nat) : Met l yX1_cell (ws_ yX1_cell cX1_cell 5 (some .int)) ({ frames := 0, cells := 0, slots := 0, locals := 0 }) (va_Pc [.ref (h 0), .int (nI a1), .int (nI a2), .int (nI a3), .int (nI a4)] (fun U => va_P (dC, dI) gv_cl (gv_mW h d n L R fw fd) U.heap ∧ va_K (dC, dI) gv_cl (gv_mT d) U)) (vp_Si (fun r => r = nI (200 * a1 + 20 * a2 + 2 * a3 + a4))) 0 0 (fun _ => False) := by
  refine Met.ofW (cc := cX1_cell) (maxL := 5) (ret := (some .int)) (by decide) rfl ?_
  intro p e s m args below meth c s₁ B hml hv
  obtain ⟨rfl, hP, hK⟩ := hv
  have hx := B.exec
  have hb := B.bytes
  have hr := B.returns
  have hts := atoms_spec (ws := ws_ yX1_cell cX1_cell 5 (some .int)) B.pre
  have hts : ∀ w ∈ lw_all, w.before _ s = true := fun w h => hts w (List.mem_cons_of_mem _ h)
  have hown : s.vm.findClass RX1 = some m.cls := findClass_of_methodNamed B.named
  have hlocks := B.notSynchronized
  have hl := lv_entry ([.ref (h 0), .int (nI a1), .int (nI a2), .int (nI a3), .int (nI a4)]) (n := 5) (Nat.le_of_ble_eq_true rfl)
  rw [lg_entry_eq]
  generalize (lg_sl ([.ref (h 0), .int (nI a1), .int (nI a2), .int (nI a3), .int (nI a4)]) ++ List.replicate (5 - (lg_sl ([.ref (h 0), .int (nI a1), .int (nI a2), .int (nI a3), .int (nI a4)])).length) Slot.unset).toArray = ls at hl ⊢
  have hl : lv_has ls 5 [(0, .ref (h 0)), (1, .int (nI a1)), (2, .int (nI a2)), (3, .int (nI a3)), (4, .int (nI a4))] := hl
  refine lv_sipush (v := nI 200) hx hb dX1_cell_0 (by decide) ?_
  refine lv_iload_n hx hb dX1_cell_3 rfl (lv_at hl 1 rfl) ?_
  refine lv_imul hx hb dX1_cell_4 ?_
  refine gv_top (y := nI (200 * a1)) (pk_mul _ _) ?_
  refine lv_bipush (v := nI 20) hx hb dX1_cell_5 (by decide) ?_
  refine lv_iload_n hx hb dX1_cell_7 rfl (lv_at hl 2 rfl) ?_
  refine lv_imul hx hb dX1_cell_8 ?_
  refine gv_top (y := nI (20 * a2)) (pk_mul _ _) ?_
  refine lv_iadd hx hb dX1_cell_9 ?_
  refine gv_top (y := nI ((200 * a1) + (20 * a2))) (nI_add _ _) ?_
  refine lv_iconst (v := nI 2) hx hb dX1_cell_10 (by decide) ?_
  refine lv_iload_n hx hb dX1_cell_11 rfl (lv_at hl 3 rfl) ?_
  refine lv_imul hx hb dX1_cell_12 ?_
  refine gv_top (y := nI (2 * a3)) (pk_mul _ _) ?_
  refine lv_iadd hx hb dX1_cell_13 ?_
  refine gv_top (y := nI (((200 * a1) + (20 * a2)) + (2 * a3))) (nI_add _ _) ?_
  refine lv_iload hx hb dX1_cell_14 (lv_at hl 4 rfl) ?_
  refine lv_iadd hx hb dX1_cell_16 ?_
  refine gv_top (y := nI ((((200 * a1) + (20 * a2)) + (2 * a3)) + a4)) (nI_add _ _) ?_
  exact W.iret (v := nI ((((200 * a1) + (20 * a2)) + (2 * a3)) + a4)) hx hb hr (fun t ht hW => ⟨_, rfl, rfl, ht⟩) (fun _ h => nomatch h) dX1_cell_17
set_option maxHeartbeats 4000000 in
set_option maxRecDepth 100000 in
/-- stands -/
theorem gv_m_stands (l : Launch) (dC : Nat → ClassId) (dI : Nat → Nat → Nat) (h : Nat → Nat) (d : Nat → ClassId) (n : Nat) (L R : Nat → Nat) (fw fd : Nat → Int32) (u v : Bool) : Met l yX1_stands (ws_ yX1_stands cX1_stands 3 (some .int)) ({ frames := 0, cells := 0, slots := 0, locals := 0 }) (va_Pc [.ref (h 0), .int (gv_z u), .int (gv_z v)] (fun U => va_P (dC, dI) gv_cl (gv_mW h d n L R fw fd) U.heap ∧ va_K (dC, dI) gv_cl (gv_mT d) U)) (vp_Si (fun r => r = gv_st u v)) 0 0 (fun _ => False) := by
  refine Met.ofW (cc := cX1_stands) (maxL := 3) (ret := (some .int)) (by decide) rfl ?_
  intro p e s m args below meth c s₁ B hml hv
  obtain ⟨rfl, hP, hK⟩ := hv
  have hx := B.exec
  have hb := B.bytes
  have hr := B.returns
  have hts := atoms_spec (ws := ws_ yX1_stands cX1_stands 3 (some .int)) B.pre
  have hts : ∀ w ∈ lw_all, w.before _ s = true := fun w h => hts w (List.mem_cons_of_mem _ h)
  have hown : s.vm.findClass RX1 = some m.cls := findClass_of_methodNamed B.named
  have hlocks := B.notSynchronized
  have hl := lv_entry ([.ref (h 0), .int (gv_z u), .int (gv_z v)]) (n := 3) (Nat.le_of_ble_eq_true rfl)
  rw [lg_entry_eq]
  generalize (lg_sl ([.ref (h 0), .int (gv_z u), .int (gv_z v)]) ++ List.replicate (3 - (lg_sl ([.ref (h 0), .int (gv_z u), .int (gv_z v)])).length) Slot.unset).toArray = ls at hl ⊢
  have hl : lv_has ls 3 [(0, .ref (h 0)), (1, .int (gv_z u)), (2, .int (gv_z v))] := hl
  refine lv_iload_n hx hb dX1_stands_0 rfl (lv_at hl 1 rfl) ?_
  refine lv_if_eq (tgt := 12) hx hb dX1_stands_1 (by decide) (fun c1 => ?_) (fun c1 => ?_)
  · refine lv_iload_n hx hb dX1_stands_12 rfl (lv_at hl 1 rfl) ?_
    refine lv_if_eq (tgt := 20) hx hb dX1_stands_13 (by decide) (fun c3 => ?_) (fun c3 => ?_)
    · refine lv_iload_n hx hb dX1_stands_20 rfl (lv_at hl 2 rfl) ?_
      refine lv_if_eq (tgt := 28) hx hb dX1_stands_21 (by decide) (fun c4 => ?_) (fun c4 => ?_)
      · refine lv_iconst (v := nI 3) hx hb dX1_stands_28 (by decide) ?_
        exact W.iret (v := nI 3) hx hb hr (fun t ht hW => ⟨_, rfl, by rw [gv_z0 c1, gv_z0 c4]; rfl, ht⟩) (fun _ h => nomatch h) dX1_stands_29
      · refine lv_iconst (v := nI 2) hx hb dX1_stands_24 (by decide) ?_
        refine lv_goto (tgt := 29) hx hb dX1_stands_25 (by decide) ?_
        exact W.iret (v := nI 2) hx hb hr (fun t ht hW => ⟨_, rfl, by rw [gv_z0 c1, gv_z1 c4]; rfl, ht⟩) (fun _ h => nomatch h) dX1_stands_29
    · exact absurd c1 c3
  · refine lv_iload_n hx hb dX1_stands_4 rfl (lv_at hl 2 rfl) ?_
    refine lv_if_eq (tgt := 12) hx hb dX1_stands_5 (by decide) (fun c2 => ?_) (fun c2 => ?_)
    · refine lv_iload_n hx hb dX1_stands_12 rfl (lv_at hl 1 rfl) ?_
      refine lv_if_eq (tgt := 20) hx hb dX1_stands_13 (by decide) (fun c3 => ?_) (fun c3 => ?_)
      · exact absurd c3 c1
      · refine lv_iconst (v := nI 1) hx hb dX1_stands_16 (by decide) ?_
        refine lv_goto (tgt := 29) hx hb dX1_stands_17 (by decide) ?_
        exact W.iret (v := nI 1) hx hb hr (fun t ht hW => ⟨_, rfl, by rw [gv_z1 c1, gv_z0 c2]; rfl, ht⟩) (fun _ h => nomatch h) dX1_stands_29
    · refine lv_iconst (v := nI 0) hx hb dX1_stands_8 (by decide) ?_
      refine lv_goto (tgt := 29) hx hb dX1_stands_9 (by decide) ?_
      exact W.iret (v := nI 0) hx hb hr (fun t ht hW => ⟨_, rfl, by rw [gv_z1 c1, gv_z1 c2]; rfl, ht⟩) (fun _ h => nomatch h) dX1_stands_29
set_option maxHeartbeats 4000000 in
set_option maxRecDepth 100000 in
/-- moves -/
theorem gv_m_moves (l : Launch) (dC : Nat → ClassId) (dI : Nat → Nat → Nat) (h : Nat → Nat) (d : Nat → ClassId) (n : Nat) (L R : Nat → Nat) (fw fd : Nat → Int32) (x y : Int32) (hn : n ≤ 10) : Met l yX1_moves (ws_ yX1_moves cX1_moves 3 (some .int)) ({ frames := 1, cells := 0, slots := 0, locals := 21 }) (va_Pc [.ref (h 0), .int x, .int y] (fun U => va_P (dC, dI) gv_cl (gv_mW h d n L R fw fd) U.heap ∧ va_K (dC, dI) gv_cl (gv_mT d) U)) (vp_Si (fun r => r = gv_movR n L R x y)) 0 0 (fun _ => False) := by
  refine Met.ofW (cc := cX1_moves) (maxL := 3) (ret := (some .int)) (by decide) rfl ?_
  intro p e s m args below meth c s₁ B hml hv
  obtain ⟨rfl, hP, hK⟩ := hv
  have hx := B.exec
  have hb := B.bytes
  have hr := B.returns
  have hts := atoms_spec (ws := ws_ yX1_moves cX1_moves 3 (some .int)) B.pre
  have hts : ∀ w ∈ lw_all, w.before _ s = true := fun w h => hts w (List.mem_cons_of_mem _ h)
  have hown : s.vm.findClass RX1 = some m.cls := findClass_of_methodNamed B.named
  have hlocks := B.notSynchronized
  have hl := lv_entry ([.ref (h 0), .int x, .int y]) (n := 3) (Nat.le_of_ble_eq_true rfl)
  rw [lg_entry_eq]
  generalize (lg_sl ([.ref (h 0), .int x, .int y]) ++ List.replicate (3 - (lg_sl ([.ref (h 0), .int x, .int y])).length) Slot.unset).toArray = ls at hl ⊢
  have hl : lv_has ls 3 [(0, .ref (h 0)), (1, .int x), (2, .int y)] := hl
  refine lv_aload_n hx hb dX1_moves_0 rfl (lv_at hl 0 rfl) ?_
  refine lv_iload_n hx hb dX1_moves_1 rfl (lv_at hl 1 rfl) ?_
  refine vp_callSi (W.runV (As := [.int x]) (rest := []) ⟨hx, hb, hml, hown, hts⟩ (gv_m_is l dC dI h d n L R fw fd x) (cwV 1 hts (lw_V q186 q188 qs9 q18 q189) rfl rfl rfl (by decide +kernel) ⟨Nat.le_of_ble_eq_true rfl, Nat.le_of_ble_eq_true rfl⟩) (gv_preV (ci := 1) hK hP rfl rfl) rfl rfl hl.1 rfl (lv_room (Nat.le_of_ble_eq_true rfl)) dX1_moves_2 ⟨Nat.le_of_ble_eq_true rfl, Nat.le_of_ble_eq_true rfl⟩) (fun r er => ?_)
  subst er
  refine lv_if_eq (tgt := 30) hx hb dX1_moves_5 (by decide) (fun c1 => ?_) (fun c1 => ?_)
  · refine lv_iconst (v := (-1)) hx hb dX1_moves_30 (by decide) ?_
    exact W.iret (v := (-1)) hx hb hr (fun t ht hW => ⟨_, rfl, (gv_movR_f (by rw [gv_z0 c1]; rfl)).symm, ht⟩) (fun _ h => nomatch h) dX1_moves_31
  · refine lv_iload_n hx hb dX1_moves_8 rfl (lv_at hl 2 rfl) ?_
    refine gv_midP (P := gv_sd y = true) (g1 := F0 m 17 ls []) (fun hsd => ?_) (fun K17 => ?_)
    · have hh := gv_z1 c1
      obtain ⟨k1, hk1, rfl⟩ := gv_hT hh (by omega)
      obtain ⟨s1, hs1, rfl⟩ := gv_sdT hsd
      refine lv_aload_n hx hb dX1_moves_17 rfl (lv_at hl 0 rfl) ?_
      refine va_get (D := (dC, dI)) (ci := 1) (v := .ref (h 1)) (C := RX1) (T := TX1) (N := 4) hx hb hts in_X1 hown hK hP 0 rfl rfl 1 (by decide) (hts _ q157) (fun _ h9 => h9) rfl dX1_moves_18 ?_
      refine lv_iconst (v := nI 2) hx hb dX1_moves_21 (by decide) ?_
      refine lv_iload_n hx hb dX1_moves_22 rfl (lv_at hl 1 rfl) ?_
      refine lv_imul hx hb dX1_moves_23 ?_
      refine gv_top (y := nI (2 * k1)) (pk_mul _ _) ?_
      refine lv_iload_n hx hb dX1_moves_24 rfl (lv_at hl 2 rfl) ?_
      refine lv_iadd hx hb dX1_moves_25 ?_
      refine gv_top (y := nI ((2 * k1) + s1)) (nI_add _ _) ?_
      refine va_iald hx hb hK hP 1 0 rfl rfl (vp_in_nI (n := (2 * k1) + s1) (by omega) (by decide)) dX1_moves_26 ?_
      refine gv_top (y := nI (gv_G L R ((2 * k1) + s1))) (gv_ld (fun j => nI (gv_G L R j)) (e := (2 * k1) + s1) (by omega)) ?_
      refine gv_top (y := nI (gv_mv L R s1 k1)) (congrArg nI (gv_G_mv L R k1 s1 hs1)) ?_
      refine lv_goto (tgt := 31) hx hb dX1_moves_27 (by decide) ?_
      exact W.iret (v := nI (gv_mv L R s1 k1)) hx hb hr (fun t ht hW => ⟨_, rfl, (gv_movR_t hh hsd (by omega) (by omega)).symm, ht⟩) (fun _ h => nomatch h) dX1_moves_31
    · refine lv_if_eq (tgt := 17) hx hb dX1_moves_9 (by decide) (fun c2 => ?_) (fun c2 => ?_)
      · exact K17 (by rw [gv_sd, decide_eq_true c2]; rfl)
      · refine lv_iload_n hx hb dX1_moves_12 rfl (lv_at hl 2 rfl) ?_
        refine lv_iconst (v := nI 1) hx hb dX1_moves_13 (by decide) ?_
        refine lv_icmp_ne (tgt := 30) hx hb dX1_moves_14 (by decide) (fun c3 => ?_) (fun c3 => ?_)
        · refine lv_iconst (v := (-1)) hx hb dX1_moves_30 (by decide) ?_
          exact W.iret (v := (-1)) hx hb hr (fun t ht hW => ⟨_, rfl, (gv_movR_f (by rw [gv_sd, decide_eq_false c2, decide_eq_false c3, Bool.or_false, Bool.and_false])).symm, ht⟩) (fun _ h => nomatch h) dX1_moves_31
        · exact K17 (by rw [gv_sd, decide_eq_true c3, Bool.or_true])
end
section
set_option maxHeartbeats 4000000 in
set_option maxRecDepth 100000 in
/-- canWin -/
theorem gv_m_canWin (l : Launch) (dC : Nat → ClassId) (dI : Nat → Nat → Nat) (h : Nat → Nat) (d : Nat → ClassId) (n : Nat) (L R : Nat → Nat) (fw fd : Nat → Int32) (a1 a2 a3 s1 : Nat) (hg : gv_ok L R) (hn : n ≤ 10) (h1 : a1 < n) (h2 : a2 < n) (h3 : a3 < n) (hs : s1 < 2) (hw : gv_wlow L R fw a1 a2 a3 (1 - s1)) : Met l yX1_canWin (ws_ yX1_canWin cX1_canWin 10 (some .boolean)) ({ frames := 1, cells := 0, slots := 0, locals := 24 }) (va_Pc [.ref (h 0), .int (nI a1), .int (nI a2), .int (nI a3), .int (nI s1)] (fun U => va_P (dC, dI) gv_cl (gv_mW h d n L R fw fd) U.heap ∧ va_K (dC, dI) gv_cl (gv_mT d) U)) (vp_Si (fun r => r = gv_z (gv_win L R s1 a1 a2 a3))) 0 0 (fun _ => False) := by
  refine Met.ofW (cc := cX1_canWin) (maxL := 10) (ret := (some .boolean)) (by decide) rfl ?_
  intro p e s m args below meth c s₁ B hml hv
  obtain ⟨rfl, hP, hK⟩ := hv
  have hx := B.exec
  have hb := B.bytes
  have hr := B.returns
  have hts := atoms_spec (ws := ws_ yX1_canWin cX1_canWin 10 (some .boolean)) B.pre
  have hts : ∀ w ∈ lw_all, w.before _ s = true := fun w h => hts w (List.mem_cons_of_mem _ h)
  have hown : s.vm.findClass RX1 = some m.cls := findClass_of_methodNamed B.named
  have hlocks := B.notSynchronized
  have hl := lv_entry ([.ref (h 0), .int (nI a1), .int (nI a2), .int (nI a3), .int (nI s1)]) (n := 10) (Nat.le_of_ble_eq_true rfl)
  rw [lg_entry_eq]
  generalize (lg_sl ([.ref (h 0), .int (nI a1), .int (nI a2), .int (nI a3), .int (nI s1)]) ++ List.replicate (10 - (lg_sl ([.ref (h 0), .int (nI a1), .int (nI a2), .int (nI a3), .int (nI s1)])).length) Slot.unset).toArray = ls at hl ⊢
  have hl : lv_has ls 10 [(0, .ref (h 0)), (1, .int (nI a1)), (2, .int (nI a2)), (3, .int (nI a3)), (4, .int (nI s1))] := hl
  refine lv_aload_n hx hb dX1_canWin_0 rfl (lv_at hl 0 rfl) ?_
  refine va_get (D := (dC, dI)) (ci := 1) (v := .ref (h 1)) (C := RX1) (T := TX1) (N := 4) hx hb hts in_X1 hown hK hP 0 rfl rfl 1 (by decide) (hts _ q157) (fun _ h9 => h9) rfl dX1_canWin_1 ?_
  refine lv_iconst (v := nI 2) hx hb dX1_canWin_4 (by decide) ?_
  refine lv_iload_n hx hb dX1_canWin_5 rfl (lv_at hl 1 rfl) ?_
  refine lv_imul hx hb dX1_canWin_6 ?_
  refine gv_top (y := nI (2 * a1)) (pk_mul _ _) ?_
  refine lv_iload hx hb dX1_canWin_7 (lv_at hl 4 rfl) ?_
  refine lv_iadd hx hb dX1_canWin_9 ?_
  refine gv_top (y := nI ((2 * a1) + s1)) (nI_add _ _) ?_
  refine va_iald hx hb hK hP 1 0 rfl rfl (vp_in_nI (n := (2 * a1) + s1) (by omega) (by decide)) dX1_canWin_10 ?_
  refine gv_top (y := nI (gv_G L R ((2 * a1) + s1))) (gv_ld (fun j => nI (gv_G L R j)) (e := (2 * a1) + s1) (by omega)) ?_
  refine gv_top (y := nI (gv_mv L R s1 a1)) (congrArg nI (gv_G_mv L R a1 s1 hs)) ?_
  refine lv_istore (lv' := [(5, .int (nI (gv_mv L R s1 a1))), (0, .ref (h 0)), (1, .int (nI a1)), (2, .int (nI a2)), (3, .int (nI a3)), (4, .int (nI s1))]) hx hb dX1_canWin_11 hl (by decide) rfl (fun ls hl => ?_)
  refine lv_aload_n hx hb dX1_canWin_13 rfl (lv_at hl 1 rfl) ?_
  refine va_get (D := (dC, dI)) (ci := 1) (v := .ref (h 1)) (C := RX1) (T := TX1) (N := 4) hx hb hts in_X1 hown hK hP 0 rfl rfl 1 (by decide) (hts _ q157) (fun _ h9 => h9) rfl dX1_canWin_14 ?_
  refine lv_iconst (v := nI 2) hx hb dX1_canWin_17 (by decide) ?_
  refine lv_iload_n hx hb dX1_canWin_18 rfl (lv_at hl 3 rfl) ?_
  refine lv_imul hx hb dX1_canWin_19 ?_
  refine gv_top (y := nI (2 * a2)) (pk_mul _ _) ?_
  refine lv_iload hx hb dX1_canWin_20 (lv_at hl 5 rfl) ?_
  refine lv_iadd hx hb dX1_canWin_22 ?_
  refine gv_top (y := nI ((2 * a2) + s1)) (nI_add _ _) ?_
  refine va_iald hx hb hK hP 1 0 rfl rfl (vp_in_nI (n := (2 * a2) + s1) (by omega) (by decide)) dX1_canWin_23 ?_
  refine gv_top (y := nI (gv_G L R ((2 * a2) + s1))) (gv_ld (fun j => nI (gv_G L R j)) (e := (2 * a2) + s1) (by omega)) ?_
  refine gv_top (y := nI (gv_mv L R s1 a2)) (congrArg nI (gv_G_mv L R a2 s1 hs)) ?_
  refine lv_istore (lv' := [(6, .int (nI (gv_mv L R s1 a2))), (5, .int (nI (gv_mv L R s1 a1))), (0, .ref (h 0)), (1, .int (nI a1)), (2, .int (nI a2)), (3, .int (nI a3)), (4, .int (nI s1))]) hx hb dX1_canWin_24 hl (by decide) rfl (fun ls hl => ?_)
  refine lv_aload_n hx hb dX1_canWin_26 rfl (lv_at hl 2 rfl) ?_
  refine va_get (D := (dC, dI)) (ci := 1) (v := .ref (h 1)) (C := RX1) (T := TX1) (N := 4) hx hb hts in_X1 hown hK hP 0 rfl rfl 1 (by decide) (hts _ q157) (fun _ h9 => h9) rfl dX1_canWin_27 ?_
  refine lv_iconst (v := nI 2) hx hb dX1_canWin_30 (by decide) ?_
  refine lv_iload_n hx hb dX1_canWin_31 rfl (lv_at hl 5 rfl) ?_
  refine lv_imul hx hb dX1_canWin_32 ?_
  refine gv_top (y := nI (2 * a3)) (pk_mul _ _) ?_
  refine lv_iconst (v := nI 1) hx hb dX1_canWin_33 (by decide) ?_
  refine lv_iadd hx hb dX1_canWin_34 ?_
  refine gv_top (y := nI ((2 * a3) + 1)) (nI_add _ _) ?_
  refine lv_iload hx hb dX1_canWin_35 (lv_at hl 6 rfl) ?_
  refine lv_isub hx hb dX1_canWin_37 ?_
  refine gv_top (y := nI (2 * a3 + (1 - s1))) ((pk_sub (by omega)).trans (congrArg nI (by omega))) ?_
  refine va_iald hx hb hK hP 1 0 rfl rfl (vp_in_nI (n := 2 * a3 + (1 - s1)) (by omega) (by decide)) dX1_canWin_38 ?_
  refine gv_top (y := nI (gv_G L R (2 * a3 + (1 - s1)))) (gv_ld (fun j => nI (gv_G L R j)) (e := 2 * a3 + (1 - s1)) (by omega)) ?_
  refine gv_top (y := nI (gv_mv L R (1 - s1) a3)) (congrArg nI (gv_G_mv L R a3 (1 - s1) (by omega))) ?_
  refine lv_istore (lv' := [(7, .int (nI (gv_mv L R (1 - s1) a3))), (6, .int (nI (gv_mv L R s1 a2))), (5, .int (nI (gv_mv L R s1 a1))), (0, .ref (h 0)), (1, .int (nI a1)), (2, .int (nI a2)), (3, .int (nI a3)), (4, .int (nI s1))]) hx hb dX1_canWin_39 hl (by decide) rfl (fun ls hl => ?_)
  refine lv_iconst (v := nI 0) hx hb dX1_canWin_41 (by decide) ?_
  refine gv_top (y := gv_z (gv_anyU (gv_b L R s1 a1 a2 a3) 0)) (gv_a0 rfl) ?_
  refine lv_istore (lv' := [(8, .int (gv_z (gv_anyU (gv_b L R s1 a1 a2 a3) 0))), (7, .int (nI (gv_mv L R (1 - s1) a3))), (6, .int (nI (gv_mv L R s1 a2))), (5, .int (nI (gv_mv L R s1 a1))), (0, .ref (h 0)), (1, .int (nI a1)), (2, .int (nI a2)), (3, .int (nI a3)), (4, .int (nI s1))]) hx hb dX1_canWin_42 hl (by decide) rfl (fun ls hl => ?_)
  refine lv_iconst (v := nI 0) hx hb dX1_canWin_44 (by decide) ?_
  refine lv_istore (lv' := [(9, .int (nI 0)), (8, .int (gv_z (gv_anyU (gv_b L R s1 a1 a2 a3) 0))), (7, .int (nI (gv_mv L R (1 - s1) a3))), (6, .int (nI (gv_mv L R s1 a2))), (5, .int (nI (gv_mv L R s1 a1))), (0, .ref (h 0)), (1, .int (nI a1)), (2, .int (nI a2)), (3, .int (nI a3)), (4, .int (nI s1))]) hx hb dX1_canWin_45 hl (by decide) rfl (fun ls hl => ?_)
  have hm1 := gv_mv_1024 hg (s := s1) (p := a1) (by omega)
  have hm2 := gv_mv_1024 hg (s := s1) (p := a2) (by omega)
  have hm3 := gv_mv_1024 hg (s := 1 - s1) (p := a3) (by omega)
  refine gv_forS (nL := 10) 10 (fun _ => True) (fun i => [(0, .ref (h 0)), (1, .int (nI a1)), (2, .int (nI a2)), (3, .int (nI a3)), (4, .int (nI s1)), (5, .int (nI (gv_mv L R s1 a1))), (6, .int (nI (gv_mv L R s1 a2))), (7, .int (nI (gv_mv L R (1 - s1) a3))), (8, .int (gv_z (gv_anyU (gv_b L R s1 a1 a2 a3) i))), (9, .int (nI i))]) ?_ ?_ 0 (Nat.zero_le _) trivial (lv_sub hl [5, 6, 7, 8, 9, 4, 3, 2, 1, 0] rfl)
  · intro ls _ hl
    have hl : lv_has ls 10 [(0, .ref (h 0)), (1, .int (nI a1)), (2, .int (nI a2)), (3, .int (nI a3)), (4, .int (nI s1)), (5, .int (nI (gv_mv L R s1 a1))), (6, .int (nI (gv_mv L R s1 a2))), (7, .int (nI (gv_mv L R (1 - s1) a3))), (8, .int (gv_z (gv_anyU (gv_b L R s1 a1 a2 a3) 10))), (9, .int (nI 10))] := hl
    refine lv_iload hx hb dX1_canWin_47 (lv_at hl 9 rfl) ?_
    refine lv_bipush (v := nI 10) hx hb dX1_canWin_49 (by decide) ?_
    refine lv_icmp_ge (tgt := 165) hx hb dX1_canWin_51 (by decide) (fun c1 => ?_) (fun c1 => ?_)
    · refine lv_iload hx hb dX1_canWin_165 (lv_at hl 8 rfl) ?_
      exact W.zret (v := gv_z (gv_anyU (gv_b L R s1 a1 a2 a3) 10)) hx hb hr (gv_znar _) (fun t ht hW => ⟨_, rfl, gv_zeq (gv_win_U hg (by omega) (by omega) (by omega)), ht⟩) (fun _ h => nomatch h) dX1_canWin_167
    · exact absurd (Int32.le_refl _) c1
  · intro i ls hi _ hl ih
    have hl : lv_has ls 10 [(0, .ref (h 0)), (1, .int (nI a1)), (2, .int (nI a2)), (3, .int (nI a3)), (4, .int (nI s1)), (5, .int (nI (gv_mv L R s1 a1))), (6, .int (nI (gv_mv L R s1 a2))), (7, .int (nI (gv_mv L R (1 - s1) a3))), (8, .int (gv_z (gv_anyU (gv_b L R s1 a1 a2 a3) i))), (9, .int (nI i))] := hl
    refine lv_iload hx hb dX1_canWin_47 (lv_at hl 9 rfl) ?_
    refine lv_bipush (v := nI 10) hx hb dX1_canWin_49 (by decide) ?_
    refine lv_icmp_ge (tgt := 165) hx hb dX1_canWin_51 (by decide) (fun c1 => ?_) (fun c1 => ?_)
    · exact absurd c1 (nI_ge hi (by omega))
    · refine gv_mid (g1 := F0 m 157 ls [.int (gv_z (gv_anyU (gv_b L R s1 a1 a2 a3) (i + 1)))]) ?_ (fun K157 => ?_)
      · refine lv_istore (lv' := [(8, .int (gv_z (gv_anyU (gv_b L R s1 a1 a2 a3) (i + 1)))), (0, .ref (h 0)), (1, .int (nI a1)), (2, .int (nI a2)), (3, .int (nI a3)), (4, .int (nI s1)), (5, .int (nI (gv_mv L R s1 a1))), (6, .int (nI (gv_mv L R s1 a2))), (7, .int (nI (gv_mv L R (1 - s1) a3))), (9, .int (nI i))]) hx hb dX1_canWin_157 hl (by decide) rfl (fun ls hl => ?_)
        refine lv_iinc (v := nI (i + 1)) (lv' := [(9, .int (nI (i + 1))), (8, .int (gv_z (gv_anyU (gv_b L R s1 a1 a2 a3) (i + 1)))), (0, .ref (h 0)), (1, .int (nI a1)), (2, .int (nI a2)), (3, .int (nI a3)), (4, .int (nI s1)), (5, .int (nI (gv_mv L R s1 a1))), (6, .int (nI (gv_mv L R s1 a2))), (7, .int (nI (gv_mv L R (1 - s1) a3)))]) hx hb dX1_canWin_159 hl (k := 9) rfl (gv_inc _) (by decide) rfl (fun ls hl => ?_)
        refine lv_goto (tgt := 47) hx hb dX1_canWin_162 (by decide) ?_
        exact ih ls trivial (lv_sub hl [2, 3, 4, 5, 6, 7, 8, 9, 1, 0] rfl)
      · refine gv_midP (P := gv_anyU (gv_b L R s1 a1 a2 a3) (i + 1) = true) (g1 := F0 m 152 ls []) (fun hb1 => ?_) (fun K152 => ?_)
        · refine lv_iconst (v := nI 1) hx hb dX1_canWin_152 (by decide) ?_
          refine lv_goto (tgt := 157) hx hb dX1_canWin_153 (by decide) ?_
          exact gv_top (gv_a1 hb1) K157
        · refine lv_iload hx hb dX1_canWin_54 (lv_at hl 8 rfl) ?_
          refine lv_if_ne (tgt := 152) hx hb dX1_canWin_56 (by decide) (fun c2 => ?_) (fun c2 => ?_)
          · exact K152 (by show (gv_anyU (gv_b L R s1 a1 a2 a3) i || (((gv_mv L R s1 a1).testBit i && !gv_win L R (1 - s1) i a2 a3) || ((gv_mv L R s1 a2).testBit i && !gv_win L R (1 - s1) a1 i a3) || ((gv_mv L R (1 - s1) a3).testBit i && !gv_win L R (1 - s1) a1 a2 i))) = true; rw [gv_z1 c2]; rfl)
          · refine gv_midP (P := ((gv_mv L R s1 a1).testBit i && !gv_win L R (1 - s1) i a2 a3) = false) (g1 := F0 m 90 ls []) (fun hB0 => ?_) (fun K90 => ?_)
            · refine gv_midP (P := ((gv_mv L R s1 a2).testBit i && !gv_win L R (1 - s1) a1 i a3) = false) (g1 := F0 m 121 ls []) (fun hB1 => ?_) (fun K121 => ?_)
              · refine gv_midP (P := ((gv_mv L R (1 - s1) a3).testBit i && !gv_win L R (1 - s1) a1 a2 i) = false) (g1 := F0 m 156 ls []) (fun hB2 => ?_) (fun K156 => ?_)
                · refine lv_iconst (v := nI 0) hx hb dX1_canWin_156 (by decide) ?_
                  exact gv_top (gv_a0 (by show (gv_anyU (gv_b L R s1 a1 a2 a3) i || (((gv_mv L R s1 a1).testBit i && !gv_win L R (1 - s1) i a2 a3) || ((gv_mv L R s1 a2).testBit i && !gv_win L R (1 - s1) a1 i a3) || ((gv_mv L R (1 - s1) a3).testBit i && !gv_win L R (1 - s1) a1 a2 i))) = false; rw [gv_z0 c2, hB0, hB1, hB2]; rfl)) K157
                · refine lv_iload hx hb dX1_canWin_121 (lv_at hl 7 rfl) ?_
                  refine lv_iload hx hb dX1_canWin_123 (lv_at hl 9 rfl) ?_
                  refine lv_ishr hx hb dX1_canWin_125 ?_
                  refine lv_iconst (v := nI 1) hx hb dX1_canWin_126 (by decide) ?_
                  refine lv_iand hx hb dX1_canWin_127 ?_
                  refine gv_top (y := gv_z ((gv_mv L R (1 - s1) a3).testBit i)) (gv_bitI (by omega) (by omega)) ?_
                  refine lv_iconst (v := nI 1) hx hb dX1_canWin_128 (by decide) ?_
                  refine lv_icmp_ne (tgt := 156) hx hb dX1_canWin_129 (by decide) (fun d2 => ?_) (fun d2 => ?_)
                  · exact K156 (by rw [gv_z_nn1 d2]; rfl)
                  · have b2 := gv_z_nI1 d2
                    refine lv_aload_n hx hb dX1_canWin_132 rfl (lv_at hl 0 rfl) ?_
                    refine va_get (D := (dC, dI)) (ci := 1) (v := .ref (h 2)) (C := RX1) (T := TX1) (N := 4) hx hb hts in_X1 hown hK hP 0 rfl rfl 2 (by decide) (hts _ q158) (fun _ h9 => h9) rfl dX1_canWin_133 ?_
                    refine lv_aload_n hx hb dX1_canWin_136 rfl (lv_at hl 0 rfl) ?_
                    refine lv_iload_n hx hb dX1_canWin_137 rfl (lv_at hl 1 rfl) ?_
                    refine lv_iload_n hx hb dX1_canWin_138 rfl (lv_at hl 2 rfl) ?_
                    refine lv_iload hx hb dX1_canWin_139 (lv_at hl 9 rfl) ?_
                    refine lv_iconst (v := nI 1) hx hb dX1_canWin_141 (by decide) ?_
                    refine lv_iload hx hb dX1_canWin_142 (lv_at hl 4 rfl) ?_
                    refine lv_isub hx hb dX1_canWin_144 ?_
                    refine gv_top (y := nI (1 - s1)) (pk_sub (by omega)) ?_
                    refine vp_callSi (W.runV (As := [.int (nI a1), .int (nI a2), .int (nI i), .int (nI (1 - s1))]) (rest := [.ref (h 2)]) ⟨hx, hb, hml, hown, hts⟩ (gv_m_cell l dC dI h d n L R fw fd a1 a2 i (1 - s1)) (cwV 4 hts (lw_V q198 q200 qs11 q18 q201) rfl rfl rfl (by decide +kernel) ⟨Nat.le_of_ble_eq_true rfl, Nat.le_of_ble_eq_true rfl⟩) (gv_preV (ci := 1) hK hP rfl rfl) rfl rfl hl.1 rfl (lv_room (Nat.le_of_ble_eq_true rfl)) dX1_canWin_145 ⟨Nat.le_of_ble_eq_true rfl, Nat.le_of_ble_eq_true rfl⟩) (fun r er => ?_)
                    subst er
                    refine va_zald hx hb hK hP 2 1 rfl rfl (vp_in_nI (n := 200 * a1 + 20 * a2 + 2 * i + (1 - s1)) (by omega) (by decide)) dX1_canWin_148 ?_
                    refine gv_top (y := gv_z (gv_win L R (1 - s1) a1 a2 i)) ((gv_ld fw (e := 200 * a1 + 20 * a2 + 2 * i + (1 - s1)) (by omega)).trans ((hw i).2.2 (gv_bitP (gv_mv_lt hg (by omega)) b2))) ?_
                    refine lv_if_ne (tgt := 156) hx hb dX1_canWin_149 (by decide) (fun e2 => ?_) (fun e2 => ?_)
                    · exact K156 (by rw [gv_z1 e2, Bool.not_true, Bool.and_false])
                    · exact K152 (by show (gv_anyU (gv_b L R s1 a1 a2 a3) i || (((gv_mv L R s1 a1).testBit i && !gv_win L R (1 - s1) i a2 a3) || ((gv_mv L R s1 a2).testBit i && !gv_win L R (1 - s1) a1 i a3) || ((gv_mv L R (1 - s1) a3).testBit i && !gv_win L R (1 - s1) a1 a2 i))) = true; rw [gv_z0 c2, hB0, hB1, b2, gv_z0 e2]; rfl)
              · refine lv_iload hx hb dX1_canWin_90 (lv_at hl 6 rfl) ?_
                refine lv_iload hx hb dX1_canWin_92 (lv_at hl 9 rfl) ?_
                refine lv_ishr hx hb dX1_canWin_94 ?_
                refine lv_iconst (v := nI 1) hx hb dX1_canWin_95 (by decide) ?_
                refine lv_iand hx hb dX1_canWin_96 ?_
                refine gv_top (y := gv_z ((gv_mv L R s1 a2).testBit i)) (gv_bitI (by omega) (by omega)) ?_
                refine lv_iconst (v := nI 1) hx hb dX1_canWin_97 (by decide) ?_
                refine lv_icmp_ne (tgt := 121) hx hb dX1_canWin_98 (by decide) (fun d1 => ?_) (fun d1 => ?_)
                · exact K121 (by rw [gv_z_nn1 d1]; rfl)
                · have b1 := gv_z_nI1 d1
                  refine lv_aload_n hx hb dX1_canWin_101 rfl (lv_at hl 0 rfl) ?_
                  refine va_get (D := (dC, dI)) (ci := 1) (v := .ref (h 2)) (C := RX1) (T := TX1) (N := 4) hx hb hts in_X1 hown hK hP 0 rfl rfl 2 (by decide) (hts _ q158) (fun _ h9 => h9) rfl dX1_canWin_102 ?_
                  refine lv_aload_n hx hb dX1_canWin_105 rfl (lv_at hl 0 rfl) ?_
                  refine lv_iload_n hx hb dX1_canWin_106 rfl (lv_at hl 1 rfl) ?_
                  refine lv_iload hx hb dX1_canWin_107 (lv_at hl 9 rfl) ?_
                  refine lv_iload_n hx hb dX1_canWin_109 rfl (lv_at hl 3 rfl) ?_
                  refine lv_iconst (v := nI 1) hx hb dX1_canWin_110 (by decide) ?_
                  refine lv_iload hx hb dX1_canWin_111 (lv_at hl 4 rfl) ?_
                  refine lv_isub hx hb dX1_canWin_113 ?_
                  refine gv_top (y := nI (1 - s1)) (pk_sub (by omega)) ?_
                  refine vp_callSi (W.runV (As := [.int (nI a1), .int (nI i), .int (nI a3), .int (nI (1 - s1))]) (rest := [.ref (h 2)]) ⟨hx, hb, hml, hown, hts⟩ (gv_m_cell l dC dI h d n L R fw fd a1 i a3 (1 - s1)) (cwV 4 hts (lw_V q198 q200 qs11 q18 q201) rfl rfl rfl (by decide +kernel) ⟨Nat.le_of_ble_eq_true rfl, Nat.le_of_ble_eq_true rfl⟩) (gv_preV (ci := 1) hK hP rfl rfl) rfl rfl hl.1 rfl (lv_room (Nat.le_of_ble_eq_true rfl)) dX1_canWin_114 ⟨Nat.le_of_ble_eq_true rfl, Nat.le_of_ble_eq_true rfl⟩) (fun r er => ?_)
                  subst er
                  refine va_zald hx hb hK hP 2 1 rfl rfl (vp_in_nI (n := 200 * a1 + 20 * i + 2 * a3 + (1 - s1)) (by omega) (by decide)) dX1_canWin_117 ?_
                  refine gv_top (y := gv_z (gv_win L R (1 - s1) a1 i a3)) ((gv_ld fw (e := 200 * a1 + 20 * i + 2 * a3 + (1 - s1)) (by omega)).trans ((hw i).2.1 (gv_bitP (gv_mv_lt hg (by omega)) b1))) ?_
                  refine lv_if_eq (tgt := 152) hx hb dX1_canWin_118 (by decide) (fun e1 => ?_) (fun e1 => ?_)
                  · exact K152 (by show (gv_anyU (gv_b L R s1 a1 a2 a3) i || (((gv_mv L R s1 a1).testBit i && !gv_win L R (1 - s1) i a2 a3) || ((gv_mv L R s1 a2).testBit i && !gv_win L R (1 - s1) a1 i a3) || ((gv_mv L R (1 - s1) a3).testBit i && !gv_win L R (1 - s1) a1 a2 i))) = true; rw [gv_z0 c2, hB0, b1, gv_z0 e1]; rfl)
                  · exact K121 (by rw [gv_z1 e1, Bool.not_true, Bool.and_false])
            · refine lv_iload hx hb dX1_canWin_59 (lv_at hl 5 rfl) ?_
              refine lv_iload hx hb dX1_canWin_61 (lv_at hl 9 rfl) ?_
              refine lv_ishr hx hb dX1_canWin_63 ?_
              refine lv_iconst (v := nI 1) hx hb dX1_canWin_64 (by decide) ?_
              refine lv_iand hx hb dX1_canWin_65 ?_
              refine gv_top (y := gv_z ((gv_mv L R s1 a1).testBit i)) (gv_bitI (by omega) (by omega)) ?_
              refine lv_iconst (v := nI 1) hx hb dX1_canWin_66 (by decide) ?_
              refine lv_icmp_ne (tgt := 90) hx hb dX1_canWin_67 (by decide) (fun d0 => ?_) (fun d0 => ?_)
              · exact K90 (by rw [gv_z_nn1 d0]; rfl)
              · have b0 := gv_z_nI1 d0
                refine lv_aload_n hx hb dX1_canWin_70 rfl (lv_at hl 0 rfl) ?_
                refine va_get (D := (dC, dI)) (ci := 1) (v := .ref (h 2)) (C := RX1) (T := TX1) (N := 4) hx hb hts in_X1 hown hK hP 0 rfl rfl 2 (by decide) (hts _ q158) (fun _ h9 => h9) rfl dX1_canWin_71 ?_
                refine lv_aload_n hx hb dX1_canWin_74 rfl (lv_at hl 0 rfl) ?_
                refine lv_iload hx hb dX1_canWin_75 (lv_at hl 9 rfl) ?_
                refine lv_iload_n hx hb dX1_canWin_77 rfl (lv_at hl 2 rfl) ?_
                refine lv_iload_n hx hb dX1_canWin_78 rfl (lv_at hl 3 rfl) ?_
                refine lv_iconst (v := nI 1) hx hb dX1_canWin_79 (by decide) ?_
                refine lv_iload hx hb dX1_canWin_80 (lv_at hl 4 rfl) ?_
                refine lv_isub hx hb dX1_canWin_82 ?_
                refine gv_top (y := nI (1 - s1)) (pk_sub (by omega)) ?_
                refine vp_callSi (W.runV (As := [.int (nI i), .int (nI a2), .int (nI a3), .int (nI (1 - s1))]) (rest := [.ref (h 2)]) ⟨hx, hb, hml, hown, hts⟩ (gv_m_cell l dC dI h d n L R fw fd i a2 a3 (1 - s1)) (cwV 4 hts (lw_V q198 q200 qs11 q18 q201) rfl rfl rfl (by decide +kernel) ⟨Nat.le_of_ble_eq_true rfl, Nat.le_of_ble_eq_true rfl⟩) (gv_preV (ci := 1) hK hP rfl rfl) rfl rfl hl.1 rfl (lv_room (Nat.le_of_ble_eq_true rfl)) dX1_canWin_83 ⟨Nat.le_of_ble_eq_true rfl, Nat.le_of_ble_eq_true rfl⟩) (fun r er => ?_)
                subst er
                refine va_zald hx hb hK hP 2 1 rfl rfl (vp_in_nI (n := 200 * i + 20 * a2 + 2 * a3 + (1 - s1)) (by omega) (by decide)) dX1_canWin_86 ?_
                refine gv_top (y := gv_z (gv_win L R (1 - s1) i a2 a3)) ((gv_ld fw (e := 200 * i + 20 * a2 + 2 * a3 + (1 - s1)) (by omega)).trans ((hw i).1 (gv_bitP (gv_mv_lt hg (by omega)) b0))) ?_
                refine lv_if_eq (tgt := 152) hx hb dX1_canWin_87 (by decide) (fun e0 => ?_) (fun e0 => ?_)
                · exact K152 (by show (gv_anyU (gv_b L R s1 a1 a2 a3) i || (((gv_mv L R s1 a1).testBit i && !gv_win L R (1 - s1) i a2 a3) || ((gv_mv L R s1 a2).testBit i && !gv_win L R (1 - s1) a1 i a3) || ((gv_mv L R (1 - s1) a3).testBit i && !gv_win L R (1 - s1) a1 a2 i))) = true; rw [gv_z0 c2, b0, gv_z0 e0]; rfl)
                · exact K90 (by rw [gv_z1 e0, Bool.not_true, Bool.and_false])
end
section
set_option maxHeartbeats 4000000 in
set_option maxRecDepth 100000 in
/-- work: behind it the table holds who wins -/
theorem gv_m_work (l : Launch) (dC : Nat → ClassId) (dI : Nat → Nat → Nat) (h : Nat → Nat) (d : Nat → ClassId) (sz : Nat) (n : Nat) (L R : Nat → Nat) (fw fd : Nat → Int32) (hg : gv_ok L R) (hn : n ≤ 10) : Met l yX1_work (ws_ yX1_work cX1_work 5 none) ({ frames := 2, cells := 0, slots := 0, locals := 53 }) (va_Pc [.ref (h 0)] (fun U => U.heap.size = sz ∧ va_P (dC, dI) gv_cl (gv_mW h d n L R fw fd) U.heap ∧ va_K (dC, dI) gv_cl (gv_mT d) U ∧ va_D (fun _ => True) (gv_mW h d n L R fw fd))) (va_Qv (fun u : (Nat → Int32) × (Nat → Int32) => gv_wtab n L R u.1) (gv_mB dC dI h d n L R (va_A (gv_mW h d n L R fw fd) sz)) (va_A (gv_mW h d n L R fw fd) sz)) 0 0 (va_A (gv_mW h d n L R fw fd) sz) := by
  refine Met.ofW (cc := cX1_work) (maxL := 5) (ret := none) (by decide) rfl ?_
  intro p e s m args below meth c s₁ B hml hv
  obtain ⟨rfl, hsz, hP, hK, hD0⟩ := hv
  have hx := B.exec
  have hb := B.bytes
  have hr := B.returns
  have hts := atoms_spec (ws := ws_ yX1_work cX1_work 5 none) B.pre
  have hts : ∀ w ∈ lw_all, w.before _ s = true := fun w h => hts w (List.mem_cons_of_mem _ h)
  have hown : s.vm.findClass RX1 = some m.cls := findClass_of_methodNamed B.named
  have hlocks := B.notSynchronized
  subst hsz
  have hD := hD0.self (sz := s.heap.size)
  generalize hAe : va_A (gv_mW h d n L R fw fd) s.heap.size = A at hD ⊢
  have hA : ∀ q : Nat, s.heap.size ≤ q → A q := fun q h => by rw [← hAe]; exact Or.inr h
  have hS : va_S A s.heap s.heap [] := va_S.rf
  have hP : va_P (dC, dI) gv_cl (gv_mW h d n L R fw fd) s.heap := hP
  have hl := lv_entry ([.ref (h 0)]) (n := 5) (Nat.le_of_ble_eq_true rfl)
  rw [lg_entry_eq]
  generalize (lg_sl ([.ref (h 0)]) ++ List.replicate (5 - (lg_sl ([.ref (h 0)])).length) Slot.unset).toArray = ls at hl ⊢
  have hl : lv_has ls 5 [(0, .ref (h 0))] := hl
  refine lv_iconst (v := nI 0) hx hb dX1_work_0 (by decide) ?_
  refine lv_istore_n (lv' := [(1, .int (nI 0)), (0, .ref (h 0))]) hx hb dX1_work_1 rfl hl (by decide) rfl (fun ls hl => ?_)
  refine gv_for (nL := 5) 1000 (fun i H locs => ∃ gw : Nat → Int32, va_P (dC, dI) gv_cl (gv_mW h d n L R gw fd) H ∧ va_D A (gv_mW h d n L R gw fd) ∧ va_S A s.heap H locs ∧ gv_wI n L R gw i) (fun i => [(0, .ref (h 0)), (1, .int (nI i))]) ?_ ?_ 0 (Nat.zero_le _) ⟨fw, hP, hD, hS, fun _ _ _ _ _ _ _ _ z => absurd z (Nat.not_lt_zero _)⟩ (lv_sub hl [1, 0] rfl)
  · intro H locs ls hJ hl
    obtain ⟨gw, hP, hD, hS, hJ⟩ := hJ
    have hl : lv_has ls 5 [(0, .ref (h 0)), (1, .int (nI 1000))] := hl
    refine lv_iload_n hx hb dX1_work_2 rfl (lv_at hl 1 rfl) ?_
    refine lv_sipush (v := nI 1000) hx hb dX1_work_3 (by decide) ?_
    refine lv_icmp_ge (tgt := 105) hx hb dX1_work_6 (by decide) (fun c1 => ?_) (fun c1 => ?_)
    · exact W.vret hx hb hr (fun t ht hW => ⟨⟨(gw, fd), rfl, (fun a b c s ha hb hc hs => hJ a b c s ha hb hc hs (by omega)), by rw [ht]; exact hP, va_K.moved hW.alike hK, hD⟩, hS.F ht⟩) hS.2.2 dX1_work_105
    · exact absurd (Int32.le_refl _) c1
  · intro i H locs ls hi hJ hl ih
    obtain ⟨gw, hP, hD, hS, hJ⟩ := hJ
    have hl : lv_has ls 5 [(0, .ref (h 0)), (1, .int (nI i))] := hl
    refine lv_iload_n hx hb dX1_work_2 rfl (lv_at hl 1 rfl) ?_
    refine lv_sipush (v := nI 1000) hx hb dX1_work_3 (by decide) ?_
    refine lv_icmp_ge (tgt := 105) hx hb dX1_work_6 (by decide) (fun c1 => ?_) (fun c1 => ?_)
    · exact absurd c1 (nI_ge hi (by omega))
    · obtain ⟨a1, a2, a3, e1, e2, e3, ei, l1, l2, l3⟩ : ∃ a b c, i / 100 = a ∧ i / 10 % 10 = b ∧ i % 10 = c ∧ 100 * a + 10 * b + c = i ∧ a < 10 ∧ b < 10 ∧ c < 10 := ⟨_, _, _, rfl, rfl, rfl, by omega, by omega, by omega, by omega⟩
      refine lv_iload_n hx hb dX1_work_9 rfl (lv_at hl 1 rfl) ?_
      refine lv_bipush (v := nI 100) hx hb dX1_work_10 (by decide) ?_
      refine lv_idiv hx hb dX1_work_12 (by decide) ?_
      refine gv_top (y := nI a1) ((pk_div (by omega) (by decide) (by decide)).trans (by rw [e1])) ?_
      refine lv_istore_n (lv' := [(2, .int (nI a1)), (0, .ref (h 0)), (1, .int (nI i))]) hx hb dX1_work_13 rfl hl (by decide) rfl (fun ls hl => ?_)
      refine lv_iload_n hx hb dX1_work_14 rfl (lv_at hl 2 rfl) ?_
      refine lv_bipush (v := nI 10) hx hb dX1_work_15 (by decide) ?_
      refine lv_idiv hx hb dX1_work_17 (by decide) ?_
      refine gv_top (y := nI (i / 10)) (pk_div (by omega) (by decide) (by decide)) ?_
      refine lv_bipush (v := nI 10) hx hb dX1_work_18 (by decide) ?_
      refine lv_irem hx hb dX1_work_20 (by decide) ?_
      refine gv_top (y := nI a2) ((pk_rem (by omega) (by decide) (by decide)).trans (by rw [e2])) ?_
      refine lv_istore_n (lv' := [(3, .int (nI a2)), (2, .int (nI a1)), (0, .ref (h 0)), (1, .int (nI i))]) hx hb dX1_work_21 rfl hl (by decide) rfl (fun ls hl => ?_)
      refine lv_iload_n hx hb dX1_work_22 rfl (lv_at hl 3 rfl) ?_
      refine lv_bipush (v := nI 10) hx hb dX1_work_23 (by decide) ?_
      refine lv_irem hx hb dX1_work_25 (by decide) ?_
      refine gv_top (y := nI a3) ((pk_rem (by omega) (by decide) (by decide)).trans (by rw [e3])) ?_
      refine lv_istore (lv' := [(4, .int (nI a3)), (3, .int (nI a2)), (2, .int (nI a1)), (0, .ref (h 0)), (1, .int (nI i))]) hx hb dX1_work_26 hl (by decide) rfl (fun ls hl => ?_)
      refine lv_iload_n hx hb dX1_work_28 rfl (lv_at hl 2 rfl) ?_
      refine lv_aload_n hx hb dX1_work_29 rfl (lv_at hl 3 rfl) ?_
      refine va_get (D := (dC, dI)) (ci := 1) (v := .int (nI n)) (C := RX1) (T := TX1) (N := 4) hx hb hts in_X1 hown hK hP 0 rfl rfl 0 (by decide) (hts _ q156) (fun _ h9 => h9) rfl dX1_work_30 ?_
      refine gv_midP (P := ¬ (a1 < n ∧ a2 < n ∧ a3 < n)) (g1 := F0 m 99 ls []) (fun hx1 => ?_) (fun K99 => ?_)
      · refine lv_iinc (v := nI (i + 1)) (lv' := [(1, .int (nI (i + 1))), (4, .int (nI a3)), (3, .int (nI a2)), (2, .int (nI a1)), (0, .ref (h 0))]) hx hb dX1_work_99 hl (k := 4) rfl (gv_inc _) (by decide) rfl (fun ls hl => ?_)
        refine lv_goto (tgt := 2) hx hb dX1_work_102 (by decide) ?_
        exact ih H locs ls ⟨gw, hP, hD, hS, gv_wI_skip hn hJ l2 l3 ei hx1⟩ (lv_sub hl [4, 0] rfl)
      · refine lv_icmp_ge (tgt := 99) hx hb dX1_work_33 (by decide) (fun d0 => ?_) (fun d0 => ?_)
        · exact K99 (fun z => absurd ((nI_leI (by omega) (by omega)).mp d0) (by omega))
        · have h1 : a1 < n := Nat.not_le.mp (fun z => d0 (nI_le z (by omega)))
          refine lv_iload_n hx hb dX1_work_36 rfl (lv_at hl 1 rfl) ?_
          refine lv_aload_n hx hb dX1_work_37 rfl (lv_at hl 3 rfl) ?_
          refine va_get (D := (dC, dI)) (ci := 1) (v := .int (nI n)) (C := RX1) (T := TX1) (N := 4) hx hb hts in_X1 hown hK hP 0 rfl rfl 0 (by decide) (hts _ q156) (fun _ h9 => h9) rfl dX1_work_38 ?_
          refine lv_icmp_ge (tgt := 99) hx hb dX1_work_41 (by decide) (fun d1 => ?_) (fun d1 => ?_)
          · exact K99 (fun z => absurd ((nI_leI (by omega) (by omega)).mp d1) (by omega))
          · have h2 : a2 < n := Nat.not_le.mp (fun z => d1 (nI_le z (by omega)))
            refine lv_iload hx hb dX1_work_44 (lv_at hl 0 rfl) ?_
            refine lv_aload_n hx hb dX1_work_46 rfl (lv_at hl 3 rfl) ?_
            refine va_get (D := (dC, dI)) (ci := 1) (v := .int (nI n)) (C := RX1) (T := TX1) (N := 4) hx hb hts in_X1 hown hK hP 0 rfl rfl 0 (by decide) (hts _ q156) (fun _ h9 => h9) rfl dX1_work_47 ?_
            refine lv_icmp_ge (tgt := 99) hx hb dX1_work_50 (by decide) (fun d2 => ?_) (fun d2 => ?_)
            · exact K99 (fun z => absurd ((nI_leI (by omega) (by omega)).mp d2) (by omega))
            · have h3 : a3 < n := Nat.not_le.mp (fun z => d2 (nI_le z (by omega)))
              refine lv_aload_n hx hb dX1_work_53 rfl (lv_at hl 3 rfl) ?_
              refine va_get (D := (dC, dI)) (ci := 1) (v := .ref (h 2)) (C := RX1) (T := TX1) (N := 4) hx hb hts in_X1 hown hK hP 0 rfl rfl 2 (by decide) (hts _ q158) (fun _ h9 => h9) rfl dX1_work_54 ?_
              refine lv_aload_n hx hb dX1_work_57 rfl (lv_at hl 3 rfl) ?_
              refine lv_iload_n hx hb dX1_work_58 rfl (lv_at hl 2 rfl) ?_
              refine lv_iload_n hx hb dX1_work_59 rfl (lv_at hl 1 rfl) ?_
              refine lv_iload hx hb dX1_work_60 (lv_at hl 0 rfl) ?_
              refine lv_iconst (v := nI 0) hx hb dX1_work_62 (by decide) ?_
              refine vp_callSi (W.runV (As := [.int (nI a1), .int (nI a2), .int (nI a3), .int (nI 0)]) (rest := [.ref (h 2)]) ⟨hx, hb, hml, hown, hts⟩ (gv_m_cell l dC dI h d n L R gw fd a1 a2 a3 0) (cwV 4 hts (lw_V q198 q200 qs11 q18 q201) rfl rfl rfl (by decide +kernel) ⟨Nat.le_of_ble_eq_true rfl, Nat.le_of_ble_eq_true rfl⟩) (gv_preV (ci := 1) hK hP rfl rfl) rfl rfl hl.1 rfl (lv_room (Nat.le_of_ble_eq_true rfl)) dX1_work_63 ⟨Nat.le_of_ble_eq_true rfl, Nat.le_of_ble_eq_true rfl⟩) (fun r er => ?_)
              subst er
              refine lv_aload_n hx hb dX1_work_66 rfl (lv_at hl 3 rfl) ?_
              refine lv_iload_n hx hb dX1_work_67 rfl (lv_at hl 2 rfl) ?_
              refine lv_iload_n hx hb dX1_work_68 rfl (lv_at hl 1 rfl) ?_
              refine lv_iload hx hb dX1_work_69 (lv_at hl 0 rfl) ?_
              refine lv_iconst (v := nI 0) hx hb dX1_work_71 (by decide) ?_
              refine vp_callSi (W.runV (As := [.int (nI a1), .int (nI a2), .int (nI a3), .int (nI 0)]) (rest := [.int (nI (200 * a1 + 20 * a2 + 2 * a3 + 0)), .ref (h 2)]) ⟨hx, hb, hml, hown, hts⟩ (gv_m_canWin l dC dI h d n L R gw fd a1 a2 a3 0 hg hn h1 h2 h3 (by decide) (gv_wlow_of hn hJ h1 h2 h3 (by decide) ei)) (cwV 4 hts (lw_V q202 q204 qs12 q18 q205) rfl rfl rfl (by decide +kernel) ⟨Nat.le_of_ble_eq_true rfl, Nat.le_of_ble_eq_true rfl⟩) (gv_preV (ci := 1) hK hP rfl rfl) rfl rfl hl.1 rfl (lv_room (Nat.le_of_ble_eq_true rfl)) dX1_work_72 ⟨Nat.le_of_ble_eq_true rfl, Nat.le_of_ble_eq_true rfl⟩) (fun r er => ?_)
              subst er
              refine va_zast hx hb hK hP hD hS 2 1 rfl rfl (vp_in_nI (n := 200 * a1 + 20 * a2 + 2 * a3 + 0) (by omega) (by decide)) dX1_work_75 (fun H locs hP hD hS => ?_)
              have hup : upd gw (nI (200 * a1 + 20 * a2 + 2 * a3 + 0)).toNatClampNeg (vp_nar .boolean (gv_z (gv_win L R 0 a1 a2 a3))) = (upd gw (200 * a1 + 20 * a2 + 2 * a3 + 0) (gv_z (gv_win L R 0 a1 a2 a3))) := by rw [nI_clamp (by omega), gv_zvp]
              rw [hup] at hP hD
              have hP : va_P (dC, dI) gv_cl (gv_mW h d n L R (upd gw (200 * a1 + 20 * a2 + 2 * a3 + 0) (gv_z (gv_win L R 0 a1 a2 a3))) fd) H := hP
              have hD : va_D A (gv_mW h d n L R (upd gw (200 * a1 + 20 * a2 + 2 * a3 + 0) (gv_z (gv_win L R 0 a1 a2 a3))) fd) := hD
              refine lv_aload_n hx hb dX1_work_76 rfl (lv_at hl 3 rfl) ?_
              refine va_get (D := (dC, dI)) (ci := 1) (v := .ref (h 2)) (C := RX1) (T := TX1) (N := 4) hx hb hts in_X1 hown hK hP 0 rfl rfl 2 (by decide) (hts _ q158) (fun _ h9 => h9) rfl dX1_work_77 ?_
              refine lv_aload_n hx hb dX1_work_80 rfl (lv_at hl 3 rfl) ?_
              refine lv_iload_n hx hb dX1_work_81 rfl (lv_at hl 2 rfl) ?_
              refine lv_iload_n hx hb dX1_work_82 rfl (lv_at hl 1 rfl) ?_
              refine lv_iload hx hb dX1_work_83 (lv_at hl 0 rfl) ?_
              refine lv_iconst (v := nI 1) hx hb dX1_work_85 (by decide) ?_
              refine vp_callSi (W.runV (As := [.int (nI a1), .int (nI a2), .int (nI a3), .int (nI 1)]) (rest := [.ref (h 2)]) ⟨hx, hb, hml, hown, hts⟩ (gv_m_cell l dC dI h d n L R (upd gw (200 * a1 + 20 * a2 + 2 * a3 + 0) (gv_z (gv_win L R 0 a1 a2 a3))) fd a1 a2 a3 1) (cwV 4 hts (lw_V q198 q200 qs11 q18 q201) rfl rfl rfl (by decide +kernel) ⟨Nat.le_of_ble_eq_true rfl, Nat.le_of_ble_eq_true rfl⟩) (gv_preV (ci := 1) hK hP rfl rfl) rfl rfl hl.1 rfl (lv_room (Nat.le_of_ble_eq_true rfl)) dX1_work_86 ⟨Nat.le_of_ble_eq_true rfl, Nat.le_of_ble_eq_true rfl⟩) (fun r er => ?_)
              subst er
              refine lv_aload_n hx hb dX1_work_89 rfl (lv_at hl 3 rfl) ?_
              refine lv_iload_n hx hb dX1_work_90 rfl (lv_at hl 2 rfl) ?_
              refine lv_iload_n hx hb dX1_work_91 rfl (lv_at hl 1 rfl) ?_
              refine lv_iload hx hb dX1_work_92 (lv_at hl 0 rfl) ?_
              refine lv_iconst (v := nI 1) hx hb dX1_work_94 (by decide) ?_
              refine vp_callSi (W.runV (As := [.int (nI a1), .int (nI a2), .int (nI a3), .int (nI 1)]) (rest := [.int (nI (200 * a1 + 20 * a2 + 2 * a3 + 1)), .ref (h 2)]) ⟨hx, hb, hml, hown, hts⟩ (gv_m_canWin l dC dI h d n L R (upd gw (200 * a1 + 20 * a2 + 2 * a3 + 0) (gv_z (gv_win L R 0 a1 a2 a3))) fd a1 a2 a3 1 hg hn h1 h2 h3 (by decide) (gv_wlow_up (s := 0) (s' := 0) (by decide) (by decide) l2 l3 (gv_wlow_of (s := 0) hn hJ h1 h2 h3 (by decide) ei))) (cwV 4 hts (lw_V q202 q204 qs12 q18 q205) rfl rfl rfl (by decide +kernel) ⟨Nat.le_of_ble_eq_true rfl, Nat.le_of_ble_eq_true rfl⟩) (gv_preV (ci := 1) hK hP rfl rfl) rfl rfl hl.1 rfl (lv_room (Nat.le_of_ble_eq_true rfl)) dX1_work_95 ⟨Nat.le_of_ble_eq_true rfl, Nat.le_of_ble_eq_true rfl⟩) (fun r er => ?_)
              subst er
              refine va_zast hx hb hK hP hD hS 2 1 rfl rfl (vp_in_nI (n := 200 * a1 + 20 * a2 + 2 * a3 + 1) (by omega) (by decide)) dX1_work_98 (fun H locs hP hD hS => ?_)
              have hup : upd (upd gw (200 * a1 + 20 * a2 + 2 * a3 + 0) (gv_z (gv_win L R 0 a1 a2 a3))) (nI (200 * a1 + 20 * a2 + 2 * a3 + 1)).toNatClampNeg (vp_nar .boolean (gv_z (gv_win L R 1 a1 a2 a3))) = (upd (upd gw (200 * a1 + 20 * a2 + 2 * a3 + 0) (gv_z (gv_win L R 0 a1 a2 a3))) (200 * a1 + 20 * a2 + 2 * a3 + 1) (gv_z (gv_win L R 1 a1 a2 a3))) := by rw [nI_clamp (by omega), gv_zvp]
              rw [hup] at hP hD
              have hP : va_P (dC, dI) gv_cl (gv_mW h d n L R (upd (upd gw (200 * a1 + 20 * a2 + 2 * a3 + 0) (gv_z (gv_win L R 0 a1 a2 a3))) (200 * a1 + 20 * a2 + 2 * a3 + 1) (gv_z (gv_win L R 1 a1 a2 a3))) fd) H := hP
              have hD : va_D A (gv_mW h d n L R (upd (upd gw (200 * a1 + 20 * a2 + 2 * a3 + 0) (gv_z (gv_win L R 0 a1 a2 a3))) (200 * a1 + 20 * a2 + 2 * a3 + 1) (gv_z (gv_win L R 1 a1 a2 a3))) fd) := hD
              refine lv_iinc (v := nI (i + 1)) (lv' := [(1, .int (nI (i + 1))), (4, .int (nI a3)), (3, .int (nI a2)), (2, .int (nI a1)), (0, .ref (h 0))]) hx hb dX1_work_99 hl (k := 4) rfl (gv_inc _) (by decide) rfl (fun ls hl => ?_)
              refine lv_goto (tgt := 2) hx hb dX1_work_102 (by decide) ?_
              exact ih H locs ls ⟨_, hP, hD, hS, gv_wI_step hn hJ h1 h2 h3 ei⟩ (lv_sub hl [4, 0] rfl)
set_option maxHeartbeats 4000000 in
set_option maxRecDepth 100000 in
/-- least -/
theorem gv_m_least (l : Launch) (dC : Nat → ClassId) (dI : Nat → Nat → Nat) (h : Nat → Nat) (d : Nat → ClassId) (n : Nat) (L R : Nat → Nat) (fw fd : Nat → Int32) (a1 a2 : Nat) (hn : n ≤ 10) (h1 : a1 < n) (h2 : a2 < n) (ht : gv_wtab n L R fw) : Met l yX1_least (ws_ yX1_least cX1_least 3 (some .boolean)) ({ frames := 1, cells := 0, slots := 0, locals := 24 }) (va_Pc [.ref (h 0), .int (nI a1), .int (nI a2)] (fun U => va_P (dC, dI) gv_cl (gv_mW h d n L R fw fd) U.heap ∧ va_K (dC, dI) gv_cl (gv_mT d) U)) (vp_Si (fun r => r = gv_z (!gv_win L R 1 a1 0 a2))) 0 0 (fun _ => False) := by
  refine Met.ofW (cc := cX1_least) (maxL := 3) (ret := (some .boolean)) (by decide) rfl ?_
  intro p e s m args below meth c s₁ B hml hv
  obtain ⟨rfl, hP, hK⟩ := hv
  have hx := B.exec
  have hb := B.bytes
  have hr := B.returns
  have hts := atoms_spec (ws := ws_ yX1_least cX1_least 3 (some .boolean)) B.pre
  have hts : ∀ w ∈ lw_all, w.before _ s = true := fun w h => hts w (List.mem_cons_of_mem _ h)
  have hown : s.vm.findClass RX1 = some m.cls := findClass_of_methodNamed B.named
  have hlocks := B.notSynchronized
  have hl := lv_entry ([.ref (h 0), .int (nI a1), .int (nI a2)]) (n := 3) (Nat.le_of_ble_eq_true rfl)
  rw [lg_entry_eq]
  generalize (lg_sl ([.ref (h 0), .int (nI a1), .int (nI a2)]) ++ List.replicate (3 - (lg_sl ([.ref (h 0), .int (nI a1), .int (nI a2)])).length) Slot.unset).toArray = ls at hl ⊢
  have hl : lv_has ls 3 [(0, .ref (h 0)), (1, .int (nI a1)), (2, .int (nI a2))] := hl
  refine lv_aload_n hx hb dX1_least_0 rfl (lv_at hl 0 rfl) ?_
  refine va_get (D := (dC, dI)) (ci := 1) (v := .ref (h 2)) (C := RX1) (T := TX1) (N := 4) hx hb hts in_X1 hown hK hP 0 rfl rfl 2 (by decide) (hts _ q158) (fun _ h9 => h9) rfl dX1_least_1 ?_
  refine lv_aload_n hx hb dX1_least_4 rfl (lv_at hl 0 rfl) ?_
  refine lv_iload_n hx hb dX1_least_5 rfl (lv_at hl 1 rfl) ?_
  refine lv_iconst (v := nI 0) hx hb dX1_least_6 (by decide) ?_
  refine lv_iload_n hx hb dX1_least_7 rfl (lv_at hl 2 rfl) ?_
  refine lv_iconst (v := nI 1) hx hb dX1_least_8 (by decide) ?_
  refine vp_callSi (W.runV (As := [.int (nI a1), .int (nI 0), .int (nI a2), .int (nI 1)]) (rest := [.ref (h 2)]) ⟨hx, hb, hml, hown, hts⟩ (gv_m_cell l dC dI h d n L R fw fd a1 0 a2 1) (cwV 4 hts (lw_V q198 q200 qs11 q18 q201) rfl rfl rfl (by decide +kernel) ⟨Nat.le_of_ble_eq_true rfl, Nat.le_of_ble_eq_true rfl⟩) (gv_preV (ci := 1) hK hP rfl rfl) rfl rfl hl.1 rfl (lv_room (Nat.le_of_ble_eq_true rfl)) dX1_least_9 ⟨Nat.le_of_ble_eq_true rfl, Nat.le_of_ble_eq_true rfl⟩) (fun r er => ?_)
  subst er
  refine va_zald hx hb hK hP 2 1 rfl rfl (vp_in_nI (n := 200 * a1 + 20 * 0 + 2 * a2 + 1) (by omega) (by decide)) dX1_least_12 ?_
  refine gv_top (y := gv_z (gv_win L R 1 a1 0 a2)) ((gv_ld fw (e := 200 * a1 + 20 * 0 + 2 * a2 + 1) (by omega)).trans (ht a1 0 a2 1 h1 (by omega) h2 (by decide))) ?_
  refine lv_if_ne (tgt := 20) hx hb dX1_least_13 (by decide) (fun c1 => ?_) (fun c1 => ?_)
  · refine lv_iconst (v := nI 0) hx hb dX1_least_20 (by decide) ?_
    exact W.zret (v := nI 0) hx hb hr (rfl) (fun t ht hW => ⟨_, rfl, gv_a0 (by rw [gv_z1 c1]; rfl), ht⟩) (fun _ h => nomatch h) dX1_least_21
  · refine lv_iconst (v := nI 1) hx hb dX1_least_16 (by decide) ?_
    refine lv_goto (tgt := 21) hx hb dX1_least_17 (by decide) ?_
    exact W.zret (v := nI 1) hx hb hr (rfl) (fun t ht hW => ⟨_, rfl, gv_a1 (by rw [gv_z0 c1]; rfl), ht⟩) (fun _ h => nomatch h) dX1_least_21
set_option maxHeartbeats 4000000 in
set_option maxRecDepth 100000 in
/-- compare -/
theorem gv_m_compare (l : Launch) (dC : Nat → ClassId) (dI : Nat → Nat → Nat) (h : Nat → Nat) (d : Nat → ClassId) (sz : Nat) (n : Nat) (L R : Nat → Nat) (fw fd : Nat → Int32) (x y : Int32) (hg : gv_ok L R) (hn1 : 1 ≤ n) (hn : n ≤ 10) : Met l yX1_compare (ws_ yX1_compare cX1_compare 3 (some .int)) ({ frames := 3, cells := 0, slots := 0, locals := 77 }) (va_Pc [.ref (h 0), .int x, .int y] (fun U => U.heap.size = sz ∧ va_P (dC, dI) gv_cl (gv_mW h d n L R fw fd) U.heap ∧ va_K (dC, dI) gv_cl (gv_mT d) U ∧ va_D (fun _ => True) (gv_mW h d n L R fw fd))) (va_Qi (fun (r : Int32) (_ : (Nat → Int32) × (Nat → Int32)) => r = gv_cmR n L R x y) (gv_mB dC dI h d n L R (va_A (gv_mW h d n L R fw fd) sz)) (va_A (gv_mW h d n L R fw fd) sz)) 0 0 (va_A (gv_mW h d n L R fw fd) sz) := by
  refine Met.ofW (cc := cX1_compare) (maxL := 3) (ret := (some .int)) (by decide) rfl ?_
  intro p e s m args below meth c s₁ B hml hv
  obtain ⟨rfl, hsz, hP, hK, hD0⟩ := hv
  have hx := B.exec
  have hb := B.bytes
  have hr := B.returns
  have hts := atoms_spec (ws := ws_ yX1_compare cX1_compare 3 (some .int)) B.pre
  have hts : ∀ w ∈ lw_all, w.before _ s = true := fun w h => hts w (List.mem_cons_of_mem _ h)
  have hown : s.vm.findClass RX1 = some m.cls := findClass_of_methodNamed B.named
  have hlocks := B.notSynchronized
  subst hsz
  have hD := hD0.self (sz := s.heap.size)
  generalize hAe : va_A (gv_mW h d n L R fw fd) s.heap.size = A at hD ⊢
  have hA : ∀ q : Nat, s.heap.size ≤ q → A q := fun q h => by rw [← hAe]; exact Or.inr h
  have hS : va_S A s.heap s.heap [] := va_S.rf
  have hP : va_P (dC, dI) gv_cl (gv_mW h d n L R fw fd) s.heap := hP
  have hl := lv_entry ([.ref (h 0), .int x, .int y]) (n := 3) (Nat.le_of_ble_eq_true rfl)
  rw [lg_entry_eq]
  generalize (lg_sl ([.ref (h 0), .int x, .int y]) ++ List.replicate (3 - (lg_sl ([.ref (h 0), .int x, .int y])).length) Slot.unset).toArray = ls at hl ⊢
  have hl : lv_has ls 3 [(0, .ref (h 0)), (1, .int x), (2, .int y)] := hl
  refine lv_aload_n hx hb dX1_compare_0 rfl (lv_at hl 0 rfl) ?_
  have hFc := va_free (wc := gv_mW h d n L R fw fd) hD hS hA [0, 1, 2, 3] rfl
  refine va_callv (va_runV (As := []) (rest := []) ⟨hx, hb, hml, hown, hts⟩ (gv_m_work l dC dI h d _ n L R fw fd hg hn) (cwV 0 hts (lw_V q194 q196 qs10 q18 q197) rfl rfl rfl (by decide +kernel) ⟨Nat.le_of_ble_eq_true rfl, Nat.le_of_ble_eq_true rfl⟩) (gv_preD (ci := 1) hK hP hD rfl rfl) rfl rfl hl.1 rfl (lv_room (Nat.le_of_ble_eq_true rfl)) dX1_compare_1 ⟨Nat.le_of_ble_eq_true rfl, Nat.le_of_ble_eq_true rfl⟩) hS (fun q _ h => hFc q h) hFc (fun u t H1 locs ht hvm hw hB hz1 hk1 hS => ?_)
  obtain ⟨fw1, fd1⟩ := u
  obtain ⟨hP1, hK1, hD1⟩ := hB
  rw [ht] at hP1
  have hP : va_P (dC, dI) gv_cl (gv_mW h d n L R fw1 fd1) H1 := hP1
  have hD : va_D A (gv_mW h d n L R fw1 fd1) := hD1.weaken (fun _ q _ h => hFc q.1 h)
  clear hP1 hK1 hD1 hFc
  have ht1 : gv_wtab n L R fw1 := hw
  clear hw
  refine lv_aload_n hx hb dX1_compare_4 rfl (lv_at hl 0 rfl) ?_
  refine lv_iload_n hx hb dX1_compare_5 rfl (lv_at hl 1 rfl) ?_
  refine vp_callSi (W.runV (As := [.int x]) (rest := []) ⟨hx, hb, hml, hown, hts⟩ (gv_m_is l dC dI h d n L R fw1 fd1 x) (cwV 1 hts (lw_V q186 q188 qs9 q18 q189) rfl rfl rfl (by decide +kernel) ⟨Nat.le_of_ble_eq_true rfl, Nat.le_of_ble_eq_true rfl⟩) (gv_preV (ci := 1) hK hP rfl rfl) rfl rfl hl.1 rfl (lv_room (Nat.le_of_ble_eq_true rfl)) dX1_compare_6 ⟨Nat.le_of_ble_eq_true rfl, Nat.le_of_ble_eq_true rfl⟩) (fun r er => ?_)
  subst er
  refine lv_if_eq (tgt := 39) hx hb dX1_compare_9 (by decide) (fun c1 => ?_) (fun c1 => ?_)
  · refine lv_iconst (v := (-1)) hx hb dX1_compare_39 (by decide) ?_
    exact W.iret (v := (-1)) hx hb hr (fun t ht hW => ⟨⟨(-1), (fw1, fd1), rfl, (gv_cmR_f (by rw [gv_z0 c1]; rfl)).symm, by rw [ht]; exact hP, va_K.moved hW.alike hK, hD⟩, hS.F ht⟩) hS.2.2 dX1_compare_40
  · refine lv_aload_n hx hb dX1_compare_12 rfl (lv_at hl 0 rfl) ?_
    refine lv_iload_n hx hb dX1_compare_13 rfl (lv_at hl 2 rfl) ?_
    refine vp_callSi (W.runV (As := [.int y]) (rest := []) ⟨hx, hb, hml, hown, hts⟩ (gv_m_is l dC dI h d n L R fw1 fd1 y) (cwV 1 hts (lw_V q186 q188 qs9 q18 q189) rfl rfl rfl (by decide +kernel) ⟨Nat.le_of_ble_eq_true rfl, Nat.le_of_ble_eq_true rfl⟩) (gv_preV (ci := 1) hK hP rfl rfl) rfl rfl hl.1 rfl (lv_room (Nat.le_of_ble_eq_true rfl)) dX1_compare_14 ⟨Nat.le_of_ble_eq_true rfl, Nat.le_of_ble_eq_true rfl⟩) (fun r er => ?_)
    subst er
    refine lv_if_eq (tgt := 39) hx hb dX1_compare_17 (by decide) (fun c2 => ?_) (fun c2 => ?_)
    · refine lv_iconst (v := (-1)) hx hb dX1_compare_39 (by decide) ?_
      exact W.iret (v := (-1)) hx hb hr (fun t ht hW => ⟨⟨(-1), (fw1, fd1), rfl, (gv_cmR_f (by rw [gv_z0 c2, Bool.and_false])).symm, by rw [ht]; exact hP, va_K.moved hW.alike hK, hD⟩, hS.F ht⟩) hS.2.2 dX1_compare_40
    · have q1 := gv_z1 c1
      have q2 := gv_z1 c2
      clear c1 c2
      obtain ⟨k1, j1, rfl⟩ := gv_hT q1 (by omega)
      obtain ⟨k2, j2, rfl⟩ := gv_hT q2 (by omega)
      refine lv_aload_n hx hb dX1_compare_20 rfl (lv_at hl 0 rfl) ?_
      refine lv_aload_n hx hb dX1_compare_21 rfl (lv_at hl 0 rfl) ?_
      refine lv_iload_n hx hb dX1_compare_22 rfl (lv_at hl 1 rfl) ?_
      refine lv_iload_n hx hb dX1_compare_23 rfl (lv_at hl 2 rfl) ?_
      refine vp_callSi (W.runV (As := [.int (nI k1), .int (nI k2)]) (rest := [.ref (h 0)]) ⟨hx, hb, hml, hown, hts⟩ (gv_m_least l dC dI h d n L R fw1 fd1 k1 k2 hn j1 j2 ht1) (cwV 2 hts (lw_V q206 q208 qs13 q18 q209) rfl rfl rfl (by decide +kernel) ⟨Nat.le_of_ble_eq_true rfl, Nat.le_of_ble_eq_true rfl⟩) (gv_preV (ci := 1) hK hP rfl rfl) rfl rfl hl.1 rfl (lv_room (Nat.le_of_ble_eq_true rfl)) dX1_compare_24 ⟨Nat.le_of_ble_eq_true rfl, Nat.le_of_ble_eq_true rfl⟩) (fun r er => ?_)
      subst er
      refine lv_aload_n hx hb dX1_compare_27 rfl (lv_at hl 0 rfl) ?_
      refine lv_iload_n hx hb dX1_compare_28 rfl (lv_at hl 2 rfl) ?_
      refine lv_iload_n hx hb dX1_compare_29 rfl (lv_at hl 1 rfl) ?_
      refine vp_callSi (W.runV (As := [.int (nI k2), .int (nI k1)]) (rest := [.int (gv_z (!gv_win L R 1 k1 0 k2)), .ref (h 0)]) ⟨hx, hb, hml, hown, hts⟩ (gv_m_least l dC dI h d n L R fw1 fd1 k2 k1 hn j2 j1 ht1) (cwV 2 hts (lw_V q206 q208 qs13 q18 q209) rfl rfl rfl (by decide +kernel) ⟨Nat.le_of_ble_eq_true rfl, Nat.le_of_ble_eq_true rfl⟩) (gv_preV (ci := 1) hK hP rfl rfl) rfl rfl hl.1 rfl (lv_room (Nat.le_of_ble_eq_true rfl)) dX1_compare_30 ⟨Nat.le_of_ble_eq_true rfl, Nat.le_of_ble_eq_true rfl⟩) (fun r er => ?_)
      subst er
      refine vp_callSi (W.runV (As := [.int (gv_z (!gv_win L R 1 k1 0 k2)), .int (gv_z (!gv_win L R 1 k2 0 k1))]) (rest := []) ⟨hx, hb, hml, hown, hts⟩ (gv_m_stands l dC dI h d n L R fw1 fd1 (!gv_win L R 1 k1 0 k2) (!gv_win L R 1 k2 0 k1)) (cwV 2 hts (lw_V q210 q212 qs14 q18 q213) rfl rfl rfl (by decide +kernel) ⟨Nat.le_of_ble_eq_true rfl, Nat.le_of_ble_eq_true rfl⟩) (gv_preV (ci := 1) hK hP rfl rfl) rfl rfl hl.1 rfl (lv_room (Nat.le_of_ble_eq_true rfl)) dX1_compare_33 ⟨Nat.le_of_ble_eq_true rfl, Nat.le_of_ble_eq_true rfl⟩) (fun r er => ?_)
      subst er
      refine lv_goto (tgt := 40) hx hb dX1_compare_36 (by decide) ?_
      exact W.iret (v := (gv_st (!gv_win L R 1 k1 0 k2) (!gv_win L R 1 k2 0 k1))) hx hb hr (fun t ht hW => ⟨⟨(gv_st (!gv_win L R 1 k1 0 k2) (!gv_win L R 1 k2 0 k1)), (fw1, fd1), rfl, (gv_cmR_t q1 q2 (by omega) (by omega)).symm, by rw [ht]; exact hP, va_K.moved hW.alike hK, hD⟩, hS.F ht⟩) hS.2.2 dX1_compare_40
end
section
set_option maxHeartbeats 4000000 in
set_option maxRecDepth 100000 in
/-- winsSum -/
theorem gv_m_winsSum (l : Launch) (dC : Nat → ClassId) (dI : Nat → Nat → Nat) (h : Nat → Nat) (d : Nat → ClassId) (sz : Nat) (n : Nat) (L R : Nat → Nat) (fw fd : Nat → Int32) (x y z : Int32) (hg : gv_ok L R) (hn1 : 1 ≤ n) (hn : n ≤ 10) : Met l yX1_winsSum (ws_ yX1_winsSum cX1_winsSum 4 (some .boolean)) ({ frames := 3, cells := 0, slots := 0, locals := 77 }) (va_Pc [.ref (h 0), .int x, .int y, .int z] (fun U => U.heap.size = sz ∧ va_P (dC, dI) gv_cl (gv_mW h d n L R fw fd) U.heap ∧ va_K (dC, dI) gv_cl (gv_mT d) U ∧ va_D (fun _ => True) (gv_mW h d n L R fw fd))) (va_Qi (fun (r : Int32) (_ : (Nat → Int32) × (Nat → Int32)) => r = gv_z (gv_wsR n L R x y z)) (gv_mB dC dI h d n L R (va_A (gv_mW h d n L R fw fd) sz)) (va_A (gv_mW h d n L R fw fd) sz)) 0 0 (va_A (gv_mW h d n L R fw fd) sz) := by
  refine Met.ofW (cc := cX1_winsSum) (maxL := 4) (ret := (some .boolean)) (by decide) rfl ?_
  intro p e s m args below meth c s₁ B hml hv
  obtain ⟨rfl, hsz, hP, hK, hD0⟩ := hv
  have hx := B.exec
  have hb := B.bytes
  have hr := B.returns
  have hts := atoms_spec (ws := ws_ yX1_winsSum cX1_winsSum 4 (some .boolean)) B.pre
  have hts : ∀ w ∈ lw_all, w.before _ s = true := fun w h => hts w (List.mem_cons_of_mem _ h)
  have hown : s.vm.findClass RX1 = some m.cls := findClass_of_methodNamed B.named
  have hlocks := B.notSynchronized
  subst hsz
  have hD := hD0.self (sz := s.heap.size)
  generalize hAe : va_A (gv_mW h d n L R fw fd) s.heap.size = A at hD ⊢
  have hA : ∀ q : Nat, s.heap.size ≤ q → A q := fun q h => by rw [← hAe]; exact Or.inr h
  have hS : va_S A s.heap s.heap [] := va_S.rf
  have hP : va_P (dC, dI) gv_cl (gv_mW h d n L R fw fd) s.heap := hP
  have hl := lv_entry ([.ref (h 0), .int x, .int y, .int z]) (n := 4) (Nat.le_of_ble_eq_true rfl)
  rw [lg_entry_eq]
  generalize (lg_sl ([.ref (h 0), .int x, .int y, .int z]) ++ List.replicate (4 - (lg_sl ([.ref (h 0), .int x, .int y, .int z])).length) Slot.unset).toArray = ls at hl ⊢
  have hl : lv_has ls 4 [(0, .ref (h 0)), (1, .int x), (2, .int y), (3, .int z)] := hl
  refine lv_aload_n hx hb dX1_winsSum_0 rfl (lv_at hl 0 rfl) ?_
  have hFc := va_free (wc := gv_mW h d n L R fw fd) hD hS hA [0, 1, 2, 3] rfl
  refine va_callv (va_runV (As := []) (rest := []) ⟨hx, hb, hml, hown, hts⟩ (gv_m_work l dC dI h d _ n L R fw fd hg hn) (cwV 0 hts (lw_V q194 q196 qs10 q18 q197) rfl rfl rfl (by decide +kernel) ⟨Nat.le_of_ble_eq_true rfl, Nat.le_of_ble_eq_true rfl⟩) (gv_preD (ci := 1) hK hP hD rfl rfl) rfl rfl hl.1 rfl (lv_room (Nat.le_of_ble_eq_true rfl)) dX1_winsSum_1 ⟨Nat.le_of_ble_eq_true rfl, Nat.le_of_ble_eq_true rfl⟩) hS (fun q _ h => hFc q h) hFc (fun u t H1 locs ht hvm hw hB hz1 hk1 hS => ?_)
  obtain ⟨fw1, fd1⟩ := u
  obtain ⟨hP1, hK1, hD1⟩ := hB
  rw [ht] at hP1
  have hP : va_P (dC, dI) gv_cl (gv_mW h d n L R fw1 fd1) H1 := hP1
  have hD : va_D A (gv_mW h d n L R fw1 fd1) := hD1.weaken (fun _ q _ h => hFc q.1 h)
  clear hP1 hK1 hD1 hFc
  have ht1 : gv_wtab n L R fw1 := hw
  clear hw
  refine lv_aload_n hx hb dX1_winsSum_4 rfl (lv_at hl 0 rfl) ?_
  refine lv_iload_n hx hb dX1_winsSum_5 rfl (lv_at hl 1 rfl) ?_
  refine vp_callSi (W.runV (As := [.int x]) (rest := []) ⟨hx, hb, hml, hown, hts⟩ (gv_m_is l dC dI h d n L R fw1 fd1 x) (cwV 1 hts (lw_V q186 q188 qs9 q18 q189) rfl rfl rfl (by decide +kernel) ⟨Nat.le_of_ble_eq_true rfl, Nat.le_of_ble_eq_true rfl⟩) (gv_preV (ci := 1) hK hP rfl rfl) rfl rfl hl.1 rfl (lv_room (Nat.le_of_ble_eq_true rfl)) dX1_winsSum_6 ⟨Nat.le_of_ble_eq_true rfl, Nat.le_of_ble_eq_true rfl⟩) (fun r er => ?_)
  subst er
  refine lv_if_eq (tgt := 49) hx hb dX1_winsSum_9 (by decide) (fun c1 => ?_) (fun c1 => ?_)
  · refine lv_iconst (v := nI 0) hx hb dX1_winsSum_49 (by decide) ?_
    exact W.zret (v := nI 0) hx hb hr (rfl) (fun t ht hW => ⟨⟨nI 0, (fw1, fd1), rfl, gv_a0 (gv_wsR_f (by rw [gv_z0 c1]; rfl)), by rw [ht]; exact hP, va_K.moved hW.alike hK, hD⟩, hS.F ht⟩) hS.2.2 dX1_winsSum_50
  · refine lv_aload_n hx hb dX1_winsSum_12 rfl (lv_at hl 0 rfl) ?_
    refine lv_iload_n hx hb dX1_winsSum_13 rfl (lv_at hl 2 rfl) ?_
    refine vp_callSi (W.runV (As := [.int y]) (rest := []) ⟨hx, hb, hml, hown, hts⟩ (gv_m_is l dC dI h d n L R fw1 fd1 y) (cwV 1 hts (lw_V q186 q188 qs9 q18 q189) rfl rfl rfl (by decide +kernel) ⟨Nat.le_of_ble_eq_true rfl, Nat.le_of_ble_eq_true rfl⟩) (gv_preV (ci := 1) hK hP rfl rfl) rfl rfl hl.1 rfl (lv_room (Nat.le_of_ble_eq_true rfl)) dX1_winsSum_14 ⟨Nat.le_of_ble_eq_true rfl, Nat.le_of_ble_eq_true rfl⟩) (fun r er => ?_)
    subst er
    refine lv_if_eq (tgt := 49) hx hb dX1_winsSum_17 (by decide) (fun c2 => ?_) (fun c2 => ?_)
    · refine lv_iconst (v := nI 0) hx hb dX1_winsSum_49 (by decide) ?_
      exact W.zret (v := nI 0) hx hb hr (rfl) (fun t ht hW => ⟨⟨nI 0, (fw1, fd1), rfl, gv_a0 (gv_wsR_f (by rw [gv_z0 c2, Bool.and_false]; rfl)), by rw [ht]; exact hP, va_K.moved hW.alike hK, hD⟩, hS.F ht⟩) hS.2.2 dX1_winsSum_50
    · refine lv_iload_n hx hb dX1_winsSum_20 rfl (lv_at hl 3 rfl) ?_
      refine gv_midP (P := gv_sd z = true) (g1 := F0 m 29 ls []) (fun q3 => ?_) (fun K29 => ?_)
      · have q1 := gv_z1 c1
        have q2 := gv_z1 c2
        clear c1 c2
        obtain ⟨k1, j1, rfl⟩ := gv_hT q1 (by omega)
        obtain ⟨k2, j2, rfl⟩ := gv_hT q2 (by omega)
        obtain ⟨s1, j3, rfl⟩ := gv_sdT q3
        have eR := gv_wsR_t (L := L) (R := R) q1 q2 q3 (by omega) (by omega) (by omega)
        refine lv_aload_n hx hb dX1_winsSum_29 rfl (lv_at hl 0 rfl) ?_
        refine va_get (D := (dC, dI)) (ci := 1) (v := .ref (h 2)) (C := RX1) (T := TX1) (N := 4) hx hb hts in_X1 hown hK hP 0 rfl rfl 2 (by decide) (hts _ q158) (fun _ h9 => h9) rfl dX1_winsSum_30 ?_
        refine lv_aload_n hx hb dX1_winsSum_33 rfl (lv_at hl 0 rfl) ?_
        refine lv_iload_n hx hb dX1_winsSum_34 rfl (lv_at hl 1 rfl) ?_
        refine lv_iload_n hx hb dX1_winsSum_35 rfl (lv_at hl 2 rfl) ?_
        refine lv_iconst (v := nI 0) hx hb dX1_winsSum_36 (by decide) ?_
        refine lv_iload_n hx hb dX1_winsSum_37 rfl (lv_at hl 3 rfl) ?_
        refine vp_callSi (W.runV (As := [.int (nI k1), .int (nI k2), .int (nI 0), .int (nI s1)]) (rest := [.ref (h 2)]) ⟨hx, hb, hml, hown, hts⟩ (gv_m_cell l dC dI h d n L R fw1 fd1 k1 k2 0 s1) (cwV 4 hts (lw_V q198 q200 qs11 q18 q201) rfl rfl rfl (by decide +kernel) ⟨Nat.le_of_ble_eq_true rfl, Nat.le_of_ble_eq_true rfl⟩) (gv_preV (ci := 1) hK hP rfl rfl) rfl rfl hl.1 rfl (lv_room (Nat.le_of_ble_eq_true rfl)) dX1_winsSum_38 ⟨Nat.le_of_ble_eq_true rfl, Nat.le_of_ble_eq_true rfl⟩) (fun r er => ?_)
        subst er
        refine va_zald hx hb hK hP 2 1 rfl rfl (vp_in_nI (n := 200 * k1 + 20 * k2 + 2 * 0 + s1) (by omega) (by decide)) dX1_winsSum_41 ?_
        refine gv_top (y := gv_z (gv_win L R s1 k1 k2 0)) ((gv_ld fw1 (e := 200 * k1 + 20 * k2 + 2 * 0 + s1) (by omega)).trans (ht1 k1 k2 0 s1 j1 j2 (by omega) j3)) ?_
        refine lv_if_eq (tgt := 49) hx hb dX1_winsSum_42 (by decide) (fun c3 => ?_) (fun c3 => ?_)
        · refine lv_iconst (v := nI 0) hx hb dX1_winsSum_49 (by decide) ?_
          exact W.zret (v := nI 0) hx hb hr (rfl) (fun t ht hW => ⟨⟨nI 0, (fw1, fd1), rfl, gv_a0 (by rw [eR, gv_z0 c3]), by rw [ht]; exact hP, va_K.moved hW.alike hK, hD⟩, hS.F ht⟩) hS.2.2 dX1_winsSum_50
        · refine lv_iconst (v := nI 1) hx hb dX1_winsSum_45 (by decide) ?_
          refine lv_goto (tgt := 50) hx hb dX1_winsSum_46 (by decide) ?_
          exact W.zret (v := nI 1) hx hb hr (rfl) (fun t ht hW => ⟨⟨nI 1, (fw1, fd1), rfl, gv_a1 (by rw [eR, gv_z1 c3]), by rw [ht]; exact hP, va_K.moved hW.alike hK, hD⟩, hS.F ht⟩) hS.2.2 dX1_winsSum_50
      · refine lv_if_eq (tgt := 29) hx hb dX1_winsSum_21 (by decide) (fun c3 => ?_) (fun c3 => ?_)
        · exact K29 (by rw [gv_sd, decide_eq_true c3]; rfl)
        · refine lv_iload_n hx hb dX1_winsSum_24 rfl (lv_at hl 3 rfl) ?_
          refine lv_iconst (v := nI 1) hx hb dX1_winsSum_25 (by decide) ?_
          refine lv_icmp_ne (tgt := 49) hx hb dX1_winsSum_26 (by decide) (fun c4 => ?_) (fun c4 => ?_)
          · refine lv_iconst (v := nI 0) hx hb dX1_winsSum_49 (by decide) ?_
            exact W.zret (v := nI 0) hx hb hr (rfl) (fun t ht hW => ⟨⟨nI 0, (fw1, fd1), rfl, gv_a0 (gv_wsR_f (by rw [gv_sd, decide_eq_false c3, decide_eq_false c4, Bool.or_false, Bool.and_false])), by rw [ht]; exact hP, va_K.moved hW.alike hK, hD⟩, hS.F ht⟩) hS.2.2 dX1_winsSum_50
          · exact K29 (by rw [gv_sd, decide_eq_true c4, Bool.or_true])
set_option maxHeartbeats 4000000 in
set_option maxRecDepth 100000 in
/-- wins -/
theorem gv_m_wins (l : Launch) (dC : Nat → ClassId) (dI : Nat → Nat → Nat) (h : Nat → Nat) (d : Nat → ClassId) (sz : Nat) (n : Nat) (L R : Nat → Nat) (fw fd : Nat → Int32) (x y : Int32) (hg : gv_ok L R) (hn1 : 1 ≤ n) (hn : n ≤ 10) : Met l yX1_wins (ws_ yX1_wins cX1_wins 3 (some .boolean)) ({ frames := 4, cells := 0, slots := 0, locals := 100 }) (va_Pc [.ref (h 0), .int x, .int y] (fun U => U.heap.size = sz ∧ va_P (dC, dI) gv_cl (gv_mW h d n L R fw fd) U.heap ∧ va_K (dC, dI) gv_cl (gv_mT d) U ∧ va_D (fun _ => True) (gv_mW h d n L R fw fd))) (va_Qi (fun (r : Int32) (_ : (Nat → Int32) × (Nat → Int32)) => r = gv_z (gv_wsR n L R x (nI 0) y)) (gv_mB dC dI h d n L R (va_A (gv_mW h d n L R fw fd) sz)) (va_A (gv_mW h d n L R fw fd) sz)) 0 0 (va_A (gv_mW h d n L R fw fd) sz) := by
  refine Met.ofW (cc := cX1_wins) (maxL := 3) (ret := (some .boolean)) (by decide) rfl ?_
  intro p e s m args below meth c s₁ B hml hv
  obtain ⟨rfl, hsz, hP, hK, hD0⟩ := hv
  have hx := B.exec
  have hb := B.bytes
  have hr := B.returns
  have hts := atoms_spec (ws := ws_ yX1_wins cX1_wins 3 (some .boolean)) B.pre
  have hts : ∀ w ∈ lw_all, w.before _ s = true := fun w h => hts w (List.mem_cons_of_mem _ h)
  have hown : s.vm.findClass RX1 = some m.cls := findClass_of_methodNamed B.named
  have hlocks := B.notSynchronized
  subst hsz
  have hD := hD0.self (sz := s.heap.size)
  generalize hAe : va_A (gv_mW h d n L R fw fd) s.heap.size = A at hD ⊢
  have hA : ∀ q : Nat, s.heap.size ≤ q → A q := fun q h => by rw [← hAe]; exact Or.inr h
  have hS : va_S A s.heap s.heap [] := va_S.rf
  have hP : va_P (dC, dI) gv_cl (gv_mW h d n L R fw fd) s.heap := hP
  have hl := lv_entry ([.ref (h 0), .int x, .int y]) (n := 3) (Nat.le_of_ble_eq_true rfl)
  rw [lg_entry_eq]
  generalize (lg_sl ([.ref (h 0), .int x, .int y]) ++ List.replicate (3 - (lg_sl ([.ref (h 0), .int x, .int y])).length) Slot.unset).toArray = ls at hl ⊢
  have hl : lv_has ls 3 [(0, .ref (h 0)), (1, .int x), (2, .int y)] := hl
  refine lv_aload_n hx hb dX1_wins_0 rfl (lv_at hl 0 rfl) ?_
  refine lv_iload_n hx hb dX1_wins_1 rfl (lv_at hl 1 rfl) ?_
  refine lv_iconst (v := nI 0) hx hb dX1_wins_2 (by decide) ?_
  refine lv_iload_n hx hb dX1_wins_3 rfl (lv_at hl 2 rfl) ?_
  have hFc := va_free (wc := gv_mW h d n L R fw fd) hD hS hA [0, 1, 2, 3] rfl
  refine va_calli (va_runV (As := [.int x, .int (nI 0), .int y]) (rest := []) ⟨hx, hb, hml, hown, hts⟩ (gv_m_winsSum l dC dI h d _ n L R fw fd x (nI 0) y hg hn1 hn) (cwV 3 hts (lw_V q218 q219 q220 q18 q221) rfl rfl rfl (by decide +kernel) ⟨Nat.le_of_ble_eq_true rfl, Nat.le_of_ble_eq_true rfl⟩) (gv_preD (ci := 1) hK hP hD rfl rfl) rfl rfl hl.1 rfl (lv_room (Nat.le_of_ble_eq_true rfl)) dX1_wins_4 ⟨Nat.le_of_ble_eq_true rfl, Nat.le_of_ble_eq_true rfl⟩) hS (fun q _ h => hFc q h) hFc (fun r u t H1 locs ht hvm hw hB hz1 hk1 hS => ?_)
  obtain ⟨fw1, fd1⟩ := u
  obtain ⟨hP1, hK1, hD1⟩ := hB
  rw [ht] at hP1
  have hP : va_P (dC, dI) gv_cl (gv_mW h d n L R fw1 fd1) H1 := hP1
  have hD : va_D A (gv_mW h d n L R fw1 fd1) := hD1.weaken (fun _ q _ h => hFc q.1 h)
  clear hP1 hK1 hD1 hFc
  subst hw
  exact W.zret (v := gv_z (gv_wsR n L R x (nI 0) y)) hx hb hr (gv_znar _) (fun t ht hW => ⟨⟨gv_z (gv_wsR n L R x (nI 0) y), (fw1, fd1), rfl, rfl, by rw [ht]; exact hP, va_K.moved hW.alike hK, hD⟩, hS.F ht⟩) hS.2.2 dX1_wins_7
set_option maxHeartbeats 4000000 in
set_option maxRecDepth 100000 in
/-- compareSum -/
theorem gv_m_compareSum (l : Launch) (dC : Nat → ClassId) (dI : Nat → Nat → Nat) (h : Nat → Nat) (d : Nat → ClassId) (sz : Nat) (n : Nat) (L R : Nat → Nat) (fw fd : Nat → Int32) (x y z : Int32) (hg : gv_ok L R) (hn1 : 1 ≤ n) (hn : n ≤ 10) : Met l yX1_compareSum (ws_ yX1_compareSum cX1_compareSum 4 (some .int)) ({ frames := 3, cells := 0, slots := 0, locals := 77 }) (va_Pc [.ref (h 0), .int x, .int y, .int z] (fun U => U.heap.size = sz ∧ va_P (dC, dI) gv_cl (gv_mW h d n L R fw fd) U.heap ∧ va_K (dC, dI) gv_cl (gv_mT d) U ∧ va_D (fun _ => True) (gv_mW h d n L R fw fd))) (va_Qi (fun (r : Int32) (_ : (Nat → Int32) × (Nat → Int32)) => r = gv_csR n L R x y z) (gv_mB dC dI h d n L R (va_A (gv_mW h d n L R fw fd) sz)) (va_A (gv_mW h d n L R fw fd) sz)) 0 0 (va_A (gv_mW h d n L R fw fd) sz) := by
  refine Met.ofW (cc := cX1_compareSum) (maxL := 4) (ret := (some .int)) (by decide) rfl ?_
  intro p e s m args below meth c s₁ B hml hv
  obtain ⟨rfl, hsz, hP, hK, hD0⟩ := hv
  have hx := B.exec
  have hb := B.bytes
  have hr := B.returns
  have hts := atoms_spec (ws := ws_ yX1_compareSum cX1_compareSum 4 (some .int)) B.pre
  have hts : ∀ w ∈ lw_all, w.before _ s = true := fun w h => hts w (List.mem_cons_of_mem _ h)
  have hown : s.vm.findClass RX1 = some m.cls := findClass_of_methodNamed B.named
  have hlocks := B.notSynchronized
  subst hsz
  have hD := hD0.self (sz := s.heap.size)
  generalize hAe : va_A (gv_mW h d n L R fw fd) s.heap.size = A at hD ⊢
  have hA : ∀ q : Nat, s.heap.size ≤ q → A q := fun q h => by rw [← hAe]; exact Or.inr h
  have hS : va_S A s.heap s.heap [] := va_S.rf
  have hP : va_P (dC, dI) gv_cl (gv_mW h d n L R fw fd) s.heap := hP
  have hl := lv_entry ([.ref (h 0), .int x, .int y, .int z]) (n := 4) (Nat.le_of_ble_eq_true rfl)
  rw [lg_entry_eq]
  generalize (lg_sl ([.ref (h 0), .int x, .int y, .int z]) ++ List.replicate (4 - (lg_sl ([.ref (h 0), .int x, .int y, .int z])).length) Slot.unset).toArray = ls at hl ⊢
  have hl : lv_has ls 4 [(0, .ref (h 0)), (1, .int x), (2, .int y), (3, .int z)] := hl
  refine lv_aload_n hx hb dX1_compareSum_0 rfl (lv_at hl 0 rfl) ?_
  have hFc := va_free (wc := gv_mW h d n L R fw fd) hD hS hA [0, 1, 2, 3] rfl
  refine va_callv (va_runV (As := []) (rest := []) ⟨hx, hb, hml, hown, hts⟩ (gv_m_work l dC dI h d _ n L R fw fd hg hn) (cwV 0 hts (lw_V q194 q196 qs10 q18 q197) rfl rfl rfl (by decide +kernel) ⟨Nat.le_of_ble_eq_true rfl, Nat.le_of_ble_eq_true rfl⟩) (gv_preD (ci := 1) hK hP hD rfl rfl) rfl rfl hl.1 rfl (lv_room (Nat.le_of_ble_eq_true rfl)) dX1_compareSum_1 ⟨Nat.le_of_ble_eq_true rfl, Nat.le_of_ble_eq_true rfl⟩) hS (fun q _ h => hFc q h) hFc (fun u t H1 locs ht hvm hw hB hz1 hk1 hS => ?_)
  obtain ⟨fw1, fd1⟩ := u
  obtain ⟨hP1, hK1, hD1⟩ := hB
  rw [ht] at hP1
  have hP : va_P (dC, dI) gv_cl (gv_mW h d n L R fw1 fd1) H1 := hP1
  have hD : va_D A (gv_mW h d n L R fw1 fd1) := hD1.weaken (fun _ q _ h => hFc q.1 h)
  clear hP1 hK1 hD1 hFc
  have ht1 : gv_wtab n L R fw1 := hw
  clear hw
  refine lv_aload_n hx hb dX1_compareSum_4 rfl (lv_at hl 0 rfl) ?_
  refine lv_iload_n hx hb dX1_compareSum_5 rfl (lv_at hl 1 rfl) ?_
  refine vp_callSi (W.runV (As := [.int x]) (rest := []) ⟨hx, hb, hml, hown, hts⟩ (gv_m_is l dC dI h d n L R fw1 fd1 x) (cwV 1 hts (lw_V q186 q188 qs9 q18 q189) rfl rfl rfl (by decide +kernel) ⟨Nat.le_of_ble_eq_true rfl, Nat.le_of_ble_eq_true rfl⟩) (gv_preV (ci := 1) hK hP rfl rfl) rfl rfl hl.1 rfl (lv_room (Nat.le_of_ble_eq_true rfl)) dX1_compareSum_6 ⟨Nat.le_of_ble_eq_true rfl, Nat.le_of_ble_eq_true rfl⟩) (fun r er => ?_)
  subst er
  refine lv_if_eq (tgt := 77) hx hb dX1_compareSum_9 (by decide) (fun c1 => ?_) (fun c1 => ?_)
  · refine lv_iconst (v := (-1)) hx hb dX1_compareSum_77 (by decide) ?_
    exact W.iret (v := (-1)) hx hb hr (fun t ht hW => ⟨⟨(-1), (fw1, fd1), rfl, (gv_csR_f (by rw [gv_z0 c1]; rfl)).symm, by rw [ht]; exact hP, va_K.moved hW.alike hK, hD⟩, hS.F ht⟩) hS.2.2 dX1_compareSum_78
  · refine lv_aload_n hx hb dX1_compareSum_12 rfl (lv_at hl 0 rfl) ?_
    refine lv_iload_n hx hb dX1_compareSum_13 rfl (lv_at hl 2 rfl) ?_
    refine vp_callSi (W.runV (As := [.int y]) (rest := []) ⟨hx, hb, hml, hown, hts⟩ (gv_m_is l dC dI h d n L R fw1 fd1 y) (cwV 1 hts (lw_V q186 q188 qs9 q18 q189) rfl rfl rfl (by decide +kernel) ⟨Nat.le_of_ble_eq_true rfl, Nat.le_of_ble_eq_true rfl⟩) (gv_preV (ci := 1) hK hP rfl rfl) rfl rfl hl.1 rfl (lv_room (Nat.le_of_ble_eq_true rfl)) dX1_compareSum_14 ⟨Nat.le_of_ble_eq_true rfl, Nat.le_of_ble_eq_true rfl⟩) (fun r er => ?_)
    subst er
    refine lv_if_eq (tgt := 77) hx hb dX1_compareSum_17 (by decide) (fun c2 => ?_) (fun c2 => ?_)
    · refine lv_iconst (v := (-1)) hx hb dX1_compareSum_77 (by decide) ?_
      exact W.iret (v := (-1)) hx hb hr (fun t ht hW => ⟨⟨(-1), (fw1, fd1), rfl, (gv_csR_f (by rw [gv_z0 c2, Bool.and_false]; rfl)).symm, by rw [ht]; exact hP, va_K.moved hW.alike hK, hD⟩, hS.F ht⟩) hS.2.2 dX1_compareSum_78
    · refine lv_aload_n hx hb dX1_compareSum_20 rfl (lv_at hl 0 rfl) ?_
      refine lv_iload_n hx hb dX1_compareSum_21 rfl (lv_at hl 3 rfl) ?_
      refine vp_callSi (W.runV (As := [.int z]) (rest := []) ⟨hx, hb, hml, hown, hts⟩ (gv_m_is l dC dI h d n L R fw1 fd1 z) (cwV 1 hts (lw_V q186 q188 qs9 q18 q189) rfl rfl rfl (by decide +kernel) ⟨Nat.le_of_ble_eq_true rfl, Nat.le_of_ble_eq_true rfl⟩) (gv_preV (ci := 1) hK hP rfl rfl) rfl rfl hl.1 rfl (lv_room (Nat.le_of_ble_eq_true rfl)) dX1_compareSum_22 ⟨Nat.le_of_ble_eq_true rfl, Nat.le_of_ble_eq_true rfl⟩) (fun r er => ?_)
      subst er
      refine lv_if_eq (tgt := 77) hx hb dX1_compareSum_25 (by decide) (fun c3 => ?_) (fun c3 => ?_)
      · refine lv_iconst (v := (-1)) hx hb dX1_compareSum_77 (by decide) ?_
        exact W.iret (v := (-1)) hx hb hr (fun t ht hW => ⟨⟨(-1), (fw1, fd1), rfl, (gv_csR_f (by rw [gv_z0 c3, Bool.and_false])).symm, by rw [ht]; exact hP, va_K.moved hW.alike hK, hD⟩, hS.F ht⟩) hS.2.2 dX1_compareSum_78
      · have q1 := gv_z1 c1
        have q2 := gv_z1 c2
        have q3 := gv_z1 c3
        clear c1 c2 c3
        obtain ⟨k1, j1, rfl⟩ := gv_hT q1 (by omega)
        obtain ⟨k2, j2, rfl⟩ := gv_hT q2 (by omega)
        obtain ⟨k3, j3, rfl⟩ := gv_hT q3 (by omega)
        refine lv_aload_n hx hb dX1_compareSum_28 rfl (lv_at hl 0 rfl) ?_
        refine lv_aload_n hx hb dX1_compareSum_29 rfl (lv_at hl 0 rfl) ?_
        refine va_get (D := (dC, dI)) (ci := 1) (v := .ref (h 2)) (C := RX1) (T := TX1) (N := 4) hx hb hts in_X1 hown hK hP 0 rfl rfl 2 (by decide) (hts _ q158) (fun _ h9 => h9) rfl dX1_compareSum_30 ?_
        refine lv_aload_n hx hb dX1_compareSum_33 rfl (lv_at hl 0 rfl) ?_
        refine lv_iload_n hx hb dX1_compareSum_34 rfl (lv_at hl 1 rfl) ?_
        refine lv_iload_n hx hb dX1_compareSum_35 rfl (lv_at hl 2 rfl) ?_
        refine lv_iload_n hx hb dX1_compareSum_36 rfl (lv_at hl 3 rfl) ?_
        refine lv_iconst (v := nI 1) hx hb dX1_compareSum_37 (by decide) ?_
        refine vp_callSi (W.runV (As := [.int (nI k1), .int (nI k2), .int (nI k3), .int (nI 1)]) (rest := [.ref (h 2), .ref (h 0)]) ⟨hx, hb, hml, hown, hts⟩ (gv_m_cell l dC dI h d n L R fw1 fd1 k1 k2 k3 1) (cwV 4 hts (lw_V q198 q200 qs11 q18 q201) rfl rfl rfl (by decide +kernel) ⟨Nat.le_of_ble_eq_true rfl, Nat.le_of_ble_eq_true rfl⟩) (gv_preV (ci := 1) hK hP rfl rfl) rfl rfl hl.1 rfl (lv_room (Nat.le_of_ble_eq_true rfl)) dX1_compareSum_38 ⟨Nat.le_of_ble_eq_true rfl, Nat.le_of_ble_eq_true rfl⟩) (fun r er => ?_)
        subst er
        refine va_zald hx hb hK hP 2 1 rfl rfl (vp_in_nI (n := 200 * k1 + 20 * k2 + 2 * k3 + 1) (by omega) (by decide)) dX1_compareSum_41 ?_
        refine gv_top (y := gv_z (gv_win L R 1 k1 k2 k3)) ((gv_ld fw1 (e := 200 * k1 + 20 * k2 + 2 * k3 + 1) (by omega)).trans (ht1 k1 k2 k3 1 j1 j2 j3 (by decide))) ?_
        refine gv_mid (g1 := F0 m 50 ls [.int (gv_z (!gv_win L R 1 k1 k2 k3)), .ref (h 0)]) ?_ (fun K50 => ?_)
        · refine lv_aload_n hx hb dX1_compareSum_50 rfl (lv_at hl 0 rfl) ?_
          refine va_get (D := (dC, dI)) (ci := 1) (v := .ref (h 2)) (C := RX1) (T := TX1) (N := 4) hx hb hts in_X1 hown hK hP 0 rfl rfl 2 (by decide) (hts _ q158) (fun _ h9 => h9) rfl dX1_compareSum_51 ?_
          refine lv_aload_n hx hb dX1_compareSum_54 rfl (lv_at hl 0 rfl) ?_
          refine lv_iload_n hx hb dX1_compareSum_55 rfl (lv_at hl 1 rfl) ?_
          refine lv_iload_n hx hb dX1_compareSum_56 rfl (lv_at hl 2 rfl) ?_
          refine lv_iload_n hx hb dX1_compareSum_57 rfl (lv_at hl 3 rfl) ?_
          refine lv_iconst (v := nI 0) hx hb dX1_compareSum_58 (by decide) ?_
          refine vp_callSi (W.runV (As := [.int (nI k1), .int (nI k2), .int (nI k3), .int (nI 0)]) (rest := [.ref (h 2), .int (gv_z (!gv_win L R 1 k1 k2 k3)), .ref (h 0)]) ⟨hx, hb, hml, hown, hts⟩ (gv_m_cell l dC dI h d n L R fw1 fd1 k1 k2 k3 0) (cwV 4 hts (lw_V q198 q200 qs11 q18 q201) rfl rfl rfl (by decide +kernel) ⟨Nat.le_of_ble_eq_true rfl, Nat.le_of_ble_eq_true rfl⟩) (gv_preV (ci := 1) hK hP rfl rfl) rfl rfl hl.1 rfl (lv_room (Nat.le_of_ble_eq_true rfl)) dX1_compareSum_59 ⟨Nat.le_of_ble_eq_true rfl, Nat.le_of_ble_eq_true rfl⟩) (fun r er => ?_)
          subst er
          refine va_zald hx hb hK hP 2 1 rfl rfl (vp_in_nI (n := 200 * k1 + 20 * k2 + 2 * k3 + 0) (by omega) (by decide)) dX1_compareSum_62 ?_
          refine gv_top (y := gv_z (gv_win L R 0 k1 k2 k3)) ((gv_ld fw1 (e := 200 * k1 + 20 * k2 + 2 * k3 + 0) (by omega)).trans (ht1 k1 k2 k3 0 j1 j2 j3 (by decide))) ?_
          refine gv_mid (g1 := F0 m 71 ls [.int (gv_z (!gv_win L R 0 k1 k2 k3)), .int (gv_z (!gv_win L R 1 k1 k2 k3)), .ref (h 0)]) ?_ (fun K71 => ?_)
          · refine vp_callSi (W.runV (As := [.int (gv_z (!gv_win L R 1 k1 k2 k3)), .int (gv_z (!gv_win L R 0 k1 k2 k3))]) (rest := []) ⟨hx, hb, hml, hown, hts⟩ (gv_m_stands l dC dI h d n L R fw1 fd1 (!gv_win L R 1 k1 k2 k3) (!gv_win L R 0 k1 k2 k3)) (cwV 2 hts (lw_V q210 q212 qs14 q18 q213) rfl rfl rfl (by decide +kernel) ⟨Nat.le_of_ble_eq_true rfl, Nat.le_of_ble_eq_true rfl⟩) (gv_preV (ci := 1) hK hP rfl rfl) rfl rfl hl.1 rfl (lv_room (Nat.le_of_ble_eq_true rfl)) dX1_compareSum_71 ⟨Nat.le_of_ble_eq_true rfl, Nat.le_of_ble_eq_true rfl⟩) (fun r er => ?_)
            subst er
            refine lv_goto (tgt := 78) hx hb dX1_compareSum_74 (by decide) ?_
            exact W.iret (v := (gv_st (!gv_win L R 1 k1 k2 k3) (!gv_win L R 0 k1 k2 k3))) hx hb hr (fun t ht hW => ⟨⟨(gv_st (!gv_win L R 1 k1 k2 k3) (!gv_win L R 0 k1 k2 k3)), (fw1, fd1), rfl, (gv_csR_t q1 q2 q3 (by omega) (by omega) (by omega)).symm, by rw [ht]; exact hP, va_K.moved hW.alike hK, hD⟩, hS.F ht⟩) hS.2.2 dX1_compareSum_78
          · refine lv_if_ne (tgt := 70) hx hb dX1_compareSum_63 (by decide) (fun d2 => ?_) (fun d2 => ?_)
            · refine lv_iconst (v := nI 0) hx hb dX1_compareSum_70 (by decide) ?_
              exact gv_top (gv_a0 (by rw [gv_z1 d2]; rfl)) K71
            · refine lv_iconst (v := nI 1) hx hb dX1_compareSum_66 (by decide) ?_
              refine lv_goto (tgt := 71) hx hb dX1_compareSum_67 (by decide) ?_
              exact gv_top (gv_a1 (by rw [gv_z0 d2]; rfl)) K71
        · refine lv_if_ne (tgt := 49) hx hb dX1_compareSum_42 (by decide) (fun d1 => ?_) (fun d1 => ?_)
          · refine lv_iconst (v := nI 0) hx hb dX1_compareSum_49 (by decide) ?_
            exact gv_top (gv_a0 (by rw [gv_z1 d1]; rfl)) K50
          · refine lv_iconst (v := nI 1) hx hb dX1_compareSum_45 (by decide) ?_
            refine lv_goto (tgt := 50) hx hb dX1_compareSum_46 (by decide) ?_
            exact gv_top (gv_a1 (by rw [gv_z0 d1]; rfl)) K50
set_option maxHeartbeats 4000000 in
set_option maxRecDepth 100000 in
/-- opposite -/
theorem gv_m_opposite (l : Launch) (dC : Nat → ClassId) (dI : Nat → Nat → Nat) (h : Nat → Nat) (d : Nat → ClassId) (sz : Nat) (n : Nat) (L R : Nat → Nat) (fw fd : Nat → Int32) (x y : Int32) (hg : gv_ok L R) (hn1 : 1 ≤ n) (hn : n ≤ 10) : Met l yX1_opposite (ws_ yX1_opposite cX1_opposite 3 (some .boolean)) ({ frames := 3, cells := 0, slots := 0, locals := 77 }) (va_Pc [.ref (h 0), .int x, .int y] (fun U => U.heap.size = sz ∧ va_P (dC, dI) gv_cl (gv_mW h d n L R fw fd) U.heap ∧ va_K (dC, dI) gv_cl (gv_mT d) U ∧ va_D (fun _ => True) (gv_mW h d n L R fw fd))) (va_Qi (fun (r : Int32) (_ : (Nat → Int32) × (Nat → Int32)) => r = gv_z (gv_opR n L R x y)) (gv_mB dC dI h d n L R (va_A (gv_mW h d n L R fw fd) sz)) (va_A (gv_mW h d n L R fw fd) sz)) 0 0 (va_A (gv_mW h d n L R fw fd) sz) := by
  refine Met.ofW (cc := cX1_opposite) (maxL := 3) (ret := (some .boolean)) (by decide) rfl ?_
  intro p e s m args below meth c s₁ B hml hv
  obtain ⟨rfl, hsz, hP, hK, hD0⟩ := hv
  have hx := B.exec
  have hb := B.bytes
  have hr := B.returns
  have hts := atoms_spec (ws := ws_ yX1_opposite cX1_opposite 3 (some .boolean)) B.pre
  have hts : ∀ w ∈ lw_all, w.before _ s = true := fun w h => hts w (List.mem_cons_of_mem _ h)
  have hown : s.vm.findClass RX1 = some m.cls := findClass_of_methodNamed B.named
  have hlocks := B.notSynchronized
  subst hsz
  have hD := hD0.self (sz := s.heap.size)
  generalize hAe : va_A (gv_mW h d n L R fw fd) s.heap.size = A at hD ⊢
  have hA : ∀ q : Nat, s.heap.size ≤ q → A q := fun q h => by rw [← hAe]; exact Or.inr h
  have hS : va_S A s.heap s.heap [] := va_S.rf
  have hP : va_P (dC, dI) gv_cl (gv_mW h d n L R fw fd) s.heap := hP
  have hl := lv_entry ([.ref (h 0), .int x, .int y]) (n := 3) (Nat.le_of_ble_eq_true rfl)
  rw [lg_entry_eq]
  generalize (lg_sl ([.ref (h 0), .int x, .int y]) ++ List.replicate (3 - (lg_sl ([.ref (h 0), .int x, .int y])).length) Slot.unset).toArray = ls at hl ⊢
  have hl : lv_has ls 3 [(0, .ref (h 0)), (1, .int x), (2, .int y)] := hl
  refine lv_aload_n hx hb dX1_opposite_0 rfl (lv_at hl 0 rfl) ?_
  have hFc := va_free (wc := gv_mW h d n L R fw fd) hD hS hA [0, 1, 2, 3] rfl
  refine va_callv (va_runV (As := []) (rest := []) ⟨hx, hb, hml, hown, hts⟩ (gv_m_work l dC dI h d _ n L R fw fd hg hn) (cwV 0 hts (lw_V q194 q196 qs10 q18 q197) rfl rfl rfl (by decide +kernel) ⟨Nat.le_of_ble_eq_true rfl, Nat.le_of_ble_eq_true rfl⟩) (gv_preD (ci := 1) hK hP hD rfl rfl) rfl rfl hl.1 rfl (lv_room (Nat.le_of_ble_eq_true rfl)) dX1_opposite_1 ⟨Nat.le_of_ble_eq_true rfl, Nat.le_of_ble_eq_true rfl⟩) hS (fun q _ h => hFc q h) hFc (fun u t H1 locs ht hvm hw hB hz1 hk1 hS => ?_)
  obtain ⟨fw1, fd1⟩ := u
  obtain ⟨hP1, hK1, hD1⟩ := hB
  rw [ht] at hP1
  have hP : va_P (dC, dI) gv_cl (gv_mW h d n L R fw1 fd1) H1 := hP1
  have hD : va_D A (gv_mW h d n L R fw1 fd1) := hD1.weaken (fun _ q _ h => hFc q.1 h)
  clear hP1 hK1 hD1 hFc
  have ht1 : gv_wtab n L R fw1 := hw
  clear hw
  refine lv_aload_n hx hb dX1_opposite_4 rfl (lv_at hl 0 rfl) ?_
  refine lv_iload_n hx hb dX1_opposite_5 rfl (lv_at hl 1 rfl) ?_
  refine vp_callSi (W.runV (As := [.int x]) (rest := []) ⟨hx, hb, hml, hown, hts⟩ (gv_m_is l dC dI h d n L R fw1 fd1 x) (cwV 1 hts (lw_V q186 q188 qs9 q18 q189) rfl rfl rfl (by decide +kernel) ⟨Nat.le_of_ble_eq_true rfl, Nat.le_of_ble_eq_true rfl⟩) (gv_preV (ci := 1) hK hP rfl rfl) rfl rfl hl.1 rfl (lv_room (Nat.le_of_ble_eq_true rfl)) dX1_opposite_6 ⟨Nat.le_of_ble_eq_true rfl, Nat.le_of_ble_eq_true rfl⟩) (fun r er => ?_)
  subst er
  refine lv_if_eq (tgt := 56) hx hb dX1_opposite_9 (by decide) (fun c1 => ?_) (fun c1 => ?_)
  · refine lv_iconst (v := nI 0) hx hb dX1_opposite_56 (by decide) ?_
    exact W.zret (v := nI 0) hx hb hr (rfl) (fun t ht hW => ⟨⟨nI 0, (fw1, fd1), rfl, gv_a0 (gv_opR_f (by rw [gv_z0 c1]; rfl)), by rw [ht]; exact hP, va_K.moved hW.alike hK, hD⟩, hS.F ht⟩) hS.2.2 dX1_opposite_57
  · refine lv_aload_n hx hb dX1_opposite_12 rfl (lv_at hl 0 rfl) ?_
    refine lv_iload_n hx hb dX1_opposite_13 rfl (lv_at hl 2 rfl) ?_
    refine vp_callSi (W.runV (As := [.int y]) (rest := []) ⟨hx, hb, hml, hown, hts⟩ (gv_m_is l dC dI h d n L R fw1 fd1 y) (cwV 1 hts (lw_V q186 q188 qs9 q18 q189) rfl rfl rfl (by decide +kernel) ⟨Nat.le_of_ble_eq_true rfl, Nat.le_of_ble_eq_true rfl⟩) (gv_preV (ci := 1) hK hP rfl rfl) rfl rfl hl.1 rfl (lv_room (Nat.le_of_ble_eq_true rfl)) dX1_opposite_14 ⟨Nat.le_of_ble_eq_true rfl, Nat.le_of_ble_eq_true rfl⟩) (fun r er => ?_)
    subst er
    refine lv_if_eq (tgt := 56) hx hb dX1_opposite_17 (by decide) (fun c2 => ?_) (fun c2 => ?_)
    · refine lv_iconst (v := nI 0) hx hb dX1_opposite_56 (by decide) ?_
      exact W.zret (v := nI 0) hx hb hr (rfl) (fun t ht hW => ⟨⟨nI 0, (fw1, fd1), rfl, gv_a0 (gv_opR_f (by rw [gv_z0 c2, Bool.and_false])), by rw [ht]; exact hP, va_K.moved hW.alike hK, hD⟩, hS.F ht⟩) hS.2.2 dX1_opposite_57
    · have q1 := gv_z1 c1
      have q2 := gv_z1 c2
      clear c1 c2
      obtain ⟨k1, j1, rfl⟩ := gv_hT q1 (by omega)
      obtain ⟨k2, j2, rfl⟩ := gv_hT q2 (by omega)
      have eR := gv_opR_t (L := L) (R := R) q1 q2 (by omega) (by omega)
      refine lv_aload_n hx hb dX1_opposite_20 rfl (lv_at hl 0 rfl) ?_
      refine va_get (D := (dC, dI)) (ci := 1) (v := .ref (h 2)) (C := RX1) (T := TX1) (N := 4) hx hb hts in_X1 hown hK hP 0 rfl rfl 2 (by decide) (hts _ q158) (fun _ h9 => h9) rfl dX1_opposite_21 ?_
      refine lv_aload_n hx hb dX1_opposite_24 rfl (lv_at hl 0 rfl) ?_
      refine lv_iload_n hx hb dX1_opposite_25 rfl (lv_at hl 1 rfl) ?_
      refine lv_iload_n hx hb dX1_opposite_26 rfl (lv_at hl 2 rfl) ?_
      refine lv_iconst (v := nI 0) hx hb dX1_opposite_27 (by decide) ?_
      refine lv_iconst (v := nI 0) hx hb dX1_opposite_28 (by decide) ?_
      refine vp_callSi (W.runV (As := [.int (nI k1), .int (nI k2), .int (nI 0), .int (nI 0)]) (rest := [.ref (h 2)]) ⟨hx, hb, hml, hown, hts⟩ (gv_m_cell l dC dI h d n L R fw1 fd1 k1 k2 0 0) (cwV 4 hts (lw_V q198 q200 qs11 q18 q201) rfl rfl rfl (by decide +kernel) ⟨Nat.le_of_ble_eq_true rfl, Nat.le_of_ble_eq_true rfl⟩) (gv_preV (ci := 1) hK hP rfl rfl) rfl rfl hl.1 rfl (lv_room (Nat.le_of_ble_eq_true rfl)) dX1_opposite_29 ⟨Nat.le_of_ble_eq_true rfl, Nat.le_of_ble_eq_true rfl⟩) (fun r er => ?_)
      subst er
      refine va_zald hx hb hK hP 2 1 rfl rfl (vp_in_nI (n := 200 * k1 + 20 * k2 + 2 * 0 + 0) (by omega) (by decide)) dX1_opposite_32 ?_
      refine gv_top (y := gv_z (gv_win L R 0 k1 k2 0)) ((gv_ld fw1 (e := 200 * k1 + 20 * k2 + 2 * 0 + 0) (by omega)).trans (ht1 k1 k2 0 0 j1 j2 (by omega) (by decide))) ?_
      refine lv_if_ne (tgt := 56) hx hb dX1_opposite_33 (by decide) (fun d1 => ?_) (fun d1 => ?_)
      · refine lv_iconst (v := nI 0) hx hb dX1_opposite_56 (by decide) ?_
        exact W.zret (v := nI 0) hx hb hr (rfl) (fun t ht hW => ⟨⟨nI 0, (fw1, fd1), rfl, gv_a0 (by rw [eR, gv_z1 d1]; rfl), by rw [ht]; exact hP, va_K.moved hW.alike hK, hD⟩, hS.F ht⟩) hS.2.2 dX1_opposite_57
      · refine lv_aload_n hx hb dX1_opposite_36 rfl (lv_at hl 0 rfl) ?_
        refine va_get (D := (dC, dI)) (ci := 1) (v := .ref (h 2)) (C := RX1) (T := TX1) (N := 4) hx hb hts in_X1 hown hK hP 0 rfl rfl 2 (by decide) (hts _ q158) (fun _ h9 => h9) rfl dX1_opposite_37 ?_
        refine lv_aload_n hx hb dX1_opposite_40 rfl (lv_at hl 0 rfl) ?_
        refine lv_iload_n hx hb dX1_opposite_41 rfl (lv_at hl 1 rfl) ?_
        refine lv_iload_n hx hb dX1_opposite_42 rfl (lv_at hl 2 rfl) ?_
        refine lv_iconst (v := nI 0) hx hb dX1_opposite_43 (by decide) ?_
        refine lv_iconst (v := nI 1) hx hb dX1_opposite_44 (by decide) ?_
        refine vp_callSi (W.runV (As := [.int (nI k1), .int (nI k2), .int (nI 0), .int (nI 1)]) (rest := [.ref (h 2)]) ⟨hx, hb, hml, hown, hts⟩ (gv_m_cell l dC dI h d n L R fw1 fd1 k1 k2 0 1) (cwV 4 hts (lw_V q198 q200 qs11 q18 q201) rfl rfl rfl (by decide +kernel) ⟨Nat.le_of_ble_eq_true rfl, Nat.le_of_ble_eq_true rfl⟩) (gv_preV (ci := 1) hK hP rfl rfl) rfl rfl hl.1 rfl (lv_room (Nat.le_of_ble_eq_true rfl)) dX1_opposite_45 ⟨Nat.le_of_ble_eq_true rfl, Nat.le_of_ble_eq_true rfl⟩) (fun r er => ?_)
        subst er
        refine va_zald hx hb hK hP 2 1 rfl rfl (vp_in_nI (n := 200 * k1 + 20 * k2 + 2 * 0 + 1) (by omega) (by decide)) dX1_opposite_48 ?_
        refine gv_top (y := gv_z (gv_win L R 1 k1 k2 0)) ((gv_ld fw1 (e := 200 * k1 + 20 * k2 + 2 * 0 + 1) (by omega)).trans (ht1 k1 k2 0 1 j1 j2 (by omega) (by decide))) ?_
        refine lv_if_ne (tgt := 56) hx hb dX1_opposite_49 (by decide) (fun d2 => ?_) (fun d2 => ?_)
        · refine lv_iconst (v := nI 0) hx hb dX1_opposite_56 (by decide) ?_
          exact W.zret (v := nI 0) hx hb hr (rfl) (fun t ht hW => ⟨⟨nI 0, (fw1, fd1), rfl, gv_a0 (by rw [eR, gv_z1 d2, Bool.not_true, Bool.and_false]), by rw [ht]; exact hP, va_K.moved hW.alike hK, hD⟩, hS.F ht⟩) hS.2.2 dX1_opposite_57
        · refine lv_iconst (v := nI 1) hx hb dX1_opposite_52 (by decide) ?_
          refine lv_goto (tgt := 57) hx hb dX1_opposite_53 (by decide) ?_
          exact W.zret (v := nI 1) hx hb hr (rfl) (fun t ht hW => ⟨⟨nI 1, (fw1, fd1), rfl, gv_a1 (by rw [eR, gv_z0 d1, gv_z0 d2]; rfl), by rw [ht]; exact hP, va_K.moved hW.alike hK, hD⟩, hS.F ht⟩) hS.2.2 dX1_opposite_57
set_option maxHeartbeats 4000000 in
set_option maxRecDepth 100000 in
/-- noBetter -/
theorem gv_m_noBetter (l : Launch) (dC : Nat → ClassId) (dI : Nat → Nat → Nat) (h : Nat → Nat) (d : Nat → ClassId) (n : Nat) (L R : Nat → Nat) (fw fd : Nat → Int32) (a1 a2 s1 : Nat) (hn : n ≤ 10) (h1 : a1 < n) (h2 : a2 < n) (hs : s1 < 2) (ht1 : gv_wtab n L R fw) : Met l yX1_noBetter (ws_ yX1_noBetter cX1_noBetter 6 (some .boolean)) ({ frames := 2, cells := 0, slots := 0, locals := 46 }) (va_Pc [.ref (h 0), .int (nI a1), .int (nI a2), .int (nI s1)] (fun U => va_P (dC, dI) gv_cl (gv_mW h d n L R fw fd) U.heap ∧ va_K (dC, dI) gv_cl (gv_mT d) U)) (vp_Si (fun r => r = gv_z (gv_ag L R s1 a2 a1 && (decide (a2 < a1) || !gv_ag L R s1 a1 a2)))) 0 0 (fun _ => False) := by
  refine Met.ofW (cc := cX1_noBetter) (maxL := 6) (ret := (some .boolean)) (by decide) rfl ?_
  intro p e s m args below meth c s₁ B hml hv
  obtain ⟨rfl, hP, hK⟩ := hv
  have hx := B.exec
  have hb := B.bytes
  have hr := B.returns
  have hts := atoms_spec (ws := ws_ yX1_noBetter cX1_noBetter 6 (some .boolean)) B.pre
  have hts : ∀ w ∈ lw_all, w.before _ s = true := fun w h => hts w (List.mem_cons_of_mem _ h)
  have hown : s.vm.findClass RX1 = some m.cls := findClass_of_methodNamed B.named
  have hlocks := B.notSynchronized
  have hl := lv_entry ([.ref (h 0), .int (nI a1), .int (nI a2), .int (nI s1)]) (n := 6) (Nat.le_of_ble_eq_true rfl)
  rw [lg_entry_eq]
  generalize (lg_sl ([.ref (h 0), .int (nI a1), .int (nI a2), .int (nI s1)]) ++ List.replicate (6 - (lg_sl ([.ref (h 0), .int (nI a1), .int (nI a2), .int (nI s1)])).length) Slot.unset).toArray = ls at hl ⊢
  have hl : lv_has ls 6 [(0, .ref (h 0)), (1, .int (nI a1)), (2, .int (nI a2)), (3, .int (nI s1))] := hl
  refine gv_mid (g1 := F0 m 19 ls [.int (gv_z (gv_ag L R s1 a2 a1))]) ?_ (fun K19 => ?_)
  · refine lv_istore (lv' := [(4, .int (gv_z (gv_ag L R s1 a2 a1))), (0, .ref (h 0)), (1, .int (nI a1)), (2, .int (nI a2)), (3, .int (nI s1))]) hx hb dX1_noBetter_19 hl (by decide) rfl (fun ls hl => ?_)
    refine gv_mid (g1 := F0 m 40 ls [.int (gv_z (gv_ag L R s1 a1 a2))]) ?_ (fun K40 => ?_)
    · refine lv_istore (lv' := [(5, .int (gv_z (gv_ag L R s1 a1 a2))), (4, .int (gv_z (gv_ag L R s1 a2 a1))), (0, .ref (h 0)), (1, .int (nI a1)), (2, .int (nI a2)), (3, .int (nI s1))]) hx hb dX1_noBetter_40 hl (by decide) rfl (fun ls hl => ?_)
      refine lv_iload hx hb dX1_noBetter_42 (lv_at hl 1 rfl) ?_
      refine lv_if_eq (tgt := 61) hx hb dX1_noBetter_44 (by decide) (fun c2 => ?_) (fun c2 => ?_)
      · refine lv_iconst (v := nI 0) hx hb dX1_noBetter_61 (by decide) ?_
        exact W.zret (v := nI 0) hx hb hr (rfl) (fun t ht hW => ⟨_, rfl, gv_a0 (by rw [gv_z0 c2]; rfl), ht⟩) (fun _ h => nomatch h) dX1_noBetter_62
      · refine lv_iload hx hb dX1_noBetter_47 (lv_at hl 0 rfl) ?_
        refine lv_if_eq (tgt := 57) hx hb dX1_noBetter_49 (by decide) (fun c3 => ?_) (fun c3 => ?_)
        · refine lv_iconst (v := nI 1) hx hb dX1_noBetter_57 (by decide) ?_
          refine lv_goto (tgt := 62) hx hb dX1_noBetter_58 (by decide) ?_
          exact W.zret (v := nI 1) hx hb hr (rfl) (fun t ht hW => ⟨_, rfl, gv_a1 (by rw [gv_z1 c2, gv_z0 c3, Bool.not_false, Bool.or_true]; rfl), ht⟩) (fun _ h => nomatch h) dX1_noBetter_62
        · refine lv_iload_n hx hb dX1_noBetter_52 rfl (lv_at hl 4 rfl) ?_
          refine lv_iload_n hx hb dX1_noBetter_53 rfl (lv_at hl 3 rfl) ?_
          refine lv_icmp_ge (tgt := 61) hx hb dX1_noBetter_54 (by decide) (fun c4 => ?_) (fun c4 => ?_)
          · refine lv_iconst (v := nI 0) hx hb dX1_noBetter_61 (by decide) ?_
            exact W.zret (v := nI 0) hx hb hr (rfl) (fun t ht hW => ⟨_, rfl, gv_a0 (by rw [gv_z1 c3, decide_eq_false (fun z => absurd c4 (nI_ge z (by omega)))]; exact Bool.and_false _), ht⟩) (fun _ h => nomatch h) dX1_noBetter_62
          · refine lv_iconst (v := nI 1) hx hb dX1_noBetter_57 (by decide) ?_
            refine lv_goto (tgt := 62) hx hb dX1_noBetter_58 (by decide) ?_
            exact W.zret (v := nI 1) hx hb hr (rfl) (fun t ht hW => ⟨_, rfl, gv_a1 (by rw [gv_z1 c2, decide_eq_true (Nat.not_le.mp (fun z => c4 (nI_le z (by omega))))]; rfl), ht⟩) (fun _ h => nomatch h) dX1_noBetter_62
    · refine lv_iload_n hx hb dX1_noBetter_21 rfl (lv_at hl 4 rfl) ?_
      refine lv_if_ne (tgt := 34) hx hb dX1_noBetter_22 (by decide) (fun c1 => ?_) (fun c1 => ?_)
      · refine lv_aload_n hx hb dX1_noBetter_34 rfl (lv_at hl 1 rfl) ?_
        refine lv_iload_n hx hb dX1_noBetter_35 rfl (lv_at hl 3 rfl) ?_
        refine lv_iload_n hx hb dX1_noBetter_36 rfl (lv_at hl 2 rfl) ?_
        refine vp_callSi (W.runV (As := [.int (nI a2), .int (nI a1)]) (rest := []) ⟨hx, hb, hml, hown, hts⟩ (gv_m_least l dC dI h d n L R fw fd a2 a1 hn h2 h1 ht1) (cwV 2 hts (lw_V q206 q208 qs13 q18 q209) rfl rfl rfl (by decide +kernel) ⟨Nat.le_of_ble_eq_true rfl, Nat.le_of_ble_eq_true rfl⟩) (gv_preV (ci := 1) hK hP rfl rfl) rfl rfl hl.1 rfl (lv_room (Nat.le_of_ble_eq_true rfl)) dX1_noBetter_37 ⟨Nat.le_of_ble_eq_true rfl, Nat.le_of_ble_eq_true rfl⟩) (fun r er => ?_)
        subst er
        exact gv_top (gv_zeq (by rw [gv_n1 hs c1]; rfl)) K40
      · refine lv_aload_n hx hb dX1_noBetter_25 rfl (lv_at hl 1 rfl) ?_
        refine lv_iload_n hx hb dX1_noBetter_26 rfl (lv_at hl 2 rfl) ?_
        refine lv_iload_n hx hb dX1_noBetter_27 rfl (lv_at hl 3 rfl) ?_
        refine vp_callSi (W.runV (As := [.int (nI a1), .int (nI a2)]) (rest := []) ⟨hx, hb, hml, hown, hts⟩ (gv_m_least l dC dI h d n L R fw fd a1 a2 hn h1 h2 ht1) (cwV 2 hts (lw_V q206 q208 qs13 q18 q209) rfl rfl rfl (by decide +kernel) ⟨Nat.le_of_ble_eq_true rfl, Nat.le_of_ble_eq_true rfl⟩) (gv_preV (ci := 1) hK hP rfl rfl) rfl rfl hl.1 rfl (lv_room (Nat.le_of_ble_eq_true rfl)) dX1_noBetter_28 ⟨Nat.le_of_ble_eq_true rfl, Nat.le_of_ble_eq_true rfl⟩) (fun r er => ?_)
        subst er
        refine lv_goto (tgt := 40) hx hb dX1_noBetter_31 (by decide) ?_
        exact gv_top (gv_zeq (by rw [gv_n0 hs c1]; rfl)) K40
  · refine lv_iload_n hx hb dX1_noBetter_0 rfl (lv_at hl 3 rfl) ?_
    refine lv_if_ne (tgt := 13) hx hb dX1_noBetter_1 (by decide) (fun c1 => ?_) (fun c1 => ?_)
    · refine lv_aload_n hx hb dX1_noBetter_13 rfl (lv_at hl 0 rfl) ?_
      refine lv_iload_n hx hb dX1_noBetter_14 rfl (lv_at hl 1 rfl) ?_
      refine lv_iload_n hx hb dX1_noBetter_15 rfl (lv_at hl 2 rfl) ?_
      refine vp_callSi (W.runV (As := [.int (nI a1), .int (nI a2)]) (rest := []) ⟨hx, hb, hml, hown, hts⟩ (gv_m_least l dC dI h d n L R fw fd a1 a2 hn h1 h2 ht1) (cwV 2 hts (lw_V q206 q208 qs13 q18 q209) rfl rfl rfl (by decide +kernel) ⟨Nat.le_of_ble_eq_true rfl, Nat.le_of_ble_eq_true rfl⟩) (gv_preV (ci := 1) hK hP rfl rfl) rfl rfl hl.1 rfl (lv_room (Nat.le_of_ble_eq_true rfl)) dX1_noBetter_16 ⟨Nat.le_of_ble_eq_true rfl, Nat.le_of_ble_eq_true rfl⟩) (fun r er => ?_)
      subst er
      exact gv_top (gv_zeq (by rw [gv_n1 hs c1]; rfl)) K19
    · refine lv_aload_n hx hb dX1_noBetter_4 rfl (lv_at hl 0 rfl) ?_
      refine lv_iload_n hx hb dX1_noBetter_5 rfl (lv_at hl 2 rfl) ?_
      refine lv_iload_n hx hb dX1_noBetter_6 rfl (lv_at hl 1 rfl) ?_
      refine vp_callSi (W.runV (As := [.int (nI a2), .int (nI a1)]) (rest := []) ⟨hx, hb, hml, hown, hts⟩ (gv_m_least l dC dI h d n L R fw fd a2 a1 hn h2 h1 ht1) (cwV 2 hts (lw_V q206 q208 qs13 q18 q209) rfl rfl rfl (by decide +kernel) ⟨Nat.le_of_ble_eq_true rfl, Nat.le_of_ble_eq_true rfl⟩) (gv_preV (ci := 1) hK hP rfl rfl) rfl rfl hl.1 rfl (lv_room (Nat.le_of_ble_eq_true rfl)) dX1_noBetter_7 ⟨Nat.le_of_ble_eq_true rfl, Nat.le_of_ble_eq_true rfl⟩) (fun r er => ?_)
      subst er
      refine lv_goto (tgt := 19) hx hb dX1_noBetter_10 (by decide) ?_
      exact gv_top (gv_zeq (by rw [gv_n0 hs c1]; rfl)) K19
end
section
set_option maxHeartbeats 4000000 in
set_option maxRecDepth 100000 in
/-- dominated -/
theorem gv_m_dominated (l : Launch) (dC : Nat → ClassId) (dI : Nat → Nat → Nat) (h : Nat → Nat) (d : Nat → ClassId) (sz : Nat) (n : Nat) (L R : Nat → Nat) (fw fd : Nat → Int32) (x y : Int32) (hg : gv_ok L R) (hn1 : 1 ≤ n) (hn : n ≤ 10) : Met l yX1_dominated (ws_ yX1_dominated cX1_dominated 9 (some .int)) ({ frames := 3, cells := 0, slots := 0, locals := 77 }) (va_Pc [.ref (h 0), .int x, .int y] (fun U => U.heap.size = sz ∧ va_P (dC, dI) gv_cl (gv_mW h d n L R fw fd) U.heap ∧ va_K (dC, dI) gv_cl (gv_mT d) U ∧ va_D (fun _ => True) (gv_mW h d n L R fw fd))) (va_Qi (fun (r : Int32) (_ : (Nat → Int32) × (Nat → Int32)) => r = gv_dmR n L R x y) (gv_mB dC dI h d n L R (va_A (gv_mW h d n L R fw fd) sz)) (va_A (gv_mW h d n L R fw fd) sz)) 0 0 (va_A (gv_mW h d n L R fw fd) sz) := by
  refine Met.ofW (cc := cX1_dominated) (maxL := 9) (ret := (some .int)) (by decide) rfl ?_
  intro p e s m args below meth c s₁ B hml hv
  obtain ⟨rfl, hsz, hP, hK, hD0⟩ := hv
  have hx := B.exec
  have hb := B.bytes
  have hr := B.returns
  have hts := atoms_spec (ws := ws_ yX1_dominated cX1_dominated 9 (some .int)) B.pre
  have hts : ∀ w ∈ lw_all, w.before _ s = true := fun w h => hts w (List.mem_cons_of_mem _ h)
  have hown : s.vm.findClass RX1 = some m.cls := findClass_of_methodNamed B.named
  have hlocks := B.notSynchronized
  subst hsz
  have hD := hD0.self (sz := s.heap.size)
  generalize hAe : va_A (gv_mW h d n L R fw fd) s.heap.size = A at hD ⊢
  have hA : ∀ q : Nat, s.heap.size ≤ q → A q := fun q h => by rw [← hAe]; exact Or.inr h
  have hS : va_S A s.heap s.heap [] := va_S.rf
  have hP : va_P (dC, dI) gv_cl (gv_mW h d n L R fw fd) s.heap := hP
  have hl := lv_entry ([.ref (h 0), .int x, .int y]) (n := 9) (Nat.le_of_ble_eq_true rfl)
  rw [lg_entry_eq]
  generalize (lg_sl ([.ref (h 0), .int x, .int y]) ++ List.replicate (9 - (lg_sl ([.ref (h 0), .int x, .int y])).length) Slot.unset).toArray = ls at hl ⊢
  have hl : lv_has ls 9 [(0, .ref (h 0)), (1, .int x), (2, .int y)] := hl
  refine lv_aload_n hx hb dX1_dominated_0 rfl (lv_at hl 0 rfl) ?_
  refine lv_iload_n hx hb dX1_dominated_1 rfl (lv_at hl 1 rfl) ?_
  refine vp_callSi (W.runV (As := [.int x]) (rest := []) ⟨hx, hb, hml, hown, hts⟩ (gv_m_is l dC dI h d n L R fw fd x) (cwV 1 hts (lw_V q186 q188 qs9 q18 q189) rfl rfl rfl (by decide +kernel) ⟨Nat.le_of_ble_eq_true rfl, Nat.le_of_ble_eq_true rfl⟩) (gv_preV (ci := 1) hK hP rfl rfl) rfl rfl hl.1 rfl (lv_room (Nat.le_of_ble_eq_true rfl)) dX1_dominated_2 ⟨Nat.le_of_ble_eq_true rfl, Nat.le_of_ble_eq_true rfl⟩) (fun r er => ?_)
  subst er
  refine lv_if_eq (tgt := 17) hx hb dX1_dominated_5 (by decide) (fun c1 => ?_) (fun c1 => ?_)
  · refine lv_iconst (v := (-1)) hx hb dX1_dominated_17 (by decide) ?_
    exact W.iret (v := (-1)) hx hb hr (fun t ht hW => ⟨⟨(-1), (fw, fd), rfl, (gv_dmR_f (by rw [gv_z0 c1]; rfl)).symm, by rw [ht]; exact hP, va_K.moved hW.alike hK, hD⟩, hS.F ht⟩) hS.2.2 dX1_dominated_18
  · refine lv_iload_n hx hb dX1_dominated_8 rfl (lv_at hl 2 rfl) ?_
    refine gv_midP (P := gv_sd y = true) (g1 := F0 m 19 ls []) (fun q2 => ?_) (fun K19 => ?_)
    · have q1 := gv_z1 c1
      clear c1
      obtain ⟨k1, j1, rfl⟩ := gv_hT q1 (by omega)
      obtain ⟨s1, j2, rfl⟩ := gv_sdT q2
      obtain ⟨M, hM⟩ : ∃ M, M = gv_mv L R s1 k1 := ⟨_, rfl⟩
      have hMl : M < 2 ^ k1 := by rw [hM]; exact gv_mv_lt hg (by omega)
      have hMk : M < 1024 := by rw [hM]; exact gv_mv_1024 hg (by omega)
      refine lv_aload_n hx hb dX1_dominated_19 rfl (lv_at hl 0 rfl) ?_
      have hFc := va_free (wc := gv_mW h d n L R fw fd) hD hS hA [0, 1, 2, 3] rfl
      refine va_callv (va_runV (As := []) (rest := []) ⟨hx, hb, hml, hown, hts⟩ (gv_m_work l dC dI h d _ n L R fw fd hg hn) (cwV 0 hts (lw_V q194 q196 qs10 q18 q197) rfl rfl rfl (by decide +kernel) ⟨Nat.le_of_ble_eq_true rfl, Nat.le_of_ble_eq_true rfl⟩) (gv_preD (ci := 1) hK hP hD rfl rfl) rfl rfl hl.1 rfl (lv_room (Nat.le_of_ble_eq_true rfl)) dX1_dominated_20 ⟨Nat.le_of_ble_eq_true rfl, Nat.le_of_ble_eq_true rfl⟩) hS (fun q _ h => hFc q h) hFc (fun u t H1 locs ht hvm hw hB hz1 hk1 hS => ?_)
      obtain ⟨fw1, fd1⟩ := u
      obtain ⟨hP1, hK1, hD1⟩ := hB
      rw [ht] at hP1
      have hP : va_P (dC, dI) gv_cl (gv_mW h d n L R fw1 fd1) H1 := hP1
      have hD : va_D A (gv_mW h d n L R fw1 fd1) := hD1.weaken (fun _ q _ h => hFc q.1 h)
      clear hP1 hK1 hD1 hFc
      have ht1 : gv_wtab n L R fw1 := hw
      clear hw
      refine lv_aload_n hx hb dX1_dominated_23 rfl (lv_at hl 0 rfl) ?_
      refine va_get (D := (dC, dI)) (ci := 1) (v := .ref (h 1)) (C := RX1) (T := TX1) (N := 4) hx hb hts in_X1 hown hK hP 0 rfl rfl 1 (by decide) (hts _ q157) (fun _ h9 => h9) rfl dX1_dominated_24 ?_
      refine lv_iconst (v := nI 2) hx hb dX1_dominated_27 (by decide) ?_
      refine lv_iload_n hx hb dX1_dominated_28 rfl (lv_at hl 1 rfl) ?_
      refine lv_imul hx hb dX1_dominated_29 ?_
      refine gv_top (y := nI (2 * k1)) (pk_mul _ _) ?_
      refine lv_iload_n hx hb dX1_dominated_30 rfl (lv_at hl 2 rfl) ?_
      refine lv_iadd hx hb dX1_dominated_31 ?_
      refine gv_top (y := nI ((2 * k1) + s1)) (nI_add _ _) ?_
      refine va_iald hx hb hK hP 1 0 rfl rfl (vp_in_nI (n := (2 * k1) + s1) (by omega) (by decide)) dX1_dominated_32 ?_
      refine gv_top (y := nI (gv_G L R ((2 * k1) + s1))) (gv_ld (fun j => nI (gv_G L R j)) (e := (2 * k1) + s1) (by omega)) ?_
      refine gv_top (y := nI M) ((congrArg nI (gv_G_mv L R k1 s1 j2)).trans (by rw [hM])) ?_
      refine lv_istore_n (lv' := [(3, .int (nI M)), (0, .ref (h 0)), (1, .int (nI k1)), (2, .int (nI s1))]) hx hb dX1_dominated_33 rfl hl (by decide) rfl (fun ls hl => ?_)
      refine lv_iconst (v := nI 0) hx hb dX1_dominated_34 (by decide) ?_
      refine lv_istore (lv' := [(4, .int (nI 0)), (3, .int (nI M)), (0, .ref (h 0)), (1, .int (nI k1)), (2, .int (nI s1))]) hx hb dX1_dominated_35 hl (by decide) rfl (fun ls hl => ?_)
      refine lv_iconst (v := nI 0) hx hb dX1_dominated_37 (by decide) ?_
      refine lv_istore (lv' := [(5, .int (nI 0)), (4, .int (nI 0)), (3, .int (nI M)), (0, .ref (h 0)), (1, .int (nI k1)), (2, .int (nI s1))]) hx hb dX1_dominated_38 hl (by decide) rfl (fun ls hl => ?_)
      refine gv_forS (nL := 9) 100 (fun _ => True) (fun i => [(0, .ref (h 0)), (2, .int (nI s1)), (3, .int (nI M)), (4, .int (nI (gv_acc (gv_dmf L R s1 M 10) (fun c => c / 10) i))), (5, .int (nI i))]) ?_ ?_ 0 (Nat.zero_le _) trivial (lv_sub hl [3, 5, 2, 1, 0] rfl)
      · intro ls _ hl
        have hl : lv_has ls 9 [(0, .ref (h 0)), (2, .int (nI s1)), (3, .int (nI M)), (4, .int (nI (gv_acc (gv_dmf L R s1 M 10) (fun c => c / 10) 100))), (5, .int (nI 100))] := hl
        refine lv_iload hx hb dX1_dominated_40 (lv_at hl 4 rfl) ?_
        refine lv_bipush (v := nI 100) hx hb dX1_dominated_42 (by decide) ?_
        refine lv_icmp_ge (tgt := 132) hx hb dX1_dominated_44 (by decide) (fun c5 => ?_) (fun c5 => ?_)
        · refine lv_iload hx hb dX1_dominated_132 (lv_at hl 3 rfl) ?_
          exact W.iret (v := nI (gv_acc (gv_dmf L R s1 M 10) (fun c => c / 10) 100)) hx hb hr (fun t ht hW => ⟨⟨nI (gv_acc (gv_dmf L R s1 M 10) (fun c => c / 10) 100), (fw1, fd1), rfl, ((gv_dmR_t q1 q2 (by omega) (by omega)).trans (by rw [← hM])).symm, by rw [ht]; exact hP, va_K.moved hW.alike hK, hD⟩, hS.F ht⟩) hS.2.2 dX1_dominated_134
        · exact absurd (Int32.le_refl _) c5
      · intro i ls hi _ hl ih
        have hl : lv_has ls 9 [(0, .ref (h 0)), (2, .int (nI s1)), (3, .int (nI M)), (4, .int (nI (gv_acc (gv_dmf L R s1 M 10) (fun c => c / 10) i))), (5, .int (nI i))] := hl
        obtain ⟨a1, e1⟩ : ∃ a1, i / 10 = a1 := ⟨_, rfl⟩
        obtain ⟨a2, e2⟩ : ∃ a2, i % 10 = a2 := ⟨_, rfl⟩
        have hfc : gv_dmf L R s1 M 10 i = gv_dm L R s1 M a1 a2 := by show gv_dm L R s1 M (i / 10) (i % 10) = _; rw [e1, e2]
        have l1 : a1 < 10 := by omega
        have l2 : a2 < 10 := by omega
        refine lv_iload hx hb dX1_dominated_40 (lv_at hl 4 rfl) ?_
        refine lv_bipush (v := nI 100) hx hb dX1_dominated_42 (by decide) ?_
        refine lv_icmp_ge (tgt := 132) hx hb dX1_dominated_44 (by decide) (fun c5 => ?_) (fun c5 => ?_)
        · exact absurd c5 (nI_ge hi (by omega))
        · refine lv_iload hx hb dX1_dominated_47 (lv_at hl 4 rfl) ?_
          refine lv_bipush (v := nI 10) hx hb dX1_dominated_49 (by decide) ?_
          refine lv_idiv hx hb dX1_dominated_51 (by decide) ?_
          refine gv_top (y := nI a1) ((pk_div (by omega) (by decide) (by decide)).trans (by rw [e1])) ?_
          refine lv_istore (lv' := [(6, .int (nI a1)), (0, .ref (h 0)), (2, .int (nI s1)), (3, .int (nI M)), (4, .int (nI (gv_acc (gv_dmf L R s1 M 10) (fun c => c / 10) i))), (5, .int (nI i))]) hx hb dX1_dominated_52 hl (by decide) rfl (fun ls hl => ?_)
          refine lv_iload hx hb dX1_dominated_54 (lv_at hl 5 rfl) ?_
          refine lv_bipush (v := nI 10) hx hb dX1_dominated_56 (by decide) ?_
          refine lv_irem hx hb dX1_dominated_58 (by decide) ?_
          refine gv_top (y := nI a2) ((pk_rem (by omega) (by decide) (by decide)).trans (by rw [e2])) ?_
          refine lv_istore (lv' := [(7, .int (nI a2)), (6, .int (nI a1)), (0, .ref (h 0)), (2, .int (nI s1)), (3, .int (nI M)), (4, .int (nI (gv_acc (gv_dmf L R s1 M 10) (fun c => c / 10) i))), (5, .int (nI i))]) hx hb dX1_dominated_59 hl (by decide) rfl (fun ls hl => ?_)
          refine gv_mid (g1 := F0 m 93 ls [.int (gv_z (!decide (a1 = a2) && M.testBit a1 && M.testBit a2))]) ?_ (fun K93 => ?_)
          · refine lv_istore (lv' := [(8, .int (gv_z (!decide (a1 = a2) && M.testBit a1 && M.testBit a2))), (7, .int (nI a2)), (6, .int (nI a1)), (0, .ref (h 0)), (2, .int (nI s1)), (3, .int (nI M)), (4, .int (nI (gv_acc (gv_dmf L R s1 M 10) (fun c => c / 10) i))), (5, .int (nI i))]) hx hb dX1_dominated_93 hl (by decide) rfl (fun ls hl => ?_)
            refine gv_mid (g1 := F0 m 124 ls [.int (nI (gv_acc (gv_dmf L R s1 M 10) (fun c => c / 10) (i + 1)))]) ?_ (fun K124 => ?_)
            · refine lv_istore (lv' := [(4, .int (nI (gv_acc (gv_dmf L R s1 M 10) (fun c => c / 10) (i + 1)))), (8, .int (gv_z (!decide (a1 = a2) && M.testBit a1 && M.testBit a2))), (7, .int (nI a2)), (6, .int (nI a1)), (0, .ref (h 0)), (2, .int (nI s1)), (3, .int (nI M)), (5, .int (nI i))]) hx hb dX1_dominated_124 hl (by decide) rfl (fun ls hl => ?_)
              refine lv_iinc (v := nI (i + 1)) (lv' := [(5, .int (nI (i + 1))), (4, .int (nI (gv_acc (gv_dmf L R s1 M 10) (fun c => c / 10) (i + 1)))), (8, .int (gv_z (!decide (a1 = a2) && M.testBit a1 && M.testBit a2))), (7, .int (nI a2)), (6, .int (nI a1)), (0, .ref (h 0)), (2, .int (nI s1)), (3, .int (nI M))]) hx hb dX1_dominated_126 hl (k := 7) rfl (gv_inc _) (by decide) rfl (fun ls hl => ?_)
              refine lv_goto (tgt := 40) hx hb dX1_dominated_129 (by decide) ?_
              exact ih ls trivial (lv_sub hl [5, 6, 7, 1, 0] rfl)
            · refine lv_iload hx hb dX1_dominated_95 (lv_at hl 0 rfl) ?_
              refine lv_if_eq (tgt := 122) hx hb dX1_dominated_97 (by decide) (fun d4 => ?_) (fun d4 => ?_)
              · refine lv_iload hx hb dX1_dominated_122 (lv_at hl 6 rfl) ?_
                exact gv_top (congrArg nI (gv_acc_f (f := gv_dmf L R s1 M 10) (g := fun c => c / 10) (i := i) (hfc.trans (by unfold gv_dm; rw [gv_z0 d4]; rfl))).symm) K124
              · have hb1 := gv_z1 d4
                have hb2 := hb1
                rw [Bool.and_eq_true, Bool.and_eq_true] at hb2
                have r1 := gv_bitP hMl hb2.1.2
                have r2 := gv_bitP hMl hb2.2
                refine lv_aload_n hx hb dX1_dominated_100 rfl (lv_at hl 3 rfl) ?_
                refine lv_iload hx hb dX1_dominated_101 (lv_at hl 2 rfl) ?_
                refine lv_iload hx hb dX1_dominated_103 (lv_at hl 1 rfl) ?_
                refine lv_iload_n hx hb dX1_dominated_105 rfl (lv_at hl 4 rfl) ?_
                refine vp_callSi (W.runV (As := [.int (nI a1), .int (nI a2), .int (nI s1)]) (rest := []) ⟨hx, hb, hml, hown, hts⟩ (gv_m_noBetter l dC dI h d n L R fw1 fd1 a1 a2 s1 hn (by omega) (by omega) j2 ht1) (cwV 3 hts (lw_V q231 q233 qs15 q18 q234) rfl rfl rfl (by decide +kernel) ⟨Nat.le_of_ble_eq_true rfl, Nat.le_of_ble_eq_true rfl⟩) (gv_preV (ci := 1) hK hP rfl rfl) rfl rfl hl.1 rfl (lv_room (Nat.le_of_ble_eq_true rfl)) dX1_dominated_106 ⟨Nat.le_of_ble_eq_true rfl, Nat.le_of_ble_eq_true rfl⟩) (fun r er => ?_)
                subst er
                refine lv_if_eq (tgt := 122) hx hb dX1_dominated_109 (by decide) (fun d5 => ?_) (fun d5 => ?_)
                · refine lv_iload hx hb dX1_dominated_122 (lv_at hl 6 rfl) ?_
                  exact gv_top (congrArg nI (gv_acc_f (f := gv_dmf L R s1 M 10) (g := fun c => c / 10) (i := i) (hfc.trans (by unfold gv_dm; rw [Bool.and_assoc, gv_z0 d5, Bool.and_false]))).symm) K124
                · refine lv_iload hx hb dX1_dominated_112 (lv_at hl 6 rfl) ?_
                  refine lv_iconst (v := nI 1) hx hb dX1_dominated_114 (by decide) ?_
                  refine lv_iload hx hb dX1_dominated_115 (lv_at hl 2 rfl) ?_
                  refine lv_ishl hx hb dX1_dominated_117 ?_
                  refine gv_top (y := nI (2 ^ a1)) (gv_shl (by omega)) ?_
                  refine lv_ior hx hb dX1_dominated_118 ?_
                  refine gv_top (y := nI ((gv_acc (gv_dmf L R s1 M 10) (fun c => c / 10) i) ||| (2 ^ a1))) (gv_or _ _) ?_
                  refine lv_goto (tgt := 124) hx hb dX1_dominated_119 (by decide) ?_
                  exact gv_top (by rw [gv_acc_t (f := gv_dmf L R s1 M 10) (g := fun c => c / 10) (i := i) (hfc.trans (by unfold gv_dm; rw [Bool.and_assoc, gv_z1 d5, hb1]; rfl)), e1]) K124
          · refine lv_iload hx hb dX1_dominated_61 (lv_at hl 1 rfl) ?_
            refine lv_iload hx hb dX1_dominated_63 (lv_at hl 0 rfl) ?_
            refine lv_icmp_eq (tgt := 92) hx hb dX1_dominated_65 (by decide) (fun d1 => ?_) (fun d1 => ?_)
            · refine lv_iconst (v := nI 0) hx hb dX1_dominated_92 (by decide) ?_
              exact gv_top (gv_a0 (by rw [decide_eq_true ((nI_eq (by omega) (by omega)).mp d1)]; rfl)) K93
            · refine lv_iload_n hx hb dX1_dominated_68 rfl (lv_at hl 4 rfl) ?_
              refine lv_iload hx hb dX1_dominated_69 (lv_at hl 1 rfl) ?_
              refine lv_ishr hx hb dX1_dominated_71 ?_
              refine lv_iconst (v := nI 1) hx hb dX1_dominated_72 (by decide) ?_
              refine lv_iand hx hb dX1_dominated_73 ?_
              refine gv_top (y := gv_z (M.testBit a1)) (gv_bitI (by omega) (by omega)) ?_
              refine lv_iconst (v := nI 1) hx hb dX1_dominated_74 (by decide) ?_
              refine lv_icmp_ne (tgt := 92) hx hb dX1_dominated_75 (by decide) (fun d2 => ?_) (fun d2 => ?_)
              · refine lv_iconst (v := nI 0) hx hb dX1_dominated_92 (by decide) ?_
                exact gv_top (gv_a0 (by rw [gv_z_nn1 d2, Bool.and_false]; rfl)) K93
              · refine lv_iload_n hx hb dX1_dominated_78 rfl (lv_at hl 4 rfl) ?_
                refine lv_iload hx hb dX1_dominated_79 (lv_at hl 0 rfl) ?_
                refine lv_ishr hx hb dX1_dominated_81 ?_
                refine lv_iconst (v := nI 1) hx hb dX1_dominated_82 (by decide) ?_
                refine lv_iand hx hb dX1_dominated_83 ?_
                refine gv_top (y := gv_z (M.testBit a2)) (gv_bitI (by omega) (by omega)) ?_
                refine lv_iconst (v := nI 1) hx hb dX1_dominated_84 (by decide) ?_
                refine lv_icmp_ne (tgt := 92) hx hb dX1_dominated_85 (by decide) (fun d3 => ?_) (fun d3 => ?_)
                · refine lv_iconst (v := nI 0) hx hb dX1_dominated_92 (by decide) ?_
                  exact gv_top (gv_a0 (by rw [gv_z_nn1 d3, Bool.and_false])) K93
                · refine lv_iconst (v := nI 1) hx hb dX1_dominated_88 (by decide) ?_
                  refine lv_goto (tgt := 93) hx hb dX1_dominated_89 (by decide) ?_
                  exact gv_top (gv_a1 (by rw [decide_eq_false (fun z => d1 (by rw [z])), gv_z_nI1 d2, gv_z_nI1 d3]; rfl)) K93
    · refine lv_if_eq (tgt := 19) hx hb dX1_dominated_9 (by decide) (fun c3 => ?_) (fun c3 => ?_)
      · exact K19 (by rw [gv_sd, decide_eq_true c3]; rfl)
      · refine lv_iload_n hx hb dX1_dominated_12 rfl (lv_at hl 2 rfl) ?_
        refine lv_iconst (v := nI 1) hx hb dX1_dominated_13 (by decide) ?_
        refine lv_icmp_eq (tgt := 19) hx hb dX1_dominated_14 (by decide) (fun c4 => ?_) (fun c4 => ?_)
        · exact K19 (by rw [gv_sd, decide_eq_true c4, Bool.or_true])
        · refine lv_iconst (v := (-1)) hx hb dX1_dominated_17 (by decide) ?_
          exact W.iret (v := (-1)) hx hb hr (fun t ht hW => ⟨⟨(-1), (fw, fd), rfl, (gv_dmR_f (by rw [gv_sd, decide_eq_false c3, decide_eq_false c4, Bool.or_false, Bool.and_false])).symm, by rw [ht]; exact hP, va_K.moved hW.alike hK, hD⟩, hS.F ht⟩) hS.2.2 dX1_dominated_18
set_option maxHeartbeats 4000000 in
set_option maxRecDepth 100000 in
/-- first -/
theorem gv_m_first (l : Launch) (dC : Nat → ClassId) (dI : Nat → Nat → Nat) (h : Nat → Nat) (d : Nat → ClassId) (sz : Nat) (n : Nat) (L R : Nat → Nat) (fw fd : Nat → Int32) (x : Int32) (hg : gv_ok L R) (hn1 : 1 ≤ n) (hn : n ≤ 10) : Met l yX1_first (ws_ yX1_first cX1_first 3 (some .int)) ({ frames := 4, cells := 0, slots := 0, locals := 99 }) (va_Pc [.ref (h 0), .int x] (fun U => U.heap.size = sz ∧ va_P (dC, dI) gv_cl (gv_mW h d n L R fw fd) U.heap ∧ va_K (dC, dI) gv_cl (gv_mT d) U ∧ va_D (fun _ => True) (gv_mW h d n L R fw fd))) (va_Qi (fun (r : Int32) (_ : (Nat → Int32) × (Nat → Int32)) => r = gv_fsR n L R x) (gv_mB dC dI h d n L R (va_A (gv_mW h d n L R fw fd) sz)) (va_A (gv_mW h d n L R fw fd) sz)) 0 0 (va_A (gv_mW h d n L R fw fd) sz) := by
  refine Met.ofW (cc := cX1_first) (maxL := 3) (ret := (some .int)) (by decide) rfl ?_
  intro p e s m args below meth c s₁ B hml hv
  obtain ⟨rfl, hsz, hP, hK, hD0⟩ := hv
  have hx := B.exec
  have hb := B.bytes
  have hr := B.returns
  have hts := atoms_spec (ws := ws_ yX1_first cX1_first 3 (some .int)) B.pre
  have hts : ∀ w ∈ lw_all, w.before _ s = true := fun w h => hts w (List.mem_cons_of_mem _ h)
  have hown : s.vm.findClass RX1 = some m.cls := findClass_of_methodNamed B.named
  have hlocks := B.notSynchronized
  subst hsz
  have hD := hD0.self (sz := s.heap.size)
  generalize hAe : va_A (gv_mW h d n L R fw fd) s.heap.size = A at hD ⊢
  have hA : ∀ q : Nat, s.heap.size ≤ q → A q := fun q h => by rw [← hAe]; exact Or.inr h
  have hS : va_S A s.heap s.heap [] := va_S.rf
  have hP : va_P (dC, dI) gv_cl (gv_mW h d n L R fw fd) s.heap := hP
  have hl := lv_entry ([.ref (h 0), .int x]) (n := 3) (Nat.le_of_ble_eq_true rfl)
  rw [lg_entry_eq]
  generalize (lg_sl ([.ref (h 0), .int x]) ++ List.replicate (3 - (lg_sl ([.ref (h 0), .int x])).length) Slot.unset).toArray = ls at hl ⊢
  have hl : lv_has ls 3 [(0, .ref (h 0)), (1, .int x)] := hl
  refine lv_iconst (v := nI 0) hx hb dX1_first_0 (by decide) ?_
  refine lv_istore_n (lv' := [(2, .int (nI 0)), (0, .ref (h 0)), (1, .int x)]) hx hb dX1_first_1 rfl hl (by decide) rfl (fun ls hl => ?_)
  cases q1 : gv_h n x
  · refine lv_iload_n hx hb dX1_first_2 rfl (lv_at hl 0 rfl) ?_
    refine lv_aload_n hx hb dX1_first_3 rfl (lv_at hl 1 rfl) ?_
    refine va_get (D := (dC, dI)) (ci := 1) (v := .int (nI n)) (C := RX1) (T := TX1) (N := 4) hx hb hts in_X1 hown hK hP 0 rfl rfl 0 (by decide) (hts _ q156) (fun _ h9 => h9) rfl dX1_first_4 ?_
    refine lv_icmp_ge (tgt := 35) hx hb dX1_first_7 (by decide) (fun c1 => ?_) (fun c1 => ?_)
    · refine lv_iconst (v := (-1)) hx hb dX1_first_35 (by decide) ?_
      exact W.iret (v := (-1)) hx hb hr (fun t ht hW => ⟨⟨(-1), (fw, fd), rfl, (gv_fsR_f q1).symm, by rw [ht]; exact hP, va_K.moved hW.alike hK, hD⟩, hS.F ht⟩) hS.2.2 dX1_first_36
    · refine lv_aload_n hx hb dX1_first_10 rfl (lv_at hl 1 rfl) ?_
      refine lv_iload_n hx hb dX1_first_11 rfl (lv_at hl 2 rfl) ?_
      refine vp_callSi (W.runV (As := [.int x]) (rest := []) ⟨hx, hb, hml, hown, hts⟩ (gv_m_is l dC dI h d n L R fw fd x) (cwV 1 hts (lw_V q186 q188 qs9 q18 q189) rfl rfl rfl (by decide +kernel) ⟨Nat.le_of_ble_eq_true rfl, Nat.le_of_ble_eq_true rfl⟩) (gv_preV (ci := 1) hK hP rfl rfl) rfl rfl hl.1 rfl (lv_room (Nat.le_of_ble_eq_true rfl)) dX1_first_12 ⟨Nat.le_of_ble_eq_true rfl, Nat.le_of_ble_eq_true rfl⟩) (fun r er => ?_)
      subst er
      refine lv_if_eq (tgt := 35) hx hb dX1_first_15 (by decide) (fun c2 => ?_) (fun c2 => ?_)
      · refine lv_iconst (v := (-1)) hx hb dX1_first_35 (by decide) ?_
        exact W.iret (v := (-1)) hx hb hr (fun t ht hW => ⟨⟨(-1), (fw, fd), rfl, (gv_fsR_f q1).symm, by rw [ht]; exact hP, va_K.moved hW.alike hK, hD⟩, hS.F ht⟩) hS.2.2 dX1_first_36
      · exact absurd (gv_z1 c2) (by rw [q1]; exact Bool.false_ne_true)
  · obtain ⟨k1, j1, rfl⟩ := gv_hT q1 (by omega)
    refine gv_for (nL := 3) n (fun i H locs => ∃ fw fd : Nat → Int32, va_P (dC, dI) gv_cl (gv_mW h d n L R fw fd) H ∧ va_D A (gv_mW h d n L R fw fd) ∧ va_S A s.heap H locs ∧ ∀ x, x < i → gv_E L R k1 x = false) (fun i => [(0, .ref (h 0)), (1, .int (nI k1)), (2, .int (nI i))]) ?_ ?_ 0 (Nat.zero_le _) ⟨fw, fd, hP, hD, hS, fun x h => absurd h (Nat.not_lt_zero _)⟩ (lv_sub hl [1, 2, 0] rfl)
    · intro H locs ls hJ hl
      obtain ⟨fw, fd, hP, hD, hS, hJ⟩ := hJ
      exact absurd (gv_E_self hg (p := k1) (by omega)) (by rw [hJ k1 j1]; exact Bool.false_ne_true)
    · intro i H locs ls hi hJ hl ih
      obtain ⟨fw, fd, hP, hD, hS, hJ⟩ := hJ
      have hl : lv_has ls 3 [(0, .ref (h 0)), (1, .int (nI k1)), (2, .int (nI i))] := hl
      refine lv_iload_n hx hb dX1_first_2 rfl (lv_at hl 2 rfl) ?_
      refine lv_aload_n hx hb dX1_first_3 rfl (lv_at hl 0 rfl) ?_
      refine va_get (D := (dC, dI)) (ci := 1) (v := .int (nI n)) (C := RX1) (T := TX1) (N := 4) hx hb hts in_X1 hown hK hP 0 rfl rfl 0 (by decide) (hts _ q156) (fun _ h9 => h9) rfl dX1_first_4 ?_
      refine lv_icmp_ge (tgt := 35) hx hb dX1_first_7 (by decide) (fun c1 => ?_) (fun c1 => ?_)
      · exact absurd c1 (nI_ge hi (by omega))
      · refine lv_aload_n hx hb dX1_first_10 rfl (lv_at hl 0 rfl) ?_
        refine lv_iload_n hx hb dX1_first_11 rfl (lv_at hl 1 rfl) ?_
        refine vp_callSi (W.runV (As := [.int (nI k1)]) (rest := []) ⟨hx, hb, hml, hown, hts⟩ (gv_m_is l dC dI h d n L R fw fd (nI k1)) (cwV 1 hts (lw_V q186 q188 qs9 q18 q189) rfl rfl rfl (by decide +kernel) ⟨Nat.le_of_ble_eq_true rfl, Nat.le_of_ble_eq_true rfl⟩) (gv_preV (ci := 1) hK hP rfl rfl) rfl rfl hl.1 rfl (lv_room (Nat.le_of_ble_eq_true rfl)) dX1_first_12 ⟨Nat.le_of_ble_eq_true rfl, Nat.le_of_ble_eq_true rfl⟩) (fun r er => ?_)
        subst er
        refine lv_if_eq (tgt := 35) hx hb dX1_first_15 (by decide) (fun c2 => ?_) (fun c2 => ?_)
        · exact absurd q1 (by rw [gv_z0 c2]; exact Bool.false_ne_true)
        · refine lv_aload_n hx hb dX1_first_18 rfl (lv_at hl 0 rfl) ?_
          refine lv_iload_n hx hb dX1_first_19 rfl (lv_at hl 1 rfl) ?_
          refine lv_iload_n hx hb dX1_first_20 rfl (lv_at hl 2 rfl) ?_
          have hFc := va_free (wc := gv_mW h d n L R fw fd) hD hS hA [0, 1, 2, 3] rfl
          refine va_calli (va_runV (As := [.int (nI k1), .int (nI i)]) (rest := []) ⟨hx, hb, hml, hown, hts⟩ (gv_m_compare l dC dI h d _ n L R fw fd (nI k1) (nI i) hg hn1 hn) (cwV 2 hts (lw_V q239 q191 q192 q18 q193) rfl rfl rfl (by decide +kernel) ⟨Nat.le_of_ble_eq_true rfl, Nat.le_of_ble_eq_true rfl⟩) (gv_preD (ci := 1) hK hP hD rfl rfl) rfl rfl hl.1 rfl (lv_room (Nat.le_of_ble_eq_true rfl)) dX1_first_21 ⟨Nat.le_of_ble_eq_true rfl, Nat.le_of_ble_eq_true rfl⟩) hS (fun q _ h => hFc q h) hFc (fun r u t H1 locs ht hvm hw hB hz1 hk1 hS => ?_)
          obtain ⟨fw1, fd1⟩ := u
          obtain ⟨hP1, hK1, hD1⟩ := hB
          rw [ht] at hP1
          have hP : va_P (dC, dI) gv_cl (gv_mW h d n L R fw1 fd1) H1 := hP1
          have hD : va_D A (gv_mW h d n L R fw1 fd1) := hD1.weaken (fun _ q _ h => hFc q.1 h)
          clear hP1 hK1 hD1 hFc
          have er : r = gv_st (!gv_win L R 1 k1 0 i) (!gv_win L R 1 i 0 k1) := hw.trans (gv_cmR_t q1 (gv_hN hi (by omega)) (by omega) (by omega))
          clear hw
          subst er
          refine lv_if_ne (tgt := 29) hx hb dX1_first_24 (by decide) (fun c3 => ?_) (fun c3 => ?_)
          · refine lv_iinc (v := nI (i + 1)) (lv' := [(2, .int (nI (i + 1))), (0, .ref (h 0)), (1, .int (nI k1))]) hx hb dX1_first_29 hl (k := 2) rfl (gv_inc _) (by decide) rfl (fun ls hl => ?_)
            refine lv_goto (tgt := 2) hx hb dX1_first_32 (by decide) ?_
            exact ih H1 locs ls ⟨fw1, fd1, hP, hD, hS, lt_s hJ (gv_st_0.2 c3)⟩ (lv_sub hl [1, 2, 0] rfl)
          · have hE : gv_E L R k1 i = true := gv_st_0.1 c3
            have hle : i ≤ k1 := Nat.not_lt.mp (fun z => absurd (gv_E_self hg (p := k1) (by omega)) (by rw [hJ k1 z]; exact Bool.false_ne_true))
            refine lv_iload_n hx hb dX1_first_27 rfl (lv_at hl 2 rfl) ?_
            exact W.iret (v := nI i) hx hb hr (fun t ht hW => ⟨⟨nI i, (fw1, fd1), rfl, ((gv_fsR_t q1 (by omega)).trans (congrArg nI (gv_fq_eq hle hJ (Or.inr hE)))).symm, by rw [ht]; exact hP, va_K.moved hW.alike hK, hD⟩, hS.F ht⟩) hS.2.2 dX1_first_28
end
section
set_option maxHeartbeats 4000000 in
set_option maxRecDepth 100000 in
/-- values -/
theorem gv_m_values (l : Launch) (dC : Nat → ClassId) (dI : Nat → Nat → Nat) (h : Nat → Nat) (d : Nat → ClassId) (sz : Nat) (n : Nat) (L R : Nat → Nat) (fw fd : Nat → Int32) (hg : gv_ok L R) (hn1 : 1 ≤ n) (hn : n ≤ 10) : Met l yX1_values (ws_ yX1_values cX1_values 3 (some .int)) ({ frames := 5, cells := 0, slots := 0, locals := 121 }) (va_Pc [.ref (h 0)] (fun U => U.heap.size = sz ∧ va_P (dC, dI) gv_cl (gv_mW h d n L R fw fd) U.heap ∧ va_K (dC, dI) gv_cl (gv_mT d) U ∧ va_D (fun _ => True) (gv_mW h d n L R fw fd))) (va_Qi (fun (r : Int32) (_ : (Nat → Int32) × (Nat → Int32)) => r = nI (gv_cnt (gv_vf L R) n)) (gv_mB dC dI h d n L R (va_A (gv_mW h d n L R fw fd) sz)) (va_A (gv_mW h d n L R fw fd) sz)) 0 0 (va_A (gv_mW h d n L R fw fd) sz) := by
  refine Met.ofW (cc := cX1_values) (maxL := 3) (ret := (some .int)) (by decide) rfl ?_
  intro p e s m args below meth c s₁ B hml hv
  obtain ⟨rfl, hsz, hP, hK, hD0⟩ := hv
  have hx := B.exec
  have hb := B.bytes
  have hr := B.returns
  have hts := atoms_spec (ws := ws_ yX1_values cX1_values 3 (some .int)) B.pre
  have hts : ∀ w ∈ lw_all, w.before _ s = true := fun w h => hts w (List.mem_cons_of_mem _ h)
  have hown : s.vm.findClass RX1 = some m.cls := findClass_of_methodNamed B.named
  have hlocks := B.notSynchronized
  subst hsz
  have hD := hD0.self (sz := s.heap.size)
  generalize hAe : va_A (gv_mW h d n L R fw fd) s.heap.size = A at hD ⊢
  have hA : ∀ q : Nat, s.heap.size ≤ q → A q := fun q h => by rw [← hAe]; exact Or.inr h
  have hS : va_S A s.heap s.heap [] := va_S.rf
  have hP : va_P (dC, dI) gv_cl (gv_mW h d n L R fw fd) s.heap := hP
  have hl := lv_entry ([.ref (h 0)]) (n := 3) (Nat.le_of_ble_eq_true rfl)
  rw [lg_entry_eq]
  generalize (lg_sl ([.ref (h 0)]) ++ List.replicate (3 - (lg_sl ([.ref (h 0)])).length) Slot.unset).toArray = ls at hl ⊢
  have hl : lv_has ls 3 [(0, .ref (h 0))] := hl
  refine lv_iconst (v := nI 0) hx hb dX1_values_0 (by decide) ?_
  refine lv_istore_n (lv' := [(1, .int (nI 0)), (0, .ref (h 0))]) hx hb dX1_values_1 rfl hl (by decide) rfl (fun ls hl => ?_)
  refine lv_iconst (v := nI 0) hx hb dX1_values_2 (by decide) ?_
  refine lv_istore_n (lv' := [(2, .int (nI 0)), (1, .int (nI 0)), (0, .ref (h 0))]) hx hb dX1_values_3 rfl hl (by decide) rfl (fun ls hl => ?_)
  refine gv_for (nL := 3) n (fun _ H locs => ∃ fw fd : Nat → Int32, va_P (dC, dI) gv_cl (gv_mW h d n L R fw fd) H ∧ va_D A (gv_mW h d n L R fw fd) ∧ va_S A s.heap H locs) (fun i => [(0, .ref (h 0)), (1, .int (nI (gv_cnt (gv_vf L R) i))), (2, .int (nI i))]) ?_ ?_ 0 (Nat.zero_le _) ⟨fw, fd, hP, hD, hS⟩ (lv_sub hl [2, 1, 0] rfl)
  · intro H locs ls hJ hl
    obtain ⟨fw, fd, hP, hD, hS⟩ := hJ
    have hl : lv_has ls 3 [(0, .ref (h 0)), (1, .int (nI (gv_cnt (gv_vf L R) n))), (2, .int (nI n))] := hl
    refine lv_iload_n hx hb dX1_values_4 rfl (lv_at hl 2 rfl) ?_
    refine lv_aload_n hx hb dX1_values_5 rfl (lv_at hl 0 rfl) ?_
    refine va_get (D := (dC, dI)) (ci := 1) (v := .int (nI n)) (C := RX1) (T := TX1) (N := 4) hx hb hts in_X1 hown hK hP 0 rfl rfl 0 (by decide) (hts _ q156) (fun _ h9 => h9) rfl dX1_values_6 ?_
    refine lv_icmp_ge (tgt := 35) hx hb dX1_values_9 (by decide) (fun c1 => ?_) (fun c1 => ?_)
    · refine lv_iload_n hx hb dX1_values_35 rfl (lv_at hl 1 rfl) ?_
      exact W.iret (v := nI (gv_cnt (gv_vf L R) n)) hx hb hr (fun t ht hW => ⟨⟨nI (gv_cnt (gv_vf L R) n), (fw, fd), rfl, rfl, by rw [ht]; exact hP, va_K.moved hW.alike hK, hD⟩, hS.F ht⟩) hS.2.2 dX1_values_36
    · exact absurd (Int32.le_refl _) c1
  · intro i H locs ls hi hJ hl ih
    obtain ⟨fw, fd, hP, hD, hS⟩ := hJ
    have hl : lv_has ls 3 [(0, .ref (h 0)), (1, .int (nI (gv_cnt (gv_vf L R) i))), (2, .int (nI i))] := hl
    refine lv_iload_n hx hb dX1_values_4 rfl (lv_at hl 2 rfl) ?_
    refine lv_aload_n hx hb dX1_values_5 rfl (lv_at hl 0 rfl) ?_
    refine va_get (D := (dC, dI)) (ci := 1) (v := .int (nI n)) (C := RX1) (T := TX1) (N := 4) hx hb hts in_X1 hown hK hP 0 rfl rfl 0 (by decide) (hts _ q156) (fun _ h9 => h9) rfl dX1_values_6 ?_
    refine lv_icmp_ge (tgt := 35) hx hb dX1_values_9 (by decide) (fun c1 => ?_) (fun c1 => ?_)
    · exact absurd c1 (nI_ge hi (by omega))
    · refine lv_aload_n hx hb dX1_values_12 rfl (lv_at hl 0 rfl) ?_
      refine lv_iload_n hx hb dX1_values_13 rfl (lv_at hl 2 rfl) ?_
      have hFc := va_free (wc := gv_mW h d n L R fw fd) hD hS hA [0, 1, 2, 3] rfl
      refine va_calli (va_runV (As := [.int (nI i)]) (rest := []) ⟨hx, hb, hml, hown, hts⟩ (gv_m_first l dC dI h d _ n L R fw fd (nI i) hg hn1 hn) (cwV 1 hts (lw_V q244 q236 q237 q18 q238) rfl rfl rfl (by decide +kernel) ⟨Nat.le_of_ble_eq_true rfl, Nat.le_of_ble_eq_true rfl⟩) (gv_preD (ci := 1) hK hP hD rfl rfl) rfl rfl hl.1 rfl (lv_room (Nat.le_of_ble_eq_true rfl)) dX1_values_14 ⟨Nat.le_of_ble_eq_true rfl, Nat.le_of_ble_eq_true rfl⟩) hS (fun q _ h => hFc q h) hFc (fun r u t H1 locs ht hvm hw hB hz1 hk1 hS => ?_)
      obtain ⟨fw1, fd1⟩ := u
      obtain ⟨hP1, hK1, hD1⟩ := hB
      rw [ht] at hP1
      have hP : va_P (dC, dI) gv_cl (gv_mW h d n L R fw1 fd1) H1 := hP1
      have hD : va_D A (gv_mW h d n L R fw1 fd1) := hD1.weaken (fun _ q _ h => hFc q.1 h)
      clear hP1 hK1 hD1 hFc
      have er : r = nI (gv_fq (gv_E L R i) i 0) := hw.trans (gv_fsR_t (gv_hN hi (by omega)) (by omega))
      clear hw
      subst er
      have hle := gv_fq_le (gv_E L R i) i 0
      refine lv_iload_n hx hb dX1_values_17 rfl (lv_at hl 2 rfl) ?_
      refine lv_icmp_ne (tgt := 27) hx hb dX1_values_18 (by decide) (fun c2 => ?_) (fun c2 => ?_)
      · refine lv_iload_n hx hb dX1_values_27 rfl (lv_at hl 1 rfl) ?_
        refine gv_top (y := nI (gv_cnt (gv_vf L R) (i + 1))) ((congrArg nI (gv_cnt_f (f := gv_vf L R) (i := i) (decide_eq_false (fun z => c2 (by rw [z]))))).symm) ?_
        refine lv_istore_n (lv' := [(1, .int (nI (gv_cnt (gv_vf L R) (i + 1)))), (0, .ref (h 0)), (2, .int (nI i))]) hx hb dX1_values_28 rfl hl (by decide) rfl (fun ls hl => ?_)
        refine lv_iinc (v := nI (i + 1)) (lv' := [(2, .int (nI (i + 1))), (1, .int (nI (gv_cnt (gv_vf L R) (i + 1)))), (0, .ref (h 0))]) hx hb dX1_values_29 hl (k := 2) rfl (gv_inc _) (by decide) rfl (fun ls hl => ?_)
        refine lv_goto (tgt := 4) hx hb dX1_values_32 (by decide) ?_
        exact ih H1 locs ls ⟨fw1, fd1, hP, hD, hS⟩ (lv_sub hl [2, 1, 0] rfl)
      · refine lv_iload_n hx hb dX1_values_21 rfl (lv_at hl 1 rfl) ?_
        refine lv_iconst (v := nI 1) hx hb dX1_values_22 (by decide) ?_
        refine lv_iadd hx hb dX1_values_23 ?_
        refine gv_top (y := nI ((gv_cnt (gv_vf L R) i) + 1)) (nI_add _ _) ?_
        refine lv_goto (tgt := 28) hx hb dX1_values_24 (by decide) ?_
        refine gv_top (y := nI (gv_cnt (gv_vf L R) (i + 1))) ((congrArg nI (gv_cnt_t (f := gv_vf L R) (i := i) (decide_eq_true ((nI_eq (by omega) (by omega)).mp c2)))).symm) ?_
        refine lv_istore_n (lv' := [(1, .int (nI (gv_cnt (gv_vf L R) (i + 1)))), (0, .ref (h 0)), (2, .int (nI i))]) hx hb dX1_values_28 rfl hl (by decide) rfl (fun ls hl => ?_)
        refine lv_iinc (v := nI (i + 1)) (lv' := [(2, .int (nI (i + 1))), (1, .int (nI (gv_cnt (gv_vf L R) (i + 1)))), (0, .ref (h 0))]) hx hb dX1_values_29 hl (k := 2) rfl (gv_inc _) (by decide) rfl (fun ls hl => ?_)
        refine lv_goto (tgt := 4) hx hb dX1_values_32 (by decide) ?_
        exact ih H1 locs ls ⟨fw1, fd1, hP, hD, hS⟩ (lv_sub hl [2, 1, 0] rfl)
set_option maxHeartbeats 4000000 in
set_option maxRecDepth 100000 in
/-- above -/
theorem gv_m_above (l : Launch) (dC : Nat → ClassId) (dI : Nat → Nat → Nat) (h : Nat → Nat) (d : Nat → ClassId) (sz : Nat) (n : Nat) (L R : Nat → Nat) (fw fd : Nat → Int32) (x : Int32) (hg : gv_ok L R) (hn1 : 1 ≤ n) (hn : n ≤ 10) : Met l yX1_above (ws_ yX1_above cX1_above 4 (some .int)) ({ frames := 3, cells := 0, slots := 0, locals := 77 }) (va_Pc [.ref (h 0), .int x] (fun U => U.heap.size = sz ∧ va_P (dC, dI) gv_cl (gv_mW h d n L R fw fd) U.heap ∧ va_K (dC, dI) gv_cl (gv_mT d) U ∧ va_D (fun _ => True) (gv_mW h d n L R fw fd))) (va_Qi (fun (r : Int32) (_ : (Nat → Int32) × (Nat → Int32)) => r = gv_abR n L R x) (gv_mB dC dI h d n L R (va_A (gv_mW h d n L R fw fd) sz)) (va_A (gv_mW h d n L R fw fd) sz)) 0 0 (va_A (gv_mW h d n L R fw fd) sz) := by
  refine Met.ofW (cc := cX1_above) (maxL := 4) (ret := (some .int)) (by decide) rfl ?_
  intro p e s m args below meth c s₁ B hml hv
  obtain ⟨rfl, hsz, hP, hK, hD0⟩ := hv
  have hx := B.exec
  have hb := B.bytes
  have hr := B.returns
  have hts := atoms_spec (ws := ws_ yX1_above cX1_above 4 (some .int)) B.pre
  have hts : ∀ w ∈ lw_all, w.before _ s = true := fun w h => hts w (List.mem_cons_of_mem _ h)
  have hown : s.vm.findClass RX1 = some m.cls := findClass_of_methodNamed B.named
  have hlocks := B.notSynchronized
  subst hsz
  have hD := hD0.self (sz := s.heap.size)
  generalize hAe : va_A (gv_mW h d n L R fw fd) s.heap.size = A at hD ⊢
  have hA : ∀ q : Nat, s.heap.size ≤ q → A q := fun q h => by rw [← hAe]; exact Or.inr h
  have hS : va_S A s.heap s.heap [] := va_S.rf
  have hP : va_P (dC, dI) gv_cl (gv_mW h d n L R fw fd) s.heap := hP
  have hl := lv_entry ([.ref (h 0), .int x]) (n := 4) (Nat.le_of_ble_eq_true rfl)
  rw [lg_entry_eq]
  generalize (lg_sl ([.ref (h 0), .int x]) ++ List.replicate (4 - (lg_sl ([.ref (h 0), .int x])).length) Slot.unset).toArray = ls at hl ⊢
  have hl : lv_has ls 4 [(0, .ref (h 0)), (1, .int x)] := hl
  refine lv_aload_n hx hb dX1_above_0 rfl (lv_at hl 0 rfl) ?_
  have hFc := va_free (wc := gv_mW h d n L R fw fd) hD hS hA [0, 1, 2, 3] rfl
  refine va_callv (va_runV (As := []) (rest := []) ⟨hx, hb, hml, hown, hts⟩ (gv_m_work l dC dI h d _ n L R fw fd hg hn) (cwV 0 hts (lw_V q194 q196 qs10 q18 q197) rfl rfl rfl (by decide +kernel) ⟨Nat.le_of_ble_eq_true rfl, Nat.le_of_ble_eq_true rfl⟩) (gv_preD (ci := 1) hK hP hD rfl rfl) rfl rfl hl.1 rfl (lv_room (Nat.le_of_ble_eq_true rfl)) dX1_above_1 ⟨Nat.le_of_ble_eq_true rfl, Nat.le_of_ble_eq_true rfl⟩) hS (fun q _ h => hFc q h) hFc (fun u t H1 locs ht hvm hw hB hz1 hk1 hS => ?_)
  obtain ⟨fw1, fd1⟩ := u
  obtain ⟨hP1, hK1, hD1⟩ := hB
  rw [ht] at hP1
  have hP : va_P (dC, dI) gv_cl (gv_mW h d n L R fw1 fd1) H1 := hP1
  have hD : va_D A (gv_mW h d n L R fw1 fd1) := hD1.weaken (fun _ q _ h => hFc q.1 h)
  clear hP1 hK1 hD1 hFc
  have ht1 : gv_wtab n L R fw1 := hw
  clear hw
  refine lv_iconst (v := nI 0) hx hb dX1_above_4 (by decide) ?_
  refine lv_istore_n (lv' := [(2, .int (nI 0)), (0, .ref (h 0)), (1, .int x)]) hx hb dX1_above_5 rfl hl (by decide) rfl (fun ls hl => ?_)
  refine lv_iconst (v := nI 0) hx hb dX1_above_6 (by decide) ?_
  refine lv_istore_n (lv' := [(3, .int (nI 0)), (2, .int (nI 0)), (0, .ref (h 0)), (1, .int x)]) hx hb dX1_above_7 rfl hl (by decide) rfl (fun ls hl => ?_)
  cases q1 : gv_h n x
  · refine lv_iload_n hx hb dX1_above_8 rfl (lv_at hl 0 rfl) ?_
    refine lv_aload_n hx hb dX1_above_9 rfl (lv_at hl 2 rfl) ?_
    refine va_get (D := (dC, dI)) (ci := 1) (v := .int (nI n)) (C := RX1) (T := TX1) (N := 4) hx hb hts in_X1 hown hK hP 0 rfl rfl 0 (by decide) (hts _ q156) (fun _ h9 => h9) rfl dX1_above_10 ?_
    refine lv_icmp_ge (tgt := 49) hx hb dX1_above_13 (by decide) (fun c1 => ?_) (fun c1 => ?_)
    · refine lv_aload_n hx hb dX1_above_49 rfl (lv_at hl 2 rfl) ?_
      refine lv_iload_n hx hb dX1_above_50 rfl (lv_at hl 3 rfl) ?_
      refine vp_callSi (W.runV (As := [.int x]) (rest := []) ⟨hx, hb, hml, hown, hts⟩ (gv_m_is l dC dI h d n L R fw1 fd1 x) (cwV 1 hts (lw_V q186 q188 qs9 q18 q189) rfl rfl rfl (by decide +kernel) ⟨Nat.le_of_ble_eq_true rfl, Nat.le_of_ble_eq_true rfl⟩) (gv_preV (ci := 1) hK hP rfl rfl) rfl rfl hl.1 rfl (lv_room (Nat.le_of_ble_eq_true rfl)) dX1_above_51 ⟨Nat.le_of_ble_eq_true rfl, Nat.le_of_ble_eq_true rfl⟩) (fun r er => ?_)
      subst er
      refine lv_if_eq (tgt := 61) hx hb dX1_above_54 (by decide) (fun c2 => ?_) (fun c2 => ?_)
      · refine lv_iconst (v := (-1)) hx hb dX1_above_61 (by decide) ?_
        exact W.iret (v := (-1)) hx hb hr (fun t ht hW => ⟨⟨(-1), (fw1, fd1), rfl, (gv_abR_f q1).symm, by rw [ht]; exact hP, va_K.moved hW.alike hK, hD⟩, hS.F ht⟩) hS.2.2 dX1_above_62
      · exact absurd (gv_z1 c2) (by rw [q1]; exact Bool.false_ne_true)
    · refine lv_aload_n hx hb dX1_above_16 rfl (lv_at hl 2 rfl) ?_
      refine lv_iload_n hx hb dX1_above_17 rfl (lv_at hl 3 rfl) ?_
      refine vp_callSi (W.runV (As := [.int x]) (rest := []) ⟨hx, hb, hml, hown, hts⟩ (gv_m_is l dC dI h d n L R fw1 fd1 x) (cwV 1 hts (lw_V q186 q188 qs9 q18 q189) rfl rfl rfl (by decide +kernel) ⟨Nat.le_of_ble_eq_true rfl, Nat.le_of_ble_eq_true rfl⟩) (gv_preV (ci := 1) hK hP rfl rfl) rfl rfl hl.1 rfl (lv_room (Nat.le_of_ble_eq_true rfl)) dX1_above_18 ⟨Nat.le_of_ble_eq_true rfl, Nat.le_of_ble_eq_true rfl⟩) (fun r er => ?_)
      subst er
      refine lv_if_eq (tgt := 49) hx hb dX1_above_21 (by decide) (fun c2 => ?_) (fun c2 => ?_)
      · refine lv_aload_n hx hb dX1_above_49 rfl (lv_at hl 2 rfl) ?_
        refine lv_iload_n hx hb dX1_above_50 rfl (lv_at hl 3 rfl) ?_
        refine vp_callSi (W.runV (As := [.int x]) (rest := []) ⟨hx, hb, hml, hown, hts⟩ (gv_m_is l dC dI h d n L R fw1 fd1 x) (cwV 1 hts (lw_V q186 q188 qs9 q18 q189) rfl rfl rfl (by decide +kernel) ⟨Nat.le_of_ble_eq_true rfl, Nat.le_of_ble_eq_true rfl⟩) (gv_preV (ci := 1) hK hP rfl rfl) rfl rfl hl.1 rfl (lv_room (Nat.le_of_ble_eq_true rfl)) dX1_above_51 ⟨Nat.le_of_ble_eq_true rfl, Nat.le_of_ble_eq_true rfl⟩) (fun r er => ?_)
        subst er
        refine lv_if_eq (tgt := 61) hx hb dX1_above_54 (by decide) (fun c3 => ?_) (fun c3 => ?_)
        · refine lv_iconst (v := (-1)) hx hb dX1_above_61 (by decide) ?_
          exact W.iret (v := (-1)) hx hb hr (fun t ht hW => ⟨⟨(-1), (fw1, fd1), rfl, (gv_abR_f q1).symm, by rw [ht]; exact hP, va_K.moved hW.alike hK, hD⟩, hS.F ht⟩) hS.2.2 dX1_above_62
        · exact absurd (gv_z1 c3) (by rw [q1]; exact Bool.false_ne_true)
      · exact absurd (gv_z1 c2) (by rw [q1]; exact Bool.false_ne_true)
  · obtain ⟨k1, j1, rfl⟩ := gv_hT q1 (by omega)
    refine gv_forS (nL := 4) n (fun _ => True) (fun i => [(0, .ref (h 0)), (1, .int (nI k1)), (2, .int (nI (gv_acc (gv_abf L R k1) (fun q => q) i))), (3, .int (nI i))]) ?_ ?_ 0 (Nat.zero_le _) trivial (lv_sub hl [2, 3, 1, 0] rfl)
    · intro ls _ hl
      have hl : lv_has ls 4 [(0, .ref (h 0)), (1, .int (nI k1)), (2, .int (nI (gv_acc (gv_abf L R k1) (fun q => q) n))), (3, .int (nI n))] := hl
      refine lv_iload_n hx hb dX1_above_8 rfl (lv_at hl 3 rfl) ?_
      refine lv_aload_n hx hb dX1_above_9 rfl (lv_at hl 0 rfl) ?_
      refine va_get (D := (dC, dI)) (ci := 1) (v := .int (nI n)) (C := RX1) (T := TX1) (N := 4) hx hb hts in_X1 hown hK hP 0 rfl rfl 0 (by decide) (hts _ q156) (fun _ h9 => h9) rfl dX1_above_10 ?_
      refine lv_icmp_ge (tgt := 49) hx hb dX1_above_13 (by decide) (fun c2 => ?_) (fun c2 => ?_)
      · refine lv_aload_n hx hb dX1_above_49 rfl (lv_at hl 0 rfl) ?_
        refine lv_iload_n hx hb dX1_above_50 rfl (lv_at hl 1 rfl) ?_
        refine vp_callSi (W.runV (As := [.int (nI k1)]) (rest := []) ⟨hx, hb, hml, hown, hts⟩ (gv_m_is l dC dI h d n L R fw1 fd1 (nI k1)) (cwV 1 hts (lw_V q186 q188 qs9 q18 q189) rfl rfl rfl (by decide +kernel) ⟨Nat.le_of_ble_eq_true rfl, Nat.le_of_ble_eq_true rfl⟩) (gv_preV (ci := 1) hK hP rfl rfl) rfl rfl hl.1 rfl (lv_room (Nat.le_of_ble_eq_true rfl)) dX1_above_51 ⟨Nat.le_of_ble_eq_true rfl, Nat.le_of_ble_eq_true rfl⟩) (fun r er => ?_)
        subst er
        refine lv_if_eq (tgt := 61) hx hb dX1_above_54 (by decide) (fun c3 => ?_) (fun c3 => ?_)
        · exact absurd q1 (by rw [gv_z0 c3]; exact Bool.false_ne_true)
        · refine lv_iload_n hx hb dX1_above_57 rfl (lv_at hl 2 rfl) ?_
          refine lv_goto (tgt := 62) hx hb dX1_above_58 (by decide) ?_
          exact W.iret (v := nI (gv_acc (gv_abf L R k1) (fun q => q) n)) hx hb hr (fun t ht hW => ⟨⟨nI (gv_acc (gv_abf L R k1) (fun q => q) n), (fw1, fd1), rfl, (gv_abR_t q1 (by omega)).symm, by rw [ht]; exact hP, va_K.moved hW.alike hK, hD⟩, hS.F ht⟩) hS.2.2 dX1_above_62
      · exact absurd (Int32.le_refl _) c2
    · intro i ls hi _ hl ih
      have hl : lv_has ls 4 [(0, .ref (h 0)), (1, .int (nI k1)), (2, .int (nI (gv_acc (gv_abf L R k1) (fun q => q) i))), (3, .int (nI i))] := hl
      refine lv_iload_n hx hb dX1_above_8 rfl (lv_at hl 3 rfl) ?_
      refine lv_aload_n hx hb dX1_above_9 rfl (lv_at hl 0 rfl) ?_
      refine va_get (D := (dC, dI)) (ci := 1) (v := .int (nI n)) (C := RX1) (T := TX1) (N := 4) hx hb hts in_X1 hown hK hP 0 rfl rfl 0 (by decide) (hts _ q156) (fun _ h9 => h9) rfl dX1_above_10 ?_
      refine lv_icmp_ge (tgt := 49) hx hb dX1_above_13 (by decide) (fun c2 => ?_) (fun c2 => ?_)
      · exact absurd c2 (nI_ge hi (by omega))
      · refine lv_aload_n hx hb dX1_above_16 rfl (lv_at hl 0 rfl) ?_
        refine lv_iload_n hx hb dX1_above_17 rfl (lv_at hl 1 rfl) ?_
        refine vp_callSi (W.runV (As := [.int (nI k1)]) (rest := []) ⟨hx, hb, hml, hown, hts⟩ (gv_m_is l dC dI h d n L R fw1 fd1 (nI k1)) (cwV 1 hts (lw_V q186 q188 qs9 q18 q189) rfl rfl rfl (by decide +kernel) ⟨Nat.le_of_ble_eq_true rfl, Nat.le_of_ble_eq_true rfl⟩) (gv_preV (ci := 1) hK hP rfl rfl) rfl rfl hl.1 rfl (lv_room (Nat.le_of_ble_eq_true rfl)) dX1_above_18 ⟨Nat.le_of_ble_eq_true rfl, Nat.le_of_ble_eq_true rfl⟩) (fun r er => ?_)
        subst er
        refine lv_if_eq (tgt := 49) hx hb dX1_above_21 (by decide) (fun c3 => ?_) (fun c3 => ?_)
        · exact absurd q1 (by rw [gv_z0 c3]; exact Bool.false_ne_true)
        · refine lv_aload_n hx hb dX1_above_24 rfl (lv_at hl 0 rfl) ?_
          refine lv_iload_n hx hb dX1_above_25 rfl (lv_at hl 3 rfl) ?_
          refine lv_iload_n hx hb dX1_above_26 rfl (lv_at hl 1 rfl) ?_
          refine vp_callSi (W.runV (As := [.int (nI i), .int (nI k1)]) (rest := []) ⟨hx, hb, hml, hown, hts⟩ (gv_m_least l dC dI h d n L R fw1 fd1 i k1 hn hi j1 ht1) (cwV 2 hts (lw_V q206 q208 qs13 q18 q209) rfl rfl rfl (by decide +kernel) ⟨Nat.le_of_ble_eq_true rfl, Nat.le_of_ble_eq_true rfl⟩) (gv_preV (ci := 1) hK hP rfl rfl) rfl rfl hl.1 rfl (lv_room (Nat.le_of_ble_eq_true rfl)) dX1_above_27 ⟨Nat.le_of_ble_eq_true rfl, Nat.le_of_ble_eq_true rfl⟩) (fun r er => ?_)
          subst er
          refine lv_if_eq (tgt := 41) hx hb dX1_above_30 (by decide) (fun c4 => ?_) (fun c4 => ?_)
          · refine lv_iload_n hx hb dX1_above_41 rfl (lv_at hl 2 rfl) ?_
            refine gv_top (y := nI (gv_acc (gv_abf L R k1) (fun q => q) (i + 1))) ((congrArg nI (gv_acc_f (f := gv_abf L R k1) (g := fun q => q) (i := i) (gv_z0 c4))).symm) ?_
            refine lv_istore_n (lv' := [(2, .int (nI (gv_acc (gv_abf L R k1) (fun q => q) (i + 1)))), (0, .ref (h 0)), (1, .int (nI k1)), (3, .int (nI i))]) hx hb dX1_above_42 rfl hl (by decide) rfl (fun ls hl => ?_)
            refine lv_iinc (v := nI (i + 1)) (lv' := [(3, .int (nI (i + 1))), (2, .int (nI (gv_acc (gv_abf L R k1) (fun q => q) (i + 1)))), (0, .ref (h 0)), (1, .int (nI k1))]) hx hb dX1_above_43 hl (k := 3) rfl (gv_inc _) (by decide) rfl (fun ls hl => ?_)
            refine lv_goto (tgt := 8) hx hb dX1_above_46 (by decide) ?_
            exact ih ls trivial (lv_sub hl [2, 3, 1, 0] rfl)
          · refine lv_iload_n hx hb dX1_above_33 rfl (lv_at hl 2 rfl) ?_
            refine lv_iconst (v := nI 1) hx hb dX1_above_34 (by decide) ?_
            refine lv_iload_n hx hb dX1_above_35 rfl (lv_at hl 3 rfl) ?_
            refine lv_ishl hx hb dX1_above_36 ?_
            refine gv_top (y := nI (2 ^ i)) (gv_shl (by omega)) ?_
            refine lv_ior hx hb dX1_above_37 ?_
            refine gv_top (y := nI ((gv_acc (gv_abf L R k1) (fun q => q) i) ||| (2 ^ i))) (gv_or _ _) ?_
            refine gv_top (y := nI (gv_acc (gv_abf L R k1) (fun q => q) (i + 1))) ((congrArg nI (gv_acc_t (f := gv_abf L R k1) (g := fun q => q) (i := i) (gv_z1 c4))).symm) ?_
            refine lv_goto (tgt := 42) hx hb dX1_above_38 (by decide) ?_
            refine lv_istore_n (lv' := [(2, .int (nI (gv_acc (gv_abf L R k1) (fun q => q) (i + 1)))), (0, .ref (h 0)), (1, .int (nI k1)), (3, .int (nI i))]) hx hb dX1_above_42 rfl hl (by decide) rfl (fun ls hl => ?_)
            refine lv_iinc (v := nI (i + 1)) (lv' := [(3, .int (nI (i + 1))), (2, .int (nI (gv_acc (gv_abf L R k1) (fun q => q) (i + 1)))), (0, .ref (h 0)), (1, .int (nI k1))]) hx hb dX1_above_43 hl (k := 3) rfl (gv_inc _) (by decide) rfl (fun ls hl => ?_)
            refine lv_goto (tgt := 8) hx hb dX1_above_46 (by decide) ?_
            exact ih ls trivial (lv_sub hl [2, 3, 1, 0] rfl)
end
section
set_option maxHeartbeats 4000000 in
set_option maxRecDepth 100000 in
/-- depth -/
theorem gv_m_depth (l : Launch) (dC : Nat → ClassId) (dI : Nat → Nat → Nat) (h : Nat → Nat) (d : Nat → ClassId) (sz : Nat) (n : Nat) (L R : Nat → Nat) (fw fd : Nat → Int32) (x : Int32) (hg : gv_ok L R) (hn1 : 1 ≤ n) (hn : n ≤ 10) : Met l yX1_depth (ws_ yX1_depth cX1_depth 5 (some .int)) ({ frames := 1, cells := 0, slots := 0, locals := 21 }) (va_Pc [.ref (h 0), .int x] (fun U => U.heap.size = sz ∧ va_P (dC, dI) gv_cl (gv_mW h d n L R fw fd) U.heap ∧ va_K (dC, dI) gv_cl (gv_mT d) U ∧ va_D (fun _ => True) (gv_mW h d n L R fw fd))) (va_Qi (fun (r : Int32) (_ : (Nat → Int32) × (Nat → Int32)) => r = gv_dpR n L R x) (gv_mB dC dI h d n L R (va_A (gv_mW h d n L R fw fd) sz)) (va_A (gv_mW h d n L R fw fd) sz)) 0 0 (va_A (gv_mW h d n L R fw fd) sz) := by
  refine Met.ofW (cc := cX1_depth) (maxL := 5) (ret := (some .int)) (by decide) rfl ?_
  intro p e s m args below meth c s₁ B hml hv
  obtain ⟨rfl, hsz, hP, hK, hD0⟩ := hv
  have hx := B.exec
  have hb := B.bytes
  have hr := B.returns
  have hts := atoms_spec (ws := ws_ yX1_depth cX1_depth 5 (some .int)) B.pre
  have hts : ∀ w ∈ lw_all, w.before _ s = true := fun w h => hts w (List.mem_cons_of_mem _ h)
  have hown : s.vm.findClass RX1 = some m.cls := findClass_of_methodNamed B.named
  have hlocks := B.notSynchronized
  subst hsz
  have hD := hD0.self (sz := s.heap.size)
  generalize hAe : va_A (gv_mW h d n L R fw fd) s.heap.size = A at hD ⊢
  have hA : ∀ q : Nat, s.heap.size ≤ q → A q := fun q h => by rw [← hAe]; exact Or.inr h
  have hS : va_S A s.heap s.heap [] := va_S.rf
  have hP : va_P (dC, dI) gv_cl (gv_mW h d n L R fw fd) s.heap := hP
  have hl := lv_entry ([.ref (h 0), .int x]) (n := 5) (Nat.le_of_ble_eq_true rfl)
  rw [lg_entry_eq]
  generalize (lg_sl ([.ref (h 0), .int x]) ++ List.replicate (5 - (lg_sl ([.ref (h 0), .int x])).length) Slot.unset).toArray = ls at hl ⊢
  have hl : lv_has ls 5 [(0, .ref (h 0)), (1, .int x)] := hl
  refine lv_iconst (v := nI 0) hx hb dX1_depth_0 (by decide) ?_
  refine lv_istore_n (lv' := [(2, .int (nI 0)), (0, .ref (h 0)), (1, .int x)]) hx hb dX1_depth_1 rfl hl (by decide) rfl (fun ls hl => ?_)
  refine gv_for (nL := 5) n (fun i H locs => ∃ gd : Nat → Int32, va_P (dC, dI) gv_cl (gv_mW h d n L R fw gd) H ∧ va_D A (gv_mW h d n L R fw gd) ∧ va_S A s.heap H locs ∧ ∀ j, j < i → gd j = nI (gv_D L R j)) (fun i => [(0, .ref (h 0)), (1, .int x), (2, .int (nI i))]) ?_ ?_ 0 (Nat.zero_le _) ⟨fd, hP, hD, hS, fun x h => absurd h (Nat.not_lt_zero _)⟩ (lv_sub hl [1, 2, 0] rfl)
  · intro H locs ls hJ hl
    obtain ⟨gd, hP, hD, hS, hJ⟩ := hJ
    have hl : lv_has ls 5 [(0, .ref (h 0)), (1, .int x), (2, .int (nI n))] := hl
    refine lv_iload_n hx hb dX1_depth_2 rfl (lv_at hl 2 rfl) ?_
    refine lv_aload_n hx hb dX1_depth_3 rfl (lv_at hl 0 rfl) ?_
    refine va_get (D := (dC, dI)) (ci := 1) (v := .int (nI n)) (C := RX1) (T := TX1) (N := 4) hx hb hts in_X1 hown hK hP 0 rfl rfl 0 (by decide) (hts _ q156) (fun _ h9 => h9) rfl dX1_depth_4 ?_
    refine lv_icmp_ge (tgt := 115) hx hb dX1_depth_7 (by decide) (fun c1 => ?_) (fun c1 => ?_)
    · refine lv_aload_n hx hb dX1_depth_115 rfl (lv_at hl 0 rfl) ?_
      refine lv_iload_n hx hb dX1_depth_116 rfl (lv_at hl 1 rfl) ?_
      refine vp_callSi (W.runV (As := [.int x]) (rest := []) ⟨hx, hb, hml, hown, hts⟩ (gv_m_is l dC dI h d n L R fw gd x) (cwV 1 hts (lw_V q186 q188 qs9 q18 q189) rfl rfl rfl (by decide +kernel) ⟨Nat.le_of_ble_eq_true rfl, Nat.le_of_ble_eq_true rfl⟩) (gv_preV (ci := 1) hK hP rfl rfl) rfl rfl hl.1 rfl (lv_room (Nat.le_of_ble_eq_true rfl)) dX1_depth_117 ⟨Nat.le_of_ble_eq_true rfl, Nat.le_of_ble_eq_true rfl⟩) (fun r er => ?_)
      subst er
      refine lv_if_eq (tgt := 132) hx hb dX1_depth_120 (by decide) (fun c2 => ?_) (fun c2 => ?_)
      · refine lv_iconst (v := (-1)) hx hb dX1_depth_132 (by decide) ?_
        exact W.iret (v := (-1)) hx hb hr (fun t ht hW => ⟨⟨(-1), (fw, gd), rfl, (gv_dpR_f (gv_z0 c2)).symm, by rw [ht]; exact hP, va_K.moved hW.alike hK, hD⟩, hS.F ht⟩) hS.2.2 dX1_depth_133
      · have q1 := gv_z1 c2
        clear c2
        obtain ⟨k1, j1, rfl⟩ := gv_hT q1 (by omega)
        refine lv_aload_n hx hb dX1_depth_123 rfl (lv_at hl 0 rfl) ?_
        refine va_get (D := (dC, dI)) (ci := 1) (v := .ref (h 3)) (C := RX1) (T := TX1) (N := 4) hx hb hts in_X1 hown hK hP 0 rfl rfl 3 (by decide) (hts _ q159) (fun _ h9 => h9) rfl dX1_depth_124 ?_
        refine lv_iload_n hx hb dX1_depth_127 rfl (lv_at hl 1 rfl) ?_
        refine va_iald hx hb hK hP 3 2 rfl rfl (vp_in_nI (n := k1) (by omega) (by decide)) dX1_depth_128 ?_
        refine gv_top (y := nI (gv_D L R k1)) ((gv_ld gd (e := k1) (by omega)).trans (hJ k1 j1)) ?_
        refine lv_goto (tgt := 133) hx hb dX1_depth_129 (by decide) ?_
        exact W.iret (v := nI (gv_D L R k1)) hx hb hr (fun t ht hW => ⟨⟨nI (gv_D L R k1), (fw, gd), rfl, (gv_dpR_t q1 (by omega)).symm, by rw [ht]; exact hP, va_K.moved hW.alike hK, hD⟩, hS.F ht⟩) hS.2.2 dX1_depth_133
    · exact absurd (Int32.le_refl _) c1
  · intro i H locs ls hi hJ hl ihO
    obtain ⟨gd, hP, hD, hS, hJ⟩ := hJ
    have hl : lv_has ls 5 [(0, .ref (h 0)), (1, .int x), (2, .int (nI i))] := hl
    refine lv_iload_n hx hb dX1_depth_2 rfl (lv_at hl 2 rfl) ?_
    refine lv_aload_n hx hb dX1_depth_3 rfl (lv_at hl 0 rfl) ?_
    refine va_get (D := (dC, dI)) (ci := 1) (v := .int (nI n)) (C := RX1) (T := TX1) (N := 4) hx hb hts in_X1 hown hK hP 0 rfl rfl 0 (by decide) (hts _ q156) (fun _ h9 => h9) rfl dX1_depth_4 ?_
    refine lv_icmp_ge (tgt := 115) hx hb dX1_depth_7 (by decide) (fun c1 => ?_) (fun c1 => ?_)
    · exact absurd c1 (nI_ge hi (by omega))
    · refine lv_aload_n hx hb dX1_depth_10 rfl (lv_at hl 0 rfl) ?_
      refine va_get (D := (dC, dI)) (ci := 1) (v := .ref (h 3)) (C := RX1) (T := TX1) (N := 4) hx hb hts in_X1 hown hK hP 0 rfl rfl 3 (by decide) (hts _ q159) (fun _ h9 => h9) rfl dX1_depth_11 ?_
      refine lv_iload_n hx hb dX1_depth_14 rfl (lv_at hl 2 rfl) ?_
      refine lv_iconst (v := nI 0) hx hb dX1_depth_15 (by decide) ?_
      refine va_iast hx hb hK hP hD hS 3 2 rfl rfl (vp_in_nI (n := i) (by omega) (by decide)) dX1_depth_16 (fun H locs hP hD hS => ?_)
      have hup : upd gd (nI i).toNatClampNeg (nI 0) = (upd gd i (nI 0)) := by rw [nI_clamp (by omega)]
      rw [hup] at hP hD
      have hP : va_P (dC, dI) gv_cl (gv_mW h d n L R fw (upd gd i (nI 0))) H := hP
      have hD : va_D A (gv_mW h d n L R fw (upd gd i (nI 0))) := hD
      refine lv_iconst (v := nI 0) hx hb dX1_depth_17 (by decide) ?_
      refine lv_istore_n (lv' := [(3, .int (nI 0)), (0, .ref (h 0)), (1, .int x), (2, .int (nI i))]) hx hb dX1_depth_18 rfl hl (by decide) rfl (fun ls hl => ?_)
      have hL1 := gv_L_1024 hg (p := i) (by omega)
      have hR1 := gv_R_1024 hg (p := i) (by omega)
      have hLR : L i ||| R i < 1024 := Nat.or_lt_two_pow (n := 10) hL1 hR1
      refine gv_for (nL := 5) i (fun j H locs => ∃ gd : Nat → Int32, va_P (dC, dI) gv_cl (gv_mW h d n L R fw gd) H ∧ va_D A (gv_mW h d n L R fw gd) ∧ va_S A s.heap H locs ∧ (∀ j, j < i → gd j = nI (gv_D L R j)) ∧ gd i = nI (gv_mx (fun x => (L i ||| R i).testBit x) (gv_D L R) j)) (fun j => [(0, .ref (h 0)), (1, .int x), (2, .int (nI i)), (3, .int (nI j))]) ?_ ?_ 0 (Nat.zero_le _) ⟨_, hP, hD, hS, fun k hk => (pk_un (by omega)).trans (hJ k hk), pk_us⟩ (lv_sub hl [1, 2, 3, 0] rfl)
      · intro H locs ls hJ hl
        obtain ⟨gd, hP, hD, hS, hJ1, hJ2⟩ := hJ
        have hl : lv_has ls 5 [(0, .ref (h 0)), (1, .int x), (2, .int (nI i)), (3, .int (nI i))] := hl
        refine lv_iload_n hx hb dX1_depth_19 rfl (lv_at hl 3 rfl) ?_
        refine lv_iload_n hx hb dX1_depth_20 rfl (lv_at hl 2 rfl) ?_
        refine lv_icmp_ge (tgt := 109) hx hb dX1_depth_21 (by decide) (fun c2 => ?_) (fun c2 => ?_)
        · refine lv_iinc (v := nI (i + 1)) (lv' := [(2, .int (nI (i + 1))), (0, .ref (h 0)), (1, .int x), (3, .int (nI i))]) hx hb dX1_depth_109 hl (k := 2) rfl (gv_inc _) (by decide) rfl (fun ls hl => ?_)
          refine lv_goto (tgt := 2) hx hb dX1_depth_112 (by decide) ?_
          exact ihO H locs ls ⟨gd, hP, hD, hS, lt_s hJ1 (hJ2.trans (congrArg nI (gv_D_eq L R (by omega)).symm))⟩ (lv_sub hl [1, 2, 0] rfl)
        · exact absurd (Int32.le_refl _) c2
      · intro j H locs ls hj hJ hl ihI
        obtain ⟨gd, hP, hD, hS, hJ1, hJ2⟩ := hJ
        have hl : lv_has ls 5 [(0, .ref (h 0)), (1, .int x), (2, .int (nI i)), (3, .int (nI j))] := hl
        have hDj := gv_D_le L R 10 j (by omega) (by omega)
        have hmx := gv_mxD_le L R (q := i) (by omega) (fun x => (L i ||| R i).testBit x) j (by omega)
        refine lv_iload_n hx hb dX1_depth_19 rfl (lv_at hl 3 rfl) ?_
        refine lv_iload_n hx hb dX1_depth_20 rfl (lv_at hl 2 rfl) ?_
        refine lv_icmp_ge (tgt := 109) hx hb dX1_depth_21 (by decide) (fun c2 => ?_) (fun c2 => ?_)
        · exact absurd c2 (nI_ge hj (by omega))
        · refine lv_aload_n hx hb dX1_depth_24 rfl (lv_at hl 0 rfl) ?_
          refine va_get (D := (dC, dI)) (ci := 1) (v := .ref (h 1)) (C := RX1) (T := TX1) (N := 4) hx hb hts in_X1 hown hK hP 0 rfl rfl 1 (by decide) (hts _ q157) (fun _ h9 => h9) rfl dX1_depth_25 ?_
          refine lv_iconst (v := nI 2) hx hb dX1_depth_28 (by decide) ?_
          refine lv_iload_n hx hb dX1_depth_29 rfl (lv_at hl 2 rfl) ?_
          refine lv_imul hx hb dX1_depth_30 ?_
          refine gv_top (y := nI (2 * i)) (pk_mul _ _) ?_
          refine va_iald hx hb hK hP 1 0 rfl rfl (vp_in_nI (n := 2 * i) (by omega) (by decide)) dX1_depth_31 ?_
          refine gv_top (y := nI (gv_G L R (2 * i))) (gv_ld (fun j => nI (gv_G L R j)) (e := 2 * i) (by omega)) ?_
          refine gv_top (y := nI (L i)) (congrArg nI (gv_G_0 L R i)) ?_
          refine lv_aload_n hx hb dX1_depth_32 rfl (lv_at hl 0 rfl) ?_
          refine va_get (D := (dC, dI)) (ci := 1) (v := .ref (h 1)) (C := RX1) (T := TX1) (N := 4) hx hb hts in_X1 hown hK hP 0 rfl rfl 1 (by decide) (hts _ q157) (fun _ h9 => h9) rfl dX1_depth_33 ?_
          refine lv_iconst (v := nI 2) hx hb dX1_depth_36 (by decide) ?_
          refine lv_iload_n hx hb dX1_depth_37 rfl (lv_at hl 2 rfl) ?_
          refine lv_imul hx hb dX1_depth_38 ?_
          refine gv_top (y := nI (2 * i)) (pk_mul _ _) ?_
          refine lv_iconst (v := nI 1) hx hb dX1_depth_39 (by decide) ?_
          refine lv_iadd hx hb dX1_depth_40 ?_
          refine gv_top (y := nI ((2 * i) + 1)) (nI_add _ _) ?_
          refine va_iald hx hb hK hP 1 0 rfl rfl (vp_in_nI (n := (2 * i) + 1) (by omega) (by decide)) dX1_depth_41 ?_
          refine gv_top (y := nI (gv_G L R ((2 * i) + 1))) (gv_ld (fun j => nI (gv_G L R j)) (e := (2 * i) + 1) (by omega)) ?_
          refine gv_top (y := nI (R i)) (congrArg nI (gv_G_1 L R i)) ?_
          refine lv_ior hx hb dX1_depth_42 ?_
          refine gv_top (y := nI ((L i) ||| (R i))) (gv_or _ _) ?_
          refine lv_iload_n hx hb dX1_depth_43 rfl (lv_at hl 3 rfl) ?_
          refine lv_ishr hx hb dX1_depth_44 ?_
          refine lv_iconst (v := nI 1) hx hb dX1_depth_45 (by decide) ?_
          refine lv_iand hx hb dX1_depth_46 ?_
          refine gv_top (y := gv_z ((L i ||| R i).testBit j)) (gv_bitI (by omega) (by omega)) ?_
          refine lv_iconst (v := nI 1) hx hb dX1_depth_47 (by decide) ?_
          refine gv_mid (g1 := F0 m 56 ls [.int (gv_z ((L i ||| R i).testBit j))]) ?_ (fun K56 => ?_)
          · refine lv_istore (lv' := [(4, .int (gv_z ((L i ||| R i).testBit j))), (0, .ref (h 0)), (1, .int x), (2, .int (nI i)), (3, .int (nI j))]) hx hb dX1_depth_56 hl (by decide) rfl (fun ls hl => ?_)
            refine lv_aload_n hx hb dX1_depth_58 rfl (lv_at hl 1 rfl) ?_
            refine va_get (D := (dC, dI)) (ci := 1) (v := .ref (h 3)) (C := RX1) (T := TX1) (N := 4) hx hb hts in_X1 hown hK hP 0 rfl rfl 3 (by decide) (hts _ q159) (fun _ h9 => h9) rfl dX1_depth_59 ?_
            refine lv_iload_n hx hb dX1_depth_62 rfl (lv_at hl 3 rfl) ?_
            refine gv_mid (g1 := F0 m 102 ls [.int (nI (gv_mx (fun x => (L i ||| R i).testBit x) (gv_D L R) (j + 1))), .int (nI i), .ref (h 3)]) ?_ (fun K102 => ?_)
            · refine va_iast hx hb hK hP hD hS 3 2 rfl rfl (vp_in_nI (n := i) (by omega) (by decide)) dX1_depth_102 (fun H locs hP hD hS => ?_)
              have hup : upd gd (nI i).toNatClampNeg (nI (gv_mx (fun x => (L i ||| R i).testBit x) (gv_D L R) (j + 1))) = (upd gd i (nI (gv_mx (fun x => (L i ||| R i).testBit x) (gv_D L R) (j + 1)))) := by rw [nI_clamp (by omega)]
              rw [hup] at hP hD
              have hP : va_P (dC, dI) gv_cl (gv_mW h d n L R fw (upd gd i (nI (gv_mx (fun x => (L i ||| R i).testBit x) (gv_D L R) (j + 1))))) H := hP
              have hD : va_D A (gv_mW h d n L R fw (upd gd i (nI (gv_mx (fun x => (L i ||| R i).testBit x) (gv_D L R) (j + 1))))) := hD
              refine lv_iinc (v := nI (j + 1)) (lv' := [(3, .int (nI (j + 1))), (4, .int (gv_z ((L i ||| R i).testBit j))), (0, .ref (h 0)), (1, .int x), (2, .int (nI i))]) hx hb dX1_depth_103 hl (k := 4) rfl (gv_inc _) (by decide) rfl (fun ls hl => ?_)
              refine lv_goto (tgt := 19) hx hb dX1_depth_106 (by decide) ?_
              exact ihI H locs ls ⟨_, hP, hD, hS, fun k hk => (pk_un (by omega)).trans (hJ1 k hk), pk_us⟩ (lv_sub hl [2, 3, 4, 0] rfl)
            · refine lv_iload hx hb dX1_depth_63 (lv_at hl 0 rfl) ?_
              refine lv_if_eq (tgt := 96) hx hb dX1_depth_65 (by decide) (fun c4 => ?_) (fun c4 => ?_)
              · refine lv_aload_n hx hb dX1_depth_96 rfl (lv_at hl 1 rfl) ?_
                refine va_get (D := (dC, dI)) (ci := 1) (v := .ref (h 3)) (C := RX1) (T := TX1) (N := 4) hx hb hts in_X1 hown hK hP 0 rfl rfl 3 (by decide) (hts _ q159) (fun _ h9 => h9) rfl dX1_depth_97 ?_
                refine lv_iload_n hx hb dX1_depth_100 rfl (lv_at hl 3 rfl) ?_
                refine va_iald hx hb hK hP 3 2 rfl rfl (vp_in_nI (n := i) (by omega) (by decide)) dX1_depth_101 ?_
                refine gv_top (y := nI (gv_mx (fun x => (L i ||| R i).testBit x) (gv_D L R) j)) ((gv_ld gd (e := i) (by omega)).trans hJ2) ?_
                exact gv_top (congrArg nI (gv_mx_f (f := (fun x => (L i ||| R i).testBit x)) (v := gv_D L R) (i := j) (Or.inl (gv_z0 c4))).symm) K102
              · refine lv_aload_n hx hb dX1_depth_68 rfl (lv_at hl 1 rfl) ?_
                refine va_get (D := (dC, dI)) (ci := 1) (v := .ref (h 3)) (C := RX1) (T := TX1) (N := 4) hx hb hts in_X1 hown hK hP 0 rfl rfl 3 (by decide) (hts _ q159) (fun _ h9 => h9) rfl dX1_depth_69 ?_
                refine lv_iload_n hx hb dX1_depth_72 rfl (lv_at hl 4 rfl) ?_
                refine va_iald hx hb hK hP 3 2 rfl rfl (vp_in_nI (n := j) (by omega) (by decide)) dX1_depth_73 ?_
                refine gv_top (y := nI (gv_D L R j)) ((gv_ld gd (e := j) (by omega)).trans (hJ1 j hj)) ?_
                refine lv_iconst (v := nI 1) hx hb dX1_depth_74 (by decide) ?_
                refine lv_iadd hx hb dX1_depth_75 ?_
                refine gv_top (y := nI ((gv_D L R j) + 1)) (nI_add _ _) ?_
                refine lv_aload_n hx hb dX1_depth_76 rfl (lv_at hl 1 rfl) ?_
                refine va_get (D := (dC, dI)) (ci := 1) (v := .ref (h 3)) (C := RX1) (T := TX1) (N := 4) hx hb hts in_X1 hown hK hP 0 rfl rfl 3 (by decide) (hts _ q159) (fun _ h9 => h9) rfl dX1_depth_77 ?_
                refine lv_iload_n hx hb dX1_depth_80 rfl (lv_at hl 3 rfl) ?_
                refine va_iald hx hb hK hP 3 2 rfl rfl (vp_in_nI (n := i) (by omega) (by decide)) dX1_depth_81 ?_
                refine gv_top (y := nI (gv_mx (fun x => (L i ||| R i).testBit x) (gv_D L R) j)) ((gv_ld gd (e := i) (by omega)).trans hJ2) ?_
                refine lv_icmp_le (tgt := 96) hx hb dX1_depth_82 (by decide) (fun c5 => ?_) (fun c5 => ?_)
                · refine lv_aload_n hx hb dX1_depth_96 rfl (lv_at hl 1 rfl) ?_
                  refine va_get (D := (dC, dI)) (ci := 1) (v := .ref (h 3)) (C := RX1) (T := TX1) (N := 4) hx hb hts in_X1 hown hK hP 0 rfl rfl 3 (by decide) (hts _ q159) (fun _ h9 => h9) rfl dX1_depth_97 ?_
                  refine lv_iload_n hx hb dX1_depth_100 rfl (lv_at hl 3 rfl) ?_
                  refine va_iald hx hb hK hP 3 2 rfl rfl (vp_in_nI (n := i) (by omega) (by decide)) dX1_depth_101 ?_
                  refine gv_top (y := nI (gv_mx (fun x => (L i ||| R i).testBit x) (gv_D L R) j)) ((gv_ld gd (e := i) (by omega)).trans hJ2) ?_
                  exact gv_top (congrArg nI (gv_mx_f (f := (fun x => (L i ||| R i).testBit x)) (v := gv_D L R) (i := j) (Or.inr ((nI_leI (by omega) (by omega)).mp c5))).symm) K102
                · refine lv_aload_n hx hb dX1_depth_85 rfl (lv_at hl 1 rfl) ?_
                  refine va_get (D := (dC, dI)) (ci := 1) (v := .ref (h 3)) (C := RX1) (T := TX1) (N := 4) hx hb hts in_X1 hown hK hP 0 rfl rfl 3 (by decide) (hts _ q159) (fun _ h9 => h9) rfl dX1_depth_86 ?_
                  refine lv_iload_n hx hb dX1_depth_89 rfl (lv_at hl 4 rfl) ?_
                  refine va_iald hx hb hK hP 3 2 rfl rfl (vp_in_nI (n := j) (by omega) (by decide)) dX1_depth_90 ?_
                  refine gv_top (y := nI (gv_D L R j)) ((gv_ld gd (e := j) (by omega)).trans (hJ1 j hj)) ?_
                  refine lv_iconst (v := nI 1) hx hb dX1_depth_91 (by decide) ?_
                  refine lv_iadd hx hb dX1_depth_92 ?_
                  refine gv_top (y := nI ((gv_D L R j) + 1)) (nI_add _ _) ?_
                  refine lv_goto (tgt := 102) hx hb dX1_depth_93 (by decide) ?_
                  exact gv_top (congrArg nI (gv_mx_t (f := (fun x => (L i ||| R i).testBit x)) (v := gv_D L R) (i := j) (gv_z1 c4) (Nat.not_le.mp (fun z => c5 (nI_le z (by omega))))).symm) K102
          · refine lv_icmp_ne (tgt := 55) hx hb dX1_depth_48 (by decide) (fun c3 => ?_) (fun c3 => ?_)
            · refine lv_iconst (v := nI 0) hx hb dX1_depth_55 (by decide) ?_
              exact gv_top (gv_a0 (gv_z_nn1 c3)) K56
            · refine lv_iconst (v := nI 1) hx hb dX1_depth_51 (by decide) ?_
              refine lv_goto (tgt := 56) hx hb dX1_depth_52 (by decide) ?_
              exact gv_top (gv_a1 (gv_z_nI1 c3)) K56
end
section
set_option maxHeartbeats 4000000 in
set_option maxRecDepth 100000 in
/-- add -/
theorem gv_m_add (l : Launch) (dC : Nat → ClassId) (dI : Nat → Nat → Nat) (h : Nat → Nat) (d : Nat → ClassId) (sz : Nat) (n : Nat) (L R : Nat → Nat) (fw fd : Nat → Int32) (x y : Int32) (hn : n ≤ 10) : Met l yX1_add (ws_ yX1_add cX1_add 4 (some .int)) ({ frames := 0, cells := 0, slots := 0, locals := 0 }) (va_Pc [.ref (h 0), .int x, .int y] (fun U => U.heap.size = sz ∧ va_P (dC, dI) gv_cl (gv_mW h d n L R fw fd) U.heap ∧ va_K (dC, dI) gv_cl (gv_mT d) U ∧ va_D (fun _ => True) (gv_mW h d n L R fw fd))) (va_Qi (fun (r : Int32) (u : Nat × (Nat → Nat) × (Nat → Nat)) => r = gv_adR n x y ∧ u.1 = gv_adN n x y ∧ u.2.1 = gv_adL n L x y x ∧ u.2.2 = gv_adL n R x y y) (fun u t => va_P (dC, dI) gv_cl (gv_mW h d u.1 u.2.1 u.2.2 fw fd) t.heap ∧ va_K (dC, dI) gv_cl (gv_mT d) t ∧ va_D (va_A (gv_mW h d n L R fw fd) sz) (gv_mW h d u.1 u.2.1 u.2.2 fw fd)) (va_A (gv_mW h d n L R fw fd) sz)) 0 0 (va_A (gv_mW h d n L R fw fd) sz) := by
  refine Met.ofW (cc := cX1_add) (maxL := 4) (ret := (some .int)) (by decide) rfl ?_
  intro p e s m args below meth c s₁ B hml hv
  obtain ⟨rfl, hsz, hP, hK, hD0⟩ := hv
  have hx := B.exec
  have hb := B.bytes
  have hr := B.returns
  have hts := atoms_spec (ws := ws_ yX1_add cX1_add 4 (some .int)) B.pre
  have hts : ∀ w ∈ lw_all, w.before _ s = true := fun w h => hts w (List.mem_cons_of_mem _ h)
  have hown : s.vm.findClass RX1 = some m.cls := findClass_of_methodNamed B.named
  have hlocks := B.notSynchronized
  subst hsz
  have hD := hD0.self (sz := s.heap.size)
  generalize hAe : va_A (gv_mW h d n L R fw fd) s.heap.size = A at hD ⊢
  have hA : ∀ q : Nat, s.heap.size ≤ q → A q := fun q h => by rw [← hAe]; exact Or.inr h
  have hS : va_S A s.heap s.heap [] := va_S.rf
  have hP : va_P (dC, dI) gv_cl (gv_mW h d n L R fw fd) s.heap := hP
  have hl := lv_entry ([.ref (h 0), .int x, .int y]) (n := 4) (Nat.le_of_ble_eq_true rfl)
  rw [lg_entry_eq]
  generalize (lg_sl ([.ref (h 0), .int x, .int y]) ++ List.replicate (4 - (lg_sl ([.ref (h 0), .int x, .int y])).length) Slot.unset).toArray = ls at hl ⊢
  have hl : lv_has ls 4 [(0, .ref (h 0)), (1, .int x), (2, .int y)] := hl
  have hp := gv_p10 hn
  have hp0 := Nat.two_pow_pos n
  refine lv_iconst (v := nI 1) hx hb dX1_add_0 (by decide) ?_
  refine lv_aload_n hx hb dX1_add_1 rfl (lv_at hl 0 rfl) ?_
  refine va_get (D := (dC, dI)) (ci := 1) (v := .int (nI n)) (C := RX1) (T := TX1) (N := 4) hx hb hts in_X1 hown hK hP 0 rfl rfl 0 (by decide) (hts _ q156) (fun _ h9 => h9) rfl dX1_add_2 ?_
  refine lv_ishl hx hb dX1_add_5 ?_
  refine gv_top (y := nI (2 ^ n)) (gv_shl (by omega)) ?_
  refine lv_iconst (v := nI 1) hx hb dX1_add_6 (by decide) ?_
  refine lv_isub hx hb dX1_add_7 ?_
  refine gv_top (y := nI (2 ^ n - 1)) (pk_sub (by omega)) ?_
  refine lv_istore_n (lv' := [(3, .int (nI (2 ^ n - 1))), (0, .ref (h 0)), (1, .int x), (2, .int y)]) hx hb dX1_add_8 rfl hl (by decide) rfl (fun ls hl => ?_)
  refine lv_iload_n hx hb dX1_add_9 rfl (lv_at hl 2 rfl) ?_
  refine lv_iload_n hx hb dX1_add_10 rfl (lv_at hl 0 rfl) ?_
  refine lv_iconst (v := (-1)) hx hb dX1_add_11 (by decide) ?_
  refine lv_ixor hx hb dX1_add_12 ?_
  refine lv_iand hx hb dX1_add_13 ?_
  refine lv_if_ne (tgt := 25) hx hb dX1_add_14 (by decide) (fun c1 => ?_) (fun c1 => ?_)
  · have e := gv_ad_bad (n := n) (x := x) (y := y) (by unfold gv_adC; rw [gv_mask_f hn c1]; rfl)
    refine lv_iconst (v := (-1)) hx hb dX1_add_25 (by decide) ?_
    exact W.iret (v := (-1)) hx hb hr (fun t ht hW => ⟨⟨(-1), (n, L, R), rfl, ⟨e.1.symm, e.2.1.symm, (e.2.2 L x).symm, (e.2.2 R y).symm⟩, by rw [ht]; exact hP, va_K.moved hW.alike hK, hD⟩, hS.F ht⟩) hS.2.2 dX1_add_26
  · refine lv_iload_n hx hb dX1_add_17 rfl (lv_at hl 3 rfl) ?_
    refine lv_iload_n hx hb dX1_add_18 rfl (lv_at hl 0 rfl) ?_
    refine lv_iconst (v := (-1)) hx hb dX1_add_19 (by decide) ?_
    refine lv_ixor hx hb dX1_add_20 ?_
    refine lv_iand hx hb dX1_add_21 ?_
    refine lv_if_eq (tgt := 27) hx hb dX1_add_22 (by decide) (fun c2 => ?_) (fun c2 => ?_)
    · have q1 := (gv_mask hn x).mp c1
      have q2 := (gv_mask hn y).mp c2
      have hC : gv_adC n x y = true := by unfold gv_adC; rw [q1, q2]; rfl
      clear c1 c2
      refine lv_aload_n hx hb dX1_add_27 rfl (lv_at hl 1 rfl) ?_
      refine va_get (D := (dC, dI)) (ci := 1) (v := .int (nI n)) (C := RX1) (T := TX1) (N := 4) hx hb hts in_X1 hown hK hP 0 rfl rfl 0 (by decide) (hts _ q156) (fun _ h9 => h9) rfl dX1_add_28 ?_
      refine lv_bipush (v := nI 10) hx hb dX1_add_31 (by decide) ?_
      refine lv_icmp_lt (tgt := 39) hx hb dX1_add_33 (by decide) (fun c3 => ?_) (fun c3 => ?_)
      · have hlt : n < 10 := (nI_ltI (by omega) (by decide)).mp c3
        have e := gv_ad_ok hC hlt
        obtain ⟨k1, j1, rfl⟩ := gv_sT q1 hn
        obtain ⟨k2, j2, rfl⟩ := gv_sT q2 hn
        refine lv_aload_n hx hb dX1_add_39 rfl (lv_at hl 1 rfl) ?_
        refine va_get (D := (dC, dI)) (ci := 1) (v := .ref (h 1)) (C := RX1) (T := TX1) (N := 4) hx hb hts in_X1 hown hK hP 0 rfl rfl 1 (by decide) (hts _ q157) (fun _ h9 => h9) rfl dX1_add_40 ?_
        refine lv_iconst (v := nI 2) hx hb dX1_add_43 (by decide) ?_
        refine lv_aload_n hx hb dX1_add_44 rfl (lv_at hl 1 rfl) ?_
        refine va_get (D := (dC, dI)) (ci := 1) (v := .int (nI n)) (C := RX1) (T := TX1) (N := 4) hx hb hts in_X1 hown hK hP 0 rfl rfl 0 (by decide) (hts _ q156) (fun _ h9 => h9) rfl dX1_add_45 ?_
        refine lv_imul hx hb dX1_add_48 ?_
        refine gv_top (y := nI (2 * n)) (pk_mul _ _) ?_
        refine lv_iload_n hx hb dX1_add_49 rfl (lv_at hl 2 rfl) ?_
        refine va_iast hx hb hK hP hD hS 1 0 rfl rfl (vp_in_nI (n := 2 * n) (by omega) (by decide)) dX1_add_50 (fun H locs hP hD hS => ?_)
        have hup : upd (fun j => nI (gv_G L R j)) (nI (2 * n)).toNatClampNeg (nI k1) = (fun j => nI (gv_G (gv_up L n k1) R j)) := gv_upM0 L R (by omega)
        rw [hup] at hP hD
        have hP : va_P (dC, dI) gv_cl (gv_mW h d n (gv_up L n k1) R fw fd) H := hP
        have hD : va_D A (gv_mW h d n (gv_up L n k1) R fw fd) := hD
        refine lv_aload_n hx hb dX1_add_51 rfl (lv_at hl 1 rfl) ?_
        refine va_get (D := (dC, dI)) (ci := 1) (v := .ref (h 1)) (C := RX1) (T := TX1) (N := 4) hx hb hts in_X1 hown hK hP 0 rfl rfl 1 (by decide) (hts _ q157) (fun _ h9 => h9) rfl dX1_add_52 ?_
        refine lv_iconst (v := nI 2) hx hb dX1_add_55 (by decide) ?_
        refine lv_aload_n hx hb dX1_add_56 rfl (lv_at hl 1 rfl) ?_
        refine va_get (D := (dC, dI)) (ci := 1) (v := .int (nI n)) (C := RX1) (T := TX1) (N := 4) hx hb hts in_X1 hown hK hP 0 rfl rfl 0 (by decide) (hts _ q156) (fun _ h9 => h9) rfl dX1_add_57 ?_
        refine lv_imul hx hb dX1_add_60 ?_
        refine gv_top (y := nI (2 * n)) (pk_mul _ _) ?_
        refine lv_iconst (v := nI 1) hx hb dX1_add_61 (by decide) ?_
        refine lv_iadd hx hb dX1_add_62 ?_
        refine gv_top (y := nI ((2 * n) + 1)) (nI_add _ _) ?_
        refine lv_iload_n hx hb dX1_add_63 rfl (lv_at hl 3 rfl) ?_
        refine va_iast hx hb hK hP hD hS 1 0 rfl rfl (vp_in_nI (n := (2 * n) + 1) (by omega) (by decide)) dX1_add_64 (fun H locs hP hD hS => ?_)
        have hup : upd (fun j => nI (gv_G (gv_up L n k1) R j)) (nI ((2 * n) + 1)).toNatClampNeg (nI k2) = (fun j => nI (gv_G (gv_up L n k1) (gv_up R n k2) j)) := gv_upM1 (gv_up L n k1) R (by omega)
        rw [hup] at hP hD
        have hP : va_P (dC, dI) gv_cl (gv_mW h d n (gv_up L n k1) (gv_up R n k2) fw fd) H := hP
        have hD : va_D A (gv_mW h d n (gv_up L n k1) (gv_up R n k2) fw fd) := hD
        refine lv_aload_n hx hb dX1_add_65 rfl (lv_at hl 1 rfl) ?_
        refine lv_dup hx hb dX1_add_66 rfl ?_
        refine va_get (D := (dC, dI)) (ci := 1) (v := .int (nI n)) (C := RX1) (T := TX1) (N := 4) hx hb hts in_X1 hown hK hP 0 rfl rfl 0 (by decide) (hts _ q156) (fun _ h9 => h9) rfl dX1_add_67 ?_
        refine lv_iconst (v := nI 1) hx hb dX1_add_70 (by decide) ?_
        refine lv_iadd hx hb dX1_add_71 ?_
        refine gv_top (y := nI (n + 1)) (nI_add _ _) ?_
        refine va_put (D := (dC, dI)) (ci := 1) (v := .int (nI (n + 1))) (ty := .int) (C := RX1) (T := TX1) (N := 4) hx hb hts in_X1 tyX1 tyX1_ok nmX1 hown hK hP hD hS 0 rfl rfl 0 (by decide) (hts _ q156) (fun _ h9 => h9) rfl (by decide +kernel) rfl rfl (Nat.le_of_ble_eq_true rfl) dX1_add_72 (fun H locs hP hD hS => ?_)
        have hP : va_P (dC, dI) gv_cl (gv_mW h d (n + 1) (gv_up L n k1) (gv_up R n k2) fw fd) H := hP
        have hD : va_D A (gv_mW h d (n + 1) (gv_up L n k1) (gv_up R n k2) fw fd) := hD
        refine lv_aload_n hx hb dX1_add_75 rfl (lv_at hl 1 rfl) ?_
        refine va_get (D := (dC, dI)) (ci := 1) (v := .int (nI (n + 1))) (C := RX1) (T := TX1) (N := 4) hx hb hts in_X1 hown hK hP 0 rfl rfl 0 (by decide) (hts _ q156) (fun _ h9 => h9) rfl dX1_add_76 ?_
        refine lv_iconst (v := nI 1) hx hb dX1_add_79 (by decide) ?_
        refine lv_isub hx hb dX1_add_80 ?_
        refine gv_top (y := nI n) (pk_sub (a := n + 1) (b := 1) (by omega)) ?_
        exact W.iret (v := nI n) hx hb hr (fun t ht hW => ⟨⟨nI n, (n + 1, gv_up L n k1, gv_up R n k2), rfl, ⟨e.1.symm, e.2.1.symm, ((e.2.2 L (nI k1)).trans (by rw [nI_clamp (by omega)])).symm, ((e.2.2 R (nI k2)).trans (by rw [nI_clamp (by omega)])).symm⟩, by rw [ht]; exact hP, va_K.moved hW.alike hK, hD⟩, hS.F ht⟩) hS.2.2 dX1_add_81
      · have e := gv_ad_full hC (fun z => c3 (nI_lt z (by decide)))
        refine lv_bipush (v := (-2)) hx hb dX1_add_36 (by decide) ?_
        exact W.iret (v := (-2)) hx hb hr (fun t ht hW => ⟨⟨(-2), (n, L, R), rfl, ⟨e.1.symm, e.2.1.symm, (e.2.2 L x).symm, (e.2.2 R y).symm⟩, by rw [ht]; exact hP, va_K.moved hW.alike hK, hD⟩, hS.F ht⟩) hS.2.2 dX1_add_38
    · have e := gv_ad_bad (n := n) (x := x) (y := y) (by unfold gv_adC; rw [gv_mask_f hn c2, Bool.and_false])
      refine lv_iconst (v := (-1)) hx hb dX1_add_25 (by decide) ?_
      exact W.iret (v := (-1)) hx hb hr (fun t ht hW => ⟨⟨(-1), (n, L, R), rfl, ⟨e.1.symm, e.2.1.symm, (e.2.2 L x).symm, (e.2.2 R y).symm⟩, by rw [ht]; exact hP, va_K.moved hW.alike hK, hD⟩, hS.F ht⟩) hS.2.2 dX1_add_26
set_option maxHeartbeats 4000000 in
set_option maxRecDepth 100000 in
/-- drop -/
theorem gv_m_drop (l : Launch) (dC : Nat → ClassId) (dI : Nat → Nat → Nat) (h : Nat → Nat) (d : Nat → ClassId) (sz : Nat) (n : Nat) (L R : Nat → Nat) (fw fd : Nat → Int32) (hn1 : 1 ≤ n) (hn : n ≤ 10) : Met l yX1_drop (ws_ yX1_drop cX1_drop 1 (some .int)) ({ frames := 0, cells := 0, slots := 0, locals := 0 }) (va_Pc [.ref (h 0)] (fun U => U.heap.size = sz ∧ va_P (dC, dI) gv_cl (gv_mW h d n L R fw fd) U.heap ∧ va_K (dC, dI) gv_cl (gv_mT d) U ∧ va_D (fun _ => True) (gv_mW h d n L R fw fd))) (va_Qi (fun (r : Int32) (u : Nat) => r = gv_drR n ∧ u = gv_drN n) (fun u t => va_P (dC, dI) gv_cl (gv_mW h d u L R fw fd) t.heap ∧ va_K (dC, dI) gv_cl (gv_mT d) t ∧ va_D (va_A (gv_mW h d n L R fw fd) sz) (gv_mW h d u L R fw fd)) (va_A (gv_mW h d n L R fw fd) sz)) 0 0 (va_A (gv_mW h d n L R fw fd) sz) := by
  refine Met.ofW (cc := cX1_drop) (maxL := 1) (ret := (some .int)) (by decide) rfl ?_
  intro p e s m args below meth c s₁ B hml hv
  obtain ⟨rfl, hsz, hP, hK, hD0⟩ := hv
  have hx := B.exec
  have hb := B.bytes
  have hr := B.returns
  have hts := atoms_spec (ws := ws_ yX1_drop cX1_drop 1 (some .int)) B.pre
  have hts : ∀ w ∈ lw_all, w.before _ s = true := fun w h => hts w (List.mem_cons_of_mem _ h)
  have hown : s.vm.findClass RX1 = some m.cls := findClass_of_methodNamed B.named
  have hlocks := B.notSynchronized
  subst hsz
  have hD := hD0.self (sz := s.heap.size)
  generalize hAe : va_A (gv_mW h d n L R fw fd) s.heap.size = A at hD ⊢
  have hA : ∀ q : Nat, s.heap.size ≤ q → A q := fun q h => by rw [← hAe]; exact Or.inr h
  have hS : va_S A s.heap s.heap [] := va_S.rf
  have hP : va_P (dC, dI) gv_cl (gv_mW h d n L R fw fd) s.heap := hP
  have hl := lv_entry ([.ref (h 0)]) (n := 1) (Nat.le_of_ble_eq_true rfl)
  rw [lg_entry_eq]
  generalize (lg_sl ([.ref (h 0)]) ++ List.replicate (1 - (lg_sl ([.ref (h 0)])).length) Slot.unset).toArray = ls at hl ⊢
  have hl : lv_has ls 1 [(0, .ref (h 0))] := hl
  refine lv_aload_n hx hb dX1_drop_0 rfl (lv_at hl 0 rfl) ?_
  refine va_get (D := (dC, dI)) (ci := 1) (v := .int (nI n)) (C := RX1) (T := TX1) (N := 4) hx hb hts in_X1 hown hK hP 0 rfl rfl 0 (by decide) (hts _ q156) (fun _ h9 => h9) rfl dX1_drop_1 ?_
  refine lv_iconst (v := nI 1) hx hb dX1_drop_4 (by decide) ?_
  refine lv_icmp_ne (tgt := 10) hx hb dX1_drop_5 (by decide) (fun c1 => ?_) (fun c1 => ?_)
  · have e : ¬ n = 1 := fun z => c1 (by rw [z])
    refine lv_aload_n hx hb dX1_drop_10 rfl (lv_at hl 0 rfl) ?_
    refine lv_dup hx hb dX1_drop_11 rfl ?_
    refine va_get (D := (dC, dI)) (ci := 1) (v := .int (nI n)) (C := RX1) (T := TX1) (N := 4) hx hb hts in_X1 hown hK hP 0 rfl rfl 0 (by decide) (hts _ q156) (fun _ h9 => h9) rfl dX1_drop_12 ?_
    refine lv_iconst (v := nI 1) hx hb dX1_drop_15 (by decide) ?_
    refine lv_isub hx hb dX1_drop_16 ?_
    refine gv_top (y := nI (n - 1)) (pk_sub (a := n) (b := 1) (by omega)) ?_
    refine va_put (D := (dC, dI)) (ci := 1) (v := .int (nI (n - 1))) (ty := .int) (C := RX1) (T := TX1) (N := 4) hx hb hts in_X1 tyX1 tyX1_ok nmX1 hown hK hP hD hS 0 rfl rfl 0 (by decide) (hts _ q156) (fun _ h9 => h9) rfl (by decide +kernel) rfl rfl (Nat.le_of_ble_eq_true rfl) dX1_drop_17 (fun H locs hP hD hS => ?_)
    have hP : va_P (dC, dI) gv_cl (gv_mW h d (n - 1) L R fw fd) H := hP
    have hD : va_D A (gv_mW h d (n - 1) L R fw fd) := hD
    refine lv_aload_n hx hb dX1_drop_20 rfl (lv_at hl 0 rfl) ?_
    refine va_get (D := (dC, dI)) (ci := 1) (v := .int (nI (n - 1))) (C := RX1) (T := TX1) (N := 4) hx hb hts in_X1 hown hK hP 0 rfl rfl 0 (by decide) (hts _ q156) (fun _ h9 => h9) rfl dX1_drop_21 ?_
    exact W.iret (v := nI (n - 1)) hx hb hr (fun t ht hW => ⟨⟨nI (n - 1), (n - 1), rfl, ⟨by unfold gv_drR; rw [if_neg e], by unfold gv_drN; rw [if_neg e]⟩, by rw [ht]; exact hP, va_K.moved hW.alike hK, hD⟩, hS.F ht⟩) hS.2.2 dX1_drop_24
  · have e : n = 1 := (nI_eq (by omega) (by decide)).mp c1
    refine lv_iconst (v := (-1)) hx hb dX1_drop_8 (by decide) ?_
    exact W.iret (v := (-1)) hx hb hr (fun t ht hW => ⟨⟨(-1), n, rfl, ⟨by unfold gv_drR; rw [if_pos e], by unfold gv_drN; rw [if_pos e]; exact e⟩, by rw [ht]; exact hP, va_K.moved hW.alike hK, hD⟩, hS.F ht⟩) hS.2.2 dX1_drop_9
set_option maxHeartbeats 4000000 in
set_option maxRecDepth 100000 in
/-- positions -/
theorem gv_m_positions (l : Launch) (dC : Nat → ClassId) (dI : Nat → Nat → Nat) (h : Nat → Nat) (d : Nat → ClassId) (n : Nat) (L R : Nat → Nat) (fw fd : Nat → Int32) : Met l yX1_positions (ws_ yX1_positions cX1_positions 1 (some .int)) ({ frames := 0, cells := 0, slots := 0, locals := 0 }) (va_Pc [.ref (h 0)] (fun U => va_P (dC, dI) gv_cl (gv_mW h d n L R fw fd) U.heap ∧ va_K (dC, dI) gv_cl (gv_mT d) U)) (vp_Si (fun r => r = nI n)) 0 0 (fun _ => False) := by
  refine Met.ofW (cc := cX1_positions) (maxL := 1) (ret := (some .int)) (by decide) rfl ?_
  intro p e s m args below meth c s₁ B hml hv
  obtain ⟨rfl, hP, hK⟩ := hv
  have hx := B.exec
  have hb := B.bytes
  have hr := B.returns
  have hts := atoms_spec (ws := ws_ yX1_positions cX1_positions 1 (some .int)) B.pre
  have hts : ∀ w ∈ lw_all, w.before _ s = true := fun w h => hts w (List.mem_cons_of_mem _ h)
  have hown : s.vm.findClass RX1 = some m.cls := findClass_of_methodNamed B.named
  have hlocks := B.notSynchronized
  have hl := lv_entry ([.ref (h 0)]) (n := 1) (Nat.le_of_ble_eq_true rfl)
  rw [lg_entry_eq]
  generalize (lg_sl ([.ref (h 0)]) ++ List.replicate (1 - (lg_sl ([.ref (h 0)])).length) Slot.unset).toArray = ls at hl ⊢
  have hl : lv_has ls 1 [(0, .ref (h 0))] := hl
  refine lv_aload_n hx hb dX1_positions_0 rfl (lv_at hl 0 rfl) ?_
  refine va_get (D := (dC, dI)) (ci := 1) (v := .int (nI n)) (C := RX1) (T := TX1) (N := 4) hx hb hts in_X1 hown hK hP 0 rfl rfl 0 (by decide) (hts _ q156) (fun _ h9 => h9) rfl dX1_positions_1 ?_
  exact W.iret (v := nI n) hx hb hr (fun t ht hW => ⟨_, rfl, rfl, ht⟩) (fun _ h => nomatch h) dX1_positions_4
end
section
theorem gv_G00 : (fun j => nI (gv_G (fun _ => 0) (fun _ => 0) j)) = (fun _ => (0 : Int32)) := by
  funext j
  unfold gv_G
  split <;> rfl
set_option maxHeartbeats 4000000 in
set_option maxRecDepth 100000 in
/-- the constructor of GameValues -/
theorem gv_x_init (l : Launch) (dC : Nat → ClassId) (dI : Nat → Nat → Nat) (a0 : Nat) (sz : Nat) : Met l yX0_init (ws_ yX0_init cX0_init 1 none) ({ frames := 1, cells := 4, slots := 2020, locals := 12 }) (va_Pc [.ref a0] (fun U => U.heap.size = sz ∧ va_P (dC, dI) gv_cl [(a0, .inr (0, [.int 0, .null, .null, .int 0, .null, .null]))] U.heap ∧ va_K (dC, dI) gv_cl [] U ∧ va_D (fun _ => True) [(a0, .inr (0, [.int 0, .null, .null, .int 0, .null, .null]))])) (va_Qv (fun u : (Nat → Nat) × (Nat → ClassId) => u.1 0 = a0) (fun u t => va_P (dC, dI) gv_cl (gv_xW u.1 u.2 1 0 (fun _ => 0) (fun _ => 0) (fun _ => 0) (fun _ => 0)) t.heap ∧ va_K (dC, dI) gv_cl (gv_xT u.2) t ∧ va_D (va_A [(a0, .inr (0, [.int 0, .null, .null, .int 0, .null, .null]))] sz) (gv_xW u.1 u.2 1 0 (fun _ => 0) (fun _ => 0) (fun _ => 0) (fun _ => 0))) (va_A [(a0, .inr (0, [.int 0, .null, .null, .int 0, .null, .null]))] sz)) 4 2020 (va_A [(a0, .inr (0, [.int 0, .null, .null, .int 0, .null, .null]))] sz) := by
  refine Met.ofW (cc := cX0_init) (maxL := 1) (ret := none) (by decide) rfl ?_
  intro p e s m args below meth c s₁ B hml hv
  obtain ⟨rfl, hsz, hP, hK, hD0⟩ := hv
  have hx := B.exec
  have hb := B.bytes
  have hr := B.returns
  have hts := atoms_spec (ws := ws_ yX0_init cX0_init 1 none) B.pre
  have hts : ∀ w ∈ lw_all, w.before _ s = true := fun w h => hts w (List.mem_cons_of_mem _ h)
  have hown : s.vm.findClass RX0 = some m.cls := findClass_of_methodNamed B.named
  have hlocks := B.notSynchronized
  have hin : meth.name = "<init>" := (name_of_methodNamed B.named B.method).1
  subst hsz
  have hD := hD0.self (sz := s.heap.size)
  generalize hAe : va_A [(a0, .inr (0, [.int 0, .null, .null, .int 0, .null, .null]))] s.heap.size = A at hD ⊢
  have hA : ∀ q : Nat, s.heap.size ≤ q → A q := fun q h => by rw [← hAe]; exact Or.inr h
  have hS : va_S A s.heap s.heap [] := va_S.rf
  have hP : va_P (dC, dI) gv_cl [(a0, .inr (0, [.int 0, .null, .null, .int 0, .null, .null]))] s.heap := hP
  have hl := lv_entry ([.ref a0]) (n := 1) (Nat.le_of_ble_eq_true rfl)
  rw [lg_entry_eq]
  generalize (lg_sl ([.ref a0]) ++ List.replicate (1 - (lg_sl ([.ref a0])).length) Slot.unset).toArray = ls at hl ⊢
  have hl : lv_has ls 1 [(0, .ref a0)] := hl
  refine lv_aload_n hx hb dX0_init_0 rfl (lv_at hl 0 rfl) ?_
  refine W.objInit hx hb hown (hts _ q24) (hts _ q25) (hts _ q26) rfl (by rw [hml]; exact hl.1) rfl dX0_init_1 (Nat.le_of_ble_eq_true rfl) (Nat.le_of_ble_eq_true rfl) ?_
  refine W.eq (g2 := F0 m 4 ls []) rfl ?_
  refine lv_aload_n hx hb dX0_init_4 rfl (lv_at hl 0 rfl) ?_
  refine lv_iconst (v := nI 1) hx hb dX0_init_5 (by decide) ?_
  refine va_put (D := (dC, dI)) (ci := 0) (v := .int (nI 1)) (ty := .int) (C := RX0) (T := TX0) (N := 6) hx hb hts in_X0 tyX0 tyX0_ok nmX0 hown hK hP hD hS 0 rfl rfl 0 (by decide) (hts _ q27) (fun _ h9 => h9) rfl (by decide +kernel) rfl rfl (Nat.le_of_ble_eq_true rfl) dX0_init_6 (fun H locs hP hD hS => ?_)
  have hP : va_P (dC, dI) gv_cl [(a0, .inr (0, [.int (nI 1), .null, .null, .int 0, .null, .null]))] H := hP
  have hD : va_D A [(a0, .inr (0, [.int (nI 1), .null, .null, .int 0, .null, .null]))] := hD
  refine lv_aload_n hx hb dX0_init_9 rfl (lv_at hl 0 rfl) ?_
  refine lv_bipush (v := nI 10) hx hb dX0_init_10 (by decide) ?_
  refine va_newa (atype := .short) (ty := .short) (n := nI 10) (N' := 10) (a0 := (10, .inl (fun j => nI ((fun _ => 0) j)))) hx hb (hts _ q46) rfl hK hP hD hS hA (fun _ => rfl) (by decide) (by decide) (by decide) (Nat.le_of_ble_eq_true rfl) (Nat.le_of_ble_eq_true rfl) dX0_init_12 (fun q1 c1 H hK hP hD hS => ?_)
  have hP : va_P (dC, dI) gv_cl [(a0, .inr (0, [.int (nI 1), .null, .null, .int 0, .null, .null])), (q1, .inl (c1, 10, .inl (fun j => nI ((fun _ => 0) j))))] H := hP
  have hD : va_D A [(a0, .inr (0, [.int (nI 1), .null, .null, .int 0, .null, .null])), (q1, .inl (c1, 10, .inl (fun j => nI ((fun _ => 0) j))))] := hD
  have hK : va_K (dC, dI) gv_cl [(c1, .short)] s := hK
  refine va_putF (D := (dC, dI)) (ci := 0) (v := .ref q1) (ty := .array .short) (C := RX0) (T := TX0) (N := 6) hx hb hts in_X0 tyX0 tyX0_ok nmX0 hown hK hP hD hS 0 rfl rfl 1 (by decide) (hts _ q28) (fun _ h9 => h9) rfl hin rfl (by decide +kernel) rfl rfl (Nat.le_of_ble_eq_true rfl) dX0_init_14 (fun H locs hP hD hS => ?_)
  have hP : va_P (dC, dI) gv_cl [(a0, .inr (0, [.int (nI 1), .ref q1, .null, .int 0, .null, .null])), (q1, .inl (c1, 10, .inl (fun j => nI ((fun _ => 0) j))))] H := hP
  have hD : va_D A [(a0, .inr (0, [.int (nI 1), .ref q1, .null, .int 0, .null, .null])), (q1, .inl (c1, 10, .inl (fun j => nI ((fun _ => 0) j))))] := hD
  refine lv_aload_n hx hb dX0_init_17 rfl (lv_at hl 0 rfl) ?_
  refine lv_bipush (v := nI 10) hx hb dX0_init_18 (by decide) ?_
  refine va_newa (atype := .short) (ty := .short) (n := nI 10) (N' := 10) (a0 := (10, .inl (fun j => nI ((fun _ => 0) j)))) hx hb (hts _ q46) rfl hK hP hD hS hA (fun _ => rfl) (by decide) (by decide) (by decide) (Nat.le_of_ble_eq_true rfl) (Nat.le_of_ble_eq_true rfl) dX0_init_20 (fun q2 c2 H hK hP hD hS => ?_)
  have hP : va_P (dC, dI) gv_cl [(a0, .inr (0, [.int (nI 1), .ref q1, .null, .int 0, .null, .null])), (q1, .inl (c1, 10, .inl (fun j => nI ((fun _ => 0) j)))), (q2, .inl (c2, 10, .inl (fun j => nI ((fun _ => 0) j))))] H := hP
  have hD : va_D A [(a0, .inr (0, [.int (nI 1), .ref q1, .null, .int 0, .null, .null])), (q1, .inl (c1, 10, .inl (fun j => nI ((fun _ => 0) j)))), (q2, .inl (c2, 10, .inl (fun j => nI ((fun _ => 0) j))))] := hD
  have hK : va_K (dC, dI) gv_cl [(c1, .short), (c2, .short)] s := hK
  refine va_putF (D := (dC, dI)) (ci := 0) (v := .ref q2) (ty := .array .short) (C := RX0) (T := TX0) (N := 6) hx hb hts in_X0 tyX0 tyX0_ok nmX0 hown hK hP hD hS 0 rfl rfl 2 (by decide) (hts _ q29) (fun _ h9 => h9) rfl hin rfl (by decide +kernel) rfl rfl (Nat.le_of_ble_eq_true rfl) dX0_init_22 (fun H locs hP hD hS => ?_)
  have hP : va_P (dC, dI) gv_cl [(a0, .inr (0, [.int (nI 1), .ref q1, .ref q2, .int 0, .null, .null])), (q1, .inl (c1, 10, .inl (fun j => nI ((fun _ => 0) j)))), (q2, .inl (c2, 10, .inl (fun j => nI ((fun _ => 0) j))))] H := hP
  have hD : va_D A [(a0, .inr (0, [.int (nI 1), .ref q1, .ref q2, .int 0, .null, .null])), (q1, .inl (c1, 10, .inl (fun j => nI ((fun _ => 0) j)))), (q2, .inl (c2, 10, .inl (fun j => nI ((fun _ => 0) j))))] := hD
  refine lv_aload_n hx hb dX0_init_25 rfl (lv_at hl 0 rfl) ?_
  refine lv_sipush (v := nI 1000) hx hb dX0_init_26 (by decide) ?_
  refine va_newa (atype := .boolean) (ty := .boolean) (n := nI 1000) (N' := 1000) (a0 := (1000, .inl (fun _ => 0))) hx hb (hts _ q47) rfl hK hP hD hS hA (fun _ => rfl) (by decide) (by decide) (by decide) (Nat.le_of_ble_eq_true rfl) (Nat.le_of_ble_eq_true rfl) dX0_init_29 (fun q3 c3 H hK hP hD hS => ?_)
  have hP : va_P (dC, dI) gv_cl [(a0, .inr (0, [.int (nI 1), .ref q1, .ref q2, .int 0, .null, .null])), (q1, .inl (c1, 10, .inl (fun j => nI ((fun _ => 0) j)))), (q2, .inl (c2, 10, .inl (fun j => nI ((fun _ => 0) j)))), (q3, .inl (c3, 1000, .inl (fun _ => 0)))] H := hP
  have hD : va_D A [(a0, .inr (0, [.int (nI 1), .ref q1, .ref q2, .int 0, .null, .null])), (q1, .inl (c1, 10, .inl (fun j => nI ((fun _ => 0) j)))), (q2, .inl (c2, 10, .inl (fun j => nI ((fun _ => 0) j)))), (q3, .inl (c3, 1000, .inl (fun _ => 0)))] := hD
  have hK : va_K (dC, dI) gv_cl [(c1, .short), (c2, .short), (c3, .boolean)] s := hK
  refine va_putF (D := (dC, dI)) (ci := 0) (v := .ref q3) (ty := .array .boolean) (C := RX0) (T := TX0) (N := 6) hx hb hts in_X0 tyX0 tyX0_ok nmX0 hown hK hP hD hS 0 rfl rfl 4 (by decide) (hts _ q31) (fun _ h9 => h9) rfl hin rfl (by decide +kernel) rfl rfl (Nat.le_of_ble_eq_true rfl) dX0_init_31 (fun H locs hP hD hS => ?_)
  have hP : va_P (dC, dI) gv_cl [(a0, .inr (0, [.int (nI 1), .ref q1, .ref q2, .int 0, .ref q3, .null])), (q1, .inl (c1, 10, .inl (fun j => nI ((fun _ => 0) j)))), (q2, .inl (c2, 10, .inl (fun j => nI ((fun _ => 0) j)))), (q3, .inl (c3, 1000, .inl (fun _ => 0)))] H := hP
  have hD : va_D A [(a0, .inr (0, [.int (nI 1), .ref q1, .ref q2, .int 0, .ref q3, .null])), (q1, .inl (c1, 10, .inl (fun j => nI ((fun _ => 0) j)))), (q2, .inl (c2, 10, .inl (fun j => nI ((fun _ => 0) j)))), (q3, .inl (c3, 1000, .inl (fun _ => 0)))] := hD
  refine lv_aload_n hx hb dX0_init_34 rfl (lv_at hl 0 rfl) ?_
  refine lv_sipush (v := nI 1000) hx hb dX0_init_35 (by decide) ?_
  refine va_newa (atype := .boolean) (ty := .boolean) (n := nI 1000) (N' := 1000) (a0 := (1000, .inl (fun _ => 0))) hx hb (hts _ q47) rfl hK hP hD hS hA (fun _ => rfl) (by decide) (by decide) (by decide) (Nat.le_of_ble_eq_true rfl) (Nat.le_of_ble_eq_true rfl) dX0_init_38 (fun q4 c4 H hK hP hD hS => ?_)
  have hP : va_P (dC, dI) gv_cl [(a0, .inr (0, [.int (nI 1), .ref q1, .ref q2, .int 0, .ref q3, .null])), (q1, .inl (c1, 10, .inl (fun j => nI ((fun _ => 0) j)))), (q2, .inl (c2, 10, .inl (fun j => nI ((fun _ => 0) j)))), (q3, .inl (c3, 1000, .inl (fun _ => 0))), (q4, .inl (c4, 1000, .inl (fun _ => 0)))] H := hP
  have hD : va_D A [(a0, .inr (0, [.int (nI 1), .ref q1, .ref q2, .int 0, .ref q3, .null])), (q1, .inl (c1, 10, .inl (fun j => nI ((fun _ => 0) j)))), (q2, .inl (c2, 10, .inl (fun j => nI ((fun _ => 0) j)))), (q3, .inl (c3, 1000, .inl (fun _ => 0))), (q4, .inl (c4, 1000, .inl (fun _ => 0)))] := hD
  have hK : va_K (dC, dI) gv_cl [(c1, .short), (c2, .short), (c3, .boolean), (c4, .boolean)] s := hK
  refine va_putF (D := (dC, dI)) (ci := 0) (v := .ref q4) (ty := .array .boolean) (C := RX0) (T := TX0) (N := 6) hx hb hts in_X0 tyX0 tyX0_ok nmX0 hown hK hP hD hS 0 rfl rfl 5 (by decide) (hts _ q32) (fun _ h9 => h9) rfl hin rfl (by decide +kernel) rfl rfl (Nat.le_of_ble_eq_true rfl) dX0_init_40 (fun H locs hP hD hS => ?_)
  have hP : va_P (dC, dI) gv_cl [(a0, .inr (0, [.int (nI 1), .ref q1, .ref q2, .int 0, .ref q3, .ref q4])), (q1, .inl (c1, 10, .inl (fun j => nI ((fun _ => 0) j)))), (q2, .inl (c2, 10, .inl (fun j => nI ((fun _ => 0) j)))), (q3, .inl (c3, 1000, .inl (fun _ => 0))), (q4, .inl (c4, 1000, .inl (fun _ => 0)))] H := hP
  have hD : va_D A [(a0, .inr (0, [.int (nI 1), .ref q1, .ref q2, .int 0, .ref q3, .ref q4])), (q1, .inl (c1, 10, .inl (fun j => nI ((fun _ => 0) j)))), (q2, .inl (c2, 10, .inl (fun j => nI ((fun _ => 0) j)))), (q3, .inl (c3, 1000, .inl (fun _ => 0))), (q4, .inl (c4, 1000, .inl (fun _ => 0)))] := hD
  refine W.widen (k := 4) (n := 2020) (by decide) (by decide) ?_
  exact W.vret hx hb hr (fun t ht hW => ⟨⟨((fun k => match k with | 0 => a0 | 1 => q1 | 2 => q2 | 3 => q3 | _ => q4), (fun k => match k with | 1 => c1 | 2 => c2 | 3 => c3 | _ => c4)), rfl, rfl, by rw [ht]; exact hP, va_K.moved hW.alike hK, hD⟩, hS.F ht⟩) hS.2.2 dX0_init_43
set_option maxHeartbeats 4000000 in
set_option maxRecDepth 100000 in
/-- the constructor of GameValuesModel -/
theorem gv_m_init (l : Launch) (dC : Nat → ClassId) (dI : Nat → Nat → Nat) (a0 : Nat) (sz : Nat) : Met l yX1_init (ws_ yX1_init cX1_init 1 none) ({ frames := 1, cells := 3, slots := 2030, locals := 12 }) (va_Pc [.ref a0] (fun U => U.heap.size = sz ∧ va_P (dC, dI) gv_cl [(a0, .inr (1, [.int 0, .null, .null, .null]))] U.heap ∧ va_K (dC, dI) gv_cl [] U ∧ va_D (fun _ => True) [(a0, .inr (1, [.int 0, .null, .null, .null]))])) (va_Qv (fun u : (Nat → Nat) × (Nat → ClassId) => u.1 0 = a0) (fun u t => va_P (dC, dI) gv_cl (gv_mW u.1 u.2 1 (fun _ => 0) (fun _ => 0) (fun _ => 0) (fun _ => 0)) t.heap ∧ va_K (dC, dI) gv_cl (gv_mT u.2) t ∧ va_D (va_A [(a0, .inr (1, [.int 0, .null, .null, .null]))] sz) (gv_mW u.1 u.2 1 (fun _ => 0) (fun _ => 0) (fun _ => 0) (fun _ => 0))) (va_A [(a0, .inr (1, [.int 0, .null, .null, .null]))] sz)) 3 2030 (va_A [(a0, .inr (1, [.int 0, .null, .null, .null]))] sz) := by
  refine Met.ofW (cc := cX1_init) (maxL := 1) (ret := none) (by decide) rfl ?_
  intro p e s m args below meth c s₁ B hml hv
  obtain ⟨rfl, hsz, hP, hK, hD0⟩ := hv
  have hx := B.exec
  have hb := B.bytes
  have hr := B.returns
  have hts := atoms_spec (ws := ws_ yX1_init cX1_init 1 none) B.pre
  have hts : ∀ w ∈ lw_all, w.before _ s = true := fun w h => hts w (List.mem_cons_of_mem _ h)
  have hown : s.vm.findClass RX1 = some m.cls := findClass_of_methodNamed B.named
  have hlocks := B.notSynchronized
  have hin : meth.name = "<init>" := (name_of_methodNamed B.named B.method).1
  subst hsz
  have hD := hD0.self (sz := s.heap.size)
  generalize hAe : va_A [(a0, .inr (1, [.int 0, .null, .null, .null]))] s.heap.size = A at hD ⊢
  have hA : ∀ q : Nat, s.heap.size ≤ q → A q := fun q h => by rw [← hAe]; exact Or.inr h
  have hS : va_S A s.heap s.heap [] := va_S.rf
  have hP : va_P (dC, dI) gv_cl [(a0, .inr (1, [.int 0, .null, .null, .null]))] s.heap := hP
  have hl := lv_entry ([.ref a0]) (n := 1) (Nat.le_of_ble_eq_true rfl)
  rw [lg_entry_eq]
  generalize (lg_sl ([.ref a0]) ++ List.replicate (1 - (lg_sl ([.ref a0])).length) Slot.unset).toArray = ls at hl ⊢
  have hl : lv_has ls 1 [(0, .ref a0)] := hl
  refine lv_aload_n hx hb dX1_init_0 rfl (lv_at hl 0 rfl) ?_
  refine W.objInit hx hb hown (hts _ q155) (hts _ q25) (hts _ q26) rfl (by rw [hml]; exact hl.1) rfl dX1_init_1 (Nat.le_of_ble_eq_true rfl) (Nat.le_of_ble_eq_true rfl) ?_
  refine W.eq (g2 := F0 m 4 ls []) rfl ?_
  refine lv_aload_n hx hb dX1_init_4 rfl (lv_at hl 0 rfl) ?_
  refine lv_bipush (v := nI 20) hx hb dX1_init_5 (by decide) ?_
  refine va_newa (atype := .int) (ty := .int) (n := nI 20) (N' := 20) (a0 := (20, .inl (fun j => nI (gv_G (fun _ => 0) (fun _ => 0) j)))) hx hb (hts _ q169) rfl hK hP hD hS hA (fun _ => by rw [gv_G00]; rfl) (by decide) (by decide) (by decide) (Nat.le_of_ble_eq_true rfl) (Nat.le_of_ble_eq_true rfl) dX1_init_7 (fun q1 c1 H hK hP hD hS => ?_)
  have hP : va_P (dC, dI) gv_cl [(a0, .inr (1, [.int 0, .null, .null, .null])), (q1, .inl (c1, 20, .inl (fun j => nI (gv_G (fun _ => 0) (fun _ => 0) j))))] H := hP
  have hD : va_D A [(a0, .inr (1, [.int 0, .null, .null, .null])), (q1, .inl (c1, 20, .inl (fun j => nI (gv_G (fun _ => 0) (fun _ => 0) j))))] := hD
  have hK : va_K (dC, dI) gv_cl [(c1, .int)] s := hK
  refine va_put (D := (dC, dI)) (ci := 1) (v := .ref q1) (ty := .array .int) (C := RX1) (T := TX1) (N := 4) hx hb hts in_X1 tyX1 tyX1_ok nmX1 hown hK hP hD hS 0 rfl rfl 1 (by decide) (hts _ q157) (fun _ h9 => h9) rfl (by decide +kernel) rfl rfl (Nat.le_of_ble_eq_true rfl) dX1_init_9 (fun H locs hP hD hS => ?_)
  have hP : va_P (dC, dI) gv_cl [(a0, .inr (1, [.int 0, .ref q1, .null, .null])), (q1, .inl (c1, 20, .inl (fun j => nI (gv_G (fun _ => 0) (fun _ => 0) j))))] H := hP
  have hD : va_D A [(a0, .inr (1, [.int 0, .ref q1, .null, .null])), (q1, .inl (c1, 20, .inl (fun j => nI (gv_G (fun _ => 0) (fun _ => 0) j))))] := hD
  refine lv_aload_n hx hb dX1_init_12 rfl (lv_at hl 0 rfl) ?_
  refine lv_sipush (v := nI 2000) hx hb dX1_init_13 (by decide) ?_
  refine va_newa (atype := .boolean) (ty := .boolean) (n := nI 2000) (N' := 2000) (a0 := (2000, .inl (fun _ => 0))) hx hb (hts _ q47) rfl hK hP hD hS hA (fun _ => rfl) (by decide) (by decide) (by decide) (Nat.le_of_ble_eq_true rfl) (Nat.le_of_ble_eq_true rfl) dX1_init_16 (fun q2 c2 H hK hP hD hS => ?_)
  have hP : va_P (dC, dI) gv_cl [(a0, .inr (1, [.int 0, .ref q1, .null, .null])), (q1, .inl (c1, 20, .inl (fun j => nI (gv_G (fun _ => 0) (fun _ => 0) j)))), (q2, .inl (c2, 2000, .inl (fun _ => 0)))] H := hP
  have hD : va_D A [(a0, .inr (1, [.int 0, .ref q1, .null, .null])), (q1, .inl (c1, 20, .inl (fun j => nI (gv_G (fun _ => 0) (fun _ => 0) j)))), (q2, .inl (c2, 2000, .inl (fun _ => 0)))] := hD
  have hK : va_K (dC, dI) gv_cl [(c1, .int), (c2, .boolean)] s := hK
  refine va_put (D := (dC, dI)) (ci := 1) (v := .ref q2) (ty := .array .boolean) (C := RX1) (T := TX1) (N := 4) hx hb hts in_X1 tyX1 tyX1_ok nmX1 hown hK hP hD hS 0 rfl rfl 2 (by decide) (hts _ q158) (fun _ h9 => h9) rfl (by decide +kernel) rfl rfl (Nat.le_of_ble_eq_true rfl) dX1_init_18 (fun H locs hP hD hS => ?_)
  have hP : va_P (dC, dI) gv_cl [(a0, .inr (1, [.int 0, .ref q1, .ref q2, .null])), (q1, .inl (c1, 20, .inl (fun j => nI (gv_G (fun _ => 0) (fun _ => 0) j)))), (q2, .inl (c2, 2000, .inl (fun _ => 0)))] H := hP
  have hD : va_D A [(a0, .inr (1, [.int 0, .ref q1, .ref q2, .null])), (q1, .inl (c1, 20, .inl (fun j => nI (gv_G (fun _ => 0) (fun _ => 0) j)))), (q2, .inl (c2, 2000, .inl (fun _ => 0)))] := hD
  refine lv_aload_n hx hb dX1_init_21 rfl (lv_at hl 0 rfl) ?_
  refine lv_bipush (v := nI 10) hx hb dX1_init_22 (by decide) ?_
  refine va_newa (atype := .int) (ty := .int) (n := nI 10) (N' := 10) (a0 := (10, .inl (fun _ => 0))) hx hb (hts _ q169) rfl hK hP hD hS hA (fun _ => rfl) (by decide) (by decide) (by decide) (Nat.le_of_ble_eq_true rfl) (Nat.le_of_ble_eq_true rfl) dX1_init_24 (fun q3 c3 H hK hP hD hS => ?_)
  have hP : va_P (dC, dI) gv_cl [(a0, .inr (1, [.int 0, .ref q1, .ref q2, .null])), (q1, .inl (c1, 20, .inl (fun j => nI (gv_G (fun _ => 0) (fun _ => 0) j)))), (q2, .inl (c2, 2000, .inl (fun _ => 0))), (q3, .inl (c3, 10, .inl (fun _ => 0)))] H := hP
  have hD : va_D A [(a0, .inr (1, [.int 0, .ref q1, .ref q2, .null])), (q1, .inl (c1, 20, .inl (fun j => nI (gv_G (fun _ => 0) (fun _ => 0) j)))), (q2, .inl (c2, 2000, .inl (fun _ => 0))), (q3, .inl (c3, 10, .inl (fun _ => 0)))] := hD
  have hK : va_K (dC, dI) gv_cl [(c1, .int), (c2, .boolean), (c3, .int)] s := hK
  refine va_put (D := (dC, dI)) (ci := 1) (v := .ref q3) (ty := .array .int) (C := RX1) (T := TX1) (N := 4) hx hb hts in_X1 tyX1 tyX1_ok nmX1 hown hK hP hD hS 0 rfl rfl 3 (by decide) (hts _ q159) (fun _ h9 => h9) rfl (by decide +kernel) rfl rfl (Nat.le_of_ble_eq_true rfl) dX1_init_26 (fun H locs hP hD hS => ?_)
  have hP : va_P (dC, dI) gv_cl [(a0, .inr (1, [.int 0, .ref q1, .ref q2, .ref q3])), (q1, .inl (c1, 20, .inl (fun j => nI (gv_G (fun _ => 0) (fun _ => 0) j)))), (q2, .inl (c2, 2000, .inl (fun _ => 0))), (q3, .inl (c3, 10, .inl (fun _ => 0)))] H := hP
  have hD : va_D A [(a0, .inr (1, [.int 0, .ref q1, .ref q2, .ref q3])), (q1, .inl (c1, 20, .inl (fun j => nI (gv_G (fun _ => 0) (fun _ => 0) j)))), (q2, .inl (c2, 2000, .inl (fun _ => 0))), (q3, .inl (c3, 10, .inl (fun _ => 0)))] := hD
  refine lv_aload_n hx hb dX1_init_29 rfl (lv_at hl 0 rfl) ?_
  refine lv_iconst (v := nI 1) hx hb dX1_init_30 (by decide) ?_
  refine va_put (D := (dC, dI)) (ci := 1) (v := .int (nI 1)) (ty := .int) (C := RX1) (T := TX1) (N := 4) hx hb hts in_X1 tyX1 tyX1_ok nmX1 hown hK hP hD hS 0 rfl rfl 0 (by decide) (hts _ q156) (fun _ h9 => h9) rfl (by decide +kernel) rfl rfl (Nat.le_of_ble_eq_true rfl) dX1_init_31 (fun H locs hP hD hS => ?_)
  have hP : va_P (dC, dI) gv_cl [(a0, .inr (1, [.int (nI 1), .ref q1, .ref q2, .ref q3])), (q1, .inl (c1, 20, .inl (fun j => nI (gv_G (fun _ => 0) (fun _ => 0) j)))), (q2, .inl (c2, 2000, .inl (fun _ => 0))), (q3, .inl (c3, 10, .inl (fun _ => 0)))] H := hP
  have hD : va_D A [(a0, .inr (1, [.int (nI 1), .ref q1, .ref q2, .ref q3])), (q1, .inl (c1, 20, .inl (fun j => nI (gv_G (fun _ => 0) (fun _ => 0) j)))), (q2, .inl (c2, 2000, .inl (fun _ => 0))), (q3, .inl (c3, 10, .inl (fun _ => 0)))] := hD
  refine W.widen (k := 3) (n := 2030) (by decide) (by decide) ?_
  exact W.vret hx hb hr (fun t ht hW => ⟨⟨((fun k => match k with | 0 => a0 | 1 => q1 | 2 => q2 | _ => q3), (fun k => match k with | 1 => c1 | 2 => c2 | _ => c3)), rfl, rfl, by rw [ht]; exact hP, va_K.moved hW.alike hK, hD⟩, hS.F ht⟩) hS.2.2 dX1_init_34
end
section
/-! THE CLAIM OUT OF ONE WALK OF THE LAW'S BODY. Your part is whole_start (and what it stands on); all else here is the same for every law, but numbers. -/
def R_law : String := "GameValuesLaw"
def lw_P (b : Addr) (xs : List Int32) (args : Array Value) (s : State) : Prop := args = #[.ref b] ∧ s.IntsAt b xs ∧ xs.length ≤ 256 ∧ (Jvm.Cond.and given_1 narrow_1).before args s = true
def lw_Q (_ : Array Value) (s : State) (o : Outcome) (t : State) : Prop := o = .returned (some (.int 1)) ∧ Framed s o t [] 600000 7290000
def lw_Z (below : List Frame) (a : Array Value) (s : State) : State → Prop := fun t => ∃ o, t.status = .running ∧ Ended t below o ∧ lw_Q a s o t
/-- the law's own end, with 1 on the stack, nothing written that was there before, its room as the claim has it -/
theorem lw_ret {p : Program} {l : Launch} {e : Env} {s : State} {m : MethodId} {below : List Frame} {meth : Method} {c : Code} {b : Nat} (hx : p.tables.exec = Jvm.exec) (hb : c.code = code) (hr : meth.sig.returnType = ret) (hlocks : meth.locks = false) {pc : Nat} {H : Heap} {ls : Array Slot} (hdg : decode code pc = .ok (.ireturn, 1)) : W p l e room_1 s m #[Value.ref b] below meth c H [] 600000 7290000 (lw_Z below #[Value.ref b] s) (F0 m pc ls [.int 1]) := by
  intro T hT X
  obtain ⟨fs, hret, hrun, hended, hW, hframe⟩ := X.leave (v := some (.int 1)) (hlocks := hlocks) (fun h => by rw [hr] at h; cases h)
  have hmeth' : T.vm.method? m = some meth := X.method'
  refine ⟨T.setFrames fs, ?_, .returned (some (.int 1)), hrun, hended, rfl, ⟨_, rfl⟩, hW, hframe⟩
  jvm_step X.here [X.here.top, hx, hb, hdg, hmeth', hr, ret, narrow_b1]
  (try refine ⟨rfl, ?_⟩); (try refine ⟨rfl, ?_⟩)
  first | (intro acts; rw [hret _ acts rfl rfl rfl]) | rw [hret _ _ rfl rfl rfl]
  exact Steps.refl _
/-- what holds at the law's entry: the machine, the code, the tables' words (any of lw_tbl by 'hts w (by decide +kernel)'), the script of L ints xs at the cell b, what the Statement gives of the start (any of its parts by flat_of_before) -/
def lw_At (p : Program) (s : State) (m : MethodId) (meth : Method) (c : Code) (b L : Nat) (xs : Nat → Int32) : Prop :=
  p.tables.exec = Jvm.exec ∧ c.code = code ∧ meth.sig.returnType = ret ∧ c.maxLocals = 4 ∧ s.vm.findClass R_law = some m.cls ∧ (∀ w ∈ lw_tbl, w.before #[Value.ref b] s = true) ∧ va_X b L xs s s.heap ∧ b < s.heap.size ∧ meth.locks = false ∧ (Jvm.Cond.and given_1 narrow_1).before #[Value.ref b] s = true
theorem gv_classes {s0 : State} {b0 : Addr} (ht0 : ∀ w ∈ lw_tbl, w.before #[Value.ref b0] s0 = true) : ∃ (dC : Nat → ClassId) (dI : Nat → Nat → Nat), ∀ (k : Nat) (q : vw_C), gv_cl[k]? = some q → u_Kn s0 q.1 q.2.1 q.2.2 (dC k) (dI k) := by
  obtain ⟨c0_, iS0, hKn0⟩ := u_known (C := RX0) (T := TX0) (N := 6) (n := 6) ht0 (fun w h => lw_all_tbl (in_X0 w h)) (ht0 _ (lw_all_tbl q20))
  obtain ⟨c1_, iS1, hKn1⟩ := u_known (C := RX1) (T := TX1) (N := 4) (n := 4) ht0 (fun w h => lw_all_tbl (in_X1 w h)) (ht0 _ (lw_all_tbl q151))
  refine ⟨fun k => if k = 0 then c0_ else c1_, fun k => if k = 0 then iS0 else iS1, ?_⟩
  intro k q hq
  match k, hq with
  | 0, hq => cases hq; exact hKn0
  | 1, hq => cases hq; exact hKn1
  | k + 2, hq => simp [gv_cl] at hq
theorem gv_inc4 (j : Nat) : nI (4 * j) + Int32.ofInt 4 = nI (4 * (j + 1)) := nI_add (4 * j) 4
theorem gv_dr_keep {n : Nat} (hn1 : 1 ≤ n) (hn : n ≤ 10) : 1 ≤ gv_drN n ∧ gv_drN n ≤ 10 := by
  unfold gv_drN
  split <;> omega
theorem gv_law_c {L j : Nat} (hL : L ≤ 256) (hj : j ≤ 64) : nI L - nI 4 < nI (4 * j) ↔ L < 4 * j + 4 := by
  rw [Int32.lt_iff_toInt_lt, pk_sub_toInt (by omega) (by decide), nI_toInt (by omega)]
  omega
end
section
set_option maxHeartbeats 4000000 in
set_option maxRecDepth 100000 in
/-- YOUR PART: from the entry, for every script of at most 256 ints, the law comes to its end with true -/
theorem whole_start {p : Program} {e : Env} {s : State} {m : MethodId} {below : List Frame} {meth : Method} {c : Code} (l : Launch) {b L : Nat} {xs : Nat → Int32} (hL : L ≤ 256) (C0 : lw_At p s m meth c b L xs) : W p l e room_1 s m #[Value.ref b] below meth c s.heap [] 0 0 (lw_Z below #[Value.ref b] s) (entryFrame m ([Value.ref b] : List Value).toArray 4) := by
  obtain ⟨hx, hb, hr, hml, hown, hts0, hX, hbl, hlocks, -⟩ := C0
  have hts : ∀ w ∈ lw_all, w.before #[Value.ref b] s = true := fun w h => hts0 w (lw_all_tbl h)
  obtain ⟨dC, dI, hKc0⟩ := gv_classes hts0
  have hK : va_K (dC, dI) gv_cl [] s := ⟨hKc0, fun k q h => by simp at h⟩
  obtain ⟨A, hAe⟩ : ∃ A : Nat → Prop, A = fun q => s.heap.size ≤ q := ⟨_, rfl⟩
  have hA : ∀ q : Nat, s.heap.size ≤ q → A q := fun q h => by rw [hAe]; exact h
  have hbA : ¬ A b := by rw [hAe]; exact Nat.not_le.mpr hbl
  have hS : va_S A s.heap s.heap [] := va_S.rf
  have hP : va_P (dC, dI) gv_cl [] s.heap := fun k q h => by simp at h
  have hD : va_D A [] := ⟨fun i j p q h => by simp at h, fun k q h => by simp at h⟩
  have hl := lv_entry ([.ref b]) (n := 4) (Nat.le_of_ble_eq_true rfl)
  rw [lg_entry_eq]
  generalize (lg_sl ([.ref b]) ++ List.replicate (4 - (lg_sl ([.ref b])).length) Slot.unset).toArray = ls at hl ⊢
  have hl : lv_has ls 4 [(0, .ref b)] := hl
  refine va_new (ci := 0) (fs := [.int 0, .null, .null, .int 0, .null, .null]) (C := RX0) (T := TX0) (N := 6) hx hb hts in_X0 tyX0 tyX0_ok hown (hts _ q19) (hts _ q20) (hts _ q17) hK hP hD hS hA rfl (fun j hj => by rcases (show j = 0 ∨ j = 1 ∨ j = 2 ∨ j = 3 ∨ j = 4 ∨ j = 5 by omega) with rfl | rfl | rfl | rfl | rfl | rfl <;> rfl) (Nat.le_of_ble_eq_true rfl) (Nat.le_of_ble_eq_true rfl) dL_law_0 (fun o1 H hP hD hS => ?_)
  refine W.widen (k := 1) (n := 6) (by decide) (by decide) ?_
  have hP : va_P (dC, dI) gv_cl [(o1, .inr (0, [.int 0, .null, .null, .int 0, .null, .null]))] H := hP
  have hD : va_D A [(o1, .inr (0, [.int 0, .null, .null, .int 0, .null, .null]))] := hD
  refine lv_dup hx hb dL_law_3 rfl ?_
  have hPc := hP.sub (ws' := [(o1, .inr (0, [.int 0, .null, .null, .int 0, .null, .null]))]) [0] rfl
  have hDc := hD.sub (ws' := [(o1, .inr (0, [.int 0, .null, .null, .int 0, .null, .null]))]) [0] (by decide) rfl
  have hKc := hK.sub (tys' := []) [] rfl
  have hFc := va_free (wc := [(o1, .inr (0, [.int 0, .null, .null, .int 0, .null, .null]))]) hD hS hA [0] rfl
  refine va_callv (va_runI (As := []) (rest := [.ref o1]) ⟨hx, hb, hml, hown, hts⟩ (gv_x_init l dC dI o1 H.size) (cwI 0 hts (lw_meth q23) rfl rfl rfl (hts _ q17) (hts _ q21) (hts _ q22) rfl (by decide +kernel) ⟨Nat.le_of_ble_eq_true rfl, Nat.le_of_ble_eq_true rfl⟩) ⟨fun a U g mk q => by obtain ⟨q0, q1, qP, qK, qD⟩ := q; exact ⟨q0, q1, qP, va_K.moved (u := U) (U := U.calling g mk a) (Vm.Alike.refl U.vm) qK, qD⟩, fun U hU hW => ⟨rfl, by rw [hU], by rw [hU]; exact hPc, va_K.moved hW.alike hKc, hDc.weaken (fun _ _ _ _ => trivial)⟩⟩ rfl rfl hl.1 rfl (lv_room (Nat.le_of_ble_eq_true rfl)) dL_law_4 ⟨Nat.le_of_ble_eq_true rfl, Nat.le_of_ble_eq_true rfl⟩) hS (fun q _ h => hFc q h) hFc (fun u t H1 locs ht hvm hw1 hB hz1 hk1 hS => ?_)
  obtain ⟨hX1, dX⟩ := u
  have hw1 : hX1 0 = o1 := hw1
  subst hw1
  obtain ⟨hP1, hK1, hD1⟩ := hB
  rw [ht] at hP1
  have hK := va_K.moved hvm.symm hK1
  have hP : va_P (dC, dI) gv_cl (gv_xW hX1 dX 1 0 (fun _ => 0) (fun _ => 0) (fun _ => 0) (fun _ => 0)) H1 := hP1
  have hD : va_D A (gv_xW hX1 dX 1 0 (fun _ => 0) (fun _ => 0) (fun _ => 0) (fun _ => 0)) := hD1.weaken (fun _ q _ h => hFc q.1 h)
  have hK : va_K (dC, dI) gv_cl (gv_xT dX) s := hK
  clear hPc hDc hKc hFc hP1 hK1 hD1 hz1 hk1 ht hvm
  generalize H1 = H at hP hS ⊢
  refine W.widen (k := 5) (n := 2026) (by decide) (by decide) ?_
  refine lv_astore_n (lv' := [(1, .ref (hX1 0)), (0, .ref b)]) hx hb dL_law_7 rfl hl (by decide) rfl (fun ls hl => ?_)
  refine va_new (ci := 1) (fs := [.int 0, .null, .null, .null]) (C := RX1) (T := TX1) (N := 4) hx hb hts in_X1 tyX1 tyX1_ok hown (hts _ q150) (hts _ q151) (hts _ q18) hK hP hD hS hA rfl (fun j hj => by rcases (show j = 0 ∨ j = 1 ∨ j = 2 ∨ j = 3 by omega) with rfl | rfl | rfl | rfl <;> rfl) (Nat.le_of_ble_eq_true rfl) (Nat.le_of_ble_eq_true rfl) dL_law_8 (fun o2 H hP hD hS => ?_)
  refine W.widen (k := 6) (n := 2030) (by decide) (by decide) ?_
  have hP : va_P (dC, dI) gv_cl (gv_xW hX1 dX 1 0 (fun _ => 0) (fun _ => 0) (fun _ => 0) (fun _ => 0) ++ [(o2, .inr (1, [.int 0, .null, .null, .null]))]) H := hP
  have hD : va_D A (gv_xW hX1 dX 1 0 (fun _ => 0) (fun _ => 0) (fun _ => 0) (fun _ => 0) ++ [(o2, .inr (1, [.int 0, .null, .null, .null]))]) := hD
  refine lv_dup hx hb dL_law_11 rfl ?_
  have hPc := hP.sub (ws' := [(o2, .inr (1, [.int 0, .null, .null, .null]))]) [5] rfl
  have hDc := hD.sub (ws' := [(o2, .inr (1, [.int 0, .null, .null, .null]))]) [5] (by decide) rfl
  have hKc := hK.sub (tys' := []) [] rfl
  have hFc := va_free (wc := [(o2, .inr (1, [.int 0, .null, .null, .null]))]) hD hS hA [5] rfl
  refine va_callv (va_runI (As := []) (rest := [.ref o2]) ⟨hx, hb, hml, hown, hts⟩ (gv_m_init l dC dI o2 H.size) (cwI 0 hts (lw_meth q154) rfl rfl rfl (hts _ q18) (hts _ q152) (hts _ q153) rfl (by decide +kernel) ⟨Nat.le_of_ble_eq_true rfl, Nat.le_of_ble_eq_true rfl⟩) ⟨fun a U g mk q => by obtain ⟨q0, q1, qP, qK, qD⟩ := q; exact ⟨q0, q1, qP, va_K.moved (u := U) (U := U.calling g mk a) (Vm.Alike.refl U.vm) qK, qD⟩, fun U hU hW => ⟨rfl, by rw [hU], by rw [hU]; exact hPc, va_K.moved hW.alike hKc, hDc.weaken (fun _ _ _ _ => trivial)⟩⟩ rfl rfl hl.1 rfl (lv_room (Nat.le_of_ble_eq_true rfl)) dL_law_12 ⟨Nat.le_of_ble_eq_true rfl, Nat.le_of_ble_eq_true rfl⟩) hS (fun q _ h => hFc q h) hFc (fun u t H1 locs ht hvm hw1 hB hz1 hk1 hS => ?_)
  obtain ⟨hM1, dM⟩ := u
  have hw1 : hM1 0 = o2 := hw1
  subst hw1
  obtain ⟨hP1, hK1, hD1⟩ := hB
  rw [ht] at hP1
  have hK1 := va_K.moved hvm.symm hK1
  obtain ⟨hP, hD⟩ := va_join (wr := gv_xW hX1 dX 1 0 (fun _ => 0) (fun _ => 0) (fun _ => 0) (fun _ => 0)) (w1 := gv_mW hM1 dM 1 (fun _ => 0) (fun _ => 0) (fun _ => 0) (fun _ => 0)) hP hD [5] [0, 1, 2, 3, 4] rfl rfl (by decide) (by decide) hk1 hFc hP1 hD1
  have hK : va_K (dC, dI) gv_cl (gv_xT dX ++ gv_mT dM) s := hK.app hK1
  have hP : va_P (dC, dI) gv_cl (gv_xW hX1 dX 1 0 (fun _ => 0) (fun _ => 0) (fun _ => 0) (fun _ => 0) ++ gv_mW hM1 dM 1 (fun _ => 0) (fun _ => 0) (fun _ => 0) (fun _ => 0)) H1 := hP
  have hD : va_D A (gv_xW hX1 dX 1 0 (fun _ => 0) (fun _ => 0) (fun _ => 0) (fun _ => 0) ++ gv_mW hM1 dM 1 (fun _ => 0) (fun _ => 0) (fun _ => 0) (fun _ => 0)) := hD
  clear hPc hDc hKc hFc hP1 hK1 hD1 hz1 hk1 ht hvm
  generalize H1 = H at hP hS ⊢
  refine W.widen (k := 9) (n := 4060) (by decide) (by decide) ?_
  refine lv_astore_n (lv' := [(2, .ref (hM1 0)), (1, .ref (hX1 0)), (0, .ref b)]) hx hb dL_law_15 rfl hl (by decide) rfl (fun ls hl => ?_)
  refine lv_iconst (v := nI 0) hx hb dL_law_16 (by decide) ?_
  refine gv_top (y := nI (4 * 0)) rfl ?_
  refine lv_istore_n (lv' := [(3, .int (nI (4 * 0))), (2, .ref (hM1 0)), (1, .ref (hX1 0)), (0, .ref b)]) hx hb dL_law_17 rfl hl (by decide) rfl (fun ls hl => ?_)
  refine gv_for (nL := 4) (L / 4) (fun _ H locs => ∃ (n : Nat) (Lm Rm : Nat → Nat) (kn : Int32) (fa fm fw fd : Nat → Int32), 1 ≤ n ∧ n ≤ 10 ∧ gv_ok Lm Rm ∧ gv_k n Lm Rm kn fa fm ∧ va_P (dC, dI) gv_cl (gv_xW hX1 dX n kn Lm Rm fa fm ++ gv_mW hM1 dM n Lm Rm fw fd) H ∧ va_D A (gv_xW hX1 dX n kn Lm Rm fa fm ++ gv_mW hM1 dM n Lm Rm fw fd) ∧ va_S A s.heap H locs) (fun j => [(0, .ref b), (1, .ref (hX1 0)), (2, .ref (hM1 0)), (3, .int (nI (4 * j)))]) ?_ ?_ 0 (Nat.zero_le _) ⟨1, fun _ => 0, fun _ => 0, 0, fun _ => 0, fun _ => 0, fun _ => 0, fun _ => 0, by decide, by decide, fun p _ => ⟨Nat.two_pow_pos p, Nat.two_pow_pos p⟩, Or.inl rfl, hP, hD, hS⟩ (lv_sub hl [3, 2, 1, 0] rfl)
  · intro H locs ls hJ hl
    obtain ⟨n, Lm, Rm, kn, fa, fm, fw, fd, hn1, hn, hg, hk, hP, hD, hS⟩ := hJ
    have hl : lv_has ls 4 [(0, .ref b), (1, .ref (hX1 0)), (2, .ref (hM1 0)), (3, .int (nI (4 * (L / 4))))] := hl
    refine lv_iload_n hx hb dL_law_18 rfl (lv_at hl 3 rfl) ?_
    refine lv_aload_n hx hb dL_law_19 rfl (lv_at hl 0 rfl) ?_
    refine va_slen hx hb hX hbl hbA hS dL_law_20 ?_
    refine lv_iconst (v := nI 4) hx hb dL_law_21 (by decide) ?_
    refine lv_isub hx hb dL_law_22 ?_
    refine lv_icmp_gt (tgt := 502) hx hb dL_law_23 (by decide) (fun c1 => ?_) (fun c1 => ?_)
    · refine lv_iconst (v := 1) hx hb dL_law_502 (by decide) ?_
      refine va_forget (fun q hq => by have h9 := hS.2.2 q hq; rw [hAe] at h9; exact h9) ?_
      refine W.widen (k := 600000) (n := 7290000) (by decide) (by decide) ?_
      exact lw_ret hx hb hr hlocks dL_law_503
    · exact absurd ((gv_law_c hL (by omega)).mpr (by omega)) c1
  · intro j H locs ls hj hJ hl ih
    obtain ⟨n, Lm, Rm, kn, fa, fm, fw, fd, hn1, hn, hg, hk, hP, hD, hS⟩ := hJ
    have hl : lv_has ls 4 [(0, .ref b), (1, .ref (hX1 0)), (2, .ref (hM1 0)), (3, .int (nI (4 * j)))] := hl
    refine lv_iload_n hx hb dL_law_18 rfl (lv_at hl 3 rfl) ?_
    refine lv_aload_n hx hb dL_law_19 rfl (lv_at hl 0 rfl) ?_
    refine va_slen hx hb hX hbl hbA hS dL_law_20 ?_
    refine lv_iconst (v := nI 4) hx hb dL_law_21 (by decide) ?_
    refine lv_isub hx hb dL_law_22 ?_
    refine lv_icmp_gt (tgt := 502) hx hb dL_law_23 (by decide) (fun c1 => ?_) (fun c1 => ?_)
    · exact absurd ((gv_law_c hL (by omega)).mp c1) (by omega)
    · refine lv_aload_n hx hb dL_law_26 rfl (lv_at hl 0 rfl) ?_
      refine lv_iload_n hx hb dL_law_27 rfl (lv_at hl 3 rfl) ?_
      refine va_sld hx hb hX hbl hbA hS (vp_in_nI (n := 4 * j) (by omega) (by omega)) dL_law_28 ?_
      refine gv_top (y := (xs (4 * j))) (gv_ld xs (e := 4 * j) (by omega)) ?_
      refine lv_bipush (v := nI 15) hx hb dL_law_29 (by decide) ?_
      refine lv_iand hx hb dL_law_31 ?_
      obtain ⟨o, ho, eo⟩ := pk_andE (xs (4 * j)) (m := nI 15) 4 (by decide)
      refine gv_top (y := nI o) eo ?_
      rcases (show o = 0 ∨ o = 1 ∨ o = 2 ∨ o = 3 ∨ o = 4 ∨ o = 5 ∨ o = 6 ∨ o = 7 ∨ o = 8 ∨ o = 9 ∨ o = 10 ∨ o = 11 ∨ o = 12 ∨ o = 13 ∨ 14 ≤ o by omega) with rfl | rfl | rfl | rfl | rfl | rfl | rfl | rfl | rfl | rfl | rfl | rfl | rfl | rfl | ho2
      · refine lv_tableIn (off := 72) (tgt := 104) hx hb dL_law_32 (by decide) (by decide) rfl (by decide) ?_
        refine lv_aload_n hx hb dL_law_104 rfl (lv_at hl 1 rfl) ?_
        refine lv_aload_n hx hb dL_law_105 rfl (lv_at hl 0 rfl) ?_
        refine lv_iload_n hx hb dL_law_106 rfl (lv_at hl 3 rfl) ?_
        refine lv_iconst (v := nI 1) hx hb dL_law_107 (by decide) ?_
        refine lv_iadd hx hb dL_law_108 ?_
        refine gv_top (y := nI ((4 * j) + 1)) (nI_add _ _) ?_
        refine va_sld hx hb hX hbl hbA hS (vp_in_nI (n := (4 * j) + 1) (by omega) (by omega)) dL_law_109 ?_
        refine gv_top (y := (xs ((4 * j) + 1))) (gv_ld xs (e := (4 * j) + 1) (by omega)) ?_
        refine lv_aload_n hx hb dL_law_110 rfl (lv_at hl 0 rfl) ?_
        refine lv_iload_n hx hb dL_law_111 rfl (lv_at hl 3 rfl) ?_
        refine lv_iconst (v := nI 2) hx hb dL_law_112 (by decide) ?_
        refine lv_iadd hx hb dL_law_113 ?_
        refine gv_top (y := nI ((4 * j) + 2)) (nI_add _ _) ?_
        refine va_sld hx hb hX hbl hbA hS (vp_in_nI (n := (4 * j) + 2) (by omega) (by omega)) dL_law_114 ?_
        refine gv_top (y := (xs ((4 * j) + 2))) (gv_ld xs (e := (4 * j) + 2) (by omega)) ?_
        have hPc := hP.sub (ws' := gv_xW hX1 dX n kn Lm Rm fa fm) [0, 1, 2, 3, 4] rfl
        have hKc := hK.sub (tys' := gv_xT dX) [0, 1, 2, 3] rfl
        have hDc := hD.sub (ws' := gv_xW hX1 dX n kn Lm Rm fa fm) [0, 1, 2, 3, 4] (by decide) rfl
        have hFc := va_free (wc := gv_xW hX1 dX n kn Lm Rm fa fm) hD hS hA [0, 1, 2, 3, 4] rfl
        refine va_calli (va_runV (As := [.int (xs ((4 * j) + 1)), .int (xs ((4 * j) + 2))]) (rest := []) ⟨hx, hb, hml, hown, hts⟩ (gv_x_add l dC dI hX1 dX _ n kn Lm Rm fa fm (xs (4 * j + 1)) (xs (4 * j + 2)) hn hk) (cwV 2 hts (lw_V q48 q49 q50 q17 q51) rfl rfl rfl (by decide +kernel) ⟨Nat.le_of_ble_eq_true rfl, Nat.le_of_ble_eq_true rfl⟩) (gv_preD (ci := 0) hKc hPc hDc rfl rfl) rfl rfl hl.1 rfl (lv_room (Nat.le_of_ble_eq_true rfl)) dL_law_115 ⟨Nat.le_of_ble_eq_true rfl, Nat.le_of_ble_eq_true rfl⟩) hS (fun q _ h => hFc q h) hFc (fun r1 u t H1 locs ht hvm hw1 hB hz1 hk9 hS => ?_)
        obtain ⟨n1, L1, R1, kn1⟩ := u
        obtain ⟨hP1, hK1, hD1⟩ := hB
        rw [ht] at hP1
        obtain ⟨hP, hD⟩ := va_join (wr := gv_mW hM1 dM n Lm Rm fw fd) (w1 := gv_xW hX1 dX n1 kn1 L1 R1 fa fm) hP hD [0, 1, 2, 3, 4] [5, 6, 7, 8] rfl rfl (by decide) (by decide) hk9 hFc hP1 hD1
        clear hPc hKc hDc hFc hP1 hK1 hD1 hz1 hk9 ht hvm
        generalize H1 = H at hP hS ⊢
        have hP : va_P (dC, dI) gv_cl (gv_mW hM1 dM n Lm Rm fw fd ++ gv_xW hX1 dX n1 kn1 L1 R1 fa fm) H := hP
        have hD : va_D A (gv_mW hM1 dM n Lm Rm fw fd ++ gv_xW hX1 dX n1 kn1 L1 R1 fa fm) := hD
        refine lv_aload_n hx hb dL_law_118 rfl (lv_at hl 2 rfl) ?_
        refine lv_aload_n hx hb dL_law_119 rfl (lv_at hl 0 rfl) ?_
        refine lv_iload_n hx hb dL_law_120 rfl (lv_at hl 3 rfl) ?_
        refine lv_iconst (v := nI 1) hx hb dL_law_121 (by decide) ?_
        refine lv_iadd hx hb dL_law_122 ?_
        refine gv_top (y := nI ((4 * j) + 1)) (nI_add _ _) ?_
        refine va_sld hx hb hX hbl hbA hS (vp_in_nI (n := (4 * j) + 1) (by omega) (by omega)) dL_law_123 ?_
        refine gv_top (y := (xs ((4 * j) + 1))) (gv_ld xs (e := (4 * j) + 1) (by omega)) ?_
        refine lv_aload_n hx hb dL_law_124 rfl (lv_at hl 0 rfl) ?_
        refine lv_iload_n hx hb dL_law_125 rfl (lv_at hl 3 rfl) ?_
        refine lv_iconst (v := nI 2) hx hb dL_law_126 (by decide) ?_
        refine lv_iadd hx hb dL_law_127 ?_
        refine gv_top (y := nI ((4 * j) + 2)) (nI_add _ _) ?_
        refine va_sld hx hb hX hbl hbA hS (vp_in_nI (n := (4 * j) + 2) (by omega) (by omega)) dL_law_128 ?_
        refine gv_top (y := (xs ((4 * j) + 2))) (gv_ld xs (e := (4 * j) + 2) (by omega)) ?_
        have hPc := hP.sub (ws' := gv_mW hM1 dM n Lm Rm fw fd) [0, 1, 2, 3] rfl
        have hKc := hK.sub (tys' := gv_mT dM) [4, 5, 6] rfl
        have hDc := hD.sub (ws' := gv_mW hM1 dM n Lm Rm fw fd) [0, 1, 2, 3] (by decide) rfl
        have hFc := va_free (wc := gv_mW hM1 dM n Lm Rm fw fd) hD hS hA [0, 1, 2, 3] rfl
        refine va_calli (va_runV (As := [.int (xs ((4 * j) + 1)), .int (xs ((4 * j) + 2))]) (rest := [.int r1]) ⟨hx, hb, hml, hown, hts⟩ (gv_m_add l dC dI hM1 dM _ n Lm Rm fw fd (xs (4 * j + 1)) (xs (4 * j + 2)) hn) (cwV 2 hts (lw_V q170 q171 q172 q18 q173) rfl rfl rfl (by decide +kernel) ⟨Nat.le_of_ble_eq_true rfl, Nat.le_of_ble_eq_true rfl⟩) (gv_preD (ci := 1) hKc hPc hDc rfl rfl) rfl rfl hl.1 rfl (lv_room (Nat.le_of_ble_eq_true rfl)) dL_law_129 ⟨Nat.le_of_ble_eq_true rfl, Nat.le_of_ble_eq_true rfl⟩) hS (fun q _ h => hFc q h) hFc (fun r2 u t H1 locs ht hvm hw2 hB hz1 hk9 hS => ?_)
        obtain ⟨n2, L2, R2⟩ := u
        obtain ⟨hP1, hK1, hD1⟩ := hB
        rw [ht] at hP1
        obtain ⟨hP, hD⟩ := va_join (wr := gv_xW hX1 dX n1 kn1 L1 R1 fa fm) (w1 := gv_mW hM1 dM n2 L2 R2 fw fd) hP hD [0, 1, 2, 3] [4, 5, 6, 7, 8] rfl rfl (by decide) (by decide) hk9 hFc hP1 hD1
        clear hPc hKc hDc hFc hP1 hK1 hD1 hz1 hk9 ht hvm
        generalize H1 = H at hP hS ⊢
        have hP : va_P (dC, dI) gv_cl (gv_xW hX1 dX n1 kn1 L1 R1 fa fm ++ gv_mW hM1 dM n2 L2 R2 fw fd) H := hP
        have hD : va_D A (gv_xW hX1 dX n1 kn1 L1 R1 fa fm ++ gv_mW hM1 dM n2 L2 R2 fw fd) := hD
        refine lv_icmp_eq (tgt := 496) hx hb dL_law_132 (by decide) (fun c9 => ?_) (fun c9 => ?_)
        · have en : n2 = n1 := hw2.2.1.trans hw1.2.1.symm
          have eL : L2 = L1 := hw2.2.2.1.trans hw1.2.2.1.symm
          have eR : R2 = R1 := hw2.2.2.2.trans hw1.2.2.2.1.symm
          have hk1 : gv_k n1 L1 R1 kn1 fa fm := hw1.2.2.2.2
          have hkp := gv_ad_keep (x := (xs (4 * j + 1))) (y := (xs (4 * j + 2))) hn1 hn hg
          rw [← show n1 = _ from hw1.2.1, ← show L1 = _ from hw1.2.2.1, ← show R1 = _ from hw1.2.2.2.1] at hkp
          subst en eL eR
          refine lv_iinc (v := nI (4 * (j + 1))) (lv' := [(3, .int (nI (4 * (j + 1)))), (0, .ref b), (1, .ref (hX1 0)), (2, .ref (hM1 0))]) hx hb dL_law_496 hl (k := 3) rfl (gv_inc4 j) (by decide) rfl (fun ls hl => ?_)
          refine lv_goto (tgt := 18) hx hb dL_law_499 (by decide) ?_
          exact ih H locs ls ⟨_, _, _, kn1, fa, fm, fw, fd, hkp.1, hkp.2.1, hkp.2.2, hk1, hP, hD, hS⟩ (lv_sub hl [1, 2, 3, 0] rfl)
        · exact absurd (hw1.1.trans hw2.1.symm) c9
      · refine lv_tableIn (off := 105) (tgt := 137) hx hb dL_law_32 (by decide) (by decide) rfl (by decide) ?_
        refine lv_aload_n hx hb dL_law_137 rfl (lv_at hl 1 rfl) ?_
        have hPc := hP.sub (ws' := gv_xW hX1 dX n kn Lm Rm fa fm) [0, 1, 2, 3, 4] rfl
        have hKc := hK.sub (tys' := gv_xT dX) [0, 1, 2, 3] rfl
        have hDc := hD.sub (ws' := gv_xW hX1 dX n kn Lm Rm fa fm) [0, 1, 2, 3, 4] (by decide) rfl
        have hFc := va_free (wc := gv_xW hX1 dX n kn Lm Rm fa fm) hD hS hA [0, 1, 2, 3, 4] rfl
        refine va_calli (va_runV (As := []) (rest := []) ⟨hx, hb, hml, hown, hts⟩ (gv_x_drop l dC dI hX1 dX _ n kn Lm Rm fa fm hn1 hn hk) (cwV 0 hts (lw_V q56 q57 q58 q17 q59) rfl rfl rfl (by decide +kernel) ⟨Nat.le_of_ble_eq_true rfl, Nat.le_of_ble_eq_true rfl⟩) (gv_preD (ci := 0) hKc hPc hDc rfl rfl) rfl rfl hl.1 rfl (lv_room (Nat.le_of_ble_eq_true rfl)) dL_law_138 ⟨Nat.le_of_ble_eq_true rfl, Nat.le_of_ble_eq_true rfl⟩) hS (fun q _ h => hFc q h) hFc (fun r1 u t H1 locs ht hvm hw1 hB hz1 hk9 hS => ?_)
        obtain ⟨n1, kn1⟩ := u
        obtain ⟨hP1, hK1, hD1⟩ := hB
        rw [ht] at hP1
        obtain ⟨hP, hD⟩ := va_join (wr := gv_mW hM1 dM n Lm Rm fw fd) (w1 := gv_xW hX1 dX n1 kn1 Lm Rm fa fm) hP hD [0, 1, 2, 3, 4] [5, 6, 7, 8] rfl rfl (by decide) (by decide) hk9 hFc hP1 hD1
        clear hPc hKc hDc hFc hP1 hK1 hD1 hz1 hk9 ht hvm
        generalize H1 = H at hP hS ⊢
        have hP : va_P (dC, dI) gv_cl (gv_mW hM1 dM n Lm Rm fw fd ++ gv_xW hX1 dX n1 kn1 Lm Rm fa fm) H := hP
        have hD : va_D A (gv_mW hM1 dM n Lm Rm fw fd ++ gv_xW hX1 dX n1 kn1 Lm Rm fa fm) := hD
        refine lv_aload_n hx hb dL_law_141 rfl (lv_at hl 2 rfl) ?_
        have hPc := hP.sub (ws' := gv_mW hM1 dM n Lm Rm fw fd) [0, 1, 2, 3] rfl
        have hKc := hK.sub (tys' := gv_mT dM) [4, 5, 6] rfl
        have hDc := hD.sub (ws' := gv_mW hM1 dM n Lm Rm fw fd) [0, 1, 2, 3] (by decide) rfl
        have hFc := va_free (wc := gv_mW hM1 dM n Lm Rm fw fd) hD hS hA [0, 1, 2, 3] rfl
        refine va_calli (va_runV (As := []) (rest := [.int r1]) ⟨hx, hb, hml, hown, hts⟩ (gv_m_drop l dC dI hM1 dM _ n Lm Rm fw fd hn1 hn) (cwV 0 hts (lw_V q174 q175 q176 q18 q177) rfl rfl rfl (by decide +kernel) ⟨Nat.le_of_ble_eq_true rfl, Nat.le_of_ble_eq_true rfl⟩) (gv_preD (ci := 1) hKc hPc hDc rfl rfl) rfl rfl hl.1 rfl (lv_room (Nat.le_of_ble_eq_true rfl)) dL_law_142 ⟨Nat.le_of_ble_eq_true rfl, Nat.le_of_ble_eq_true rfl⟩) hS (fun q _ h => hFc q h) hFc (fun r2 u t H1 locs ht hvm hw2 hB hz1 hk9 hS => ?_)
        obtain ⟨n2, rfl⟩ : ∃ z, z = u := ⟨_, rfl⟩
        obtain ⟨hP1, hK1, hD1⟩ := hB
        rw [ht] at hP1
        obtain ⟨hP, hD⟩ := va_join (wr := gv_xW hX1 dX n1 kn1 Lm Rm fa fm) (w1 := gv_mW hM1 dM n2 Lm Rm fw fd) hP hD [0, 1, 2, 3] [4, 5, 6, 7, 8] rfl rfl (by decide) (by decide) hk9 hFc hP1 hD1
        clear hPc hKc hDc hFc hP1 hK1 hD1 hz1 hk9 ht hvm
        generalize H1 = H at hP hS ⊢
        have hP : va_P (dC, dI) gv_cl (gv_xW hX1 dX n1 kn1 Lm Rm fa fm ++ gv_mW hM1 dM n2 Lm Rm fw fd) H := hP
        have hD : va_D A (gv_xW hX1 dX n1 kn1 Lm Rm fa fm ++ gv_mW hM1 dM n2 Lm Rm fw fd) := hD
        refine lv_icmp_eq (tgt := 496) hx hb dL_law_145 (by decide) (fun c9 => ?_) (fun c9 => ?_)
        · have en : n2 = n1 := hw2.2.trans hw1.2.1.symm
          have hk1 : gv_k n1 Lm Rm kn1 fa fm := hw1.2.2
          have hdn : n1 = gv_drN n := hw1.2.1
          have hkp : 1 ≤ n1 ∧ n1 ≤ 10 := by rw [hdn]; exact gv_dr_keep hn1 hn
          subst en
          refine lv_iinc (v := nI (4 * (j + 1))) (lv' := [(3, .int (nI (4 * (j + 1)))), (0, .ref b), (1, .ref (hX1 0)), (2, .ref (hM1 0))]) hx hb dL_law_496 hl (k := 3) rfl (gv_inc4 j) (by decide) rfl (fun ls hl => ?_)
          refine lv_goto (tgt := 18) hx hb dL_law_499 (by decide) ?_
          exact ih H locs ls ⟨_, Lm, Rm, kn1, fa, fm, fw, fd, hkp.1, hkp.2, hg, hk1, hP, hD, hS⟩ (lv_sub hl [1, 2, 3, 0] rfl)
        · exact absurd (hw1.1.trans hw2.1.symm) c9
      · refine lv_tableIn (off := 118) (tgt := 150) hx hb dL_law_32 (by decide) (by decide) rfl (by decide) ?_
        refine lv_aload_n hx hb dL_law_150 rfl (lv_at hl 1 rfl) ?_
        have hPc := hP.sub (ws' := gv_xW hX1 dX n kn Lm Rm fa fm) [0, 1, 2, 3, 4] rfl
        have hKc := hK.sub (tys' := gv_xT dX) [0, 1, 2, 3] rfl
        refine vp_callSi (W.runV (As := []) (rest := []) ⟨hx, hb, hml, hown, hts⟩ (gv_x_positions l dC dI hX1 dX n kn Lm Rm fa fm) (cwV 0 hts (lw_V q60 q61 q62 q17 q63) rfl rfl rfl (by decide +kernel) ⟨Nat.le_of_ble_eq_true rfl, Nat.le_of_ble_eq_true rfl⟩) (gv_preV (ci := 0) hKc hPc rfl rfl) rfl rfl hl.1 rfl (lv_room (Nat.le_of_ble_eq_true rfl)) dL_law_151 ⟨Nat.le_of_ble_eq_true rfl, Nat.le_of_ble_eq_true rfl⟩) (fun r1 hw1 => ?_)
        clear hPc hKc
        refine lv_aload_n hx hb dL_law_154 rfl (lv_at hl 2 rfl) ?_
        have hPc := hP.sub (ws' := gv_mW hM1 dM n Lm Rm fw fd) [5, 6, 7, 8] rfl
        have hKc := hK.sub (tys' := gv_mT dM) [4, 5, 6] rfl
        refine vp_callSi (W.runV (As := []) (rest := [.int r1]) ⟨hx, hb, hml, hown, hts⟩ (gv_m_positions l dC dI hM1 dM n Lm Rm fw fd) (cwV 0 hts (lw_V q178 q179 q180 q18 q181) rfl rfl rfl (by decide +kernel) ⟨Nat.le_of_ble_eq_true rfl, Nat.le_of_ble_eq_true rfl⟩) (gv_preV (ci := 1) hKc hPc rfl rfl) rfl rfl hl.1 rfl (lv_room (Nat.le_of_ble_eq_true rfl)) dL_law_155 ⟨Nat.le_of_ble_eq_true rfl, Nat.le_of_ble_eq_true rfl⟩) (fun r2 hw2 => ?_)
        clear hPc hKc
        refine lv_icmp_eq (tgt := 496) hx hb dL_law_158 (by decide) (fun c9 => ?_) (fun c9 => ?_)
        · refine lv_iinc (v := nI (4 * (j + 1))) (lv' := [(3, .int (nI (4 * (j + 1)))), (0, .ref b), (1, .ref (hX1 0)), (2, .ref (hM1 0))]) hx hb dL_law_496 hl (k := 3) rfl (gv_inc4 j) (by decide) rfl (fun ls hl => ?_)
          refine lv_goto (tgt := 18) hx hb dL_law_499 (by decide) ?_
          exact ih H locs ls ⟨n, Lm, Rm, kn, fa, fm, fw, fd, hn1, hn, hg, hk, hP, hD, hS⟩ (lv_sub hl [1, 2, 3, 0] rfl)
        · exact absurd (hw1.trans hw2.symm) c9
      · refine lv_tableIn (off := 131) (tgt := 163) hx hb dL_law_32 (by decide) (by decide) rfl (by decide) ?_
        refine lv_aload_n hx hb dL_law_163 rfl (lv_at hl 1 rfl) ?_
        refine lv_aload_n hx hb dL_law_164 rfl (lv_at hl 0 rfl) ?_
        refine lv_iload_n hx hb dL_law_165 rfl (lv_at hl 3 rfl) ?_
        refine lv_iconst (v := nI 1) hx hb dL_law_166 (by decide) ?_
        refine lv_iadd hx hb dL_law_167 ?_
        refine gv_top (y := nI ((4 * j) + 1)) (nI_add _ _) ?_
        refine va_sld hx hb hX hbl hbA hS (vp_in_nI (n := (4 * j) + 1) (by omega) (by omega)) dL_law_168 ?_
        refine gv_top (y := (xs ((4 * j) + 1))) (gv_ld xs (e := (4 * j) + 1) (by omega)) ?_
        refine lv_aload_n hx hb dL_law_169 rfl (lv_at hl 0 rfl) ?_
        refine lv_iload_n hx hb dL_law_170 rfl (lv_at hl 3 rfl) ?_
        refine lv_iconst (v := nI 2) hx hb dL_law_171 (by decide) ?_
        refine lv_iadd hx hb dL_law_172 ?_
        refine gv_top (y := nI ((4 * j) + 2)) (nI_add _ _) ?_
        refine va_sld hx hb hX hbl hbA hS (vp_in_nI (n := (4 * j) + 2) (by omega) (by omega)) dL_law_173 ?_
        refine gv_top (y := (xs ((4 * j) + 2))) (gv_ld xs (e := (4 * j) + 2) (by omega)) ?_
        have hPc := hP.sub (ws' := gv_xW hX1 dX n kn Lm Rm fa fm) [0, 1, 2, 3, 4] rfl
        have hKc := hK.sub (tys' := gv_xT dX) [0, 1, 2, 3] rfl
        refine vp_callSi (W.runV (As := [.int (xs ((4 * j) + 1)), .int (xs ((4 * j) + 2))]) (rest := []) ⟨hx, hb, hml, hown, hts⟩ (gv_x_moves l dC dI hX1 dX n kn Lm Rm fa fm (xs (4 * j + 1)) (xs (4 * j + 2)) hn) (cwV 2 hts (lw_V q64 q65 q66 q17 q67) rfl rfl rfl (by decide +kernel) ⟨Nat.le_of_ble_eq_true rfl, Nat.le_of_ble_eq_true rfl⟩) (gv_preV (ci := 0) hKc hPc rfl rfl) rfl rfl hl.1 rfl (lv_room (Nat.le_of_ble_eq_true rfl)) dL_law_174 ⟨Nat.le_of_ble_eq_true rfl, Nat.le_of_ble_eq_true rfl⟩) (fun r1 hw1 => ?_)
        clear hPc hKc
        refine lv_aload_n hx hb dL_law_177 rfl (lv_at hl 2 rfl) ?_
        refine lv_aload_n hx hb dL_law_178 rfl (lv_at hl 0 rfl) ?_
        refine lv_iload_n hx hb dL_law_179 rfl (lv_at hl 3 rfl) ?_
        refine lv_iconst (v := nI 1) hx hb dL_law_180 (by decide) ?_
        refine lv_iadd hx hb dL_law_181 ?_
        refine gv_top (y := nI ((4 * j) + 1)) (nI_add _ _) ?_
        refine va_sld hx hb hX hbl hbA hS (vp_in_nI (n := (4 * j) + 1) (by omega) (by omega)) dL_law_182 ?_
        refine gv_top (y := (xs ((4 * j) + 1))) (gv_ld xs (e := (4 * j) + 1) (by omega)) ?_
        refine lv_aload_n hx hb dL_law_183 rfl (lv_at hl 0 rfl) ?_
        refine lv_iload_n hx hb dL_law_184 rfl (lv_at hl 3 rfl) ?_
        refine lv_iconst (v := nI 2) hx hb dL_law_185 (by decide) ?_
        refine lv_iadd hx hb dL_law_186 ?_
        refine gv_top (y := nI ((4 * j) + 2)) (nI_add _ _) ?_
        refine va_sld hx hb hX hbl hbA hS (vp_in_nI (n := (4 * j) + 2) (by omega) (by omega)) dL_law_187 ?_
        refine gv_top (y := (xs ((4 * j) + 2))) (gv_ld xs (e := (4 * j) + 2) (by omega)) ?_
        have hPc := hP.sub (ws' := gv_mW hM1 dM n Lm Rm fw fd) [5, 6, 7, 8] rfl
        have hKc := hK.sub (tys' := gv_mT dM) [4, 5, 6] rfl
        refine vp_callSi (W.runV (As := [.int (xs ((4 * j) + 1)), .int (xs ((4 * j) + 2))]) (rest := [.int r1]) ⟨hx, hb, hml, hown, hts⟩ (gv_m_moves l dC dI hM1 dM n Lm Rm fw fd (xs (4 * j + 1)) (xs (4 * j + 2)) hn) (cwV 2 hts (lw_V q182 q183 q184 q18 q185) rfl rfl rfl (by decide +kernel) ⟨Nat.le_of_ble_eq_true rfl, Nat.le_of_ble_eq_true rfl⟩) (gv_preV (ci := 1) hKc hPc rfl rfl) rfl rfl hl.1 rfl (lv_room (Nat.le_of_ble_eq_true rfl)) dL_law_188 ⟨Nat.le_of_ble_eq_true rfl, Nat.le_of_ble_eq_true rfl⟩) (fun r2 hw2 => ?_)
        clear hPc hKc
        refine lv_icmp_eq (tgt := 496) hx hb dL_law_191 (by decide) (fun c9 => ?_) (fun c9 => ?_)
        · refine lv_iinc (v := nI (4 * (j + 1))) (lv' := [(3, .int (nI (4 * (j + 1)))), (0, .ref b), (1, .ref (hX1 0)), (2, .ref (hM1 0))]) hx hb dL_law_496 hl (k := 3) rfl (gv_inc4 j) (by decide) rfl (fun ls hl => ?_)
          refine lv_goto (tgt := 18) hx hb dL_law_499 (by decide) ?_
          exact ih H locs ls ⟨n, Lm, Rm, kn, fa, fm, fw, fd, hn1, hn, hg, hk, hP, hD, hS⟩ (lv_sub hl [1, 2, 3, 0] rfl)
        · exact absurd (hw1.trans hw2.symm) c9
      · refine lv_tableIn (off := 164) (tgt := 196) hx hb dL_law_32 (by decide) (by decide) rfl (by decide) ?_
        refine lv_aload_n hx hb dL_law_196 rfl (lv_at hl 1 rfl) ?_
        refine lv_aload_n hx hb dL_law_197 rfl (lv_at hl 0 rfl) ?_
        refine lv_iload_n hx hb dL_law_198 rfl (lv_at hl 3 rfl) ?_
        refine lv_iconst (v := nI 1) hx hb dL_law_199 (by decide) ?_
        refine lv_iadd hx hb dL_law_200 ?_
        refine gv_top (y := nI ((4 * j) + 1)) (nI_add _ _) ?_
        refine va_sld hx hb hX hbl hbA hS (vp_in_nI (n := (4 * j) + 1) (by omega) (by omega)) dL_law_201 ?_
        refine gv_top (y := (xs ((4 * j) + 1))) (gv_ld xs (e := (4 * j) + 1) (by omega)) ?_
        refine lv_aload_n hx hb dL_law_202 rfl (lv_at hl 0 rfl) ?_
        refine lv_iload_n hx hb dL_law_203 rfl (lv_at hl 3 rfl) ?_
        refine lv_iconst (v := nI 2) hx hb dL_law_204 (by decide) ?_
        refine lv_iadd hx hb dL_law_205 ?_
        refine gv_top (y := nI ((4 * j) + 2)) (nI_add _ _) ?_
        refine va_sld hx hb hX hbl hbA hS (vp_in_nI (n := (4 * j) + 2) (by omega) (by omega)) dL_law_206 ?_
        refine gv_top (y := (xs ((4 * j) + 2))) (gv_ld xs (e := (4 * j) + 2) (by omega)) ?_
        have hPc := hP.sub (ws' := gv_xW hX1 dX n kn Lm Rm fa fm) [0, 1, 2, 3, 4] rfl
        have hKc := hK.sub (tys' := gv_xT dX) [0, 1, 2, 3] rfl
        have hDc := hD.sub (ws' := gv_xW hX1 dX n kn Lm Rm fa fm) [0, 1, 2, 3, 4] (by decide) rfl
        have hFc := va_free (wc := gv_xW hX1 dX n kn Lm Rm fa fm) hD hS hA [0, 1, 2, 3, 4] rfl
        refine va_calli (va_runV (As := [.int (xs ((4 * j) + 1)), .int (xs ((4 * j) + 2))]) (rest := []) ⟨hx, hb, hml, hown, hts⟩ (gv_x_compare l dC dI hX1 dX _ n kn Lm Rm fa fm (xs (4 * j + 1)) (xs (4 * j + 2)) hg hn1 hn hk) (cwV 2 hts (lw_V q76 q77 q78 q17 q79) rfl rfl rfl (by decide +kernel) ⟨Nat.le_of_ble_eq_true rfl, Nat.le_of_ble_eq_true rfl⟩) (gv_preD (ci := 0) hKc hPc hDc rfl rfl) rfl rfl hl.1 rfl (lv_room (Nat.le_of_ble_eq_true rfl)) dL_law_207 ⟨Nat.le_of_ble_eq_true rfl, Nat.le_of_ble_eq_true rfl⟩) hS (fun q _ h => hFc q h) hFc (fun r1 u t H1 locs ht hvm hw1 hB hz1 hk9 hS => ?_)
        obtain ⟨kn1, fa1, fm1⟩ := u
        obtain ⟨hP1, hK1, hD1⟩ := hB
        rw [ht] at hP1
        obtain ⟨hP, hD⟩ := va_join (wr := gv_mW hM1 dM n Lm Rm fw fd) (w1 := gv_xW hX1 dX n kn1 Lm Rm fa1 fm1) hP hD [0, 1, 2, 3, 4] [5, 6, 7, 8] rfl rfl (by decide) (by decide) hk9 hFc hP1 hD1
        clear hPc hKc hDc hFc hP1 hK1 hD1 hz1 hk9 ht hvm
        generalize H1 = H at hP hS ⊢
        have hP : va_P (dC, dI) gv_cl (gv_mW hM1 dM n Lm Rm fw fd ++ gv_xW hX1 dX n kn1 Lm Rm fa1 fm1) H := hP
        have hD : va_D A (gv_mW hM1 dM n Lm Rm fw fd ++ gv_xW hX1 dX n kn1 Lm Rm fa1 fm1) := hD
        refine lv_aload_n hx hb dL_law_210 rfl (lv_at hl 2 rfl) ?_
        refine lv_aload_n hx hb dL_law_211 rfl (lv_at hl 0 rfl) ?_
        refine lv_iload_n hx hb dL_law_212 rfl (lv_at hl 3 rfl) ?_
        refine lv_iconst (v := nI 1) hx hb dL_law_213 (by decide) ?_
        refine lv_iadd hx hb dL_law_214 ?_
        refine gv_top (y := nI ((4 * j) + 1)) (nI_add _ _) ?_
        refine va_sld hx hb hX hbl hbA hS (vp_in_nI (n := (4 * j) + 1) (by omega) (by omega)) dL_law_215 ?_
        refine gv_top (y := (xs ((4 * j) + 1))) (gv_ld xs (e := (4 * j) + 1) (by omega)) ?_
        refine lv_aload_n hx hb dL_law_216 rfl (lv_at hl 0 rfl) ?_
        refine lv_iload_n hx hb dL_law_217 rfl (lv_at hl 3 rfl) ?_
        refine lv_iconst (v := nI 2) hx hb dL_law_218 (by decide) ?_
        refine lv_iadd hx hb dL_law_219 ?_
        refine gv_top (y := nI ((4 * j) + 2)) (nI_add _ _) ?_
        refine va_sld hx hb hX hbl hbA hS (vp_in_nI (n := (4 * j) + 2) (by omega) (by omega)) dL_law_220 ?_
        refine gv_top (y := (xs ((4 * j) + 2))) (gv_ld xs (e := (4 * j) + 2) (by omega)) ?_
        have hPc := hP.sub (ws' := gv_mW hM1 dM n Lm Rm fw fd) [0, 1, 2, 3] rfl
        have hKc := hK.sub (tys' := gv_mT dM) [4, 5, 6] rfl
        have hDc := hD.sub (ws' := gv_mW hM1 dM n Lm Rm fw fd) [0, 1, 2, 3] (by decide) rfl
        have hFc := va_free (wc := gv_mW hM1 dM n Lm Rm fw fd) hD hS hA [0, 1, 2, 3] rfl
        refine va_calli (va_runV (As := [.int (xs ((4 * j) + 1)), .int (xs ((4 * j) + 2))]) (rest := [.int r1]) ⟨hx, hb, hml, hown, hts⟩ (gv_m_compare l dC dI hM1 dM _ n Lm Rm fw fd (xs (4 * j + 1)) (xs (4 * j + 2)) hg hn1 hn) (cwV 2 hts (lw_V q190 q191 q192 q18 q193) rfl rfl rfl (by decide +kernel) ⟨Nat.le_of_ble_eq_true rfl, Nat.le_of_ble_eq_true rfl⟩) (gv_preD (ci := 1) hKc hPc hDc rfl rfl) rfl rfl hl.1 rfl (lv_room (Nat.le_of_ble_eq_true rfl)) dL_law_221 ⟨Nat.le_of_ble_eq_true rfl, Nat.le_of_ble_eq_true rfl⟩) hS (fun q _ h => hFc q h) hFc (fun r2 u t H1 locs ht hvm hw2 hB hz1 hk9 hS => ?_)
        obtain ⟨fw1, fd1⟩ := u
        obtain ⟨hP1, hK1, hD1⟩ := hB
        rw [ht] at hP1
        obtain ⟨hP, hD⟩ := va_join (wr := gv_xW hX1 dX n kn1 Lm Rm fa1 fm1) (w1 := gv_mW hM1 dM n Lm Rm fw1 fd1) hP hD [0, 1, 2, 3] [4, 5, 6, 7, 8] rfl rfl (by decide) (by decide) hk9 hFc hP1 hD1
        clear hPc hKc hDc hFc hP1 hK1 hD1 hz1 hk9 ht hvm
        generalize H1 = H at hP hS ⊢
        have hP : va_P (dC, dI) gv_cl (gv_xW hX1 dX n kn1 Lm Rm fa1 fm1 ++ gv_mW hM1 dM n Lm Rm fw1 fd1) H := hP
        have hD : va_D A (gv_xW hX1 dX n kn1 Lm Rm fa1 fm1 ++ gv_mW hM1 dM n Lm Rm fw1 fd1) := hD
        refine lv_icmp_eq (tgt := 496) hx hb dL_law_224 (by decide) (fun c9 => ?_) (fun c9 => ?_)
        · refine lv_iinc (v := nI (4 * (j + 1))) (lv' := [(3, .int (nI (4 * (j + 1)))), (0, .ref b), (1, .ref (hX1 0)), (2, .ref (hM1 0))]) hx hb dL_law_496 hl (k := 3) rfl (gv_inc4 j) (by decide) rfl (fun ls hl => ?_)
          refine lv_goto (tgt := 18) hx hb dL_law_499 (by decide) ?_
          exact ih H locs ls ⟨n, Lm, Rm, kn1, fa1, fm1, fw1, fd1, hn1, hn, hg, hw1.2, hP, hD, hS⟩ (lv_sub hl [1, 2, 3, 0] rfl)
        · exact absurd (hw1.1.trans ((gv_cm_cs hg hn1 hn (xs (4 * j + 1)) (xs (4 * j + 2))).trans hw2.symm)) c9
      · refine lv_tableIn (off := 197) (tgt := 229) hx hb dL_law_32 (by decide) (by decide) rfl (by decide) ?_
        refine lv_aload_n hx hb dL_law_229 rfl (lv_at hl 1 rfl) ?_
        refine lv_aload_n hx hb dL_law_230 rfl (lv_at hl 0 rfl) ?_
        refine lv_iload_n hx hb dL_law_231 rfl (lv_at hl 3 rfl) ?_
        refine lv_iconst (v := nI 1) hx hb dL_law_232 (by decide) ?_
        refine lv_iadd hx hb dL_law_233 ?_
        refine gv_top (y := nI ((4 * j) + 1)) (nI_add _ _) ?_
        refine va_sld hx hb hX hbl hbA hS (vp_in_nI (n := (4 * j) + 1) (by omega) (by omega)) dL_law_234 ?_
        refine gv_top (y := (xs ((4 * j) + 1))) (gv_ld xs (e := (4 * j) + 1) (by omega)) ?_
        refine lv_aload_n hx hb dL_law_235 rfl (lv_at hl 0 rfl) ?_
        refine lv_iload_n hx hb dL_law_236 rfl (lv_at hl 3 rfl) ?_
        refine lv_iconst (v := nI 2) hx hb dL_law_237 (by decide) ?_
        refine lv_iadd hx hb dL_law_238 ?_
        refine gv_top (y := nI ((4 * j) + 2)) (nI_add _ _) ?_
        refine va_sld hx hb hX hbl hbA hS (vp_in_nI (n := (4 * j) + 2) (by omega) (by omega)) dL_law_239 ?_
        refine gv_top (y := (xs ((4 * j) + 2))) (gv_ld xs (e := (4 * j) + 2) (by omega)) ?_
        have hPc := hP.sub (ws' := gv_xW hX1 dX n kn Lm Rm fa fm) [0, 1, 2, 3, 4] rfl
        have hKc := hK.sub (tys' := gv_xT dX) [0, 1, 2, 3] rfl
        have hDc := hD.sub (ws' := gv_xW hX1 dX n kn Lm Rm fa fm) [0, 1, 2, 3, 4] (by decide) rfl
        have hFc := va_free (wc := gv_xW hX1 dX n kn Lm Rm fa fm) hD hS hA [0, 1, 2, 3, 4] rfl
        refine va_calli (va_runV (As := [.int (xs ((4 * j) + 1)), .int (xs ((4 * j) + 2))]) (rest := []) ⟨hx, hb, hml, hown, hts⟩ (gv_x_wins l dC dI hX1 dX _ n kn Lm Rm fa fm (xs (4 * j + 1)) (xs (4 * j + 2)) hg hn1 hn hk) (cwV 2 hts (lw_V q106 q107 q108 q17 q109) rfl rfl rfl (by decide +kernel) ⟨Nat.le_of_ble_eq_true rfl, Nat.le_of_ble_eq_true rfl⟩) (gv_preD (ci := 0) hKc hPc hDc rfl rfl) rfl rfl hl.1 rfl (lv_room (Nat.le_of_ble_eq_true rfl)) dL_law_240 ⟨Nat.le_of_ble_eq_true rfl, Nat.le_of_ble_eq_true rfl⟩) hS (fun q _ h => hFc q h) hFc (fun r1 u t H1 locs ht hvm hw1 hB hz1 hk9 hS => ?_)
        obtain ⟨kn1, fa1, fm1⟩ := u
        obtain ⟨hP1, hK1, hD1⟩ := hB
        rw [ht] at hP1
        obtain ⟨hP, hD⟩ := va_join (wr := gv_mW hM1 dM n Lm Rm fw fd) (w1 := gv_xW hX1 dX n kn1 Lm Rm fa1 fm1) hP hD [0, 1, 2, 3, 4] [5, 6, 7, 8] rfl rfl (by decide) (by decide) hk9 hFc hP1 hD1
        clear hPc hKc hDc hFc hP1 hK1 hD1 hz1 hk9 ht hvm
        generalize H1 = H at hP hS ⊢
        have hP : va_P (dC, dI) gv_cl (gv_mW hM1 dM n Lm Rm fw fd ++ gv_xW hX1 dX n kn1 Lm Rm fa1 fm1) H := hP
        have hD : va_D A (gv_mW hM1 dM n Lm Rm fw fd ++ gv_xW hX1 dX n kn1 Lm Rm fa1 fm1) := hD
        refine lv_aload_n hx hb dL_law_243 rfl (lv_at hl 2 rfl) ?_
        refine lv_aload_n hx hb dL_law_244 rfl (lv_at hl 0 rfl) ?_
        refine lv_iload_n hx hb dL_law_245 rfl (lv_at hl 3 rfl) ?_
        refine lv_iconst (v := nI 1) hx hb dL_law_246 (by decide) ?_
        refine lv_iadd hx hb dL_law_247 ?_
        refine gv_top (y := nI ((4 * j) + 1)) (nI_add _ _) ?_
        refine va_sld hx hb hX hbl hbA hS (vp_in_nI (n := (4 * j) + 1) (by omega) (by omega)) dL_law_248 ?_
        refine gv_top (y := (xs ((4 * j) + 1))) (gv_ld xs (e := (4 * j) + 1) (by omega)) ?_
        refine lv_aload_n hx hb dL_law_249 rfl (lv_at hl 0 rfl) ?_
        refine lv_iload_n hx hb dL_law_250 rfl (lv_at hl 3 rfl) ?_
        refine lv_iconst (v := nI 2) hx hb dL_law_251 (by decide) ?_
        refine lv_iadd hx hb dL_law_252 ?_
        refine gv_top (y := nI ((4 * j) + 2)) (nI_add _ _) ?_
        refine va_sld hx hb hX hbl hbA hS (vp_in_nI (n := (4 * j) + 2) (by omega) (by omega)) dL_law_253 ?_
        refine gv_top (y := (xs ((4 * j) + 2))) (gv_ld xs (e := (4 * j) + 2) (by omega)) ?_
        have hPc := hP.sub (ws' := gv_mW hM1 dM n Lm Rm fw fd) [0, 1, 2, 3] rfl
        have hKc := hK.sub (tys' := gv_mT dM) [4, 5, 6] rfl
        have hDc := hD.sub (ws' := gv_mW hM1 dM n Lm Rm fw fd) [0, 1, 2, 3] (by decide) rfl
        have hFc := va_free (wc := gv_mW hM1 dM n Lm Rm fw fd) hD hS hA [0, 1, 2, 3] rfl
        refine va_calli (va_runV (As := [.int (xs ((4 * j) + 1)), .int (xs ((4 * j) + 2))]) (rest := [.int r1]) ⟨hx, hb, hml, hown, hts⟩ (gv_m_wins l dC dI hM1 dM _ n Lm Rm fw fd (xs (4 * j + 1)) (xs (4 * j + 2)) hg hn1 hn) (cwV 2 hts (lw_V q214 q215 q216 q18 q217) rfl rfl rfl (by decide +kernel) ⟨Nat.le_of_ble_eq_true rfl, Nat.le_of_ble_eq_true rfl⟩) (gv_preD (ci := 1) hKc hPc hDc rfl rfl) rfl rfl hl.1 rfl (lv_room (Nat.le_of_ble_eq_true rfl)) dL_law_254 ⟨Nat.le_of_ble_eq_true rfl, Nat.le_of_ble_eq_true rfl⟩) hS (fun q _ h => hFc q h) hFc (fun r2 u t H1 locs ht hvm hw2 hB hz1 hk9 hS => ?_)
        obtain ⟨fw1, fd1⟩ := u
        obtain ⟨hP1, hK1, hD1⟩ := hB
        rw [ht] at hP1
        obtain ⟨hP, hD⟩ := va_join (wr := gv_xW hX1 dX n kn1 Lm Rm fa1 fm1) (w1 := gv_mW hM1 dM n Lm Rm fw1 fd1) hP hD [0, 1, 2, 3] [4, 5, 6, 7, 8] rfl rfl (by decide) (by decide) hk9 hFc hP1 hD1
        clear hPc hKc hDc hFc hP1 hK1 hD1 hz1 hk9 ht hvm
        generalize H1 = H at hP hS ⊢
        have hP : va_P (dC, dI) gv_cl (gv_xW hX1 dX n kn1 Lm Rm fa1 fm1 ++ gv_mW hM1 dM n Lm Rm fw1 fd1) H := hP
        have hD : va_D A (gv_xW hX1 dX n kn1 Lm Rm fa1 fm1 ++ gv_mW hM1 dM n Lm Rm fw1 fd1) := hD
        refine lv_icmp_eq (tgt := 496) hx hb dL_law_257 (by decide) (fun c9 => ?_) (fun c9 => ?_)
        · refine lv_iinc (v := nI (4 * (j + 1))) (lv' := [(3, .int (nI (4 * (j + 1)))), (0, .ref b), (1, .ref (hX1 0)), (2, .ref (hM1 0))]) hx hb dL_law_496 hl (k := 3) rfl (gv_inc4 j) (by decide) rfl (fun ls hl => ?_)
          refine lv_goto (tgt := 18) hx hb dL_law_499 (by decide) ?_
          exact ih H locs ls ⟨n, Lm, Rm, kn1, fa1, fm1, fw1, fd1, hn1, hn, hg, hw1.2, hP, hD, hS⟩ (lv_sub hl [1, 2, 3, 0] rfl)
        · exact absurd (hw1.1.trans hw2.symm) c9
      · refine lv_tableIn (off := 230) (tgt := 262) hx hb dL_law_32 (by decide) (by decide) rfl (by decide) ?_
        refine lv_aload_n hx hb dL_law_262 rfl (lv_at hl 1 rfl) ?_
        refine lv_aload_n hx hb dL_law_263 rfl (lv_at hl 0 rfl) ?_
        refine lv_iload_n hx hb dL_law_264 rfl (lv_at hl 3 rfl) ?_
        refine lv_iconst (v := nI 1) hx hb dL_law_265 (by decide) ?_
        refine lv_iadd hx hb dL_law_266 ?_
        refine gv_top (y := nI ((4 * j) + 1)) (nI_add _ _) ?_
        refine va_sld hx hb hX hbl hbA hS (vp_in_nI (n := (4 * j) + 1) (by omega) (by omega)) dL_law_267 ?_
        refine gv_top (y := (xs ((4 * j) + 1))) (gv_ld xs (e := (4 * j) + 1) (by omega)) ?_
        refine lv_aload_n hx hb dL_law_268 rfl (lv_at hl 0 rfl) ?_
        refine lv_iload_n hx hb dL_law_269 rfl (lv_at hl 3 rfl) ?_
        refine lv_iconst (v := nI 2) hx hb dL_law_270 (by decide) ?_
        refine lv_iadd hx hb dL_law_271 ?_
        refine gv_top (y := nI ((4 * j) + 2)) (nI_add _ _) ?_
        refine va_sld hx hb hX hbl hbA hS (vp_in_nI (n := (4 * j) + 2) (by omega) (by omega)) dL_law_272 ?_
        refine gv_top (y := (xs ((4 * j) + 2))) (gv_ld xs (e := (4 * j) + 2) (by omega)) ?_
        refine lv_aload_n hx hb dL_law_273 rfl (lv_at hl 0 rfl) ?_
        refine lv_iload_n hx hb dL_law_274 rfl (lv_at hl 3 rfl) ?_
        refine lv_iconst (v := nI 3) hx hb dL_law_275 (by decide) ?_
        refine lv_iadd hx hb dL_law_276 ?_
        refine gv_top (y := nI ((4 * j) + 3)) (nI_add _ _) ?_
        refine va_sld hx hb hX hbl hbA hS (vp_in_nI (n := (4 * j) + 3) (by omega) (by omega)) dL_law_277 ?_
        refine gv_top (y := (xs ((4 * j) + 3))) (gv_ld xs (e := (4 * j) + 3) (by omega)) ?_
        have hPc := hP.sub (ws' := gv_xW hX1 dX n kn Lm Rm fa fm) [0, 1, 2, 3, 4] rfl
        have hKc := hK.sub (tys' := gv_xT dX) [0, 1, 2, 3] rfl
        have hDc := hD.sub (ws' := gv_xW hX1 dX n kn Lm Rm fa fm) [0, 1, 2, 3, 4] (by decide) rfl
        have hFc := va_free (wc := gv_xW hX1 dX n kn Lm Rm fa fm) hD hS hA [0, 1, 2, 3, 4] rfl
        refine va_calli (va_runV (As := [.int (xs ((4 * j) + 1)), .int (xs ((4 * j) + 2)), .int (xs ((4 * j) + 3))]) (rest := []) ⟨hx, hb, hml, hown, hts⟩ (gv_x_winsSum l dC dI hX1 dX _ n kn Lm Rm fa fm (xs (4 * j + 1)) (xs (4 * j + 2)) (xs (4 * j + 3)) hg hn1 hn hk) (cwV 3 hts (lw_V q114 q111 q112 q17 q113) rfl rfl rfl (by decide +kernel) ⟨Nat.le_of_ble_eq_true rfl, Nat.le_of_ble_eq_true rfl⟩) (gv_preD (ci := 0) hKc hPc hDc rfl rfl) rfl rfl hl.1 rfl (lv_room (Nat.le_of_ble_eq_true rfl)) dL_law_278 ⟨Nat.le_of_ble_eq_true rfl, Nat.le_of_ble_eq_true rfl⟩) hS (fun q _ h => hFc q h) hFc (fun r1 u t H1 locs ht hvm hw1 hB hz1 hk9 hS => ?_)
        obtain ⟨kn1, fa1, fm1⟩ := u
        obtain ⟨hP1, hK1, hD1⟩ := hB
        rw [ht] at hP1
        obtain ⟨hP, hD⟩ := va_join (wr := gv_mW hM1 dM n Lm Rm fw fd) (w1 := gv_xW hX1 dX n kn1 Lm Rm fa1 fm1) hP hD [0, 1, 2, 3, 4] [5, 6, 7, 8] rfl rfl (by decide) (by decide) hk9 hFc hP1 hD1
        clear hPc hKc hDc hFc hP1 hK1 hD1 hz1 hk9 ht hvm
        generalize H1 = H at hP hS ⊢
        have hP : va_P (dC, dI) gv_cl (gv_mW hM1 dM n Lm Rm fw fd ++ gv_xW hX1 dX n kn1 Lm Rm fa1 fm1) H := hP
        have hD : va_D A (gv_mW hM1 dM n Lm Rm fw fd ++ gv_xW hX1 dX n kn1 Lm Rm fa1 fm1) := hD
        refine lv_aload_n hx hb dL_law_281 rfl (lv_at hl 2 rfl) ?_
        refine lv_aload_n hx hb dL_law_282 rfl (lv_at hl 0 rfl) ?_
        refine lv_iload_n hx hb dL_law_283 rfl (lv_at hl 3 rfl) ?_
        refine lv_iconst (v := nI 1) hx hb dL_law_284 (by decide) ?_
        refine lv_iadd hx hb dL_law_285 ?_
        refine gv_top (y := nI ((4 * j) + 1)) (nI_add _ _) ?_
        refine va_sld hx hb hX hbl hbA hS (vp_in_nI (n := (4 * j) + 1) (by omega) (by omega)) dL_law_286 ?_
        refine gv_top (y := (xs ((4 * j) + 1))) (gv_ld xs (e := (4 * j) + 1) (by omega)) ?_
        refine lv_aload_n hx hb dL_law_287 rfl (lv_at hl 0 rfl) ?_
        refine lv_iload_n hx hb dL_law_288 rfl (lv_at hl 3 rfl) ?_
        refine lv_iconst (v := nI 2) hx hb dL_law_289 (by decide) ?_
        refine lv_iadd hx hb dL_law_290 ?_
        refine gv_top (y := nI ((4 * j) + 2)) (nI_add _ _) ?_
        refine va_sld hx hb hX hbl hbA hS (vp_in_nI (n := (4 * j) + 2) (by omega) (by omega)) dL_law_291 ?_
        refine gv_top (y := (xs ((4 * j) + 2))) (gv_ld xs (e := (4 * j) + 2) (by omega)) ?_
        refine lv_aload_n hx hb dL_law_292 rfl (lv_at hl 0 rfl) ?_
        refine lv_iload_n hx hb dL_law_293 rfl (lv_at hl 3 rfl) ?_
        refine lv_iconst (v := nI 3) hx hb dL_law_294 (by decide) ?_
        refine lv_iadd hx hb dL_law_295 ?_
        refine gv_top (y := nI ((4 * j) + 3)) (nI_add _ _) ?_
        refine va_sld hx hb hX hbl hbA hS (vp_in_nI (n := (4 * j) + 3) (by omega) (by omega)) dL_law_296 ?_
        refine gv_top (y := (xs ((4 * j) + 3))) (gv_ld xs (e := (4 * j) + 3) (by omega)) ?_
        have hPc := hP.sub (ws' := gv_mW hM1 dM n Lm Rm fw fd) [0, 1, 2, 3] rfl
        have hKc := hK.sub (tys' := gv_mT dM) [4, 5, 6] rfl
        have hDc := hD.sub (ws' := gv_mW hM1 dM n Lm Rm fw fd) [0, 1, 2, 3] (by decide) rfl
        have hFc := va_free (wc := gv_mW hM1 dM n Lm Rm fw fd) hD hS hA [0, 1, 2, 3] rfl
        refine va_calli (va_runV (As := [.int (xs ((4 * j) + 1)), .int (xs ((4 * j) + 2)), .int (xs ((4 * j) + 3))]) (rest := [.int r1]) ⟨hx, hb, hml, hown, hts⟩ (gv_m_winsSum l dC dI hM1 dM _ n Lm Rm fw fd (xs (4 * j + 1)) (xs (4 * j + 2)) (xs (4 * j + 3)) hg hn1 hn) (cwV 3 hts (lw_V q222 q219 q220 q18 q221) rfl rfl rfl (by decide +kernel) ⟨Nat.le_of_ble_eq_true rfl, Nat.le_of_ble_eq_true rfl⟩) (gv_preD (ci := 1) hKc hPc hDc rfl rfl) rfl rfl hl.1 rfl (lv_room (Nat.le_of_ble_eq_true rfl)) dL_law_297 ⟨Nat.le_of_ble_eq_true rfl, Nat.le_of_ble_eq_true rfl⟩) hS (fun q _ h => hFc q h) hFc (fun r2 u t H1 locs ht hvm hw2 hB hz1 hk9 hS => ?_)
        obtain ⟨fw1, fd1⟩ := u
        obtain ⟨hP1, hK1, hD1⟩ := hB
        rw [ht] at hP1
        obtain ⟨hP, hD⟩ := va_join (wr := gv_xW hX1 dX n kn1 Lm Rm fa1 fm1) (w1 := gv_mW hM1 dM n Lm Rm fw1 fd1) hP hD [0, 1, 2, 3] [4, 5, 6, 7, 8] rfl rfl (by decide) (by decide) hk9 hFc hP1 hD1
        clear hPc hKc hDc hFc hP1 hK1 hD1 hz1 hk9 ht hvm
        generalize H1 = H at hP hS ⊢
        have hP : va_P (dC, dI) gv_cl (gv_xW hX1 dX n kn1 Lm Rm fa1 fm1 ++ gv_mW hM1 dM n Lm Rm fw1 fd1) H := hP
        have hD : va_D A (gv_xW hX1 dX n kn1 Lm Rm fa1 fm1 ++ gv_mW hM1 dM n Lm Rm fw1 fd1) := hD
        refine lv_icmp_eq (tgt := 496) hx hb dL_law_300 (by decide) (fun c9 => ?_) (fun c9 => ?_)
        · refine lv_iinc (v := nI (4 * (j + 1))) (lv' := [(3, .int (nI (4 * (j + 1)))), (0, .ref b), (1, .ref (hX1 0)), (2, .ref (hM1 0))]) hx hb dL_law_496 hl (k := 3) rfl (gv_inc4 j) (by decide) rfl (fun ls hl => ?_)
          refine lv_goto (tgt := 18) hx hb dL_law_499 (by decide) ?_
          exact ih H locs ls ⟨n, Lm, Rm, kn1, fa1, fm1, fw1, fd1, hn1, hn, hg, hw1.2, hP, hD, hS⟩ (lv_sub hl [1, 2, 3, 0] rfl)
        · exact absurd (hw1.1.trans hw2.symm) c9
      · refine lv_tableIn (off := 273) (tgt := 305) hx hb dL_law_32 (by decide) (by decide) rfl (by decide) ?_
        refine lv_aload_n hx hb dL_law_305 rfl (lv_at hl 1 rfl) ?_
        refine lv_aload_n hx hb dL_law_306 rfl (lv_at hl 0 rfl) ?_
        refine lv_iload_n hx hb dL_law_307 rfl (lv_at hl 3 rfl) ?_
        refine lv_iconst (v := nI 1) hx hb dL_law_308 (by decide) ?_
        refine lv_iadd hx hb dL_law_309 ?_
        refine gv_top (y := nI ((4 * j) + 1)) (nI_add _ _) ?_
        refine va_sld hx hb hX hbl hbA hS (vp_in_nI (n := (4 * j) + 1) (by omega) (by omega)) dL_law_310 ?_
        refine gv_top (y := (xs ((4 * j) + 1))) (gv_ld xs (e := (4 * j) + 1) (by omega)) ?_
        refine lv_aload_n hx hb dL_law_311 rfl (lv_at hl 0 rfl) ?_
        refine lv_iload_n hx hb dL_law_312 rfl (lv_at hl 3 rfl) ?_
        refine lv_iconst (v := nI 2) hx hb dL_law_313 (by decide) ?_
        refine lv_iadd hx hb dL_law_314 ?_
        refine gv_top (y := nI ((4 * j) + 2)) (nI_add _ _) ?_
        refine va_sld hx hb hX hbl hbA hS (vp_in_nI (n := (4 * j) + 2) (by omega) (by omega)) dL_law_315 ?_
        refine gv_top (y := (xs ((4 * j) + 2))) (gv_ld xs (e := (4 * j) + 2) (by omega)) ?_
        refine lv_aload_n hx hb dL_law_316 rfl (lv_at hl 0 rfl) ?_
        refine lv_iload_n hx hb dL_law_317 rfl (lv_at hl 3 rfl) ?_
        refine lv_iconst (v := nI 3) hx hb dL_law_318 (by decide) ?_
        refine lv_iadd hx hb dL_law_319 ?_
        refine gv_top (y := nI ((4 * j) + 3)) (nI_add _ _) ?_
        refine va_sld hx hb hX hbl hbA hS (vp_in_nI (n := (4 * j) + 3) (by omega) (by omega)) dL_law_320 ?_
        refine gv_top (y := (xs ((4 * j) + 3))) (gv_ld xs (e := (4 * j) + 3) (by omega)) ?_
        have hPc := hP.sub (ws' := gv_xW hX1 dX n kn Lm Rm fa fm) [0, 1, 2, 3, 4] rfl
        have hKc := hK.sub (tys' := gv_xT dX) [0, 1, 2, 3] rfl
        have hDc := hD.sub (ws' := gv_xW hX1 dX n kn Lm Rm fa fm) [0, 1, 2, 3, 4] (by decide) rfl
        have hFc := va_free (wc := gv_xW hX1 dX n kn Lm Rm fa fm) hD hS hA [0, 1, 2, 3, 4] rfl
        refine va_calli (va_runV (As := [.int (xs ((4 * j) + 1)), .int (xs ((4 * j) + 2)), .int (xs ((4 * j) + 3))]) (rest := []) ⟨hx, hb, hml, hown, hts⟩ (gv_x_compareSum l dC dI hX1 dX _ n kn Lm Rm fa fm (xs (4 * j + 1)) (xs (4 * j + 2)) (xs (4 * j + 3)) hg hn1 hn hk) (cwV 3 hts (lw_V q115 q81 q82 q17 q83) rfl rfl rfl (by decide +kernel) ⟨Nat.le_of_ble_eq_true rfl, Nat.le_of_ble_eq_true rfl⟩) (gv_preD (ci := 0) hKc hPc hDc rfl rfl) rfl rfl hl.1 rfl (lv_room (Nat.le_of_ble_eq_true rfl)) dL_law_321 ⟨Nat.le_of_ble_eq_true rfl, Nat.le_of_ble_eq_true rfl⟩) hS (fun q _ h => hFc q h) hFc (fun r1 u t H1 locs ht hvm hw1 hB hz1 hk9 hS => ?_)
        obtain ⟨kn1, fa1, fm1⟩ := u
        obtain ⟨hP1, hK1, hD1⟩ := hB
        rw [ht] at hP1
        obtain ⟨hP, hD⟩ := va_join (wr := gv_mW hM1 dM n Lm Rm fw fd) (w1 := gv_xW hX1 dX n kn1 Lm Rm fa1 fm1) hP hD [0, 1, 2, 3, 4] [5, 6, 7, 8] rfl rfl (by decide) (by decide) hk9 hFc hP1 hD1
        clear hPc hKc hDc hFc hP1 hK1 hD1 hz1 hk9 ht hvm
        generalize H1 = H at hP hS ⊢
        have hP : va_P (dC, dI) gv_cl (gv_mW hM1 dM n Lm Rm fw fd ++ gv_xW hX1 dX n kn1 Lm Rm fa1 fm1) H := hP
        have hD : va_D A (gv_mW hM1 dM n Lm Rm fw fd ++ gv_xW hX1 dX n kn1 Lm Rm fa1 fm1) := hD
        refine lv_aload_n hx hb dL_law_324 rfl (lv_at hl 2 rfl) ?_
        refine lv_aload_n hx hb dL_law_325 rfl (lv_at hl 0 rfl) ?_
        refine lv_iload_n hx hb dL_law_326 rfl (lv_at hl 3 rfl) ?_
        refine lv_iconst (v := nI 1) hx hb dL_law_327 (by decide) ?_
        refine lv_iadd hx hb dL_law_328 ?_
        refine gv_top (y := nI ((4 * j) + 1)) (nI_add _ _) ?_
        refine va_sld hx hb hX hbl hbA hS (vp_in_nI (n := (4 * j) + 1) (by omega) (by omega)) dL_law_329 ?_
        refine gv_top (y := (xs ((4 * j) + 1))) (gv_ld xs (e := (4 * j) + 1) (by omega)) ?_
        refine lv_aload_n hx hb dL_law_330 rfl (lv_at hl 0 rfl) ?_
        refine lv_iload_n hx hb dL_law_331 rfl (lv_at hl 3 rfl) ?_
        refine lv_iconst (v := nI 2) hx hb dL_law_332 (by decide) ?_
        refine lv_iadd hx hb dL_law_333 ?_
        refine gv_top (y := nI ((4 * j) + 2)) (nI_add _ _) ?_
        refine va_sld hx hb hX hbl hbA hS (vp_in_nI (n := (4 * j) + 2) (by omega) (by omega)) dL_law_334 ?_
        refine gv_top (y := (xs ((4 * j) + 2))) (gv_ld xs (e := (4 * j) + 2) (by omega)) ?_
        refine lv_aload_n hx hb dL_law_335 rfl (lv_at hl 0 rfl) ?_
        refine lv_iload_n hx hb dL_law_336 rfl (lv_at hl 3 rfl) ?_
        refine lv_iconst (v := nI 3) hx hb dL_law_337 (by decide) ?_
        refine lv_iadd hx hb dL_law_338 ?_
        refine gv_top (y := nI ((4 * j) + 3)) (nI_add _ _) ?_
        refine va_sld hx hb hX hbl hbA hS (vp_in_nI (n := (4 * j) + 3) (by omega) (by omega)) dL_law_339 ?_
        refine gv_top (y := (xs ((4 * j) + 3))) (gv_ld xs (e := (4 * j) + 3) (by omega)) ?_
        have hPc := hP.sub (ws' := gv_mW hM1 dM n Lm Rm fw fd) [0, 1, 2, 3] rfl
        have hKc := hK.sub (tys' := gv_mT dM) [4, 5, 6] rfl
        have hDc := hD.sub (ws' := gv_mW hM1 dM n Lm Rm fw fd) [0, 1, 2, 3] (by decide) rfl
        have hFc := va_free (wc := gv_mW hM1 dM n Lm Rm fw fd) hD hS hA [0, 1, 2, 3] rfl
        refine va_calli (va_runV (As := [.int (xs ((4 * j) + 1)), .int (xs ((4 * j) + 2)), .int (xs ((4 * j) + 3))]) (rest := [.int r1]) ⟨hx, hb, hml, hown, hts⟩ (gv_m_compareSum l dC dI hM1 dM _ n Lm Rm fw fd (xs (4 * j + 1)) (xs (4 * j + 2)) (xs (4 * j + 3)) hg hn1 hn) (cwV 3 hts (lw_V q223 q224 q225 q18 q226) rfl rfl rfl (by decide +kernel) ⟨Nat.le_of_ble_eq_true rfl, Nat.le_of_ble_eq_true rfl⟩) (gv_preD (ci := 1) hKc hPc hDc rfl rfl) rfl rfl hl.1 rfl (lv_room (Nat.le_of_ble_eq_true rfl)) dL_law_340 ⟨Nat.le_of_ble_eq_true rfl, Nat.le_of_ble_eq_true rfl⟩) hS (fun q _ h => hFc q h) hFc (fun r2 u t H1 locs ht hvm hw2 hB hz1 hk9 hS => ?_)
        obtain ⟨fw1, fd1⟩ := u
        obtain ⟨hP1, hK1, hD1⟩ := hB
        rw [ht] at hP1
        obtain ⟨hP, hD⟩ := va_join (wr := gv_xW hX1 dX n kn1 Lm Rm fa1 fm1) (w1 := gv_mW hM1 dM n Lm Rm fw1 fd1) hP hD [0, 1, 2, 3] [4, 5, 6, 7, 8] rfl rfl (by decide) (by decide) hk9 hFc hP1 hD1
        clear hPc hKc hDc hFc hP1 hK1 hD1 hz1 hk9 ht hvm
        generalize H1 = H at hP hS ⊢
        have hP : va_P (dC, dI) gv_cl (gv_xW hX1 dX n kn1 Lm Rm fa1 fm1 ++ gv_mW hM1 dM n Lm Rm fw1 fd1) H := hP
        have hD : va_D A (gv_xW hX1 dX n kn1 Lm Rm fa1 fm1 ++ gv_mW hM1 dM n Lm Rm fw1 fd1) := hD
        refine lv_icmp_eq (tgt := 496) hx hb dL_law_343 (by decide) (fun c9 => ?_) (fun c9 => ?_)
        · refine lv_iinc (v := nI (4 * (j + 1))) (lv' := [(3, .int (nI (4 * (j + 1)))), (0, .ref b), (1, .ref (hX1 0)), (2, .ref (hM1 0))]) hx hb dL_law_496 hl (k := 3) rfl (gv_inc4 j) (by decide) rfl (fun ls hl => ?_)
          refine lv_goto (tgt := 18) hx hb dL_law_499 (by decide) ?_
          exact ih H locs ls ⟨n, Lm, Rm, kn1, fa1, fm1, fw1, fd1, hn1, hn, hg, hw1.2, hP, hD, hS⟩ (lv_sub hl [1, 2, 3, 0] rfl)
        · exact absurd (hw1.1.trans hw2.symm) c9
      · refine lv_tableIn (off := 316) (tgt := 348) hx hb dL_law_32 (by decide) (by decide) rfl (by decide) ?_
        refine lv_aload_n hx hb dL_law_348 rfl (lv_at hl 1 rfl) ?_
        refine lv_aload_n hx hb dL_law_349 rfl (lv_at hl 0 rfl) ?_
        refine lv_iload_n hx hb dL_law_350 rfl (lv_at hl 3 rfl) ?_
        refine lv_iconst (v := nI 1) hx hb dL_law_351 (by decide) ?_
        refine lv_iadd hx hb dL_law_352 ?_
        refine gv_top (y := nI ((4 * j) + 1)) (nI_add _ _) ?_
        refine va_sld hx hb hX hbl hbA hS (vp_in_nI (n := (4 * j) + 1) (by omega) (by omega)) dL_law_353 ?_
        refine gv_top (y := (xs ((4 * j) + 1))) (gv_ld xs (e := (4 * j) + 1) (by omega)) ?_
        refine lv_aload_n hx hb dL_law_354 rfl (lv_at hl 0 rfl) ?_
        refine lv_iload_n hx hb dL_law_355 rfl (lv_at hl 3 rfl) ?_
        refine lv_iconst (v := nI 2) hx hb dL_law_356 (by decide) ?_
        refine lv_iadd hx hb dL_law_357 ?_
        refine gv_top (y := nI ((4 * j) + 2)) (nI_add _ _) ?_
        refine va_sld hx hb hX hbl hbA hS (vp_in_nI (n := (4 * j) + 2) (by omega) (by omega)) dL_law_358 ?_
        refine gv_top (y := (xs ((4 * j) + 2))) (gv_ld xs (e := (4 * j) + 2) (by omega)) ?_
        have hPc := hP.sub (ws' := gv_xW hX1 dX n kn Lm Rm fa fm) [0, 1, 2, 3, 4] rfl
        have hKc := hK.sub (tys' := gv_xT dX) [0, 1, 2, 3] rfl
        have hDc := hD.sub (ws' := gv_xW hX1 dX n kn Lm Rm fa fm) [0, 1, 2, 3, 4] (by decide) rfl
        have hFc := va_free (wc := gv_xW hX1 dX n kn Lm Rm fa fm) hD hS hA [0, 1, 2, 3, 4] rfl
        refine va_calli (va_runV (As := [.int (xs ((4 * j) + 1)), .int (xs ((4 * j) + 2))]) (rest := []) ⟨hx, hb, hml, hown, hts⟩ (gv_x_dominated l dC dI hX1 dX _ n kn Lm Rm fa fm (xs (4 * j + 1)) (xs (4 * j + 2)) hg hn1 hn hk) (cwV 2 hts (lw_V q116 q117 q118 q17 q119) rfl rfl rfl (by decide +kernel) ⟨Nat.le_of_ble_eq_true rfl, Nat.le_of_ble_eq_true rfl⟩) (gv_preD (ci := 0) hKc hPc hDc rfl rfl) rfl rfl hl.1 rfl (lv_room (Nat.le_of_ble_eq_true rfl)) dL_law_359 ⟨Nat.le_of_ble_eq_true rfl, Nat.le_of_ble_eq_true rfl⟩) hS (fun q _ h => hFc q h) hFc (fun r1 u t H1 locs ht hvm hw1 hB hz1 hk9 hS => ?_)
        obtain ⟨kn1, fa1, fm1⟩ := u
        obtain ⟨hP1, hK1, hD1⟩ := hB
        rw [ht] at hP1
        obtain ⟨hP, hD⟩ := va_join (wr := gv_mW hM1 dM n Lm Rm fw fd) (w1 := gv_xW hX1 dX n kn1 Lm Rm fa1 fm1) hP hD [0, 1, 2, 3, 4] [5, 6, 7, 8] rfl rfl (by decide) (by decide) hk9 hFc hP1 hD1
        clear hPc hKc hDc hFc hP1 hK1 hD1 hz1 hk9 ht hvm
        generalize H1 = H at hP hS ⊢
        have hP : va_P (dC, dI) gv_cl (gv_mW hM1 dM n Lm Rm fw fd ++ gv_xW hX1 dX n kn1 Lm Rm fa1 fm1) H := hP
        have hD : va_D A (gv_mW hM1 dM n Lm Rm fw fd ++ gv_xW hX1 dX n kn1 Lm Rm fa1 fm1) := hD
        refine lv_aload_n hx hb dL_law_362 rfl (lv_at hl 2 rfl) ?_
        refine lv_aload_n hx hb dL_law_363 rfl (lv_at hl 0 rfl) ?_
        refine lv_iload_n hx hb dL_law_364 rfl (lv_at hl 3 rfl) ?_
        refine lv_iconst (v := nI 1) hx hb dL_law_365 (by decide) ?_
        refine lv_iadd hx hb dL_law_366 ?_
        refine gv_top (y := nI ((4 * j) + 1)) (nI_add _ _) ?_
        refine va_sld hx hb hX hbl hbA hS (vp_in_nI (n := (4 * j) + 1) (by omega) (by omega)) dL_law_367 ?_
        refine gv_top (y := (xs ((4 * j) + 1))) (gv_ld xs (e := (4 * j) + 1) (by omega)) ?_
        refine lv_aload_n hx hb dL_law_368 rfl (lv_at hl 0 rfl) ?_
        refine lv_iload_n hx hb dL_law_369 rfl (lv_at hl 3 rfl) ?_
        refine lv_iconst (v := nI 2) hx hb dL_law_370 (by decide) ?_
        refine lv_iadd hx hb dL_law_371 ?_
        refine gv_top (y := nI ((4 * j) + 2)) (nI_add _ _) ?_
        refine va_sld hx hb hX hbl hbA hS (vp_in_nI (n := (4 * j) + 2) (by omega) (by omega)) dL_law_372 ?_
        refine gv_top (y := (xs ((4 * j) + 2))) (gv_ld xs (e := (4 * j) + 2) (by omega)) ?_
        have hPc := hP.sub (ws' := gv_mW hM1 dM n Lm Rm fw fd) [0, 1, 2, 3] rfl
        have hKc := hK.sub (tys' := gv_mT dM) [4, 5, 6] rfl
        have hDc := hD.sub (ws' := gv_mW hM1 dM n Lm Rm fw fd) [0, 1, 2, 3] (by decide) rfl
        have hFc := va_free (wc := gv_mW hM1 dM n Lm Rm fw fd) hD hS hA [0, 1, 2, 3] rfl
        refine va_calli (va_runV (As := [.int (xs ((4 * j) + 1)), .int (xs ((4 * j) + 2))]) (rest := [.int r1]) ⟨hx, hb, hml, hown, hts⟩ (gv_m_dominated l dC dI hM1 dM _ n Lm Rm fw fd (xs (4 * j + 1)) (xs (4 * j + 2)) hg hn1 hn) (cwV 2 hts (lw_V q227 q228 q229 q18 q230) rfl rfl rfl (by decide +kernel) ⟨Nat.le_of_ble_eq_true rfl, Nat.le_of_ble_eq_true rfl⟩) (gv_preD (ci := 1) hKc hPc hDc rfl rfl) rfl rfl hl.1 rfl (lv_room (Nat.le_of_ble_eq_true rfl)) dL_law_373 ⟨Nat.le_of_ble_eq_true rfl, Nat.le_of_ble_eq_true rfl⟩) hS (fun q _ h => hFc q h) hFc (fun r2 u t H1 locs ht hvm hw2 hB hz1 hk9 hS => ?_)
        obtain ⟨fw1, fd1⟩ := u
        obtain ⟨hP1, hK1, hD1⟩ := hB
        rw [ht] at hP1
        obtain ⟨hP, hD⟩ := va_join (wr := gv_xW hX1 dX n kn1 Lm Rm fa1 fm1) (w1 := gv_mW hM1 dM n Lm Rm fw1 fd1) hP hD [0, 1, 2, 3] [4, 5, 6, 7, 8] rfl rfl (by decide) (by decide) hk9 hFc hP1 hD1
        clear hPc hKc hDc hFc hP1 hK1 hD1 hz1 hk9 ht hvm
        generalize H1 = H at hP hS ⊢
        have hP : va_P (dC, dI) gv_cl (gv_xW hX1 dX n kn1 Lm Rm fa1 fm1 ++ gv_mW hM1 dM n Lm Rm fw1 fd1) H := hP
        have hD : va_D A (gv_xW hX1 dX n kn1 Lm Rm fa1 fm1 ++ gv_mW hM1 dM n Lm Rm fw1 fd1) := hD
        refine lv_icmp_eq (tgt := 496) hx hb dL_law_376 (by decide) (fun c9 => ?_) (fun c9 => ?_)
        · refine lv_iinc (v := nI (4 * (j + 1))) (lv' := [(3, .int (nI (4 * (j + 1)))), (0, .ref b), (1, .ref (hX1 0)), (2, .ref (hM1 0))]) hx hb dL_law_496 hl (k := 3) rfl (gv_inc4 j) (by decide) rfl (fun ls hl => ?_)
          refine lv_goto (tgt := 18) hx hb dL_law_499 (by decide) ?_
          exact ih H locs ls ⟨n, Lm, Rm, kn1, fa1, fm1, fw1, fd1, hn1, hn, hg, hw1.2, hP, hD, hS⟩ (lv_sub hl [1, 2, 3, 0] rfl)
        · exact absurd (hw1.1.trans hw2.symm) c9
      · refine lv_tableIn (off := 349) (tgt := 381) hx hb dL_law_32 (by decide) (by decide) rfl (by decide) ?_
        refine lv_aload_n hx hb dL_law_381 rfl (lv_at hl 1 rfl) ?_
        refine lv_aload_n hx hb dL_law_382 rfl (lv_at hl 0 rfl) ?_
        refine lv_iload_n hx hb dL_law_383 rfl (lv_at hl 3 rfl) ?_
        refine lv_iconst (v := nI 1) hx hb dL_law_384 (by decide) ?_
        refine lv_iadd hx hb dL_law_385 ?_
        refine gv_top (y := nI ((4 * j) + 1)) (nI_add _ _) ?_
        refine va_sld hx hb hX hbl hbA hS (vp_in_nI (n := (4 * j) + 1) (by omega) (by omega)) dL_law_386 ?_
        refine gv_top (y := (xs ((4 * j) + 1))) (gv_ld xs (e := (4 * j) + 1) (by omega)) ?_
        have hPc := hP.sub (ws' := gv_xW hX1 dX n kn Lm Rm fa fm) [0, 1, 2, 3, 4] rfl
        have hKc := hK.sub (tys' := gv_xT dX) [0, 1, 2, 3] rfl
        have hDc := hD.sub (ws' := gv_xW hX1 dX n kn Lm Rm fa fm) [0, 1, 2, 3, 4] (by decide) rfl
        have hFc := va_free (wc := gv_xW hX1 dX n kn Lm Rm fa fm) hD hS hA [0, 1, 2, 3, 4] rfl
        refine va_calli (va_runV (As := [.int (xs ((4 * j) + 1))]) (rest := []) ⟨hx, hb, hml, hown, hts⟩ (gv_x_first l dC dI hX1 dX _ n kn Lm Rm fa fm (xs (4 * j + 1)) hg hn1 hn hk) (cwV 1 hts (lw_V q129 q130 q131 q17 q132) rfl rfl rfl (by decide +kernel) ⟨Nat.le_of_ble_eq_true rfl, Nat.le_of_ble_eq_true rfl⟩) (gv_preD (ci := 0) hKc hPc hDc rfl rfl) rfl rfl hl.1 rfl (lv_room (Nat.le_of_ble_eq_true rfl)) dL_law_387 ⟨Nat.le_of_ble_eq_true rfl, Nat.le_of_ble_eq_true rfl⟩) hS (fun q _ h => hFc q h) hFc (fun r1 u t H1 locs ht hvm hw1 hB hz1 hk9 hS => ?_)
        obtain ⟨kn1, fa1, fm1⟩ := u
        obtain ⟨hP1, hK1, hD1⟩ := hB
        rw [ht] at hP1
        obtain ⟨hP, hD⟩ := va_join (wr := gv_mW hM1 dM n Lm Rm fw fd) (w1 := gv_xW hX1 dX n kn1 Lm Rm fa1 fm1) hP hD [0, 1, 2, 3, 4] [5, 6, 7, 8] rfl rfl (by decide) (by decide) hk9 hFc hP1 hD1
        clear hPc hKc hDc hFc hP1 hK1 hD1 hz1 hk9 ht hvm
        generalize H1 = H at hP hS ⊢
        have hP : va_P (dC, dI) gv_cl (gv_mW hM1 dM n Lm Rm fw fd ++ gv_xW hX1 dX n kn1 Lm Rm fa1 fm1) H := hP
        have hD : va_D A (gv_mW hM1 dM n Lm Rm fw fd ++ gv_xW hX1 dX n kn1 Lm Rm fa1 fm1) := hD
        refine lv_aload_n hx hb dL_law_390 rfl (lv_at hl 2 rfl) ?_
        refine lv_aload_n hx hb dL_law_391 rfl (lv_at hl 0 rfl) ?_
        refine lv_iload_n hx hb dL_law_392 rfl (lv_at hl 3 rfl) ?_
        refine lv_iconst (v := nI 1) hx hb dL_law_393 (by decide) ?_
        refine lv_iadd hx hb dL_law_394 ?_
        refine gv_top (y := nI ((4 * j) + 1)) (nI_add _ _) ?_
        refine va_sld hx hb hX hbl hbA hS (vp_in_nI (n := (4 * j) + 1) (by omega) (by omega)) dL_law_395 ?_
        refine gv_top (y := (xs ((4 * j) + 1))) (gv_ld xs (e := (4 * j) + 1) (by omega)) ?_
        have hPc := hP.sub (ws' := gv_mW hM1 dM n Lm Rm fw fd) [0, 1, 2, 3] rfl
        have hKc := hK.sub (tys' := gv_mT dM) [4, 5, 6] rfl
        have hDc := hD.sub (ws' := gv_mW hM1 dM n Lm Rm fw fd) [0, 1, 2, 3] (by decide) rfl
        have hFc := va_free (wc := gv_mW hM1 dM n Lm Rm fw fd) hD hS hA [0, 1, 2, 3] rfl
        refine va_calli (va_runV (As := [.int (xs ((4 * j) + 1))]) (rest := [.int r1]) ⟨hx, hb, hml, hown, hts⟩ (gv_m_first l dC dI hM1 dM _ n Lm Rm fw fd (xs (4 * j + 1)) hg hn1 hn) (cwV 1 hts (lw_V q235 q236 q237 q18 q238) rfl rfl rfl (by decide +kernel) ⟨Nat.le_of_ble_eq_true rfl, Nat.le_of_ble_eq_true rfl⟩) (gv_preD (ci := 1) hKc hPc hDc rfl rfl) rfl rfl hl.1 rfl (lv_room (Nat.le_of_ble_eq_true rfl)) dL_law_396 ⟨Nat.le_of_ble_eq_true rfl, Nat.le_of_ble_eq_true rfl⟩) hS (fun q _ h => hFc q h) hFc (fun r2 u t H1 locs ht hvm hw2 hB hz1 hk9 hS => ?_)
        obtain ⟨fw1, fd1⟩ := u
        obtain ⟨hP1, hK1, hD1⟩ := hB
        rw [ht] at hP1
        obtain ⟨hP, hD⟩ := va_join (wr := gv_xW hX1 dX n kn1 Lm Rm fa1 fm1) (w1 := gv_mW hM1 dM n Lm Rm fw1 fd1) hP hD [0, 1, 2, 3] [4, 5, 6, 7, 8] rfl rfl (by decide) (by decide) hk9 hFc hP1 hD1
        clear hPc hKc hDc hFc hP1 hK1 hD1 hz1 hk9 ht hvm
        generalize H1 = H at hP hS ⊢
        have hP : va_P (dC, dI) gv_cl (gv_xW hX1 dX n kn1 Lm Rm fa1 fm1 ++ gv_mW hM1 dM n Lm Rm fw1 fd1) H := hP
        have hD : va_D A (gv_xW hX1 dX n kn1 Lm Rm fa1 fm1 ++ gv_mW hM1 dM n Lm Rm fw1 fd1) := hD
        refine lv_icmp_eq (tgt := 496) hx hb dL_law_399 (by decide) (fun c9 => ?_) (fun c9 => ?_)
        · refine lv_iinc (v := nI (4 * (j + 1))) (lv' := [(3, .int (nI (4 * (j + 1)))), (0, .ref b), (1, .ref (hX1 0)), (2, .ref (hM1 0))]) hx hb dL_law_496 hl (k := 3) rfl (gv_inc4 j) (by decide) rfl (fun ls hl => ?_)
          refine lv_goto (tgt := 18) hx hb dL_law_499 (by decide) ?_
          exact ih H locs ls ⟨n, Lm, Rm, kn1, fa1, fm1, fw1, fd1, hn1, hn, hg, hw1.2, hP, hD, hS⟩ (lv_sub hl [1, 2, 3, 0] rfl)
        · exact absurd (hw1.1.trans hw2.symm) c9
      · refine lv_tableIn (off := 372) (tgt := 404) hx hb dL_law_32 (by decide) (by decide) rfl (by decide) ?_
        refine lv_aload_n hx hb dL_law_404 rfl (lv_at hl 1 rfl) ?_
        have hPc := hP.sub (ws' := gv_xW hX1 dX n kn Lm Rm fa fm) [0, 1, 2, 3, 4] rfl
        have hKc := hK.sub (tys' := gv_xT dX) [0, 1, 2, 3] rfl
        have hDc := hD.sub (ws' := gv_xW hX1 dX n kn Lm Rm fa fm) [0, 1, 2, 3, 4] (by decide) rfl
        have hFc := va_free (wc := gv_xW hX1 dX n kn Lm Rm fa fm) hD hS hA [0, 1, 2, 3, 4] rfl
        refine va_calli (va_runV (As := []) (rest := []) ⟨hx, hb, hml, hown, hts⟩ (gv_x_values l dC dI hX1 dX _ n kn Lm Rm fa fm hg hn1 hn hk) (cwV 0 hts (lw_V q133 q134 q135 q17 q136) rfl rfl rfl (by decide +kernel) ⟨Nat.le_of_ble_eq_true rfl, Nat.le_of_ble_eq_true rfl⟩) (gv_preD (ci := 0) hKc hPc hDc rfl rfl) rfl rfl hl.1 rfl (lv_room (Nat.le_of_ble_eq_true rfl)) dL_law_405 ⟨Nat.le_of_ble_eq_true rfl, Nat.le_of_ble_eq_true rfl⟩) hS (fun q _ h => hFc q h) hFc (fun r1 u t H1 locs ht hvm hw1 hB hz1 hk9 hS => ?_)
        obtain ⟨kn1, fa1, fm1⟩ := u
        obtain ⟨hP1, hK1, hD1⟩ := hB
        rw [ht] at hP1
        obtain ⟨hP, hD⟩ := va_join (wr := gv_mW hM1 dM n Lm Rm fw fd) (w1 := gv_xW hX1 dX n kn1 Lm Rm fa1 fm1) hP hD [0, 1, 2, 3, 4] [5, 6, 7, 8] rfl rfl (by decide) (by decide) hk9 hFc hP1 hD1
        clear hPc hKc hDc hFc hP1 hK1 hD1 hz1 hk9 ht hvm
        generalize H1 = H at hP hS ⊢
        have hP : va_P (dC, dI) gv_cl (gv_mW hM1 dM n Lm Rm fw fd ++ gv_xW hX1 dX n kn1 Lm Rm fa1 fm1) H := hP
        have hD : va_D A (gv_mW hM1 dM n Lm Rm fw fd ++ gv_xW hX1 dX n kn1 Lm Rm fa1 fm1) := hD
        refine lv_aload_n hx hb dL_law_408 rfl (lv_at hl 2 rfl) ?_
        have hPc := hP.sub (ws' := gv_mW hM1 dM n Lm Rm fw fd) [0, 1, 2, 3] rfl
        have hKc := hK.sub (tys' := gv_mT dM) [4, 5, 6] rfl
        have hDc := hD.sub (ws' := gv_mW hM1 dM n Lm Rm fw fd) [0, 1, 2, 3] (by decide) rfl
        have hFc := va_free (wc := gv_mW hM1 dM n Lm Rm fw fd) hD hS hA [0, 1, 2, 3] rfl
        refine va_calli (va_runV (As := []) (rest := [.int r1]) ⟨hx, hb, hml, hown, hts⟩ (gv_m_values l dC dI hM1 dM _ n Lm Rm fw fd hg hn1 hn) (cwV 0 hts (lw_V q240 q241 q242 q18 q243) rfl rfl rfl (by decide +kernel) ⟨Nat.le_of_ble_eq_true rfl, Nat.le_of_ble_eq_true rfl⟩) (gv_preD (ci := 1) hKc hPc hDc rfl rfl) rfl rfl hl.1 rfl (lv_room (Nat.le_of_ble_eq_true rfl)) dL_law_409 ⟨Nat.le_of_ble_eq_true rfl, Nat.le_of_ble_eq_true rfl⟩) hS (fun q _ h => hFc q h) hFc (fun r2 u t H1 locs ht hvm hw2 hB hz1 hk9 hS => ?_)
        obtain ⟨fw1, fd1⟩ := u
        obtain ⟨hP1, hK1, hD1⟩ := hB
        rw [ht] at hP1
        obtain ⟨hP, hD⟩ := va_join (wr := gv_xW hX1 dX n kn1 Lm Rm fa1 fm1) (w1 := gv_mW hM1 dM n Lm Rm fw1 fd1) hP hD [0, 1, 2, 3] [4, 5, 6, 7, 8] rfl rfl (by decide) (by decide) hk9 hFc hP1 hD1
        clear hPc hKc hDc hFc hP1 hK1 hD1 hz1 hk9 ht hvm
        generalize H1 = H at hP hS ⊢
        have hP : va_P (dC, dI) gv_cl (gv_xW hX1 dX n kn1 Lm Rm fa1 fm1 ++ gv_mW hM1 dM n Lm Rm fw1 fd1) H := hP
        have hD : va_D A (gv_xW hX1 dX n kn1 Lm Rm fa1 fm1 ++ gv_mW hM1 dM n Lm Rm fw1 fd1) := hD
        refine lv_icmp_eq (tgt := 496) hx hb dL_law_412 (by decide) (fun c9 => ?_) (fun c9 => ?_)
        · refine lv_iinc (v := nI (4 * (j + 1))) (lv' := [(3, .int (nI (4 * (j + 1)))), (0, .ref b), (1, .ref (hX1 0)), (2, .ref (hM1 0))]) hx hb dL_law_496 hl (k := 3) rfl (gv_inc4 j) (by decide) rfl (fun ls hl => ?_)
          refine lv_goto (tgt := 18) hx hb dL_law_499 (by decide) ?_
          exact ih H locs ls ⟨n, Lm, Rm, kn1, fa1, fm1, fw1, fd1, hn1, hn, hg, hw1.2, hP, hD, hS⟩ (lv_sub hl [1, 2, 3, 0] rfl)
        · exact absurd (hw1.1.trans hw2.symm) c9
      · refine lv_tableIn (off := 385) (tgt := 417) hx hb dL_law_32 (by decide) (by decide) rfl (by decide) ?_
        refine lv_aload_n hx hb dL_law_417 rfl (lv_at hl 1 rfl) ?_
        refine lv_aload_n hx hb dL_law_418 rfl (lv_at hl 0 rfl) ?_
        refine lv_iload_n hx hb dL_law_419 rfl (lv_at hl 3 rfl) ?_
        refine lv_iconst (v := nI 1) hx hb dL_law_420 (by decide) ?_
        refine lv_iadd hx hb dL_law_421 ?_
        refine gv_top (y := nI ((4 * j) + 1)) (nI_add _ _) ?_
        refine va_sld hx hb hX hbl hbA hS (vp_in_nI (n := (4 * j) + 1) (by omega) (by omega)) dL_law_422 ?_
        refine gv_top (y := (xs ((4 * j) + 1))) (gv_ld xs (e := (4 * j) + 1) (by omega)) ?_
        have hPc := hP.sub (ws' := gv_xW hX1 dX n kn Lm Rm fa fm) [0, 1, 2, 3, 4] rfl
        have hKc := hK.sub (tys' := gv_xT dX) [0, 1, 2, 3] rfl
        refine vp_callSi (W.runV (As := [.int (xs ((4 * j) + 1))]) (rest := []) ⟨hx, hb, hml, hown, hts⟩ (gv_x_depth l dC dI hX1 dX n kn Lm Rm fa fm (xs (4 * j + 1)) hg hn) (cwV 1 hts (lw_V q138 q139 q140 q17 q141) rfl rfl rfl (by decide +kernel) ⟨Nat.le_of_ble_eq_true rfl, Nat.le_of_ble_eq_true rfl⟩) (gv_preV (ci := 0) hKc hPc rfl rfl) rfl rfl hl.1 rfl (lv_room (Nat.le_of_ble_eq_true rfl)) dL_law_423 ⟨Nat.le_of_ble_eq_true rfl, Nat.le_of_ble_eq_true rfl⟩) (fun r1 hw1 => ?_)
        clear hPc hKc
        refine lv_aload_n hx hb dL_law_426 rfl (lv_at hl 2 rfl) ?_
        refine lv_aload_n hx hb dL_law_427 rfl (lv_at hl 0 rfl) ?_
        refine lv_iload_n hx hb dL_law_428 rfl (lv_at hl 3 rfl) ?_
        refine lv_iconst (v := nI 1) hx hb dL_law_429 (by decide) ?_
        refine lv_iadd hx hb dL_law_430 ?_
        refine gv_top (y := nI ((4 * j) + 1)) (nI_add _ _) ?_
        refine va_sld hx hb hX hbl hbA hS (vp_in_nI (n := (4 * j) + 1) (by omega) (by omega)) dL_law_431 ?_
        refine gv_top (y := (xs ((4 * j) + 1))) (gv_ld xs (e := (4 * j) + 1) (by omega)) ?_
        have hPc := hP.sub (ws' := gv_mW hM1 dM n Lm Rm fw fd) [5, 6, 7, 8] rfl
        have hKc := hK.sub (tys' := gv_mT dM) [4, 5, 6] rfl
        have hDc := hD.sub (ws' := gv_mW hM1 dM n Lm Rm fw fd) [5, 6, 7, 8] (by decide) rfl
        have hFc := va_free (wc := gv_mW hM1 dM n Lm Rm fw fd) hD hS hA [5, 6, 7, 8] rfl
        refine va_calli (va_runV (As := [.int (xs ((4 * j) + 1))]) (rest := [.int r1]) ⟨hx, hb, hml, hown, hts⟩ (gv_m_depth l dC dI hM1 dM _ n Lm Rm fw fd (xs (4 * j + 1)) hg hn1 hn) (cwV 1 hts (lw_V q245 q246 q247 q18 q248) rfl rfl rfl (by decide +kernel) ⟨Nat.le_of_ble_eq_true rfl, Nat.le_of_ble_eq_true rfl⟩) (gv_preD (ci := 1) hKc hPc hDc rfl rfl) rfl rfl hl.1 rfl (lv_room (Nat.le_of_ble_eq_true rfl)) dL_law_432 ⟨Nat.le_of_ble_eq_true rfl, Nat.le_of_ble_eq_true rfl⟩) hS (fun q _ h => hFc q h) hFc (fun r2 u t H1 locs ht hvm hw2 hB hz1 hk9 hS => ?_)
        obtain ⟨fw1, fd1⟩ := u
        obtain ⟨hP1, hK1, hD1⟩ := hB
        rw [ht] at hP1
        obtain ⟨hP, hD⟩ := va_join (wr := gv_xW hX1 dX n kn Lm Rm fa fm) (w1 := gv_mW hM1 dM n Lm Rm fw1 fd1) hP hD [5, 6, 7, 8] [0, 1, 2, 3, 4] rfl rfl (by decide) (by decide) hk9 hFc hP1 hD1
        clear hPc hKc hDc hFc hP1 hK1 hD1 hz1 hk9 ht hvm
        generalize H1 = H at hP hS ⊢
        have hP : va_P (dC, dI) gv_cl (gv_xW hX1 dX n kn Lm Rm fa fm ++ gv_mW hM1 dM n Lm Rm fw1 fd1) H := hP
        have hD : va_D A (gv_xW hX1 dX n kn Lm Rm fa fm ++ gv_mW hM1 dM n Lm Rm fw1 fd1) := hD
        refine lv_icmp_eq (tgt := 496) hx hb dL_law_435 (by decide) (fun c9 => ?_) (fun c9 => ?_)
        · refine lv_iinc (v := nI (4 * (j + 1))) (lv' := [(3, .int (nI (4 * (j + 1)))), (0, .ref b), (1, .ref (hX1 0)), (2, .ref (hM1 0))]) hx hb dL_law_496 hl (k := 3) rfl (gv_inc4 j) (by decide) rfl (fun ls hl => ?_)
          refine lv_goto (tgt := 18) hx hb dL_law_499 (by decide) ?_
          exact ih H locs ls ⟨n, Lm, Rm, kn, fa, fm, fw1, fd1, hn1, hn, hg, hk, hP, hD, hS⟩ (lv_sub hl [1, 2, 3, 0] rfl)
        · exact absurd (hw1.trans hw2.symm) c9
      · refine lv_tableIn (off := 408) (tgt := 440) hx hb dL_law_32 (by decide) (by decide) rfl (by decide) ?_
        refine lv_aload_n hx hb dL_law_440 rfl (lv_at hl 1 rfl) ?_
        refine lv_aload_n hx hb dL_law_441 rfl (lv_at hl 0 rfl) ?_
        refine lv_iload_n hx hb dL_law_442 rfl (lv_at hl 3 rfl) ?_
        refine lv_iconst (v := nI 1) hx hb dL_law_443 (by decide) ?_
        refine lv_iadd hx hb dL_law_444 ?_
        refine gv_top (y := nI ((4 * j) + 1)) (nI_add _ _) ?_
        refine va_sld hx hb hX hbl hbA hS (vp_in_nI (n := (4 * j) + 1) (by omega) (by omega)) dL_law_445 ?_
        refine gv_top (y := (xs ((4 * j) + 1))) (gv_ld xs (e := (4 * j) + 1) (by omega)) ?_
        have hPc := hP.sub (ws' := gv_xW hX1 dX n kn Lm Rm fa fm) [0, 1, 2, 3, 4] rfl
        have hKc := hK.sub (tys' := gv_xT dX) [0, 1, 2, 3] rfl
        have hDc := hD.sub (ws' := gv_xW hX1 dX n kn Lm Rm fa fm) [0, 1, 2, 3, 4] (by decide) rfl
        have hFc := va_free (wc := gv_xW hX1 dX n kn Lm Rm fa fm) hD hS hA [0, 1, 2, 3, 4] rfl
        refine va_calli (va_runV (As := [.int (xs ((4 * j) + 1))]) (rest := []) ⟨hx, hb, hml, hown, hts⟩ (gv_x_above l dC dI hX1 dX _ n kn Lm Rm fa fm (xs (4 * j + 1)) hg hn1 hn hk) (cwV 1 hts (lw_V q142 q143 q144 q17 q145) rfl rfl rfl (by decide +kernel) ⟨Nat.le_of_ble_eq_true rfl, Nat.le_of_ble_eq_true rfl⟩) (gv_preD (ci := 0) hKc hPc hDc rfl rfl) rfl rfl hl.1 rfl (lv_room (Nat.le_of_ble_eq_true rfl)) dL_law_446 ⟨Nat.le_of_ble_eq_true rfl, Nat.le_of_ble_eq_true rfl⟩) hS (fun q _ h => hFc q h) hFc (fun r1 u t H1 locs ht hvm hw1 hB hz1 hk9 hS => ?_)
        obtain ⟨kn1, fa1, fm1⟩ := u
        obtain ⟨hP1, hK1, hD1⟩ := hB
        rw [ht] at hP1
        obtain ⟨hP, hD⟩ := va_join (wr := gv_mW hM1 dM n Lm Rm fw fd) (w1 := gv_xW hX1 dX n kn1 Lm Rm fa1 fm1) hP hD [0, 1, 2, 3, 4] [5, 6, 7, 8] rfl rfl (by decide) (by decide) hk9 hFc hP1 hD1
        clear hPc hKc hDc hFc hP1 hK1 hD1 hz1 hk9 ht hvm
        generalize H1 = H at hP hS ⊢
        have hP : va_P (dC, dI) gv_cl (gv_mW hM1 dM n Lm Rm fw fd ++ gv_xW hX1 dX n kn1 Lm Rm fa1 fm1) H := hP
        have hD : va_D A (gv_mW hM1 dM n Lm Rm fw fd ++ gv_xW hX1 dX n kn1 Lm Rm fa1 fm1) := hD
        refine lv_aload_n hx hb dL_law_449 rfl (lv_at hl 2 rfl) ?_
        refine lv_aload_n hx hb dL_law_450 rfl (lv_at hl 0 rfl) ?_
        refine lv_iload_n hx hb dL_law_451 rfl (lv_at hl 3 rfl) ?_
        refine lv_iconst (v := nI 1) hx hb dL_law_452 (by decide) ?_
        refine lv_iadd hx hb dL_law_453 ?_
        refine gv_top (y := nI ((4 * j) + 1)) (nI_add _ _) ?_
        refine va_sld hx hb hX hbl hbA hS (vp_in_nI (n := (4 * j) + 1) (by omega) (by omega)) dL_law_454 ?_
        refine gv_top (y := (xs ((4 * j) + 1))) (gv_ld xs (e := (4 * j) + 1) (by omega)) ?_
        have hPc := hP.sub (ws' := gv_mW hM1 dM n Lm Rm fw fd) [0, 1, 2, 3] rfl
        have hKc := hK.sub (tys' := gv_mT dM) [4, 5, 6] rfl
        have hDc := hD.sub (ws' := gv_mW hM1 dM n Lm Rm fw fd) [0, 1, 2, 3] (by decide) rfl
        have hFc := va_free (wc := gv_mW hM1 dM n Lm Rm fw fd) hD hS hA [0, 1, 2, 3] rfl
        refine va_calli (va_runV (As := [.int (xs ((4 * j) + 1))]) (rest := [.int r1]) ⟨hx, hb, hml, hown, hts⟩ (gv_m_above l dC dI hM1 dM _ n Lm Rm fw fd (xs (4 * j + 1)) hg hn1 hn) (cwV 1 hts (lw_V q249 q250 q251 q18 q252) rfl rfl rfl (by decide +kernel) ⟨Nat.le_of_ble_eq_true rfl, Nat.le_of_ble_eq_true rfl⟩) (gv_preD (ci := 1) hKc hPc hDc rfl rfl) rfl rfl hl.1 rfl (lv_room (Nat.le_of_ble_eq_true rfl)) dL_law_455 ⟨Nat.le_of_ble_eq_true rfl, Nat.le_of_ble_eq_true rfl⟩) hS (fun q _ h => hFc q h) hFc (fun r2 u t H1 locs ht hvm hw2 hB hz1 hk9 hS => ?_)
        obtain ⟨fw1, fd1⟩ := u
        obtain ⟨hP1, hK1, hD1⟩ := hB
        rw [ht] at hP1
        obtain ⟨hP, hD⟩ := va_join (wr := gv_xW hX1 dX n kn1 Lm Rm fa1 fm1) (w1 := gv_mW hM1 dM n Lm Rm fw1 fd1) hP hD [0, 1, 2, 3] [4, 5, 6, 7, 8] rfl rfl (by decide) (by decide) hk9 hFc hP1 hD1
        clear hPc hKc hDc hFc hP1 hK1 hD1 hz1 hk9 ht hvm
        generalize H1 = H at hP hS ⊢
        have hP : va_P (dC, dI) gv_cl (gv_xW hX1 dX n kn1 Lm Rm fa1 fm1 ++ gv_mW hM1 dM n Lm Rm fw1 fd1) H := hP
        have hD : va_D A (gv_xW hX1 dX n kn1 Lm Rm fa1 fm1 ++ gv_mW hM1 dM n Lm Rm fw1 fd1) := hD
        refine lv_icmp_eq (tgt := 496) hx hb dL_law_458 (by decide) (fun c9 => ?_) (fun c9 => ?_)
        · refine lv_iinc (v := nI (4 * (j + 1))) (lv' := [(3, .int (nI (4 * (j + 1)))), (0, .ref b), (1, .ref (hX1 0)), (2, .ref (hM1 0))]) hx hb dL_law_496 hl (k := 3) rfl (gv_inc4 j) (by decide) rfl (fun ls hl => ?_)
          refine lv_goto (tgt := 18) hx hb dL_law_499 (by decide) ?_
          exact ih H locs ls ⟨n, Lm, Rm, kn1, fa1, fm1, fw1, fd1, hn1, hn, hg, hw1.2, hP, hD, hS⟩ (lv_sub hl [1, 2, 3, 0] rfl)
        · exact absurd (hw1.1.trans hw2.symm) c9
      · refine lv_tableIn (off := 431) (tgt := 463) hx hb dL_law_32 (by decide) (by decide) rfl (by decide) ?_
        refine lv_aload_n hx hb dL_law_463 rfl (lv_at hl 1 rfl) ?_
        refine lv_aload_n hx hb dL_law_464 rfl (lv_at hl 0 rfl) ?_
        refine lv_iload_n hx hb dL_law_465 rfl (lv_at hl 3 rfl) ?_
        refine lv_iconst (v := nI 1) hx hb dL_law_466 (by decide) ?_
        refine lv_iadd hx hb dL_law_467 ?_
        refine gv_top (y := nI ((4 * j) + 1)) (nI_add _ _) ?_
        refine va_sld hx hb hX hbl hbA hS (vp_in_nI (n := (4 * j) + 1) (by omega) (by omega)) dL_law_468 ?_
        refine gv_top (y := (xs ((4 * j) + 1))) (gv_ld xs (e := (4 * j) + 1) (by omega)) ?_
        refine lv_aload_n hx hb dL_law_469 rfl (lv_at hl 0 rfl) ?_
        refine lv_iload_n hx hb dL_law_470 rfl (lv_at hl 3 rfl) ?_
        refine lv_iconst (v := nI 2) hx hb dL_law_471 (by decide) ?_
        refine lv_iadd hx hb dL_law_472 ?_
        refine gv_top (y := nI ((4 * j) + 2)) (nI_add _ _) ?_
        refine va_sld hx hb hX hbl hbA hS (vp_in_nI (n := (4 * j) + 2) (by omega) (by omega)) dL_law_473 ?_
        refine gv_top (y := (xs ((4 * j) + 2))) (gv_ld xs (e := (4 * j) + 2) (by omega)) ?_
        have hPc := hP.sub (ws' := gv_xW hX1 dX n kn Lm Rm fa fm) [0, 1, 2, 3, 4] rfl
        have hKc := hK.sub (tys' := gv_xT dX) [0, 1, 2, 3] rfl
        have hDc := hD.sub (ws' := gv_xW hX1 dX n kn Lm Rm fa fm) [0, 1, 2, 3, 4] (by decide) rfl
        have hFc := va_free (wc := gv_xW hX1 dX n kn Lm Rm fa fm) hD hS hA [0, 1, 2, 3, 4] rfl
        refine va_calli (va_runV (As := [.int (xs ((4 * j) + 1)), .int (xs ((4 * j) + 2))]) (rest := []) ⟨hx, hb, hml, hown, hts⟩ (gv_x_opposite l dC dI hX1 dX _ n kn Lm Rm fa fm (xs (4 * j + 1)) (xs (4 * j + 2)) hg hn1 hn hk) (cwV 2 hts (lw_V q146 q147 q148 q17 q149) rfl rfl rfl (by decide +kernel) ⟨Nat.le_of_ble_eq_true rfl, Nat.le_of_ble_eq_true rfl⟩) (gv_preD (ci := 0) hKc hPc hDc rfl rfl) rfl rfl hl.1 rfl (lv_room (Nat.le_of_ble_eq_true rfl)) dL_law_474 ⟨Nat.le_of_ble_eq_true rfl, Nat.le_of_ble_eq_true rfl⟩) hS (fun q _ h => hFc q h) hFc (fun r1 u t H1 locs ht hvm hw1 hB hz1 hk9 hS => ?_)
        obtain ⟨kn1, fa1, fm1⟩ := u
        obtain ⟨hP1, hK1, hD1⟩ := hB
        rw [ht] at hP1
        obtain ⟨hP, hD⟩ := va_join (wr := gv_mW hM1 dM n Lm Rm fw fd) (w1 := gv_xW hX1 dX n kn1 Lm Rm fa1 fm1) hP hD [0, 1, 2, 3, 4] [5, 6, 7, 8] rfl rfl (by decide) (by decide) hk9 hFc hP1 hD1
        clear hPc hKc hDc hFc hP1 hK1 hD1 hz1 hk9 ht hvm
        generalize H1 = H at hP hS ⊢
        have hP : va_P (dC, dI) gv_cl (gv_mW hM1 dM n Lm Rm fw fd ++ gv_xW hX1 dX n kn1 Lm Rm fa1 fm1) H := hP
        have hD : va_D A (gv_mW hM1 dM n Lm Rm fw fd ++ gv_xW hX1 dX n kn1 Lm Rm fa1 fm1) := hD
        refine lv_aload_n hx hb dL_law_477 rfl (lv_at hl 2 rfl) ?_
        refine lv_aload_n hx hb dL_law_478 rfl (lv_at hl 0 rfl) ?_
        refine lv_iload_n hx hb dL_law_479 rfl (lv_at hl 3 rfl) ?_
        refine lv_iconst (v := nI 1) hx hb dL_law_480 (by decide) ?_
        refine lv_iadd hx hb dL_law_481 ?_
        refine gv_top (y := nI ((4 * j) + 1)) (nI_add _ _) ?_
        refine va_sld hx hb hX hbl hbA hS (vp_in_nI (n := (4 * j) + 1) (by omega) (by omega)) dL_law_482 ?_
        refine gv_top (y := (xs ((4 * j) + 1))) (gv_ld xs (e := (4 * j) + 1) (by omega)) ?_
        refine lv_aload_n hx hb dL_law_483 rfl (lv_at hl 0 rfl) ?_
        refine lv_iload_n hx hb dL_law_484 rfl (lv_at hl 3 rfl) ?_
        refine lv_iconst (v := nI 2) hx hb dL_law_485 (by decide) ?_
        refine lv_iadd hx hb dL_law_486 ?_
        refine gv_top (y := nI ((4 * j) + 2)) (nI_add _ _) ?_
        refine va_sld hx hb hX hbl hbA hS (vp_in_nI (n := (4 * j) + 2) (by omega) (by omega)) dL_law_487 ?_
        refine gv_top (y := (xs ((4 * j) + 2))) (gv_ld xs (e := (4 * j) + 2) (by omega)) ?_
        have hPc := hP.sub (ws' := gv_mW hM1 dM n Lm Rm fw fd) [0, 1, 2, 3] rfl
        have hKc := hK.sub (tys' := gv_mT dM) [4, 5, 6] rfl
        have hDc := hD.sub (ws' := gv_mW hM1 dM n Lm Rm fw fd) [0, 1, 2, 3] (by decide) rfl
        have hFc := va_free (wc := gv_mW hM1 dM n Lm Rm fw fd) hD hS hA [0, 1, 2, 3] rfl
        refine va_calli (va_runV (As := [.int (xs ((4 * j) + 1)), .int (xs ((4 * j) + 2))]) (rest := [.int r1]) ⟨hx, hb, hml, hown, hts⟩ (gv_m_opposite l dC dI hM1 dM _ n Lm Rm fw fd (xs (4 * j + 1)) (xs (4 * j + 2)) hg hn1 hn) (cwV 2 hts (lw_V q253 q254 q255 q18 q256) rfl rfl rfl (by decide +kernel) ⟨Nat.le_of_ble_eq_true rfl, Nat.le_of_ble_eq_true rfl⟩) (gv_preD (ci := 1) hKc hPc hDc rfl rfl) rfl rfl hl.1 rfl (lv_room (Nat.le_of_ble_eq_true rfl)) dL_law_488 ⟨Nat.le_of_ble_eq_true rfl, Nat.le_of_ble_eq_true rfl⟩) hS (fun q _ h => hFc q h) hFc (fun r2 u t H1 locs ht hvm hw2 hB hz1 hk9 hS => ?_)
        obtain ⟨fw1, fd1⟩ := u
        obtain ⟨hP1, hK1, hD1⟩ := hB
        rw [ht] at hP1
        obtain ⟨hP, hD⟩ := va_join (wr := gv_xW hX1 dX n kn1 Lm Rm fa1 fm1) (w1 := gv_mW hM1 dM n Lm Rm fw1 fd1) hP hD [0, 1, 2, 3] [4, 5, 6, 7, 8] rfl rfl (by decide) (by decide) hk9 hFc hP1 hD1
        clear hPc hKc hDc hFc hP1 hK1 hD1 hz1 hk9 ht hvm
        generalize H1 = H at hP hS ⊢
        have hP : va_P (dC, dI) gv_cl (gv_xW hX1 dX n kn1 Lm Rm fa1 fm1 ++ gv_mW hM1 dM n Lm Rm fw1 fd1) H := hP
        have hD : va_D A (gv_xW hX1 dX n kn1 Lm Rm fa1 fm1 ++ gv_mW hM1 dM n Lm Rm fw1 fd1) := hD
        refine lv_icmp_eq (tgt := 496) hx hb dL_law_491 (by decide) (fun c9 => ?_) (fun c9 => ?_)
        · refine lv_iinc (v := nI (4 * (j + 1))) (lv' := [(3, .int (nI (4 * (j + 1)))), (0, .ref b), (1, .ref (hX1 0)), (2, .ref (hM1 0))]) hx hb dL_law_496 hl (k := 3) rfl (gv_inc4 j) (by decide) rfl (fun ls hl => ?_)
          refine lv_goto (tgt := 18) hx hb dL_law_499 (by decide) ?_
          exact ih H locs ls ⟨n, Lm, Rm, kn1, fa1, fm1, fw1, fd1, hn1, hn, hg, hw1.2, hP, hD, hS⟩ (lv_sub hl [1, 2, 3, 0] rfl)
        · exact absurd (hw1.1.trans hw2.symm) c9
      · have ho3 : (nI o).toInt = (o : Int) := nI_toInt (by omega)
        refine lv_tableOut (tgt := 496) hx hb dL_law_32 (Or.inr (by rw [ho3]; omega)) (by decide) ?_
        refine lv_iinc (v := nI (4 * (j + 1))) (lv' := [(3, .int (nI (4 * (j + 1)))), (0, .ref b), (1, .ref (hX1 0)), (2, .ref (hM1 0))]) hx hb dL_law_496 hl (k := 3) rfl (gv_inc4 j) (by decide) rfl (fun ls hl => ?_)
        refine lv_goto (tgt := 18) hx hb dL_law_499 (by decide) ?_
        exact ih H locs ls ⟨n, Lm, Rm, kn, fa, fm, fw, fd, hn1, hn, hg, hk, hP, hD, hS⟩ (lv_sub hl [1, 2, 3, 0] rfl)
end
section
set_option maxHeartbeats 4000000 in
theorem lw_walk (l : Launch) (b : Addr) (xs : List Int32) : MetFree l x (headSpec (Jvm.Cond.code x code maxLocals ret :: tables_1) room_1) (lw_P b xs) (fun _ _ _ _ _ => True) lw_Q := by
  refine MetFree.of_bodyS (code := code) (maxLocals := maxLocals) (ret := ret) (by decide) ?_ ?_
  · intro args s m h hn
    obtain ⟨meth, c, h1, h2, h3, h4, h5, h6, -, -⟩ := Cond.code_spec hn (atoms_spec (ws := Jvm.Cond.code x code maxLocals ret :: tables_1) h _ List.mem_cons_self)
    exact ⟨meth, c, h1, h2, h3, h4, h5, h6⟩
  · intro p e s m args below meth c s₁ B hml0 hP _
    obtain ⟨rfl, hx, hbd, hgv⟩ := hP
    obtain ⟨scr, harrAt, hlist, hof, hsmall⟩ := hx
    obtain ⟨hcb, hkn, -, -⟩ := State.arrayAt?_spec harrAt
    have hown : s.vm.findClass R_law = some m.cls := findClass_of_methodNamed B.named
    have hts0 : ∀ c ∈ (Jvm.Cond.code x code maxLocals ret :: tables_1), c.before #[Value.ref b] s = true := atoms_spec (ws := Jvm.Cond.code x code maxLocals ret :: tables_1) B.pre
    have hts : ∀ w ∈ lw_tbl, w.before #[Value.ref b] s = true := k2_hts_sels lw_privs (fun w hw => hts0 w (List.mem_cons_of_mem _ hw)) lw_privs_ok
    have hml : c.maxLocals = 4 := B.maxLocals_eq (hts0 _ List.mem_cons_self)
    have X₀ : Stand p l e room_1 s m #[Value.ref b] below meth c s₁ [] 0 0 := Stand.of_body B
    have hh0 : s₁.heap = s.heap := by rw [B.state]; rfl
    have hsz : scr.slots.size = xs.length := by rw [← Array.length_toList, hlist, List.length_map]
    have hval : ∀ j : Nat, j < xs.length → scr.slots[j]? = some (.int (xs.getD j 0)) := fun j hj => by
      rw [← Array.getElem?_toList, hlist]
      simp [hj]
    have hbl : b < s.heap.size := (Array.getElem?_eq_some_iff.mp hcb).1
    have hX : va_X b xs.length (fun j => xs.getD j 0) s s.heap := ⟨scr, hcb, hof, hkn, hsz, hval⟩
    have K : W p l e room_1 s m #[Value.ref b] below meth c s₁.heap [] 0 0 (lw_Z below #[Value.ref b] s) (entryFrame m ([Value.ref b] : List Value).toArray 4) := by
      rw [hh0]
      exact whole_start l hbd ⟨B.exec, B.bytes, B.returns, hml, hown, hts, hX, hbl, B.notSynchronized, hgv⟩
    obtain ⟨t, a1, o, b1, b2, b3⟩ := K s₁ rfl X₀
    exact ⟨t, o, a1, b1, b2, b3⟩
theorem lw_pre_spec {args : Array Value} {s : State} (h : (Jvm.Cond.and given_1 narrow_1).before args s = true) (hr : rest_1_c.before args s = true) : ∃ (b : Addr) (xs : List Int32), lw_P b xs args s := by
  have hs := flat_of_before _ h
  have hq := flat_of_before _ hr
  have hc : (Cond.count 1).before args s = true := hs _ (by decide +kernel)
  have harr : (Cond.arrayOf (.arg 0) .int).before args s = true := hs _ (by decide +kernel)
  have hle : (Cond.le (.length (.arg 0)) (.int 256)).before args s = true := hs _ (by decide +kernel)
  have hlen : (Cond.isInt (.length (.arg 0))).before args s = true := hq _ (by decide +kernel)
  have hall : (Cond.all (.arg 0) (.isInt (.elem (.arg 0) (.index 0)))).before args s = true := hq _ (by decide +kernel)
  obtain ⟨b, xs, hb, hx⟩ := State.ints_of_pre rfl harr hlen hall
  have hsm : xs.length < 2 ^ 31 := hx.choose_spec.2.2.2
  have hev : (Term.length (.arg 0)).eval args s none [] s = some (.int xs.length.toInt32) := hx.length_eval hb
  have hv := Cond.le_ints hev (show (Term.int 256).eval args s none [] s = some (.int 256) from rfl)
  have hd : xs.length.toInt32 ≤ 256 := by
    simpa [Cond.before, Cond.holds, hv] using hle
  have hN : xs.length ≤ 256 := (Int32.ofNat_le_ofNat hsm (by decide)).mp (show Int32.ofNat xs.length ≤ Int32.ofNat 256 from hd)
  exact ⟨b, xs, Cond.one_arg hc (show args[0]? = some (.ref b) from hb), hx, hN, h⟩
theorem lw_comes (l : Launch) : Comes l x (Jvm.Cond.code x code maxLocals ret :: tables_1) room_1 (fun tb e args s => Calls_1 tb e args s ∧ rest_1 tb e args s ∧ Pre_1 tb e args s)
    (fun _ _ args s o t => lw_Q args s o t) := by
  intro p e ha hc hk s m args below hf hfit hheap happ hpre
  obtain ⟨b, xs, hP⟩ := lw_pre_spec hpre.2.2 hpre.2.1
  obtain ⟨k, o, h1, h2, h3, hQ⟩ := lw_walk l b xs p e ha hc hk s m args below hf ((Spec.applies_iff_loose hf).mp happ).1 hP trivial
  exact ⟨k, o, h1, h2, h3, hQ⟩
theorem lw_frame {s t : State} {o : Outcome} {args : Array Value} (h : Framed s o t [] 600000 7290000) :
    Framed s o t (fieldLocs frame_1_writes args s ++ arrayLocs frame_1_arrays args s ++ staticLocs frame_1_statics s) 600000 7290000 := h
theorem lw_limb (L : Cond) (hL : ∀ (args : Array Value) (s t : State), L.after args s (.returned (some (.int 1))) t = true) :
    ArmFor flags0 classFile x code maxLocals ret World_1 tables_1 room_1 Calls_1 rest_1 Pre_1
      (fun tb e a s o t => postC L tb e a s o t ∧ Framed s o t (fieldLocs frame_1_writes a s ++ arrayLocs frame_1_arrays a s ++ staticLocs frame_1_statics s) 600000 7290000) := by
  intro l _ _ _ p e ha hc hk s m args below hf hfit hheap happ hpre
  obtain ⟨k, o, h1, h2, h3, rfl, hF⟩ := lw_comes l p e ha hc hk s m args below hf hfit hheap happ hpre
  exact ⟨k, _, h1, h2, h3, hL args s _, lw_frame hF⟩
theorem i_vc : Claimed_1_1 ∧ Claimed_1_2 := ⟨lw_limb limb_1_1 (fun args s t => by simp [limb_1_1, Cond.after, Cond.holds, Cond.value]), lw_limb limb_1_2 (fun args s t => Cond.after_iff.mpr (by
  first | (rw [show limb_1_2 = Cond.eq .result (.int 1) from rfl, Cond.eq_ints (x := 1) (y := 1) rfl rfl]; simp; done) | (simp [limb_1_2, Cond.value, Term.eval]; done)))⟩
end
