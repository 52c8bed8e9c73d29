section
-- ===== PART A: goes FIRST, ahead of the names: the tables' words, and 'selects' of the private methods out of them =====
/-- a private method of a class that the tables say can be made, by its rows of tables_1 -/
def lw_okq (q : MethodName × Nat) : Prop := (q.1.cls ≠ "java/lang/invoke/MethodHandle" ∧ q.1.cls ≠ "java/lang/invoke/VarHandle") ∧ Cond.instantiable q.1.cls q.2 ∈ tables_1 ∧ Cond.privateMethod q.1 ∈ tables_1 ∧ Cond.instanceMethod q.1 ∈ tables_1
set_option maxRecDepth 100000
theorem lw_p0 : lw_okq (⟨"AliasClasses", "workOut", "()V"⟩, 14) := ⟨⟨by decide +kernel, by decide +kernel⟩, List.mem_of_getElem? (i := 4) rfl, List.mem_of_getElem? (i := 72) rfl, List.mem_of_getElem? (i := 73) rfl⟩
theorem lw_p1 : lw_okq (⟨"AliasClasses", "enqueue", "(I)V"⟩, 14) := ⟨⟨by decide +kernel, by decide +kernel⟩, List.mem_of_getElem? (i := 4) rfl, List.mem_of_getElem? (i := 76) rfl, List.mem_of_getElem? (i := 77) rfl⟩
theorem lw_p2 : lw_okq (⟨"AliasClasses", "carryOut", "(I)V"⟩, 14) := ⟨⟨by decide +kernel, by decide +kernel⟩, List.mem_of_getElem? (i := 4) rfl, List.mem_of_getElem? (i := 80) rfl, List.mem_of_getElem? (i := 81) rfl⟩
theorem lw_p3 : lw_okq (⟨"AliasClasses", "pointAt", "(II)V"⟩, 14) := ⟨⟨by decide +kernel, by decide +kernel⟩, List.mem_of_getElem? (i := 4) rfl, List.mem_of_getElem? (i := 84) rfl, List.mem_of_getElem? (i := 85) rfl⟩
theorem lw_p4 : lw_okq (⟨"AliasClasses", "find", "(I)I"⟩, 14) := ⟨⟨by decide +kernel, by decide +kernel⟩, List.mem_of_getElem? (i := 4) rfl, List.mem_of_getElem? (i := 88) rfl, List.mem_of_getElem? (i := 89) rfl⟩
theorem lw_p5 : lw_okq (⟨"AliasClasses", "wake", "(I)V"⟩, 14) := ⟨⟨by decide +kernel, by decide +kernel⟩, List.mem_of_getElem? (i := 4) rfl, List.mem_of_getElem? (i := 92) rfl, List.mem_of_getElem? (i := 93) rfl⟩
theorem lw_p6 : lw_okq (⟨"AliasClasses", "addPair", "(II)V"⟩, 14) := ⟨⟨by decide +kernel, by decide +kernel⟩, List.mem_of_getElem? (i := 4) rfl, List.mem_of_getElem? (i := 96) rfl, List.mem_of_getElem? (i := 97) rfl⟩
theorem lw_p7 : lw_okq (⟨"AliasClasses", "points", "(II)Z"⟩, 14) := ⟨⟨by decide +kernel, by decide +kernel⟩, List.mem_of_getElem? (i := 4) rfl, List.mem_of_getElem? (i := 100) rfl, List.mem_of_getElem? (i := 101) rfl⟩
theorem lw_p8 : lw_okq (⟨"AliasClasses", "followRight", "(III)V"⟩, 14) := ⟨⟨by decide +kernel, by decide +kernel⟩, List.mem_of_getElem? (i := 4) rfl, List.mem_of_getElem? (i := 104) rfl, List.mem_of_getElem? (i := 105) rfl⟩
theorem lw_p9 : lw_okq (⟨"AliasClasses", "joinAll", "()V"⟩, 14) := ⟨⟨by decide +kernel, by decide +kernel⟩, List.mem_of_getElem? (i := 4) rfl, List.mem_of_getElem? (i := 108) rfl, List.mem_of_getElem? (i := 109) rfl⟩
theorem lw_p10 : lw_okq (⟨"AliasClasses", "joinClasses", "(II)V"⟩, 14) := ⟨⟨by decide +kernel, by decide +kernel⟩, List.mem_of_getElem? (i := 4) rfl, List.mem_of_getElem? (i := 112) rfl, List.mem_of_getElem? (i := 113) rfl⟩
theorem lw_p11 : lw_okq (⟨"AliasClasses", "membersOf", "(I)I"⟩, 14) := ⟨⟨by decide +kernel, by decide +kernel⟩, List.mem_of_getElem? (i := 4) rfl, List.mem_of_getElem? (i := 120) rfl, List.mem_of_getElem? (i := 121) rfl⟩
theorem lw_p12 : lw_okq (⟨"AliasClassesModel", "work", "()V"⟩, 7) := ⟨⟨by decide +kernel, by decide +kernel⟩, List.mem_of_getElem? (i := 144) rfl, List.mem_of_getElem? (i := 187) rfl, List.mem_of_getElem? (i := 188) rfl⟩
theorem lw_p13 : lw_okq (⟨"AliasClassesModel", "apply", "(I)V"⟩, 7) := ⟨⟨by decide +kernel, by decide +kernel⟩, List.mem_of_getElem? (i := 144) rfl, List.mem_of_getElem? (i := 191) rfl, List.mem_of_getElem? (i := 192) rfl⟩
theorem lw_p14 : lw_okq (⟨"AliasClassesModel", "point", "(II)V"⟩, 7) := ⟨⟨by decide +kernel, by decide +kernel⟩, List.mem_of_getElem? (i := 144) rfl, List.mem_of_getElem? (i := 195) rfl, List.mem_of_getElem? (i := 196) rfl⟩
theorem lw_p15 : lw_okq (⟨"AliasClassesModel", "join", "(II)V"⟩, 7) := ⟨⟨by decide +kernel, by decide +kernel⟩, List.mem_of_getElem? (i := 144) rfl, List.mem_of_getElem? (i := 199) rfl, List.mem_of_getElem? (i := 200) rfl⟩
def lw_privs_1 : List (MethodName × Nat) := [(⟨"AliasClasses", "workOut", "()V"⟩, 14), (⟨"AliasClasses", "enqueue", "(I)V"⟩, 14), (⟨"AliasClasses", "carryOut", "(I)V"⟩, 14), (⟨"AliasClasses", "pointAt", "(II)V"⟩, 14), (⟨"AliasClasses", "find", "(I)I"⟩, 14), (⟨"AliasClasses", "wake", "(I)V"⟩, 14), (⟨"AliasClasses", "addPair", "(II)V"⟩, 14), (⟨"AliasClasses", "points", "(II)Z"⟩, 14), (⟨"AliasClasses", "followRight", "(III)V"⟩, 14), (⟨"AliasClasses", "joinAll", "()V"⟩, 14), (⟨"AliasClasses", "joinClasses", "(II)V"⟩, 14), (⟨"AliasClasses", "membersOf", "(I)I"⟩, 14), (⟨"AliasClassesModel", "work", "()V"⟩, 7), (⟨"AliasClassesModel", "apply", "(I)V"⟩, 7), (⟨"AliasClassesModel", "point", "(II)V"⟩, 7), (⟨"AliasClassesModel", "join", "(II)V"⟩, 7)]
theorem lw_r1 : ∀ q ∈ lw_privs_1, lw_okq q := List.forall_mem_cons.mpr ⟨lw_p0, List.forall_mem_cons.mpr ⟨lw_p1, List.forall_mem_cons.mpr ⟨lw_p2, List.forall_mem_cons.mpr ⟨lw_p3, List.forall_mem_cons.mpr ⟨lw_p4, List.forall_mem_cons.mpr ⟨lw_p5, List.forall_mem_cons.mpr ⟨lw_p6, List.forall_mem_cons.mpr ⟨lw_p7, List.forall_mem_cons.mpr ⟨lw_p8, List.forall_mem_cons.mpr ⟨lw_p9, List.forall_mem_cons.mpr ⟨lw_p10, List.forall_mem_cons.mpr ⟨lw_p11, List.forall_mem_cons.mpr ⟨lw_p12, List.forall_mem_cons.mpr ⟨lw_p13, List.forall_mem_cons.mpr ⟨lw_p14, List.forall_mem_cons.mpr ⟨lw_p15, fun _ h => absurd h List.not_mem_nil⟩⟩⟩⟩⟩⟩⟩⟩⟩⟩⟩⟩⟩⟩⟩⟩
theorem lw_p16 : lw_okq (⟨"AliasClassesModel", "membersOf", "(I)I"⟩, 7) := ⟨⟨by decide +kernel, by decide +kernel⟩, List.mem_of_getElem? (i := 144) rfl, List.mem_of_getElem? (i := 207) rfl, List.mem_of_getElem? (i := 208) rfl⟩
theorem lw_p17 : lw_okq (⟨"AliasClassesModel", "count", "(Z)I"⟩, 7) := ⟨⟨by decide +kernel, by decide +kernel⟩, List.mem_of_getElem? (i := 144) rfl, List.mem_of_getElem? (i := 223) rfl, List.mem_of_getElem? (i := 224) rfl⟩
def lw_privs_2 : List (MethodName × Nat) := [(⟨"AliasClassesModel", "membersOf", "(I)I"⟩, 7), (⟨"AliasClassesModel", "count", "(Z)I"⟩, 7)]
theorem lw_r2 : ∀ q ∈ lw_privs_2, lw_okq q := List.forall_mem_cons.mpr ⟨lw_p16, List.forall_mem_cons.mpr ⟨lw_p17, fun _ h => absurd h List.not_mem_nil⟩⟩
def lw_privs : List (MethodName × Nat) := lw_privs_1 ++ (lw_privs_2)
def lw_tbl : List Cond := k2_sels lw_privs ++ tables_1
theorem lw_privs_ok : ∀ q ∈ lw_privs, lw_okq q := by
  show ∀ q ∈ lw_privs_1 ++ (lw_privs_2), lw_okq q
  exact List.forall_mem_append.mpr ⟨lw_r1, lw_r2⟩
-- ===== ONE list of words for every method: the tables' words that hold all through a run =====
def lw_all : List Cond := lw_tbl.filter goodWord
/-- a word of the tables by its place: claim/WORDS.tsv -/
theorem lw_w {w : Cond} (i : Nat) (h : lw_tbl[i]? = some w) (g : goodWord w = true) : w ∈ lw_all := List.mem_filter.mpr ⟨List.mem_of_getElem? h, g⟩
theorem lw_all_tbl {w : Cond} (h : w ∈ lw_all) : w ∈ lw_tbl := (List.mem_filter.mp h).1
theorem lw_self : GoodIn lw_all lw_all := fun w h => ⟨h, good_of_word (List.mem_filter.mp h).2⟩
/-- a class's field words, by their places -/
theorem lw_in (ws : List Cond) (ps : List Nat) (hp : ws = ps.filterMap (fun i => lw_tbl[i]?)) (hg : ws.all goodWord = true) : ∀ w ∈ ws, w ∈ lw_all := by
  intro w h
  have h1 := List.all_eq_true.mp hg w h
  rw [hp] at h
  obtain ⟨i, -, hi⟩ := List.mem_filterMap.mp h
  exact lw_w i hi h1
/-- the words of a contract for the method y with code b, L locals, answer r -/
abbrev ws_ (y : MethodName) (b : ByteArray) (L : Nat) (r : Option FieldType) : List Cond := Cond.code y b L r :: lw_all
theorem lw_meth {y : MethodName} {b : ByteArray} {L : Nat} {r : Option FieldType} (h : Cond.code y b L r ∈ lw_all) : GoodIn lw_all (ws_ y b L r) := by
  intro w hw
  rcases List.mem_cons.mp hw with e | e
  · rw [e]
    exact lw_self _ h
  · exact lw_self _ e
theorem lw_app {a c : List Cond} (ha : ∀ w ∈ a, w ∈ lw_all) (hc : GoodIn lw_all c) : GoodIn lw_all (a ++ c) := by
  intro w hw
  rcases List.mem_append.mp hw with e | e
  · exact lw_self w (ha w e)
  · exact hc w e
/-- what a call through an object asks: cwV n hts (lw_V ..) -/
theorem lw_V {own : String} {idx : Nat} {C : String} {y : MethodName} {b : ByteArray} {L : Nat} {r : Option FieldType} (h1 : Cond.methodLink own idx y ∈ lw_all) (h2 : Cond.instanceMethod y ∈ lw_all) (h3 : Cond.selects C y y ∈ lw_all) (h4 : Cond.initialized C ∈ lw_all) (h5 : Cond.code y b L r ∈ lw_all) : GoodIn lw_all (wsV own idx C y (ws_ y b L r)) := by
  refine lw_app ?_ (lw_meth h5)
  intro w hw
  simp only [List.mem_cons, List.not_mem_nil, or_false] at hw
  rcases hw with e | e | e | e
  · rw [e]; exact h1
  · rw [e]; exact h2
  · rw [e]; exact h3
  · rw [e]; exact h4
/-- what a static call asks: va_cwS n hts (lw_S ..) -/
theorem lw_S {own : String} {idx : Nat} {y : MethodName} {b : ByteArray} {L : Nat} {r : Option FieldType} (h1 : Cond.methodLink own idx y ∈ lw_all) (h2 : Cond.static y ∈ lw_all) (h3 : Cond.initialized y.cls ∈ lw_all) (h4 : Cond.code y b L r ∈ lw_all) : GoodIn lw_all (va_wsS own idx y (ws_ y b L r)) := by
  refine lw_app ?_ (lw_meth h4)
  intro w hw
  simp only [List.mem_cons, List.not_mem_nil, or_false] at hw
  rcases hw with e | e | e
  · rw [e]; exact h1
  · rw [e]; exact h2
  · rw [e]; exact h3
/-- the words of a contract for a method WITH HANDLERS (hh: its table) -/
abbrev wsW_ (y : MethodName) (b : ByteArray) (L : Nat) (r : Option FieldType) (hh : List (Nat × Nat × Nat × Nat)) : List Cond := Cond.codeWith y b L r hh :: lw_all
theorem lw_methW {y : MethodName} {b : ByteArray} {L : Nat} {r : Option FieldType} {hh : List (Nat × Nat × Nat × Nat)} (h : Cond.codeWith y b L r hh ∈ lw_all) : GoodIn lw_all (wsW_ y b L r hh) := by
  intro w hw
  rcases List.mem_cons.mp hw with e | e
  · rw [e]
    exact lw_self _ h
  · exact lw_self _ e
/-- any list of words by their places (lw_in), good -/
theorem lw_good {ws : List Cond} (h : ∀ w ∈ ws, w ∈ lw_all) : GoodIn lw_all ws := fun w hw => lw_self w (h w hw)
/-- what a call of a method with handlers asks: vx_cwVW n hts (lw_VW ..), vx_cwSW n hts (lw_SW ..) -/
theorem lw_VW {own : String} {idx : Nat} {C : String} {y : MethodName} {b : ByteArray} {L : Nat} {r : Option FieldType} {hh : List (Nat × Nat × Nat × Nat)} (h1 : Cond.methodLink own idx y ∈ lw_all) (h2 : Cond.instanceMethod y ∈ lw_all) (h3 : Cond.selects C y y ∈ lw_all) (h4 : Cond.initialized C ∈ lw_all) (h5 : Cond.codeWith y b L r hh ∈ lw_all) : GoodIn lw_all (wsV own idx C y (wsW_ y b L r hh)) := by
  refine lw_app ?_ (lw_methW h5)
  intro w hw
  simp only [List.mem_cons, List.not_mem_nil, or_false] at hw
  rcases hw with e | e | e | e
  · rw [e]; exact h1
  · rw [e]; exact h2
  · rw [e]; exact h3
  · rw [e]; exact h4
theorem lw_SW {own : String} {idx : Nat} {y : MethodName} {b : ByteArray} {L : Nat} {r : Option FieldType} {hh : List (Nat × Nat × Nat × Nat)} (h1 : Cond.methodLink own idx y ∈ lw_all) (h2 : Cond.static y ∈ lw_all) (h3 : Cond.initialized y.cls ∈ lw_all) (h4 : Cond.codeWith y b L r hh ∈ lw_all) : GoodIn lw_all (va_wsS own idx y (wsW_ y b L r hh)) := by
  refine lw_app ?_ (lw_methW h4)
  intro w hw
  simp only [List.mem_cons, List.not_mem_nil, or_false] at hw
  rcases hw with e | e | e
  · rw [e]; exact h1
  · rw [e]; exact h2
  · rw [e]; exact h3
/-- a word by its place in its run of the tables -/
theorem lw_at {r : List Cond} (hr : ∀ w ∈ r, w ∈ lw_tbl) {w : Cond} (i : Nat) (h : r[i]? = some w) : w ∈ lw_tbl := hr w (List.mem_of_getElem? h)
theorem lw_g {w : Cond} (h : w ∈ lw_tbl) (g : goodWord w = true) : w ∈ lw_all := List.mem_filter.mpr ⟨h, g⟩
theorem lw_ms : ∀ w ∈ k2_sels lw_privs, w ∈ lw_tbl := fun w h => show w ∈ k2_sels lw_privs ++ tables_1 from List.mem_append_left _ h
theorem lw_m0 : ∀ w ∈ tables_1, w ∈ lw_tbl := fun w h => show w ∈ k2_sels lw_privs ++ tables_1 from List.mem_append_right (k2_sels lw_privs) h
theorem qs0 : (Cond.selects "AliasClasses" ⟨"AliasClasses", "workOut", "()V"⟩ ⟨"AliasClasses", "workOut", "()V"⟩) ∈ lw_all := lw_g (lw_at lw_ms 0 rfl) rfl
theorem qs1 : (Cond.selects "AliasClasses" ⟨"AliasClasses", "enqueue", "(I)V"⟩ ⟨"AliasClasses", "enqueue", "(I)V"⟩) ∈ lw_all := lw_g (lw_at lw_ms 1 rfl) rfl
theorem qs2 : (Cond.selects "AliasClasses" ⟨"AliasClasses", "carryOut", "(I)V"⟩ ⟨"AliasClasses", "carryOut", "(I)V"⟩) ∈ lw_all := lw_g (lw_at lw_ms 2 rfl) rfl
theorem qs3 : (Cond.selects "AliasClasses" ⟨"AliasClasses", "pointAt", "(II)V"⟩ ⟨"AliasClasses", "pointAt", "(II)V"⟩) ∈ lw_all := lw_g (lw_at lw_ms 3 rfl) rfl
theorem qs4 : (Cond.selects "AliasClasses" ⟨"AliasClasses", "find", "(I)I"⟩ ⟨"AliasClasses", "find", "(I)I"⟩) ∈ lw_all := lw_g (lw_at lw_ms 4 rfl) rfl
theorem qs5 : (Cond.selects "AliasClasses" ⟨"AliasClasses", "wake", "(I)V"⟩ ⟨"AliasClasses", "wake", "(I)V"⟩) ∈ lw_all := lw_g (lw_at lw_ms 5 rfl) rfl
theorem qs6 : (Cond.selects "AliasClasses" ⟨"AliasClasses", "addPair", "(II)V"⟩ ⟨"AliasClasses", "addPair", "(II)V"⟩) ∈ lw_all := lw_g (lw_at lw_ms 6 rfl) rfl
theorem qs7 : (Cond.selects "AliasClasses" ⟨"AliasClasses", "points", "(II)Z"⟩ ⟨"AliasClasses", "points", "(II)Z"⟩) ∈ lw_all := lw_g (lw_at lw_ms 7 rfl) rfl
theorem qs8 : (Cond.selects "AliasClasses" ⟨"AliasClasses", "followRight", "(III)V"⟩ ⟨"AliasClasses", "followRight", "(III)V"⟩) ∈ lw_all := lw_g (lw_at lw_ms 8 rfl) rfl
theorem qs9 : (Cond.selects "AliasClasses" ⟨"AliasClasses", "joinAll", "()V"⟩ ⟨"AliasClasses", "joinAll", "()V"⟩) ∈ lw_all := lw_g (lw_at lw_ms 9 rfl) rfl
theorem qs10 : (Cond.selects "AliasClasses" ⟨"AliasClasses", "joinClasses", "(II)V"⟩ ⟨"AliasClasses", "joinClasses", "(II)V"⟩) ∈ lw_all := lw_g (lw_at lw_ms 10 rfl) rfl
theorem qs11 : (Cond.selects "AliasClasses" ⟨"AliasClasses", "membersOf", "(I)I"⟩ ⟨"AliasClasses", "membersOf", "(I)I"⟩) ∈ lw_all := lw_g (lw_at lw_ms 11 rfl) rfl
theorem qs12 : (Cond.selects "AliasClassesModel" ⟨"AliasClassesModel", "work", "()V"⟩ ⟨"AliasClassesModel", "work", "()V"⟩) ∈ lw_all := lw_g (lw_at lw_ms 12 rfl) rfl
theorem qs13 : (Cond.selects "AliasClassesModel" ⟨"AliasClassesModel", "apply", "(I)V"⟩ ⟨"AliasClassesModel", "apply", "(I)V"⟩) ∈ lw_all := lw_g (lw_at lw_ms 13 rfl) rfl
theorem qs14 : (Cond.selects "AliasClassesModel" ⟨"AliasClassesModel", "point", "(II)V"⟩ ⟨"AliasClassesModel", "point", "(II)V"⟩) ∈ lw_all := lw_g (lw_at lw_ms 14 rfl) rfl
theorem qs15 : (Cond.selects "AliasClassesModel" ⟨"AliasClassesModel", "join", "(II)V"⟩ ⟨"AliasClassesModel", "join", "(II)V"⟩) ∈ lw_all := lw_g (lw_at lw_ms 15 rfl) rfl
theorem qs16 : (Cond.selects "AliasClassesModel" ⟨"AliasClassesModel", "membersOf", "(I)I"⟩ ⟨"AliasClassesModel", "membersOf", "(I)I"⟩) ∈ lw_all := lw_g (lw_at lw_ms 16 rfl) rfl
theorem qs17 : (Cond.selects "AliasClassesModel" ⟨"AliasClassesModel", "count", "(Z)I"⟩ ⟨"AliasClassesModel", "count", "(Z)I"⟩) ∈ lw_all := lw_g (lw_at lw_ms 17 rfl) rfl
end
section
/-! java/lang/Object -/
set_option maxRecDepth 100000
def RJ0 : String := "java/lang/Object"
abbrev cJ0_init : ByteArray := object_method_1_code
def yJ0_init : MethodName := ⟨RJ0, "<init>", "()V"⟩
theorem dJ0_init_0 : decode cJ0_init 0 = .ok (.return_, 1) := by decide +kernel
theorem q27 : (Jvm.Cond.instanceMethod ({ cls := "java/lang/Object", name := "<init>", desc := "()V" } : Jvm.MethodName)) ∈ lw_all := lw_g (lw_at lw_m0 9 rfl) rfl
theorem q28 : (Jvm.Cond.code ({ cls := "java/lang/Object", name := "<init>", desc := "()V" } : Jvm.MethodName) object_method_1_code (1 : Nat) (Option.none : Option Jvm.ClassFile.FieldType)) ∈ lw_all := lw_g (lw_at lw_m0 10 rfl) rfl
theorem q72 : (Jvm.Cond.arrayClass Jvm.ClassFile.FieldType.int) ∈ lw_all := lw_g (lw_at lw_m0 54 rfl) rfl
set_option maxRecDepth 100000
theorem q73 : (Jvm.Cond.arrayClass Jvm.ClassFile.FieldType.boolean) ∈ lw_all := lw_g (lw_at lw_m0 55 rfl) rfl
theorem q18 : (Jvm.Cond.initialized "AliasClassesLaw") ∈ lw_all := lw_g (lw_at lw_m0 0 rfl) rfl
set_option maxRecDepth 100000
theorem q21 : (Jvm.Cond.classLink "AliasClassesLaw" (7 : Nat) "AliasClasses") ∈ lw_all := lw_g (lw_at lw_m0 3 rfl) rfl
theorem q23 : (Jvm.Cond.methodLink "AliasClassesLaw" (9 : Nat) ({ cls := "AliasClasses", name := "<init>", desc := "()V" } : Jvm.MethodName)) ∈ lw_all := lw_g (lw_at lw_m0 5 rfl) rfl
theorem q74 : (Jvm.Cond.methodLink "AliasClassesLaw" (13 : Nat) ({ cls := "AliasClasses", name := "assign", desc := "(III)I" } : Jvm.MethodName)) ∈ lw_all := lw_g (lw_at lw_m0 56 rfl) rfl
theorem q81 : (Jvm.Cond.methodLink "AliasClassesLaw" (18 : Nat) ({ cls := "AliasClasses", name := "drop", desc := "(I)I" } : Jvm.MethodName)) ∈ lw_all := lw_g (lw_at lw_m0 63 rfl) rfl
theorem q85 : (Jvm.Cond.methodLink "AliasClassesLaw" (23 : Nat) ({ cls := "AliasClasses", name := "same", desc := "(II)I" } : Jvm.MethodName)) ∈ lw_all := lw_g (lw_at lw_m0 67 rfl) rfl
theorem q133 : (Jvm.Cond.methodLink "AliasClassesLaw" (28 : Nat) ({ cls := "AliasClasses", name := "members", desc := "(I)I" } : Jvm.MethodName)) ∈ lw_all := lw_g (lw_at lw_m0 115 rfl) rfl
theorem q141 : (Jvm.Cond.methodLink "AliasClassesLaw" (32 : Nat) ({ cls := "AliasClasses", name := "target", desc := "(I)I" } : Jvm.MethodName)) ∈ lw_all := lw_g (lw_at lw_m0 123 rfl) rfl
theorem q145 : (Jvm.Cond.methodLink "AliasClassesLaw" (36 : Nat) ({ cls := "AliasClasses", name := "meet", desc := "(II)I" } : Jvm.MethodName)) ∈ lw_all := lw_g (lw_at lw_m0 127 rfl) rfl
theorem q149 : (Jvm.Cond.methodLink "AliasClassesLaw" (40 : Nat) ({ cls := "AliasClasses", name := "classes", desc := "()I" } : Jvm.MethodName)) ∈ lw_all := lw_g (lw_at lw_m0 131 rfl) rfl
theorem q153 : (Jvm.Cond.methodLink "AliasClassesLaw" (45 : Nat) ({ cls := "AliasClasses", name := "pointing", desc := "()I" } : Jvm.MethodName)) ∈ lw_all := lw_g (lw_at lw_m0 135 rfl) rfl
theorem q157 : (Jvm.Cond.methodLink "AliasClassesLaw" (49 : Nat) ({ cls := "AliasClasses", name := "steps", desc := "(I)I" } : Jvm.MethodName)) ∈ lw_all := lw_g (lw_at lw_m0 139 rfl) rfl
theorem q161 : (Jvm.Cond.classLink "AliasClassesLaw" (10 : Nat) "AliasClassesModel") ∈ lw_all := lw_g (lw_at lw_m0 143 rfl) rfl
theorem q163 : (Jvm.Cond.methodLink "AliasClassesLaw" (12 : Nat) ({ cls := "AliasClassesModel", name := "<init>", desc := "()V" } : Jvm.MethodName)) ∈ lw_all := lw_g (lw_at lw_m0 145 rfl) rfl
theorem q189 : (Jvm.Cond.methodLink "AliasClassesLaw" (17 : Nat) ({ cls := "AliasClassesModel", name := "assign", desc := "(III)I" } : Jvm.MethodName)) ∈ lw_all := lw_g (lw_at lw_m0 171 rfl) rfl
theorem q196 : (Jvm.Cond.methodLink "AliasClassesLaw" (22 : Nat) ({ cls := "AliasClassesModel", name := "drop", desc := "(I)I" } : Jvm.MethodName)) ∈ lw_all := lw_g (lw_at lw_m0 178 rfl) rfl
theorem q200 : (Jvm.Cond.methodLink "AliasClassesLaw" (27 : Nat) ({ cls := "AliasClassesModel", name := "same", desc := "(II)I" } : Jvm.MethodName)) ∈ lw_all := lw_g (lw_at lw_m0 182 rfl) rfl
theorem q220 : (Jvm.Cond.methodLink "AliasClassesLaw" (31 : Nat) ({ cls := "AliasClassesModel", name := "members", desc := "(I)I" } : Jvm.MethodName)) ∈ lw_all := lw_g (lw_at lw_m0 202 rfl) rfl
theorem q228 : (Jvm.Cond.methodLink "AliasClassesLaw" (35 : Nat) ({ cls := "AliasClassesModel", name := "target", desc := "(I)I" } : Jvm.MethodName)) ∈ lw_all := lw_g (lw_at lw_m0 210 rfl) rfl
theorem q232 : (Jvm.Cond.methodLink "AliasClassesLaw" (39 : Nat) ({ cls := "AliasClassesModel", name := "meet", desc := "(II)I" } : Jvm.MethodName)) ∈ lw_all := lw_g (lw_at lw_m0 214 rfl) rfl
theorem q236 : (Jvm.Cond.methodLink "AliasClassesLaw" (44 : Nat) ({ cls := "AliasClassesModel", name := "classes", desc := "()I" } : Jvm.MethodName)) ∈ lw_all := lw_g (lw_at lw_m0 218 rfl) rfl
theorem q244 : (Jvm.Cond.methodLink "AliasClassesLaw" (48 : Nat) ({ cls := "AliasClassesModel", name := "pointing", desc := "()I" } : Jvm.MethodName)) ∈ lw_all := lw_g (lw_at lw_m0 226 rfl) rfl
theorem q248 : (Jvm.Cond.methodLink "AliasClassesLaw" (52 : Nat) ({ cls := "AliasClassesModel", name := "steps", desc := "(I)I" } : Jvm.MethodName)) ∈ lw_all := lw_g (lw_at lw_m0 230 rfl) rfl
end
section
/-! AliasClasses -/
set_option maxRecDepth 100000
def RX0 : String := "AliasClasses"
def TX0 : u_T := fun k => match k with
  | 0 => ("AliasClasses", "assignments", "I", false)
  | 1 => ("AliasClasses", "kindOf", "[I", true)
  | 2 => ("AliasClasses", "leftOf", "[I", true)
  | 3 => ("AliasClasses", "rightOf", "[I", true)
  | 4 => ("AliasClasses", "known", "Z", false)
  | 5 => ("AliasClasses", "up", "[I", true)
  | 6 => ("AliasClasses", "pointee", "[I", true)
  | 7 => ("AliasClasses", "waitsFor", "[I", true)
  | 8 => ("AliasClasses", "ready", "I", false)
  | 9 => ("AliasClasses", "queue", "[I", true)
  | 10 => ("AliasClasses", "queued", "[Z", true)
  | 11 => ("AliasClasses", "pairs", "I", false)
  | 12 => ("AliasClasses", "pairA", "[I", true)
  | _ => ("AliasClasses", "pairB", "[I", true)
def tyX0 : Nat → FieldType := fun k => match k with
  | 0 => .int
  | 1 => .array .int
  | 2 => .array .int
  | 3 => .array .int
  | 4 => .boolean
  | 5 => .array .int
  | 6 => .array .int
  | 7 => .array .int
  | 8 => .int
  | 9 => .array .int
  | 10 => .array .boolean
  | 11 => .int
  | 12 => .array .int
  | _ => .array .int
abbrev wsX00 : List Cond := u_ws RX0 TX0 14
set_option maxRecDepth 100000 in
theorem nmX0 : ∀ a, a < 14 → ∀ b, b < 14 → a ≠ b → (TX0 a).2.1 ≠ (TX0 b).2.1 := by decide +kernel
set_option maxRecDepth 100000 in
theorem tyX0_ok : ∀ k, k < 14 → parseFieldDescriptor (TX0 k).2.2.1 = some (tyX0 k) := by decide +kernel
abbrev cX0_init : ByteArray := prog_1_method_1_code
def yX0_init : MethodName := ⟨RX0, "<init>", "()V"⟩
theorem dX0_init_0 : decode cX0_init 0 = .ok (.aload_n 0, 1) := by decide +kernel
theorem dX0_init_1 : decode cX0_init 1 = .ok (.invokespecial 1, 3) := by decide +kernel
theorem dX0_init_4 : decode cX0_init 4 = .ok (.aload_n 0, 1) := by decide +kernel
theorem dX0_init_5 : decode cX0_init 5 = .ok (.bipush 24, 2) := by decide +kernel
theorem dX0_init_7 : decode cX0_init 7 = .ok (.newarray .int, 2) := by decide +kernel
theorem dX0_init_9 : decode cX0_init 9 = .ok (.putfield 7, 3) := by decide +kernel
theorem dX0_init_12 : decode cX0_init 12 = .ok (.aload_n 0, 1) := by decide +kernel
theorem dX0_init_13 : decode cX0_init 13 = .ok (.bipush 24, 2) := by decide +kernel
theorem dX0_init_15 : decode cX0_init 15 = .ok (.newarray .int, 2) := by decide +kernel
theorem dX0_init_17 : decode cX0_init 17 = .ok (.putfield 13, 3) := by decide +kernel
theorem dX0_init_20 : decode cX0_init 20 = .ok (.aload_n 0, 1) := by decide +kernel
theorem dX0_init_21 : decode cX0_init 21 = .ok (.bipush 24, 2) := by decide +kernel
theorem dX0_init_23 : decode cX0_init 23 = .ok (.newarray .int, 2) := by decide +kernel
theorem dX0_init_25 : decode cX0_init 25 = .ok (.putfield 16, 3) := by decide +kernel
theorem dX0_init_28 : decode cX0_init 28 = .ok (.aload_n 0, 1) := by decide +kernel
theorem dX0_init_29 : decode cX0_init 29 = .ok (.bipush 12, 2) := by decide +kernel
theorem dX0_init_31 : decode cX0_init 31 = .ok (.newarray .int, 2) := by decide +kernel
theorem dX0_init_33 : decode cX0_init 33 = .ok (.putfield 19, 3) := by decide +kernel
theorem dX0_init_36 : decode cX0_init 36 = .ok (.aload_n 0, 1) := by decide +kernel
theorem dX0_init_37 : decode cX0_init 37 = .ok (.bipush 12, 2) := by decide +kernel
theorem dX0_init_39 : decode cX0_init 39 = .ok (.newarray .int, 2) := by decide +kernel
theorem dX0_init_41 : decode cX0_init 41 = .ok (.putfield 22, 3) := by decide +kernel
theorem dX0_init_44 : decode cX0_init 44 = .ok (.aload_n 0, 1) := by decide +kernel
theorem dX0_init_45 : decode cX0_init 45 = .ok (.bipush 24, 2) := by decide +kernel
theorem dX0_init_47 : decode cX0_init 47 = .ok (.newarray .int, 2) := by decide +kernel
theorem dX0_init_49 : decode cX0_init 49 = .ok (.putfield 25, 3) := by decide +kernel
theorem dX0_init_52 : decode cX0_init 52 = .ok (.aload_n 0, 1) := by decide +kernel
theorem dX0_init_53 : decode cX0_init 53 = .ok (.bipush 24, 2) := by decide +kernel
theorem dX0_init_55 : decode cX0_init 55 = .ok (.newarray .int, 2) := by decide +kernel
theorem dX0_init_57 : decode cX0_init 57 = .ok (.putfield 28, 3) := by decide +kernel
theorem dX0_init_60 : decode cX0_init 60 = .ok (.aload_n 0, 1) := by decide +kernel
theorem dX0_init_61 : decode cX0_init 61 = .ok (.bipush 24, 2) := by decide +kernel
theorem dX0_init_63 : decode cX0_init 63 = .ok (.newarray .boolean, 2) := by decide +kernel
theorem dX0_init_65 : decode cX0_init 65 = .ok (.putfield 31, 3) := by decide +kernel
theorem dX0_init_68 : decode cX0_init 68 = .ok (.aload_n 0, 1) := by decide +kernel
theorem dX0_init_69 : decode cX0_init 69 = .ok (.bipush 16, 2) := by decide +kernel
theorem dX0_init_71 : decode cX0_init 71 = .ok (.newarray .int, 2) := by decide +kernel
theorem dX0_init_73 : decode cX0_init 73 = .ok (.putfield 35, 3) := by decide +kernel
theorem dX0_init_76 : decode cX0_init 76 = .ok (.aload_n 0, 1) := by decide +kernel
theorem dX0_init_77 : decode cX0_init 77 = .ok (.bipush 16, 2) := by decide +kernel
theorem dX0_init_79 : decode cX0_init 79 = .ok (.newarray .int, 2) := by decide +kernel
theorem dX0_init_81 : decode cX0_init 81 = .ok (.putfield 38, 3) := by decide +kernel
theorem dX0_init_84 : decode cX0_init 84 = .ok (.return_, 1) := by decide +kernel
abbrev cX0_assign : ByteArray := prog_1_method_2_code
def yX0_assign : MethodName := ⟨RX0, "assign", "(III)I"⟩
theorem dX0_assign_0 : decode cX0_assign 0 = .ok (.iload_n 1, 1) := by decide +kernel
theorem dX0_assign_1 : decode cX0_assign 1 = .ok (.ifCond .lt 31, 3) := by decide +kernel
theorem dX0_assign_4 : decode cX0_assign 4 = .ok (.iload_n 1, 1) := by decide +kernel
theorem dX0_assign_5 : decode cX0_assign 5 = .ok (.iconst 3, 1) := by decide +kernel
theorem dX0_assign_6 : decode cX0_assign 6 = .ok (.if_icmp .gt 26, 3) := by decide +kernel
theorem dX0_assign_9 : decode cX0_assign 9 = .ok (.iload_n 2, 1) := by decide +kernel
theorem dX0_assign_10 : decode cX0_assign 10 = .ok (.invokestatic 41, 3) := by decide +kernel
theorem dX0_assign_13 : decode cX0_assign 13 = .ok (.ifCond .eq 19, 3) := by decide +kernel
theorem dX0_assign_16 : decode cX0_assign 16 = .ok (.iload_n 3, 1) := by decide +kernel
theorem dX0_assign_17 : decode cX0_assign 17 = .ok (.invokestatic 41, 3) := by decide +kernel
theorem dX0_assign_20 : decode cX0_assign 20 = .ok (.ifCond .eq 12, 3) := by decide +kernel
theorem dX0_assign_23 : decode cX0_assign 23 = .ok (.aload_n 0, 1) := by decide +kernel
theorem dX0_assign_24 : decode cX0_assign 24 = .ok (.getfield 45, 3) := by decide +kernel
theorem dX0_assign_27 : decode cX0_assign 27 = .ok (.bipush 24, 2) := by decide +kernel
theorem dX0_assign_29 : decode cX0_assign 29 = .ok (.if_icmp .lt 5, 3) := by decide +kernel
theorem dX0_assign_32 : decode cX0_assign 32 = .ok (.iconst (-1), 1) := by decide +kernel
theorem dX0_assign_33 : decode cX0_assign 33 = .ok (.ireturn, 1) := by decide +kernel
theorem dX0_assign_34 : decode cX0_assign 34 = .ok (.aload_n 0, 1) := by decide +kernel
theorem dX0_assign_35 : decode cX0_assign 35 = .ok (.getfield 7, 3) := by decide +kernel
theorem dX0_assign_38 : decode cX0_assign 38 = .ok (.aload_n 0, 1) := by decide +kernel
theorem dX0_assign_39 : decode cX0_assign 39 = .ok (.getfield 45, 3) := by decide +kernel
theorem dX0_assign_42 : decode cX0_assign 42 = .ok (.iload_n 1, 1) := by decide +kernel
theorem dX0_assign_43 : decode cX0_assign 43 = .ok (.iastore, 1) := by decide +kernel
theorem dX0_assign_44 : decode cX0_assign 44 = .ok (.aload_n 0, 1) := by decide +kernel
theorem dX0_assign_45 : decode cX0_assign 45 = .ok (.getfield 13, 3) := by decide +kernel
theorem dX0_assign_48 : decode cX0_assign 48 = .ok (.aload_n 0, 1) := by decide +kernel
theorem dX0_assign_49 : decode cX0_assign 49 = .ok (.getfield 45, 3) := by decide +kernel
theorem dX0_assign_52 : decode cX0_assign 52 = .ok (.iload_n 2, 1) := by decide +kernel
theorem dX0_assign_53 : decode cX0_assign 53 = .ok (.iastore, 1) := by decide +kernel
theorem dX0_assign_54 : decode cX0_assign 54 = .ok (.aload_n 0, 1) := by decide +kernel
theorem dX0_assign_55 : decode cX0_assign 55 = .ok (.getfield 16, 3) := by decide +kernel
theorem dX0_assign_58 : decode cX0_assign 58 = .ok (.aload_n 0, 1) := by decide +kernel
theorem dX0_assign_59 : decode cX0_assign 59 = .ok (.getfield 45, 3) := by decide +kernel
theorem dX0_assign_62 : decode cX0_assign 62 = .ok (.iload_n 3, 1) := by decide +kernel
theorem dX0_assign_63 : decode cX0_assign 63 = .ok (.iastore, 1) := by decide +kernel
theorem dX0_assign_64 : decode cX0_assign 64 = .ok (.aload_n 0, 1) := by decide +kernel
theorem dX0_assign_65 : decode cX0_assign 65 = .ok (.dup, 1) := by decide +kernel
theorem dX0_assign_66 : decode cX0_assign 66 = .ok (.getfield 45, 3) := by decide +kernel
theorem dX0_assign_69 : decode cX0_assign 69 = .ok (.iconst 1, 1) := by decide +kernel
theorem dX0_assign_70 : decode cX0_assign 70 = .ok (.iadd, 1) := by decide +kernel
theorem dX0_assign_71 : decode cX0_assign 71 = .ok (.putfield 45, 3) := by decide +kernel
theorem dX0_assign_74 : decode cX0_assign 74 = .ok (.aload_n 0, 1) := by decide +kernel
theorem dX0_assign_75 : decode cX0_assign 75 = .ok (.iconst 0, 1) := by decide +kernel
theorem dX0_assign_76 : decode cX0_assign 76 = .ok (.putfield 49, 3) := by decide +kernel
theorem dX0_assign_79 : decode cX0_assign 79 = .ok (.aload_n 0, 1) := by decide +kernel
theorem dX0_assign_80 : decode cX0_assign 80 = .ok (.getfield 45, 3) := by decide +kernel
theorem dX0_assign_83 : decode cX0_assign 83 = .ok (.ireturn, 1) := by decide +kernel
abbrev cX0_isVariable : ByteArray := prog_1_method_11_code
def yX0_isVariable : MethodName := ⟨RX0, "isVariable", "(I)Z"⟩
theorem dX0_isVariable_0 : decode cX0_isVariable 0 = .ok (.iload_n 0, 1) := by decide +kernel
theorem dX0_isVariable_1 : decode cX0_isVariable 1 = .ok (.ifCond .lt 13, 3) := by decide +kernel
theorem dX0_isVariable_4 : decode cX0_isVariable 4 = .ok (.iload_n 0, 1) := by decide +kernel
theorem dX0_isVariable_5 : decode cX0_isVariable 5 = .ok (.bipush 11, 2) := by decide +kernel
theorem dX0_isVariable_7 : decode cX0_isVariable 7 = .ok (.if_icmp .gt 7, 3) := by decide +kernel
theorem dX0_isVariable_10 : decode cX0_isVariable 10 = .ok (.iconst 1, 1) := by decide +kernel
theorem dX0_isVariable_11 : decode cX0_isVariable 11 = .ok (.goto 4, 3) := by decide +kernel
theorem dX0_isVariable_14 : decode cX0_isVariable 14 = .ok (.iconst 0, 1) := by decide +kernel
theorem dX0_isVariable_15 : decode cX0_isVariable 15 = .ok (.ireturn, 1) := by decide +kernel
abbrev cX0_drop : ByteArray := prog_1_method_3_code
def yX0_drop : MethodName := ⟨RX0, "drop", "(I)I"⟩
theorem dX0_drop_0 : decode cX0_drop 0 = .ok (.iload_n 1, 1) := by decide +kernel
theorem dX0_drop_1 : decode cX0_drop 1 = .ok (.ifCond .lt 11, 3) := by decide +kernel
theorem dX0_drop_4 : decode cX0_drop 4 = .ok (.iload_n 1, 1) := by decide +kernel
theorem dX0_drop_5 : decode cX0_drop 5 = .ok (.aload_n 0, 1) := by decide +kernel
theorem dX0_drop_6 : decode cX0_drop 6 = .ok (.getfield 45, 3) := by decide +kernel
theorem dX0_drop_9 : decode cX0_drop 9 = .ok (.if_icmp .lt 5, 3) := by decide +kernel
theorem dX0_drop_12 : decode cX0_drop 12 = .ok (.iconst (-1), 1) := by decide +kernel
theorem dX0_drop_13 : decode cX0_drop 13 = .ok (.ireturn, 1) := by decide +kernel
theorem dX0_drop_14 : decode cX0_drop 14 = .ok (.aload_n 0, 1) := by decide +kernel
theorem dX0_drop_15 : decode cX0_drop 15 = .ok (.dup, 1) := by decide +kernel
theorem dX0_drop_16 : decode cX0_drop 16 = .ok (.getfield 45, 3) := by decide +kernel
theorem dX0_drop_19 : decode cX0_drop 19 = .ok (.iconst 1, 1) := by decide +kernel
theorem dX0_drop_20 : decode cX0_drop 20 = .ok (.isub, 1) := by decide +kernel
theorem dX0_drop_21 : decode cX0_drop 21 = .ok (.putfield 45, 3) := by decide +kernel
theorem dX0_drop_24 : decode cX0_drop 24 = .ok (.iload_n 1, 1) := by decide +kernel
theorem dX0_drop_25 : decode cX0_drop 25 = .ok (.istore_n 2, 1) := by decide +kernel
theorem dX0_drop_26 : decode cX0_drop 26 = .ok (.iload_n 2, 1) := by decide +kernel
theorem dX0_drop_27 : decode cX0_drop 27 = .ok (.aload_n 0, 1) := by decide +kernel
theorem dX0_drop_28 : decode cX0_drop 28 = .ok (.getfield 45, 3) := by decide +kernel
theorem dX0_drop_31 : decode cX0_drop 31 = .ok (.if_icmp .ge 51, 3) := by decide +kernel
theorem dX0_drop_34 : decode cX0_drop 34 = .ok (.aload_n 0, 1) := by decide +kernel
theorem dX0_drop_35 : decode cX0_drop 35 = .ok (.getfield 7, 3) := by decide +kernel
theorem dX0_drop_38 : decode cX0_drop 38 = .ok (.iload_n 2, 1) := by decide +kernel
theorem dX0_drop_39 : decode cX0_drop 39 = .ok (.aload_n 0, 1) := by decide +kernel
theorem dX0_drop_40 : decode cX0_drop 40 = .ok (.getfield 7, 3) := by decide +kernel
theorem dX0_drop_43 : decode cX0_drop 43 = .ok (.iload_n 2, 1) := by decide +kernel
theorem dX0_drop_44 : decode cX0_drop 44 = .ok (.iconst 1, 1) := by decide +kernel
theorem dX0_drop_45 : decode cX0_drop 45 = .ok (.iadd, 1) := by decide +kernel
theorem dX0_drop_46 : decode cX0_drop 46 = .ok (.iaload, 1) := by decide +kernel
theorem dX0_drop_47 : decode cX0_drop 47 = .ok (.iastore, 1) := by decide +kernel
theorem dX0_drop_48 : decode cX0_drop 48 = .ok (.aload_n 0, 1) := by decide +kernel
theorem dX0_drop_49 : decode cX0_drop 49 = .ok (.getfield 13, 3) := by decide +kernel
theorem dX0_drop_52 : decode cX0_drop 52 = .ok (.iload_n 2, 1) := by decide +kernel
theorem dX0_drop_53 : decode cX0_drop 53 = .ok (.aload_n 0, 1) := by decide +kernel
theorem dX0_drop_54 : decode cX0_drop 54 = .ok (.getfield 13, 3) := by decide +kernel
theorem dX0_drop_57 : decode cX0_drop 57 = .ok (.iload_n 2, 1) := by decide +kernel
theorem dX0_drop_58 : decode cX0_drop 58 = .ok (.iconst 1, 1) := by decide +kernel
theorem dX0_drop_59 : decode cX0_drop 59 = .ok (.iadd, 1) := by decide +kernel
theorem dX0_drop_60 : decode cX0_drop 60 = .ok (.iaload, 1) := by decide +kernel
theorem dX0_drop_61 : decode cX0_drop 61 = .ok (.iastore, 1) := by decide +kernel
theorem dX0_drop_62 : decode cX0_drop 62 = .ok (.aload_n 0, 1) := by decide +kernel
theorem dX0_drop_63 : decode cX0_drop 63 = .ok (.getfield 16, 3) := by decide +kernel
theorem dX0_drop_66 : decode cX0_drop 66 = .ok (.iload_n 2, 1) := by decide +kernel
theorem dX0_drop_67 : decode cX0_drop 67 = .ok (.aload_n 0, 1) := by decide +kernel
theorem dX0_drop_68 : decode cX0_drop 68 = .ok (.getfield 16, 3) := by decide +kernel
theorem dX0_drop_71 : decode cX0_drop 71 = .ok (.iload_n 2, 1) := by decide +kernel
theorem dX0_drop_72 : decode cX0_drop 72 = .ok (.iconst 1, 1) := by decide +kernel
theorem dX0_drop_73 : decode cX0_drop 73 = .ok (.iadd, 1) := by decide +kernel
theorem dX0_drop_74 : decode cX0_drop 74 = .ok (.iaload, 1) := by decide +kernel
theorem dX0_drop_75 : decode cX0_drop 75 = .ok (.iastore, 1) := by decide +kernel
theorem dX0_drop_76 : decode cX0_drop 76 = .ok (.iinc 2 1, 3) := by decide +kernel
theorem dX0_drop_79 : decode cX0_drop 79 = .ok (.goto (-53), 3) := by decide +kernel
theorem dX0_drop_82 : decode cX0_drop 82 = .ok (.aload_n 0, 1) := by decide +kernel
theorem dX0_drop_83 : decode cX0_drop 83 = .ok (.iconst 0, 1) := by decide +kernel
theorem dX0_drop_84 : decode cX0_drop 84 = .ok (.putfield 49, 3) := by decide +kernel
theorem dX0_drop_87 : decode cX0_drop 87 = .ok (.aload_n 0, 1) := by decide +kernel
theorem dX0_drop_88 : decode cX0_drop 88 = .ok (.getfield 45, 3) := by decide +kernel
theorem dX0_drop_91 : decode cX0_drop 91 = .ok (.ireturn, 1) := by decide +kernel
abbrev cX0_same : ByteArray := prog_1_method_4_code
def yX0_same : MethodName := ⟨RX0, "same", "(II)I"⟩
theorem dX0_same_0 : decode cX0_same 0 = .ok (.iload_n 1, 1) := by decide +kernel
theorem dX0_same_1 : decode cX0_same 1 = .ok (.invokestatic 41, 3) := by decide +kernel
theorem dX0_same_4 : decode cX0_same 4 = .ok (.ifCond .eq 10, 3) := by decide +kernel
theorem dX0_same_7 : decode cX0_same 7 = .ok (.iload_n 2, 1) := by decide +kernel
theorem dX0_same_8 : decode cX0_same 8 = .ok (.invokestatic 41, 3) := by decide +kernel
theorem dX0_same_11 : decode cX0_same 11 = .ok (.ifCond .ne 5, 3) := by decide +kernel
theorem dX0_same_14 : decode cX0_same 14 = .ok (.iconst (-1), 1) := by decide +kernel
theorem dX0_same_15 : decode cX0_same 15 = .ok (.ireturn, 1) := by decide +kernel
theorem dX0_same_16 : decode cX0_same 16 = .ok (.aload_n 0, 1) := by decide +kernel
theorem dX0_same_17 : decode cX0_same 17 = .ok (.invokevirtual 53, 3) := by decide +kernel
theorem dX0_same_20 : decode cX0_same 20 = .ok (.aload_n 0, 1) := by decide +kernel
theorem dX0_same_21 : decode cX0_same 21 = .ok (.iload_n 1, 1) := by decide +kernel
theorem dX0_same_22 : decode cX0_same 22 = .ok (.invokevirtual 56, 3) := by decide +kernel
theorem dX0_same_25 : decode cX0_same 25 = .ok (.istore_n 3, 1) := by decide +kernel
theorem dX0_same_26 : decode cX0_same 26 = .ok (.aload_n 0, 1) := by decide +kernel
theorem dX0_same_27 : decode cX0_same 27 = .ok (.iload_n 2, 1) := by decide +kernel
theorem dX0_same_28 : decode cX0_same 28 = .ok (.invokevirtual 56, 3) := by decide +kernel
theorem dX0_same_31 : decode cX0_same 31 = .ok (.istore 4, 2) := by decide +kernel
theorem dX0_same_33 : decode cX0_same 33 = .ok (.iload_n 3, 1) := by decide +kernel
theorem dX0_same_34 : decode cX0_same 34 = .ok (.iload 4, 2) := by decide +kernel
theorem dX0_same_36 : decode cX0_same 36 = .ok (.if_icmp .ne 7, 3) := by decide +kernel
theorem dX0_same_39 : decode cX0_same 39 = .ok (.iconst 1, 1) := by decide +kernel
theorem dX0_same_40 : decode cX0_same 40 = .ok (.goto 4, 3) := by decide +kernel
theorem dX0_same_43 : decode cX0_same 43 = .ok (.iconst 0, 1) := by decide +kernel
theorem dX0_same_44 : decode cX0_same 44 = .ok (.ireturn, 1) := by decide +kernel
abbrev cX0_workOut : ByteArray := prog_1_method_14_code
def yX0_workOut : MethodName := ⟨RX0, "workOut", "()V"⟩
theorem dX0_workOut_0 : decode cX0_workOut 0 = .ok (.aload_n 0, 1) := by decide +kernel
theorem dX0_workOut_1 : decode cX0_workOut 1 = .ok (.getfield 49, 3) := by decide +kernel
theorem dX0_workOut_4 : decode cX0_workOut 4 = .ok (.ifCond .eq 4, 3) := by decide +kernel
theorem dX0_workOut_7 : decode cX0_workOut 7 = .ok (.return_, 1) := by decide +kernel
theorem dX0_workOut_8 : decode cX0_workOut 8 = .ok (.aload_n 0, 1) := by decide +kernel
theorem dX0_workOut_9 : decode cX0_workOut 9 = .ok (.iconst 1, 1) := by decide +kernel
theorem dX0_workOut_10 : decode cX0_workOut 10 = .ok (.putfield 49, 3) := by decide +kernel
theorem dX0_workOut_13 : decode cX0_workOut 13 = .ok (.iconst 0, 1) := by decide +kernel
theorem dX0_workOut_14 : decode cX0_workOut 14 = .ok (.istore_n 1, 1) := by decide +kernel
theorem dX0_workOut_15 : decode cX0_workOut 15 = .ok (.iload_n 1, 1) := by decide +kernel
theorem dX0_workOut_16 : decode cX0_workOut 16 = .ok (.bipush 12, 2) := by decide +kernel
theorem dX0_workOut_18 : decode cX0_workOut 18 = .ok (.if_icmp .ge 23, 3) := by decide +kernel
theorem dX0_workOut_21 : decode cX0_workOut 21 = .ok (.aload_n 0, 1) := by decide +kernel
theorem dX0_workOut_22 : decode cX0_workOut 22 = .ok (.getfield 19, 3) := by decide +kernel
theorem dX0_workOut_25 : decode cX0_workOut 25 = .ok (.iload_n 1, 1) := by decide +kernel
theorem dX0_workOut_26 : decode cX0_workOut 26 = .ok (.iload_n 1, 1) := by decide +kernel
theorem dX0_workOut_27 : decode cX0_workOut 27 = .ok (.iastore, 1) := by decide +kernel
theorem dX0_workOut_28 : decode cX0_workOut 28 = .ok (.aload_n 0, 1) := by decide +kernel
theorem dX0_workOut_29 : decode cX0_workOut 29 = .ok (.getfield 22, 3) := by decide +kernel
theorem dX0_workOut_32 : decode cX0_workOut 32 = .ok (.iload_n 1, 1) := by decide +kernel
theorem dX0_workOut_33 : decode cX0_workOut 33 = .ok (.iconst (-1), 1) := by decide +kernel
theorem dX0_workOut_34 : decode cX0_workOut 34 = .ok (.iastore, 1) := by decide +kernel
theorem dX0_workOut_35 : decode cX0_workOut 35 = .ok (.iinc 1 1, 3) := by decide +kernel
theorem dX0_workOut_38 : decode cX0_workOut 38 = .ok (.goto (-23), 3) := by decide +kernel
theorem dX0_workOut_41 : decode cX0_workOut 41 = .ok (.aload_n 0, 1) := by decide +kernel
theorem dX0_workOut_42 : decode cX0_workOut 42 = .ok (.iconst 0, 1) := by decide +kernel
theorem dX0_workOut_43 : decode cX0_workOut 43 = .ok (.putfield 63, 3) := by decide +kernel
theorem dX0_workOut_46 : decode cX0_workOut 46 = .ok (.aload_n 0, 1) := by decide +kernel
theorem dX0_workOut_47 : decode cX0_workOut 47 = .ok (.iconst 0, 1) := by decide +kernel
theorem dX0_workOut_48 : decode cX0_workOut 48 = .ok (.putfield 66, 3) := by decide +kernel
theorem dX0_workOut_51 : decode cX0_workOut 51 = .ok (.aload_n 0, 1) := by decide +kernel
theorem dX0_workOut_52 : decode cX0_workOut 52 = .ok (.getfield 45, 3) := by decide +kernel
theorem dX0_workOut_55 : decode cX0_workOut 55 = .ok (.iconst 1, 1) := by decide +kernel
theorem dX0_workOut_56 : decode cX0_workOut 56 = .ok (.isub, 1) := by decide +kernel
theorem dX0_workOut_57 : decode cX0_workOut 57 = .ok (.istore_n 1, 1) := by decide +kernel
theorem dX0_workOut_58 : decode cX0_workOut 58 = .ok (.iload_n 1, 1) := by decide +kernel
theorem dX0_workOut_59 : decode cX0_workOut 59 = .ok (.ifCond .lt 28, 3) := by decide +kernel
theorem dX0_workOut_62 : decode cX0_workOut 62 = .ok (.aload_n 0, 1) := by decide +kernel
theorem dX0_workOut_63 : decode cX0_workOut 63 = .ok (.getfield 31, 3) := by decide +kernel
theorem dX0_workOut_66 : decode cX0_workOut 66 = .ok (.iload_n 1, 1) := by decide +kernel
theorem dX0_workOut_67 : decode cX0_workOut 67 = .ok (.iconst 0, 1) := by decide +kernel
theorem dX0_workOut_68 : decode cX0_workOut 68 = .ok (.bastore, 1) := by decide +kernel
theorem dX0_workOut_69 : decode cX0_workOut 69 = .ok (.aload_n 0, 1) := by decide +kernel
theorem dX0_workOut_70 : decode cX0_workOut 70 = .ok (.getfield 25, 3) := by decide +kernel
theorem dX0_workOut_73 : decode cX0_workOut 73 = .ok (.iload_n 1, 1) := by decide +kernel
theorem dX0_workOut_74 : decode cX0_workOut 74 = .ok (.iconst (-1), 1) := by decide +kernel
theorem dX0_workOut_75 : decode cX0_workOut 75 = .ok (.iastore, 1) := by decide +kernel
theorem dX0_workOut_76 : decode cX0_workOut 76 = .ok (.aload_n 0, 1) := by decide +kernel
theorem dX0_workOut_77 : decode cX0_workOut 77 = .ok (.iload_n 1, 1) := by decide +kernel
theorem dX0_workOut_78 : decode cX0_workOut 78 = .ok (.invokevirtual 69, 3) := by decide +kernel
theorem dX0_workOut_81 : decode cX0_workOut 81 = .ok (.iinc 1 (-1), 3) := by decide +kernel
theorem dX0_workOut_84 : decode cX0_workOut 84 = .ok (.goto (-26), 3) := by decide +kernel
theorem dX0_workOut_87 : decode cX0_workOut 87 = .ok (.iconst 0, 1) := by decide +kernel
theorem dX0_workOut_88 : decode cX0_workOut 88 = .ok (.istore_n 1, 1) := by decide +kernel
theorem dX0_workOut_89 : decode cX0_workOut 89 = .ok (.iload_n 1, 1) := by decide +kernel
theorem dX0_workOut_90 : decode cX0_workOut 90 = .ok (.sipush 200, 3) := by decide +kernel
theorem dX0_workOut_93 : decode cX0_workOut 93 = .ok (.if_icmp .ge 52, 3) := by decide +kernel
theorem dX0_workOut_96 : decode cX0_workOut 96 = .ok (.aload_n 0, 1) := by decide +kernel
theorem dX0_workOut_97 : decode cX0_workOut 97 = .ok (.getfield 63, 3) := by decide +kernel
theorem dX0_workOut_100 : decode cX0_workOut 100 = .ok (.ifCond .le 45, 3) := by decide +kernel
theorem dX0_workOut_103 : decode cX0_workOut 103 = .ok (.aload_n 0, 1) := by decide +kernel
theorem dX0_workOut_104 : decode cX0_workOut 104 = .ok (.dup, 1) := by decide +kernel
theorem dX0_workOut_105 : decode cX0_workOut 105 = .ok (.getfield 63, 3) := by decide +kernel
theorem dX0_workOut_108 : decode cX0_workOut 108 = .ok (.iconst 1, 1) := by decide +kernel
theorem dX0_workOut_109 : decode cX0_workOut 109 = .ok (.isub, 1) := by decide +kernel
theorem dX0_workOut_110 : decode cX0_workOut 110 = .ok (.putfield 63, 3) := by decide +kernel
theorem dX0_workOut_113 : decode cX0_workOut 113 = .ok (.aload_n 0, 1) := by decide +kernel
theorem dX0_workOut_114 : decode cX0_workOut 114 = .ok (.getfield 28, 3) := by decide +kernel
theorem dX0_workOut_117 : decode cX0_workOut 117 = .ok (.aload_n 0, 1) := by decide +kernel
theorem dX0_workOut_118 : decode cX0_workOut 118 = .ok (.getfield 63, 3) := by decide +kernel
theorem dX0_workOut_121 : decode cX0_workOut 121 = .ok (.iaload, 1) := by decide +kernel
theorem dX0_workOut_122 : decode cX0_workOut 122 = .ok (.istore_n 2, 1) := by decide +kernel
theorem dX0_workOut_123 : decode cX0_workOut 123 = .ok (.aload_n 0, 1) := by decide +kernel
theorem dX0_workOut_124 : decode cX0_workOut 124 = .ok (.getfield 31, 3) := by decide +kernel
theorem dX0_workOut_127 : decode cX0_workOut 127 = .ok (.iload_n 2, 1) := by decide +kernel
theorem dX0_workOut_128 : decode cX0_workOut 128 = .ok (.iconst 0, 1) := by decide +kernel
theorem dX0_workOut_129 : decode cX0_workOut 129 = .ok (.bastore, 1) := by decide +kernel
theorem dX0_workOut_130 : decode cX0_workOut 130 = .ok (.aload_n 0, 1) := by decide +kernel
theorem dX0_workOut_131 : decode cX0_workOut 131 = .ok (.iload_n 2, 1) := by decide +kernel
theorem dX0_workOut_132 : decode cX0_workOut 132 = .ok (.invokevirtual 73, 3) := by decide +kernel
theorem dX0_workOut_135 : decode cX0_workOut 135 = .ok (.aload_n 0, 1) := by decide +kernel
theorem dX0_workOut_136 : decode cX0_workOut 136 = .ok (.invokevirtual 76, 3) := by decide +kernel
theorem dX0_workOut_139 : decode cX0_workOut 139 = .ok (.iinc 1 1, 3) := by decide +kernel
theorem dX0_workOut_142 : decode cX0_workOut 142 = .ok (.goto (-53), 3) := by decide +kernel
theorem dX0_workOut_145 : decode cX0_workOut 145 = .ok (.return_, 1) := by decide +kernel
abbrev cX0_enqueue : ByteArray := prog_1_method_15_code
def yX0_enqueue : MethodName := ⟨RX0, "enqueue", "(I)V"⟩
theorem dX0_enqueue_0 : decode cX0_enqueue 0 = .ok (.aload_n 0, 1) := by decide +kernel
theorem dX0_enqueue_1 : decode cX0_enqueue 1 = .ok (.getfield 31, 3) := by decide +kernel
theorem dX0_enqueue_4 : decode cX0_enqueue 4 = .ok (.iload_n 1, 1) := by decide +kernel
theorem dX0_enqueue_5 : decode cX0_enqueue 5 = .ok (.baload, 1) := by decide +kernel
theorem dX0_enqueue_6 : decode cX0_enqueue 6 = .ok (.ifCond .ne 30, 3) := by decide +kernel
theorem dX0_enqueue_9 : decode cX0_enqueue 9 = .ok (.aload_n 0, 1) := by decide +kernel
theorem dX0_enqueue_10 : decode cX0_enqueue 10 = .ok (.getfield 31, 3) := by decide +kernel
theorem dX0_enqueue_13 : decode cX0_enqueue 13 = .ok (.iload_n 1, 1) := by decide +kernel
theorem dX0_enqueue_14 : decode cX0_enqueue 14 = .ok (.iconst 1, 1) := by decide +kernel
theorem dX0_enqueue_15 : decode cX0_enqueue 15 = .ok (.bastore, 1) := by decide +kernel
theorem dX0_enqueue_16 : decode cX0_enqueue 16 = .ok (.aload_n 0, 1) := by decide +kernel
theorem dX0_enqueue_17 : decode cX0_enqueue 17 = .ok (.getfield 28, 3) := by decide +kernel
theorem dX0_enqueue_20 : decode cX0_enqueue 20 = .ok (.aload_n 0, 1) := by decide +kernel
theorem dX0_enqueue_21 : decode cX0_enqueue 21 = .ok (.getfield 63, 3) := by decide +kernel
theorem dX0_enqueue_24 : decode cX0_enqueue 24 = .ok (.iload_n 1, 1) := by decide +kernel
theorem dX0_enqueue_25 : decode cX0_enqueue 25 = .ok (.iastore, 1) := by decide +kernel
theorem dX0_enqueue_26 : decode cX0_enqueue 26 = .ok (.aload_n 0, 1) := by decide +kernel
theorem dX0_enqueue_27 : decode cX0_enqueue 27 = .ok (.dup, 1) := by decide +kernel
theorem dX0_enqueue_28 : decode cX0_enqueue 28 = .ok (.getfield 63, 3) := by decide +kernel
theorem dX0_enqueue_31 : decode cX0_enqueue 31 = .ok (.iconst 1, 1) := by decide +kernel
theorem dX0_enqueue_32 : decode cX0_enqueue 32 = .ok (.iadd, 1) := by decide +kernel
theorem dX0_enqueue_33 : decode cX0_enqueue 33 = .ok (.putfield 63, 3) := by decide +kernel
theorem dX0_enqueue_36 : decode cX0_enqueue 36 = .ok (.return_, 1) := by decide +kernel
abbrev cX0_carryOut : ByteArray := prog_1_method_16_code
def yX0_carryOut : MethodName := ⟨RX0, "carryOut", "(I)V"⟩
theorem dX0_carryOut_0 : decode cX0_carryOut 0 = .ok (.aload_n 0, 1) := by decide +kernel
theorem dX0_carryOut_1 : decode cX0_carryOut 1 = .ok (.getfield 13, 3) := by decide +kernel
theorem dX0_carryOut_4 : decode cX0_carryOut 4 = .ok (.iload_n 1, 1) := by decide +kernel
theorem dX0_carryOut_5 : decode cX0_carryOut 5 = .ok (.iaload, 1) := by decide +kernel
theorem dX0_carryOut_6 : decode cX0_carryOut 6 = .ok (.istore_n 2, 1) := by decide +kernel
theorem dX0_carryOut_7 : decode cX0_carryOut 7 = .ok (.aload_n 0, 1) := by decide +kernel
theorem dX0_carryOut_8 : decode cX0_carryOut 8 = .ok (.getfield 16, 3) := by decide +kernel
theorem dX0_carryOut_11 : decode cX0_carryOut 11 = .ok (.iload_n 1, 1) := by decide +kernel
theorem dX0_carryOut_12 : decode cX0_carryOut 12 = .ok (.iaload, 1) := by decide +kernel
theorem dX0_carryOut_13 : decode cX0_carryOut 13 = .ok (.istore_n 3, 1) := by decide +kernel
theorem dX0_carryOut_14 : decode cX0_carryOut 14 = .ok (.aload_n 0, 1) := by decide +kernel
theorem dX0_carryOut_15 : decode cX0_carryOut 15 = .ok (.getfield 7, 3) := by decide +kernel
theorem dX0_carryOut_18 : decode cX0_carryOut 18 = .ok (.iload_n 1, 1) := by decide +kernel
theorem dX0_carryOut_19 : decode cX0_carryOut 19 = .ok (.iaload, 1) := by decide +kernel
theorem dX0_carryOut_20 : decode cX0_carryOut 20 = .ok (.ifCond .ne 12, 3) := by decide +kernel
theorem dX0_carryOut_23 : decode cX0_carryOut 23 = .ok (.aload_n 0, 1) := by decide +kernel
theorem dX0_carryOut_24 : decode cX0_carryOut 24 = .ok (.iload_n 2, 1) := by decide +kernel
theorem dX0_carryOut_25 : decode cX0_carryOut 25 = .ok (.iload_n 3, 1) := by decide +kernel
theorem dX0_carryOut_26 : decode cX0_carryOut 26 = .ok (.invokevirtual 79, 3) := by decide +kernel
theorem dX0_carryOut_29 : decode cX0_carryOut 29 = .ok (.goto 114, 3) := by decide +kernel
theorem dX0_carryOut_32 : decode cX0_carryOut 32 = .ok (.aload_n 0, 1) := by decide +kernel
theorem dX0_carryOut_33 : decode cX0_carryOut 33 = .ok (.getfield 7, 3) := by decide +kernel
theorem dX0_carryOut_36 : decode cX0_carryOut 36 = .ok (.iload_n 1, 1) := by decide +kernel
theorem dX0_carryOut_37 : decode cX0_carryOut 37 = .ok (.iaload, 1) := by decide +kernel
theorem dX0_carryOut_38 : decode cX0_carryOut 38 = .ok (.iconst 1, 1) := by decide +kernel
theorem dX0_carryOut_39 : decode cX0_carryOut 39 = .ok (.if_icmp .ne 34, 3) := by decide +kernel
theorem dX0_carryOut_42 : decode cX0_carryOut 42 = .ok (.aload_n 0, 1) := by decide +kernel
theorem dX0_carryOut_43 : decode cX0_carryOut 43 = .ok (.iload_n 1, 1) := by decide +kernel
theorem dX0_carryOut_44 : decode cX0_carryOut 44 = .ok (.iload_n 3, 1) := by decide +kernel
theorem dX0_carryOut_45 : decode cX0_carryOut 45 = .ok (.invokevirtual 83, 3) := by decide +kernel
theorem dX0_carryOut_48 : decode cX0_carryOut 48 = .ok (.ifCond .eq 95, 3) := by decide +kernel
theorem dX0_carryOut_51 : decode cX0_carryOut 51 = .ok (.aload_n 0, 1) := by decide +kernel
theorem dX0_carryOut_52 : decode cX0_carryOut 52 = .ok (.iload_n 3, 1) := by decide +kernel
theorem dX0_carryOut_53 : decode cX0_carryOut 53 = .ok (.invokevirtual 56, 3) := by decide +kernel
theorem dX0_carryOut_56 : decode cX0_carryOut 56 = .ok (.istore 4, 2) := by decide +kernel
theorem dX0_carryOut_58 : decode cX0_carryOut 58 = .ok (.aload_n 0, 1) := by decide +kernel
theorem dX0_carryOut_59 : decode cX0_carryOut 59 = .ok (.iload_n 2, 1) := by decide +kernel
theorem dX0_carryOut_60 : decode cX0_carryOut 60 = .ok (.aload_n 0, 1) := by decide +kernel
theorem dX0_carryOut_61 : decode cX0_carryOut 61 = .ok (.getfield 22, 3) := by decide +kernel
theorem dX0_carryOut_64 : decode cX0_carryOut 64 = .ok (.iload 4, 2) := by decide +kernel
theorem dX0_carryOut_66 : decode cX0_carryOut 66 = .ok (.iaload, 1) := by decide +kernel
theorem dX0_carryOut_67 : decode cX0_carryOut 67 = .ok (.invokevirtual 79, 3) := by decide +kernel
theorem dX0_carryOut_70 : decode cX0_carryOut 70 = .ok (.goto 73, 3) := by decide +kernel
theorem dX0_carryOut_73 : decode cX0_carryOut 73 = .ok (.aload_n 0, 1) := by decide +kernel
theorem dX0_carryOut_74 : decode cX0_carryOut 74 = .ok (.getfield 7, 3) := by decide +kernel
theorem dX0_carryOut_77 : decode cX0_carryOut 77 = .ok (.iload_n 1, 1) := by decide +kernel
theorem dX0_carryOut_78 : decode cX0_carryOut 78 = .ok (.iaload, 1) := by decide +kernel
theorem dX0_carryOut_79 : decode cX0_carryOut 79 = .ok (.iconst 2, 1) := by decide +kernel
theorem dX0_carryOut_80 : decode cX0_carryOut 80 = .ok (.if_icmp .ne 13, 3) := by decide +kernel
theorem dX0_carryOut_83 : decode cX0_carryOut 83 = .ok (.aload_n 0, 1) := by decide +kernel
theorem dX0_carryOut_84 : decode cX0_carryOut 84 = .ok (.iload_n 1, 1) := by decide +kernel
theorem dX0_carryOut_85 : decode cX0_carryOut 85 = .ok (.iload_n 2, 1) := by decide +kernel
theorem dX0_carryOut_86 : decode cX0_carryOut 86 = .ok (.iload_n 3, 1) := by decide +kernel
theorem dX0_carryOut_87 : decode cX0_carryOut 87 = .ok (.invokevirtual 87, 3) := by decide +kernel
theorem dX0_carryOut_90 : decode cX0_carryOut 90 = .ok (.goto 53, 3) := by decide +kernel
theorem dX0_carryOut_93 : decode cX0_carryOut 93 = .ok (.aload_n 0, 1) := by decide +kernel
theorem dX0_carryOut_94 : decode cX0_carryOut 94 = .ok (.iload_n 1, 1) := by decide +kernel
theorem dX0_carryOut_95 : decode cX0_carryOut 95 = .ok (.iload_n 2, 1) := by decide +kernel
theorem dX0_carryOut_96 : decode cX0_carryOut 96 = .ok (.invokevirtual 83, 3) := by decide +kernel
theorem dX0_carryOut_99 : decode cX0_carryOut 99 = .ok (.ifCond .eq 44, 3) := by decide +kernel
theorem dX0_carryOut_102 : decode cX0_carryOut 102 = .ok (.aload_n 0, 1) := by decide +kernel
theorem dX0_carryOut_103 : decode cX0_carryOut 103 = .ok (.iload_n 1, 1) := by decide +kernel
theorem dX0_carryOut_104 : decode cX0_carryOut 104 = .ok (.iload_n 3, 1) := by decide +kernel
theorem dX0_carryOut_105 : decode cX0_carryOut 105 = .ok (.invokevirtual 83, 3) := by decide +kernel
theorem dX0_carryOut_108 : decode cX0_carryOut 108 = .ok (.ifCond .eq 35, 3) := by decide +kernel
theorem dX0_carryOut_111 : decode cX0_carryOut 111 = .ok (.aload_n 0, 1) := by decide +kernel
theorem dX0_carryOut_112 : decode cX0_carryOut 112 = .ok (.iload_n 2, 1) := by decide +kernel
theorem dX0_carryOut_113 : decode cX0_carryOut 113 = .ok (.invokevirtual 56, 3) := by decide +kernel
theorem dX0_carryOut_116 : decode cX0_carryOut 116 = .ok (.istore 4, 2) := by decide +kernel
theorem dX0_carryOut_118 : decode cX0_carryOut 118 = .ok (.aload_n 0, 1) := by decide +kernel
theorem dX0_carryOut_119 : decode cX0_carryOut 119 = .ok (.iload_n 3, 1) := by decide +kernel
theorem dX0_carryOut_120 : decode cX0_carryOut 120 = .ok (.invokevirtual 56, 3) := by decide +kernel
theorem dX0_carryOut_123 : decode cX0_carryOut 123 = .ok (.istore 5, 2) := by decide +kernel
theorem dX0_carryOut_125 : decode cX0_carryOut 125 = .ok (.aload_n 0, 1) := by decide +kernel
theorem dX0_carryOut_126 : decode cX0_carryOut 126 = .ok (.aload_n 0, 1) := by decide +kernel
theorem dX0_carryOut_127 : decode cX0_carryOut 127 = .ok (.getfield 22, 3) := by decide +kernel
theorem dX0_carryOut_130 : decode cX0_carryOut 130 = .ok (.iload 4, 2) := by decide +kernel
theorem dX0_carryOut_132 : decode cX0_carryOut 132 = .ok (.iaload, 1) := by decide +kernel
theorem dX0_carryOut_133 : decode cX0_carryOut 133 = .ok (.aload_n 0, 1) := by decide +kernel
theorem dX0_carryOut_134 : decode cX0_carryOut 134 = .ok (.getfield 22, 3) := by decide +kernel
theorem dX0_carryOut_137 : decode cX0_carryOut 137 = .ok (.iload 5, 2) := by decide +kernel
theorem dX0_carryOut_139 : decode cX0_carryOut 139 = .ok (.iaload, 1) := by decide +kernel
theorem dX0_carryOut_140 : decode cX0_carryOut 140 = .ok (.invokevirtual 79, 3) := by decide +kernel
theorem dX0_carryOut_143 : decode cX0_carryOut 143 = .ok (.return_, 1) := by decide +kernel
abbrev cX0_pointAt : ByteArray := prog_1_method_19_code
def yX0_pointAt : MethodName := ⟨RX0, "pointAt", "(II)V"⟩
theorem dX0_pointAt_0 : decode cX0_pointAt 0 = .ok (.aload_n 0, 1) := by decide +kernel
theorem dX0_pointAt_1 : decode cX0_pointAt 1 = .ok (.iload_n 1, 1) := by decide +kernel
theorem dX0_pointAt_2 : decode cX0_pointAt 2 = .ok (.invokevirtual 56, 3) := by decide +kernel
theorem dX0_pointAt_5 : decode cX0_pointAt 5 = .ok (.istore_n 3, 1) := by decide +kernel
theorem dX0_pointAt_6 : decode cX0_pointAt 6 = .ok (.aload_n 0, 1) := by decide +kernel
theorem dX0_pointAt_7 : decode cX0_pointAt 7 = .ok (.getfield 22, 3) := by decide +kernel
theorem dX0_pointAt_10 : decode cX0_pointAt 10 = .ok (.iload_n 3, 1) := by decide +kernel
theorem dX0_pointAt_11 : decode cX0_pointAt 11 = .ok (.iaload, 1) := by decide +kernel
theorem dX0_pointAt_12 : decode cX0_pointAt 12 = .ok (.ifCond .ge 18, 3) := by decide +kernel
theorem dX0_pointAt_15 : decode cX0_pointAt 15 = .ok (.aload_n 0, 1) := by decide +kernel
theorem dX0_pointAt_16 : decode cX0_pointAt 16 = .ok (.getfield 22, 3) := by decide +kernel
theorem dX0_pointAt_19 : decode cX0_pointAt 19 = .ok (.iload_n 3, 1) := by decide +kernel
theorem dX0_pointAt_20 : decode cX0_pointAt 20 = .ok (.iload_n 2, 1) := by decide +kernel
theorem dX0_pointAt_21 : decode cX0_pointAt 21 = .ok (.iastore, 1) := by decide +kernel
theorem dX0_pointAt_22 : decode cX0_pointAt 22 = .ok (.aload_n 0, 1) := by decide +kernel
theorem dX0_pointAt_23 : decode cX0_pointAt 23 = .ok (.iload_n 3, 1) := by decide +kernel
theorem dX0_pointAt_24 : decode cX0_pointAt 24 = .ok (.invokevirtual 91, 3) := by decide +kernel
theorem dX0_pointAt_27 : decode cX0_pointAt 27 = .ok (.goto 14, 3) := by decide +kernel
theorem dX0_pointAt_30 : decode cX0_pointAt 30 = .ok (.aload_n 0, 1) := by decide +kernel
theorem dX0_pointAt_31 : decode cX0_pointAt 31 = .ok (.aload_n 0, 1) := by decide +kernel
theorem dX0_pointAt_32 : decode cX0_pointAt 32 = .ok (.getfield 22, 3) := by decide +kernel
theorem dX0_pointAt_35 : decode cX0_pointAt 35 = .ok (.iload_n 3, 1) := by decide +kernel
theorem dX0_pointAt_36 : decode cX0_pointAt 36 = .ok (.iaload, 1) := by decide +kernel
theorem dX0_pointAt_37 : decode cX0_pointAt 37 = .ok (.iload_n 2, 1) := by decide +kernel
theorem dX0_pointAt_38 : decode cX0_pointAt 38 = .ok (.invokevirtual 94, 3) := by decide +kernel
theorem dX0_pointAt_41 : decode cX0_pointAt 41 = .ok (.return_, 1) := by decide +kernel
end
section
set_option maxRecDepth 100000
abbrev cX0_find : ByteArray := prog_1_method_13_code
def yX0_find : MethodName := ⟨RX0, "find", "(I)I"⟩
theorem dX0_find_0 : decode cX0_find 0 = .ok (.iload_n 1, 1) := by decide +kernel
theorem dX0_find_1 : decode cX0_find 1 = .ok (.istore_n 2, 1) := by decide +kernel
theorem dX0_find_2 : decode cX0_find 2 = .ok (.iconst 0, 1) := by decide +kernel
theorem dX0_find_3 : decode cX0_find 3 = .ok (.istore_n 3, 1) := by decide +kernel
theorem dX0_find_4 : decode cX0_find 4 = .ok (.iload_n 3, 1) := by decide +kernel
theorem dX0_find_5 : decode cX0_find 5 = .ok (.bipush 12, 2) := by decide +kernel
theorem dX0_find_7 : decode cX0_find 7 = .ok (.if_icmp .ge 43, 3) := by decide +kernel
theorem dX0_find_10 : decode cX0_find 10 = .ok (.aload_n 0, 1) := by decide +kernel
theorem dX0_find_11 : decode cX0_find 11 = .ok (.getfield 19, 3) := by decide +kernel
theorem dX0_find_14 : decode cX0_find 14 = .ok (.iload_n 2, 1) := by decide +kernel
theorem dX0_find_15 : decode cX0_find 15 = .ok (.iaload, 1) := by decide +kernel
theorem dX0_find_16 : decode cX0_find 16 = .ok (.iload_n 2, 1) := by decide +kernel
theorem dX0_find_17 : decode cX0_find 17 = .ok (.if_icmp .eq 33, 3) := by decide +kernel
theorem dX0_find_20 : decode cX0_find 20 = .ok (.aload_n 0, 1) := by decide +kernel
theorem dX0_find_21 : decode cX0_find 21 = .ok (.getfield 19, 3) := by decide +kernel
theorem dX0_find_24 : decode cX0_find 24 = .ok (.iload_n 2, 1) := by decide +kernel
theorem dX0_find_25 : decode cX0_find 25 = .ok (.aload_n 0, 1) := by decide +kernel
theorem dX0_find_26 : decode cX0_find 26 = .ok (.getfield 19, 3) := by decide +kernel
theorem dX0_find_29 : decode cX0_find 29 = .ok (.aload_n 0, 1) := by decide +kernel
theorem dX0_find_30 : decode cX0_find 30 = .ok (.getfield 19, 3) := by decide +kernel
theorem dX0_find_33 : decode cX0_find 33 = .ok (.iload_n 2, 1) := by decide +kernel
theorem dX0_find_34 : decode cX0_find 34 = .ok (.iaload, 1) := by decide +kernel
theorem dX0_find_35 : decode cX0_find 35 = .ok (.iaload, 1) := by decide +kernel
theorem dX0_find_36 : decode cX0_find 36 = .ok (.iastore, 1) := by decide +kernel
theorem dX0_find_37 : decode cX0_find 37 = .ok (.aload_n 0, 1) := by decide +kernel
theorem dX0_find_38 : decode cX0_find 38 = .ok (.getfield 19, 3) := by decide +kernel
theorem dX0_find_41 : decode cX0_find 41 = .ok (.iload_n 2, 1) := by decide +kernel
theorem dX0_find_42 : decode cX0_find 42 = .ok (.iaload, 1) := by decide +kernel
theorem dX0_find_43 : decode cX0_find 43 = .ok (.istore_n 2, 1) := by decide +kernel
theorem dX0_find_44 : decode cX0_find 44 = .ok (.iinc 3 1, 3) := by decide +kernel
theorem dX0_find_47 : decode cX0_find 47 = .ok (.goto (-43), 3) := by decide +kernel
theorem dX0_find_50 : decode cX0_find 50 = .ok (.iload_n 2, 1) := by decide +kernel
theorem dX0_find_51 : decode cX0_find 51 = .ok (.ireturn, 1) := by decide +kernel
abbrev cX0_wake : ByteArray := prog_1_method_20_code
def yX0_wake : MethodName := ⟨RX0, "wake", "(I)V"⟩
theorem dX0_wake_0 : decode cX0_wake 0 = .ok (.iconst 0, 1) := by decide +kernel
theorem dX0_wake_1 : decode cX0_wake 1 = .ok (.istore_n 2, 1) := by decide +kernel
theorem dX0_wake_2 : decode cX0_wake 2 = .ok (.iload_n 2, 1) := by decide +kernel
theorem dX0_wake_3 : decode cX0_wake 3 = .ok (.aload_n 0, 1) := by decide +kernel
theorem dX0_wake_4 : decode cX0_wake 4 = .ok (.getfield 45, 3) := by decide +kernel
theorem dX0_wake_7 : decode cX0_wake 7 = .ok (.if_icmp .ge 46, 3) := by decide +kernel
theorem dX0_wake_10 : decode cX0_wake 10 = .ok (.aload_n 0, 1) := by decide +kernel
theorem dX0_wake_11 : decode cX0_wake 11 = .ok (.getfield 25, 3) := by decide +kernel
theorem dX0_wake_14 : decode cX0_wake 14 = .ok (.iload_n 2, 1) := by decide +kernel
theorem dX0_wake_15 : decode cX0_wake 15 = .ok (.iaload, 1) := by decide +kernel
theorem dX0_wake_16 : decode cX0_wake 16 = .ok (.ifCond .lt 31, 3) := by decide +kernel
theorem dX0_wake_19 : decode cX0_wake 19 = .ok (.aload_n 0, 1) := by decide +kernel
theorem dX0_wake_20 : decode cX0_wake 20 = .ok (.aload_n 0, 1) := by decide +kernel
theorem dX0_wake_21 : decode cX0_wake 21 = .ok (.getfield 25, 3) := by decide +kernel
theorem dX0_wake_24 : decode cX0_wake 24 = .ok (.iload_n 2, 1) := by decide +kernel
theorem dX0_wake_25 : decode cX0_wake 25 = .ok (.iaload, 1) := by decide +kernel
theorem dX0_wake_26 : decode cX0_wake 26 = .ok (.invokevirtual 56, 3) := by decide +kernel
theorem dX0_wake_29 : decode cX0_wake 29 = .ok (.istore_n 3, 1) := by decide +kernel
theorem dX0_wake_30 : decode cX0_wake 30 = .ok (.iload_n 3, 1) := by decide +kernel
theorem dX0_wake_31 : decode cX0_wake 31 = .ok (.iload_n 1, 1) := by decide +kernel
theorem dX0_wake_32 : decode cX0_wake 32 = .ok (.if_icmp .ne 15, 3) := by decide +kernel
theorem dX0_wake_35 : decode cX0_wake 35 = .ok (.aload_n 0, 1) := by decide +kernel
theorem dX0_wake_36 : decode cX0_wake 36 = .ok (.getfield 25, 3) := by decide +kernel
theorem dX0_wake_39 : decode cX0_wake 39 = .ok (.iload_n 2, 1) := by decide +kernel
theorem dX0_wake_40 : decode cX0_wake 40 = .ok (.iconst (-1), 1) := by decide +kernel
theorem dX0_wake_41 : decode cX0_wake 41 = .ok (.iastore, 1) := by decide +kernel
theorem dX0_wake_42 : decode cX0_wake 42 = .ok (.aload_n 0, 1) := by decide +kernel
theorem dX0_wake_43 : decode cX0_wake 43 = .ok (.iload_n 2, 1) := by decide +kernel
theorem dX0_wake_44 : decode cX0_wake 44 = .ok (.invokevirtual 69, 3) := by decide +kernel
theorem dX0_wake_47 : decode cX0_wake 47 = .ok (.iinc 2 1, 3) := by decide +kernel
theorem dX0_wake_50 : decode cX0_wake 50 = .ok (.goto (-48), 3) := by decide +kernel
theorem dX0_wake_53 : decode cX0_wake 53 = .ok (.return_, 1) := by decide +kernel
abbrev cX0_addPair : ByteArray := prog_1_method_21_code
def yX0_addPair : MethodName := ⟨RX0, "addPair", "(II)V"⟩
theorem dX0_addPair_0 : decode cX0_addPair 0 = .ok (.aload_n 0, 1) := by decide +kernel
theorem dX0_addPair_1 : decode cX0_addPair 1 = .ok (.getfield 35, 3) := by decide +kernel
theorem dX0_addPair_4 : decode cX0_addPair 4 = .ok (.aload_n 0, 1) := by decide +kernel
theorem dX0_addPair_5 : decode cX0_addPair 5 = .ok (.getfield 66, 3) := by decide +kernel
theorem dX0_addPair_8 : decode cX0_addPair 8 = .ok (.iload_n 1, 1) := by decide +kernel
theorem dX0_addPair_9 : decode cX0_addPair 9 = .ok (.iastore, 1) := by decide +kernel
theorem dX0_addPair_10 : decode cX0_addPair 10 = .ok (.aload_n 0, 1) := by decide +kernel
theorem dX0_addPair_11 : decode cX0_addPair 11 = .ok (.getfield 38, 3) := by decide +kernel
theorem dX0_addPair_14 : decode cX0_addPair 14 = .ok (.aload_n 0, 1) := by decide +kernel
theorem dX0_addPair_15 : decode cX0_addPair 15 = .ok (.getfield 66, 3) := by decide +kernel
theorem dX0_addPair_18 : decode cX0_addPair 18 = .ok (.iload_n 2, 1) := by decide +kernel
theorem dX0_addPair_19 : decode cX0_addPair 19 = .ok (.iastore, 1) := by decide +kernel
theorem dX0_addPair_20 : decode cX0_addPair 20 = .ok (.aload_n 0, 1) := by decide +kernel
theorem dX0_addPair_21 : decode cX0_addPair 21 = .ok (.dup, 1) := by decide +kernel
theorem dX0_addPair_22 : decode cX0_addPair 22 = .ok (.getfield 66, 3) := by decide +kernel
theorem dX0_addPair_25 : decode cX0_addPair 25 = .ok (.iconst 1, 1) := by decide +kernel
theorem dX0_addPair_26 : decode cX0_addPair 26 = .ok (.iadd, 1) := by decide +kernel
theorem dX0_addPair_27 : decode cX0_addPair 27 = .ok (.putfield 66, 3) := by decide +kernel
theorem dX0_addPair_30 : decode cX0_addPair 30 = .ok (.return_, 1) := by decide +kernel
abbrev cX0_points : ByteArray := prog_1_method_18_code
def yX0_points : MethodName := ⟨RX0, "points", "(II)Z"⟩
theorem dX0_points_0 : decode cX0_points 0 = .ok (.aload_n 0, 1) := by decide +kernel
theorem dX0_points_1 : decode cX0_points 1 = .ok (.getfield 22, 3) := by decide +kernel
theorem dX0_points_4 : decode cX0_points 4 = .ok (.aload_n 0, 1) := by decide +kernel
theorem dX0_points_5 : decode cX0_points 5 = .ok (.iload_n 2, 1) := by decide +kernel
theorem dX0_points_6 : decode cX0_points 6 = .ok (.invokevirtual 56, 3) := by decide +kernel
theorem dX0_points_9 : decode cX0_points 9 = .ok (.iaload, 1) := by decide +kernel
theorem dX0_points_10 : decode cX0_points 10 = .ok (.ifCond .lt 7, 3) := by decide +kernel
theorem dX0_points_13 : decode cX0_points 13 = .ok (.iconst 1, 1) := by decide +kernel
theorem dX0_points_14 : decode cX0_points 14 = .ok (.goto 4, 3) := by decide +kernel
theorem dX0_points_17 : decode cX0_points 17 = .ok (.iconst 0, 1) := by decide +kernel
theorem dX0_points_18 : decode cX0_points 18 = .ok (.istore_n 3, 1) := by decide +kernel
theorem dX0_points_19 : decode cX0_points 19 = .ok (.aload_n 0, 1) := by decide +kernel
theorem dX0_points_20 : decode cX0_points 20 = .ok (.getfield 25, 3) := by decide +kernel
theorem dX0_points_23 : decode cX0_points 23 = .ok (.iload_n 1, 1) := by decide +kernel
theorem dX0_points_24 : decode cX0_points 24 = .ok (.iload_n 3, 1) := by decide +kernel
theorem dX0_points_25 : decode cX0_points 25 = .ok (.ifCond .eq 7, 3) := by decide +kernel
theorem dX0_points_28 : decode cX0_points 28 = .ok (.iconst (-1), 1) := by decide +kernel
theorem dX0_points_29 : decode cX0_points 29 = .ok (.goto 4, 3) := by decide +kernel
theorem dX0_points_32 : decode cX0_points 32 = .ok (.iload_n 2, 1) := by decide +kernel
theorem dX0_points_33 : decode cX0_points 33 = .ok (.iastore, 1) := by decide +kernel
theorem dX0_points_34 : decode cX0_points 34 = .ok (.iload_n 3, 1) := by decide +kernel
theorem dX0_points_35 : decode cX0_points 35 = .ok (.ireturn, 1) := by decide +kernel
abbrev cX0_followRight : ByteArray := prog_1_method_17_code
def yX0_followRight : MethodName := ⟨RX0, "followRight", "(III)V"⟩
theorem dX0_followRight_0 : decode cX0_followRight 0 = .ok (.aload_n 0, 1) := by decide +kernel
theorem dX0_followRight_1 : decode cX0_followRight 1 = .ok (.iload_n 1, 1) := by decide +kernel
theorem dX0_followRight_2 : decode cX0_followRight 2 = .ok (.iload_n 3, 1) := by decide +kernel
theorem dX0_followRight_3 : decode cX0_followRight 3 = .ok (.invokevirtual 83, 3) := by decide +kernel
theorem dX0_followRight_6 : decode cX0_followRight 6 = .ok (.ifCond .eq 50, 3) := by decide +kernel
theorem dX0_followRight_9 : decode cX0_followRight 9 = .ok (.aload_n 0, 1) := by decide +kernel
theorem dX0_followRight_10 : decode cX0_followRight 10 = .ok (.iload_n 3, 1) := by decide +kernel
theorem dX0_followRight_11 : decode cX0_followRight 11 = .ok (.invokevirtual 56, 3) := by decide +kernel
theorem dX0_followRight_14 : decode cX0_followRight 14 = .ok (.istore 4, 2) := by decide +kernel
theorem dX0_followRight_16 : decode cX0_followRight 16 = .ok (.aload_n 0, 1) := by decide +kernel
theorem dX0_followRight_17 : decode cX0_followRight 17 = .ok (.iload_n 1, 1) := by decide +kernel
theorem dX0_followRight_18 : decode cX0_followRight 18 = .ok (.aload_n 0, 1) := by decide +kernel
theorem dX0_followRight_19 : decode cX0_followRight 19 = .ok (.getfield 22, 3) := by decide +kernel
theorem dX0_followRight_22 : decode cX0_followRight 22 = .ok (.iload 4, 2) := by decide +kernel
theorem dX0_followRight_24 : decode cX0_followRight 24 = .ok (.iaload, 1) := by decide +kernel
theorem dX0_followRight_25 : decode cX0_followRight 25 = .ok (.invokevirtual 83, 3) := by decide +kernel
theorem dX0_followRight_28 : decode cX0_followRight 28 = .ok (.ifCond .eq 28, 3) := by decide +kernel
theorem dX0_followRight_31 : decode cX0_followRight 31 = .ok (.aload_n 0, 1) := by decide +kernel
theorem dX0_followRight_32 : decode cX0_followRight 32 = .ok (.aload_n 0, 1) := by decide +kernel
theorem dX0_followRight_33 : decode cX0_followRight 33 = .ok (.getfield 22, 3) := by decide +kernel
theorem dX0_followRight_36 : decode cX0_followRight 36 = .ok (.iload 4, 2) := by decide +kernel
theorem dX0_followRight_38 : decode cX0_followRight 38 = .ok (.iaload, 1) := by decide +kernel
theorem dX0_followRight_39 : decode cX0_followRight 39 = .ok (.invokevirtual 56, 3) := by decide +kernel
theorem dX0_followRight_42 : decode cX0_followRight 42 = .ok (.istore 5, 2) := by decide +kernel
theorem dX0_followRight_44 : decode cX0_followRight 44 = .ok (.aload_n 0, 1) := by decide +kernel
theorem dX0_followRight_45 : decode cX0_followRight 45 = .ok (.iload_n 2, 1) := by decide +kernel
theorem dX0_followRight_46 : decode cX0_followRight 46 = .ok (.aload_n 0, 1) := by decide +kernel
theorem dX0_followRight_47 : decode cX0_followRight 47 = .ok (.getfield 22, 3) := by decide +kernel
theorem dX0_followRight_50 : decode cX0_followRight 50 = .ok (.iload 5, 2) := by decide +kernel
theorem dX0_followRight_52 : decode cX0_followRight 52 = .ok (.iaload, 1) := by decide +kernel
theorem dX0_followRight_53 : decode cX0_followRight 53 = .ok (.invokevirtual 79, 3) := by decide +kernel
theorem dX0_followRight_56 : decode cX0_followRight 56 = .ok (.return_, 1) := by decide +kernel
abbrev cX0_joinAll : ByteArray := prog_1_method_22_code
def yX0_joinAll : MethodName := ⟨RX0, "joinAll", "()V"⟩
theorem dX0_joinAll_0 : decode cX0_joinAll 0 = .ok (.iconst 0, 1) := by decide +kernel
theorem dX0_joinAll_1 : decode cX0_joinAll 1 = .ok (.istore_n 1, 1) := by decide +kernel
theorem dX0_joinAll_2 : decode cX0_joinAll 2 = .ok (.iload_n 1, 1) := by decide +kernel
theorem dX0_joinAll_3 : decode cX0_joinAll 3 = .ok (.bipush 24, 2) := by decide +kernel
theorem dX0_joinAll_5 : decode cX0_joinAll 5 = .ok (.if_icmp .ge 65, 3) := by decide +kernel
theorem dX0_joinAll_8 : decode cX0_joinAll 8 = .ok (.aload_n 0, 1) := by decide +kernel
theorem dX0_joinAll_9 : decode cX0_joinAll 9 = .ok (.getfield 66, 3) := by decide +kernel
theorem dX0_joinAll_12 : decode cX0_joinAll 12 = .ok (.ifCond .le 58, 3) := by decide +kernel
theorem dX0_joinAll_15 : decode cX0_joinAll 15 = .ok (.aload_n 0, 1) := by decide +kernel
theorem dX0_joinAll_16 : decode cX0_joinAll 16 = .ok (.dup, 1) := by decide +kernel
theorem dX0_joinAll_17 : decode cX0_joinAll 17 = .ok (.getfield 66, 3) := by decide +kernel
theorem dX0_joinAll_20 : decode cX0_joinAll 20 = .ok (.iconst 1, 1) := by decide +kernel
theorem dX0_joinAll_21 : decode cX0_joinAll 21 = .ok (.isub, 1) := by decide +kernel
theorem dX0_joinAll_22 : decode cX0_joinAll 22 = .ok (.putfield 66, 3) := by decide +kernel
theorem dX0_joinAll_25 : decode cX0_joinAll 25 = .ok (.aload_n 0, 1) := by decide +kernel
theorem dX0_joinAll_26 : decode cX0_joinAll 26 = .ok (.aload_n 0, 1) := by decide +kernel
theorem dX0_joinAll_27 : decode cX0_joinAll 27 = .ok (.getfield 35, 3) := by decide +kernel
theorem dX0_joinAll_30 : decode cX0_joinAll 30 = .ok (.aload_n 0, 1) := by decide +kernel
theorem dX0_joinAll_31 : decode cX0_joinAll 31 = .ok (.getfield 66, 3) := by decide +kernel
theorem dX0_joinAll_34 : decode cX0_joinAll 34 = .ok (.iaload, 1) := by decide +kernel
theorem dX0_joinAll_35 : decode cX0_joinAll 35 = .ok (.invokevirtual 56, 3) := by decide +kernel
theorem dX0_joinAll_38 : decode cX0_joinAll 38 = .ok (.istore_n 2, 1) := by decide +kernel
theorem dX0_joinAll_39 : decode cX0_joinAll 39 = .ok (.aload_n 0, 1) := by decide +kernel
theorem dX0_joinAll_40 : decode cX0_joinAll 40 = .ok (.aload_n 0, 1) := by decide +kernel
theorem dX0_joinAll_41 : decode cX0_joinAll 41 = .ok (.getfield 38, 3) := by decide +kernel
theorem dX0_joinAll_44 : decode cX0_joinAll 44 = .ok (.aload_n 0, 1) := by decide +kernel
theorem dX0_joinAll_45 : decode cX0_joinAll 45 = .ok (.getfield 66, 3) := by decide +kernel
theorem dX0_joinAll_48 : decode cX0_joinAll 48 = .ok (.iaload, 1) := by decide +kernel
theorem dX0_joinAll_49 : decode cX0_joinAll 49 = .ok (.invokevirtual 56, 3) := by decide +kernel
theorem dX0_joinAll_52 : decode cX0_joinAll 52 = .ok (.istore_n 3, 1) := by decide +kernel
theorem dX0_joinAll_53 : decode cX0_joinAll 53 = .ok (.iload_n 2, 1) := by decide +kernel
theorem dX0_joinAll_54 : decode cX0_joinAll 54 = .ok (.iload_n 3, 1) := by decide +kernel
theorem dX0_joinAll_55 : decode cX0_joinAll 55 = .ok (.if_icmp .eq 9, 3) := by decide +kernel
theorem dX0_joinAll_58 : decode cX0_joinAll 58 = .ok (.aload_n 0, 1) := by decide +kernel
theorem dX0_joinAll_59 : decode cX0_joinAll 59 = .ok (.iload_n 2, 1) := by decide +kernel
theorem dX0_joinAll_60 : decode cX0_joinAll 60 = .ok (.iload_n 3, 1) := by decide +kernel
theorem dX0_joinAll_61 : decode cX0_joinAll 61 = .ok (.invokevirtual 97, 3) := by decide +kernel
theorem dX0_joinAll_64 : decode cX0_joinAll 64 = .ok (.iinc 1 1, 3) := by decide +kernel
theorem dX0_joinAll_67 : decode cX0_joinAll 67 = .ok (.goto (-65), 3) := by decide +kernel
theorem dX0_joinAll_70 : decode cX0_joinAll 70 = .ok (.return_, 1) := by decide +kernel
abbrev cX0_joinClasses : ByteArray := prog_1_method_23_code
def yX0_joinClasses : MethodName := ⟨RX0, "joinClasses", "(II)V"⟩
theorem dX0_joinClasses_0 : decode cX0_joinClasses 0 = .ok (.aload_n 0, 1) := by decide +kernel
theorem dX0_joinClasses_1 : decode cX0_joinClasses 1 = .ok (.getfield 22, 3) := by decide +kernel
theorem dX0_joinClasses_4 : decode cX0_joinClasses 4 = .ok (.iload_n 1, 1) := by decide +kernel
theorem dX0_joinClasses_5 : decode cX0_joinClasses 5 = .ok (.iaload, 1) := by decide +kernel
theorem dX0_joinClasses_6 : decode cX0_joinClasses 6 = .ok (.istore_n 3, 1) := by decide +kernel
theorem dX0_joinClasses_7 : decode cX0_joinClasses 7 = .ok (.aload_n 0, 1) := by decide +kernel
theorem dX0_joinClasses_8 : decode cX0_joinClasses 8 = .ok (.getfield 22, 3) := by decide +kernel
theorem dX0_joinClasses_11 : decode cX0_joinClasses 11 = .ok (.iload_n 2, 1) := by decide +kernel
theorem dX0_joinClasses_12 : decode cX0_joinClasses 12 = .ok (.iaload, 1) := by decide +kernel
theorem dX0_joinClasses_13 : decode cX0_joinClasses 13 = .ok (.istore 4, 2) := by decide +kernel
theorem dX0_joinClasses_15 : decode cX0_joinClasses 15 = .ok (.aload_n 0, 1) := by decide +kernel
theorem dX0_joinClasses_16 : decode cX0_joinClasses 16 = .ok (.getfield 19, 3) := by decide +kernel
theorem dX0_joinClasses_19 : decode cX0_joinClasses 19 = .ok (.iload_n 2, 1) := by decide +kernel
theorem dX0_joinClasses_20 : decode cX0_joinClasses 20 = .ok (.iload_n 1, 1) := by decide +kernel
theorem dX0_joinClasses_21 : decode cX0_joinClasses 21 = .ok (.iastore, 1) := by decide +kernel
theorem dX0_joinClasses_22 : decode cX0_joinClasses 22 = .ok (.iload_n 3, 1) := by decide +kernel
theorem dX0_joinClasses_23 : decode cX0_joinClasses 23 = .ok (.ifCond .lt 18, 3) := by decide +kernel
theorem dX0_joinClasses_26 : decode cX0_joinClasses 26 = .ok (.iload 4, 2) := by decide +kernel
theorem dX0_joinClasses_28 : decode cX0_joinClasses 28 = .ok (.ifCond .lt 13, 3) := by decide +kernel
theorem dX0_joinClasses_31 : decode cX0_joinClasses 31 = .ok (.aload_n 0, 1) := by decide +kernel
theorem dX0_joinClasses_32 : decode cX0_joinClasses 32 = .ok (.iload_n 3, 1) := by decide +kernel
theorem dX0_joinClasses_33 : decode cX0_joinClasses 33 = .ok (.iload 4, 2) := by decide +kernel
theorem dX0_joinClasses_35 : decode cX0_joinClasses 35 = .ok (.invokevirtual 94, 3) := by decide +kernel
theorem dX0_joinClasses_38 : decode cX0_joinClasses 38 = .ok (.goto 33, 3) := by decide +kernel
theorem dX0_joinClasses_41 : decode cX0_joinClasses 41 = .ok (.iload_n 3, 1) := by decide +kernel
theorem dX0_joinClasses_42 : decode cX0_joinClasses 42 = .ok (.ifCond .ge 8, 3) := by decide +kernel
theorem dX0_joinClasses_45 : decode cX0_joinClasses 45 = .ok (.iload 4, 2) := by decide +kernel
theorem dX0_joinClasses_47 : decode cX0_joinClasses 47 = .ok (.ifCond .lt 24, 3) := by decide +kernel
theorem dX0_joinClasses_50 : decode cX0_joinClasses 50 = .ok (.aload_n 0, 1) := by decide +kernel
theorem dX0_joinClasses_51 : decode cX0_joinClasses 51 = .ok (.getfield 22, 3) := by decide +kernel
theorem dX0_joinClasses_54 : decode cX0_joinClasses 54 = .ok (.iload_n 1, 1) := by decide +kernel
theorem dX0_joinClasses_55 : decode cX0_joinClasses 55 = .ok (.iload_n 3, 1) := by decide +kernel
theorem dX0_joinClasses_56 : decode cX0_joinClasses 56 = .ok (.ifCond .lt 7, 3) := by decide +kernel
theorem dX0_joinClasses_59 : decode cX0_joinClasses 59 = .ok (.iload_n 3, 1) := by decide +kernel
theorem dX0_joinClasses_60 : decode cX0_joinClasses 60 = .ok (.goto 5, 3) := by decide +kernel
theorem dX0_joinClasses_63 : decode cX0_joinClasses 63 = .ok (.iload 4, 2) := by decide +kernel
theorem dX0_joinClasses_65 : decode cX0_joinClasses 65 = .ok (.iastore, 1) := by decide +kernel
theorem dX0_joinClasses_66 : decode cX0_joinClasses 66 = .ok (.aload_n 0, 1) := by decide +kernel
theorem dX0_joinClasses_67 : decode cX0_joinClasses 67 = .ok (.iload_n 1, 1) := by decide +kernel
theorem dX0_joinClasses_68 : decode cX0_joinClasses 68 = .ok (.invokevirtual 91, 3) := by decide +kernel
theorem dX0_joinClasses_71 : decode cX0_joinClasses 71 = .ok (.return_, 1) := by decide +kernel
abbrev cX0_members : ByteArray := prog_1_method_5_code
def yX0_members : MethodName := ⟨RX0, "members", "(I)I"⟩
theorem dX0_members_0 : decode cX0_members 0 = .ok (.iload_n 1, 1) := by decide +kernel
theorem dX0_members_1 : decode cX0_members 1 = .ok (.invokestatic 41, 3) := by decide +kernel
theorem dX0_members_4 : decode cX0_members 4 = .ok (.ifCond .ne 5, 3) := by decide +kernel
theorem dX0_members_7 : decode cX0_members 7 = .ok (.iconst (-1), 1) := by decide +kernel
theorem dX0_members_8 : decode cX0_members 8 = .ok (.ireturn, 1) := by decide +kernel
theorem dX0_members_9 : decode cX0_members 9 = .ok (.aload_n 0, 1) := by decide +kernel
theorem dX0_members_10 : decode cX0_members 10 = .ok (.invokevirtual 53, 3) := by decide +kernel
theorem dX0_members_13 : decode cX0_members 13 = .ok (.aload_n 0, 1) := by decide +kernel
theorem dX0_members_14 : decode cX0_members 14 = .ok (.iload_n 1, 1) := by decide +kernel
theorem dX0_members_15 : decode cX0_members 15 = .ok (.invokevirtual 60, 3) := by decide +kernel
theorem dX0_members_18 : decode cX0_members 18 = .ok (.ireturn, 1) := by decide +kernel
abbrev cX0_membersOf : ByteArray := prog_1_method_12_code
def yX0_membersOf : MethodName := ⟨RX0, "membersOf", "(I)I"⟩
theorem dX0_membersOf_0 : decode cX0_membersOf 0 = .ok (.aload_n 0, 1) := by decide +kernel
theorem dX0_membersOf_1 : decode cX0_membersOf 1 = .ok (.iload_n 1, 1) := by decide +kernel
theorem dX0_membersOf_2 : decode cX0_membersOf 2 = .ok (.invokevirtual 56, 3) := by decide +kernel
theorem dX0_membersOf_5 : decode cX0_membersOf 5 = .ok (.istore_n 2, 1) := by decide +kernel
theorem dX0_membersOf_6 : decode cX0_membersOf 6 = .ok (.iconst 0, 1) := by decide +kernel
theorem dX0_membersOf_7 : decode cX0_membersOf 7 = .ok (.istore_n 3, 1) := by decide +kernel
theorem dX0_membersOf_8 : decode cX0_membersOf 8 = .ok (.iconst 0, 1) := by decide +kernel
theorem dX0_membersOf_9 : decode cX0_membersOf 9 = .ok (.istore 4, 2) := by decide +kernel
theorem dX0_membersOf_11 : decode cX0_membersOf 11 = .ok (.iload 4, 2) := by decide +kernel
theorem dX0_membersOf_13 : decode cX0_membersOf 13 = .ok (.bipush 12, 2) := by decide +kernel
theorem dX0_membersOf_15 : decode cX0_membersOf 15 = .ok (.if_icmp .ge 34, 3) := by decide +kernel
theorem dX0_membersOf_18 : decode cX0_membersOf 18 = .ok (.aload_n 0, 1) := by decide +kernel
theorem dX0_membersOf_19 : decode cX0_membersOf 19 = .ok (.iload 4, 2) := by decide +kernel
theorem dX0_membersOf_21 : decode cX0_membersOf 21 = .ok (.invokevirtual 56, 3) := by decide +kernel
theorem dX0_membersOf_24 : decode cX0_membersOf 24 = .ok (.istore 5, 2) := by decide +kernel
theorem dX0_membersOf_26 : decode cX0_membersOf 26 = .ok (.iload_n 3, 1) := by decide +kernel
theorem dX0_membersOf_27 : decode cX0_membersOf 27 = .ok (.iload 5, 2) := by decide +kernel
theorem dX0_membersOf_29 : decode cX0_membersOf 29 = .ok (.iload_n 2, 1) := by decide +kernel
theorem dX0_membersOf_30 : decode cX0_membersOf 30 = .ok (.if_icmp .ne 10, 3) := by decide +kernel
theorem dX0_membersOf_33 : decode cX0_membersOf 33 = .ok (.iconst 1, 1) := by decide +kernel
theorem dX0_membersOf_34 : decode cX0_membersOf 34 = .ok (.iload 4, 2) := by decide +kernel
theorem dX0_membersOf_36 : decode cX0_membersOf 36 = .ok (.ishl, 1) := by decide +kernel
theorem dX0_membersOf_37 : decode cX0_membersOf 37 = .ok (.goto 4, 3) := by decide +kernel
theorem dX0_membersOf_40 : decode cX0_membersOf 40 = .ok (.iconst 0, 1) := by decide +kernel
theorem dX0_membersOf_41 : decode cX0_membersOf 41 = .ok (.ior, 1) := by decide +kernel
theorem dX0_membersOf_42 : decode cX0_membersOf 42 = .ok (.istore_n 3, 1) := by decide +kernel
theorem dX0_membersOf_43 : decode cX0_membersOf 43 = .ok (.iinc 4 1, 3) := by decide +kernel
theorem dX0_membersOf_46 : decode cX0_membersOf 46 = .ok (.goto (-35), 3) := by decide +kernel
theorem dX0_membersOf_49 : decode cX0_membersOf 49 = .ok (.iload_n 3, 1) := by decide +kernel
theorem dX0_membersOf_50 : decode cX0_membersOf 50 = .ok (.ireturn, 1) := by decide +kernel
abbrev cX0_target : ByteArray := prog_1_method_6_code
def yX0_target : MethodName := ⟨RX0, "target", "(I)I"⟩
theorem dX0_target_0 : decode cX0_target 0 = .ok (.iload_n 1, 1) := by decide +kernel
theorem dX0_target_1 : decode cX0_target 1 = .ok (.invokestatic 41, 3) := by decide +kernel
theorem dX0_target_4 : decode cX0_target 4 = .ok (.ifCond .ne 5, 3) := by decide +kernel
theorem dX0_target_7 : decode cX0_target 7 = .ok (.iconst (-1), 1) := by decide +kernel
theorem dX0_target_8 : decode cX0_target 8 = .ok (.ireturn, 1) := by decide +kernel
theorem dX0_target_9 : decode cX0_target 9 = .ok (.aload_n 0, 1) := by decide +kernel
theorem dX0_target_10 : decode cX0_target 10 = .ok (.invokevirtual 53, 3) := by decide +kernel
theorem dX0_target_13 : decode cX0_target 13 = .ok (.aload_n 0, 1) := by decide +kernel
theorem dX0_target_14 : decode cX0_target 14 = .ok (.iload_n 1, 1) := by decide +kernel
theorem dX0_target_15 : decode cX0_target 15 = .ok (.invokevirtual 56, 3) := by decide +kernel
theorem dX0_target_18 : decode cX0_target 18 = .ok (.istore_n 2, 1) := by decide +kernel
theorem dX0_target_19 : decode cX0_target 19 = .ok (.aload_n 0, 1) := by decide +kernel
theorem dX0_target_20 : decode cX0_target 20 = .ok (.getfield 22, 3) := by decide +kernel
theorem dX0_target_23 : decode cX0_target 23 = .ok (.iload_n 2, 1) := by decide +kernel
theorem dX0_target_24 : decode cX0_target 24 = .ok (.iaload, 1) := by decide +kernel
theorem dX0_target_25 : decode cX0_target 25 = .ok (.istore_n 3, 1) := by decide +kernel
theorem dX0_target_26 : decode cX0_target 26 = .ok (.iload_n 3, 1) := by decide +kernel
theorem dX0_target_27 : decode cX0_target 27 = .ok (.ifCond .ge 5, 3) := by decide +kernel
theorem dX0_target_30 : decode cX0_target 30 = .ok (.iconst (-1), 1) := by decide +kernel
theorem dX0_target_31 : decode cX0_target 31 = .ok (.ireturn, 1) := by decide +kernel
theorem dX0_target_32 : decode cX0_target 32 = .ok (.aload_n 0, 1) := by decide +kernel
theorem dX0_target_33 : decode cX0_target 33 = .ok (.iload_n 3, 1) := by decide +kernel
theorem dX0_target_34 : decode cX0_target 34 = .ok (.invokevirtual 60, 3) := by decide +kernel
theorem dX0_target_37 : decode cX0_target 37 = .ok (.istore 4, 2) := by decide +kernel
theorem dX0_target_39 : decode cX0_target 39 = .ok (.iconst 0, 1) := by decide +kernel
theorem dX0_target_40 : decode cX0_target 40 = .ok (.istore 5, 2) := by decide +kernel
theorem dX0_target_42 : decode cX0_target 42 = .ok (.bipush 11, 2) := by decide +kernel
theorem dX0_target_44 : decode cX0_target 44 = .ok (.istore 6, 2) := by decide +kernel
theorem dX0_target_46 : decode cX0_target 46 = .ok (.iload 6, 2) := by decide +kernel
theorem dX0_target_48 : decode cX0_target 48 = .ok (.ifCond .lt 28, 3) := by decide +kernel
theorem dX0_target_51 : decode cX0_target 51 = .ok (.iload 4, 2) := by decide +kernel
theorem dX0_target_53 : decode cX0_target 53 = .ok (.iload 6, 2) := by decide +kernel
theorem dX0_target_55 : decode cX0_target 55 = .ok (.iushr, 1) := by decide +kernel
theorem dX0_target_56 : decode cX0_target 56 = .ok (.iconst 1, 1) := by decide +kernel
theorem dX0_target_57 : decode cX0_target 57 = .ok (.iand, 1) := by decide +kernel
theorem dX0_target_58 : decode cX0_target 58 = .ok (.ifCond .eq 8, 3) := by decide +kernel
theorem dX0_target_61 : decode cX0_target 61 = .ok (.iload 6, 2) := by decide +kernel
theorem dX0_target_63 : decode cX0_target 63 = .ok (.goto 5, 3) := by decide +kernel
theorem dX0_target_66 : decode cX0_target 66 = .ok (.iload 5, 2) := by decide +kernel
theorem dX0_target_68 : decode cX0_target 68 = .ok (.istore 5, 2) := by decide +kernel
theorem dX0_target_70 : decode cX0_target 70 = .ok (.iinc 6 (-1), 3) := by decide +kernel
theorem dX0_target_73 : decode cX0_target 73 = .ok (.goto (-27), 3) := by decide +kernel
theorem dX0_target_76 : decode cX0_target 76 = .ok (.iload 5, 2) := by decide +kernel
theorem dX0_target_78 : decode cX0_target 78 = .ok (.ireturn, 1) := by decide +kernel
abbrev cX0_meet : ByteArray := prog_1_method_7_code
def yX0_meet : MethodName := ⟨RX0, "meet", "(II)I"⟩
theorem dX0_meet_0 : decode cX0_meet 0 = .ok (.iload_n 1, 1) := by decide +kernel
theorem dX0_meet_1 : decode cX0_meet 1 = .ok (.invokestatic 41, 3) := by decide +kernel
theorem dX0_meet_4 : decode cX0_meet 4 = .ok (.ifCond .eq 10, 3) := by decide +kernel
theorem dX0_meet_7 : decode cX0_meet 7 = .ok (.iload_n 2, 1) := by decide +kernel
theorem dX0_meet_8 : decode cX0_meet 8 = .ok (.invokestatic 41, 3) := by decide +kernel
theorem dX0_meet_11 : decode cX0_meet 11 = .ok (.ifCond .ne 5, 3) := by decide +kernel
theorem dX0_meet_14 : decode cX0_meet 14 = .ok (.iconst (-1), 1) := by decide +kernel
theorem dX0_meet_15 : decode cX0_meet 15 = .ok (.ireturn, 1) := by decide +kernel
theorem dX0_meet_16 : decode cX0_meet 16 = .ok (.aload_n 0, 1) := by decide +kernel
theorem dX0_meet_17 : decode cX0_meet 17 = .ok (.invokevirtual 53, 3) := by decide +kernel
theorem dX0_meet_20 : decode cX0_meet 20 = .ok (.aload_n 0, 1) := by decide +kernel
theorem dX0_meet_21 : decode cX0_meet 21 = .ok (.getfield 22, 3) := by decide +kernel
theorem dX0_meet_24 : decode cX0_meet 24 = .ok (.aload_n 0, 1) := by decide +kernel
theorem dX0_meet_25 : decode cX0_meet 25 = .ok (.iload_n 1, 1) := by decide +kernel
theorem dX0_meet_26 : decode cX0_meet 26 = .ok (.invokevirtual 56, 3) := by decide +kernel
theorem dX0_meet_29 : decode cX0_meet 29 = .ok (.iaload, 1) := by decide +kernel
theorem dX0_meet_30 : decode cX0_meet 30 = .ok (.istore_n 3, 1) := by decide +kernel
theorem dX0_meet_31 : decode cX0_meet 31 = .ok (.aload_n 0, 1) := by decide +kernel
theorem dX0_meet_32 : decode cX0_meet 32 = .ok (.getfield 22, 3) := by decide +kernel
theorem dX0_meet_35 : decode cX0_meet 35 = .ok (.aload_n 0, 1) := by decide +kernel
theorem dX0_meet_36 : decode cX0_meet 36 = .ok (.iload_n 2, 1) := by decide +kernel
theorem dX0_meet_37 : decode cX0_meet 37 = .ok (.invokevirtual 56, 3) := by decide +kernel
theorem dX0_meet_40 : decode cX0_meet 40 = .ok (.iaload, 1) := by decide +kernel
theorem dX0_meet_41 : decode cX0_meet 41 = .ok (.istore 4, 2) := by decide +kernel
theorem dX0_meet_43 : decode cX0_meet 43 = .ok (.iload_n 3, 1) := by decide +kernel
theorem dX0_meet_44 : decode cX0_meet 44 = .ok (.ifCond .lt 8, 3) := by decide +kernel
theorem dX0_meet_47 : decode cX0_meet 47 = .ok (.iload 4, 2) := by decide +kernel
theorem dX0_meet_49 : decode cX0_meet 49 = .ok (.ifCond .ge 5, 3) := by decide +kernel
theorem dX0_meet_52 : decode cX0_meet 52 = .ok (.iconst 0, 1) := by decide +kernel
theorem dX0_meet_53 : decode cX0_meet 53 = .ok (.ireturn, 1) := by decide +kernel
theorem dX0_meet_54 : decode cX0_meet 54 = .ok (.aload_n 0, 1) := by decide +kernel
theorem dX0_meet_55 : decode cX0_meet 55 = .ok (.iload_n 3, 1) := by decide +kernel
theorem dX0_meet_56 : decode cX0_meet 56 = .ok (.invokevirtual 56, 3) := by decide +kernel
theorem dX0_meet_59 : decode cX0_meet 59 = .ok (.istore 5, 2) := by decide +kernel
theorem dX0_meet_61 : decode cX0_meet 61 = .ok (.aload_n 0, 1) := by decide +kernel
theorem dX0_meet_62 : decode cX0_meet 62 = .ok (.iload 4, 2) := by decide +kernel
theorem dX0_meet_64 : decode cX0_meet 64 = .ok (.invokevirtual 56, 3) := by decide +kernel
theorem dX0_meet_67 : decode cX0_meet 67 = .ok (.istore 6, 2) := by decide +kernel
theorem dX0_meet_69 : decode cX0_meet 69 = .ok (.iload 5, 2) := by decide +kernel
theorem dX0_meet_71 : decode cX0_meet 71 = .ok (.iload 6, 2) := by decide +kernel
theorem dX0_meet_73 : decode cX0_meet 73 = .ok (.if_icmp .ne 7, 3) := by decide +kernel
theorem dX0_meet_76 : decode cX0_meet 76 = .ok (.iconst 1, 1) := by decide +kernel
theorem dX0_meet_77 : decode cX0_meet 77 = .ok (.goto 4, 3) := by decide +kernel
theorem dX0_meet_80 : decode cX0_meet 80 = .ok (.iconst 0, 1) := by decide +kernel
theorem dX0_meet_81 : decode cX0_meet 81 = .ok (.ireturn, 1) := by decide +kernel
abbrev cX0_classes : ByteArray := prog_1_method_8_code
def yX0_classes : MethodName := ⟨RX0, "classes", "()I"⟩
theorem dX0_classes_0 : decode cX0_classes 0 = .ok (.aload_n 0, 1) := by decide +kernel
theorem dX0_classes_1 : decode cX0_classes 1 = .ok (.invokevirtual 53, 3) := by decide +kernel
theorem dX0_classes_4 : decode cX0_classes 4 = .ok (.iconst 0, 1) := by decide +kernel
theorem dX0_classes_5 : decode cX0_classes 5 = .ok (.istore_n 1, 1) := by decide +kernel
theorem dX0_classes_6 : decode cX0_classes 6 = .ok (.iconst 0, 1) := by decide +kernel
theorem dX0_classes_7 : decode cX0_classes 7 = .ok (.istore_n 2, 1) := by decide +kernel
theorem dX0_classes_8 : decode cX0_classes 8 = .ok (.iload_n 2, 1) := by decide +kernel
theorem dX0_classes_9 : decode cX0_classes 9 = .ok (.bipush 12, 2) := by decide +kernel
theorem dX0_classes_11 : decode cX0_classes 11 = .ok (.if_icmp .ge 27, 3) := by decide +kernel
theorem dX0_classes_14 : decode cX0_classes 14 = .ok (.iload_n 1, 1) := by decide +kernel
theorem dX0_classes_15 : decode cX0_classes 15 = .ok (.aload_n 0, 1) := by decide +kernel
theorem dX0_classes_16 : decode cX0_classes 16 = .ok (.getfield 19, 3) := by decide +kernel
theorem dX0_classes_19 : decode cX0_classes 19 = .ok (.iload_n 2, 1) := by decide +kernel
theorem dX0_classes_20 : decode cX0_classes 20 = .ok (.iaload, 1) := by decide +kernel
theorem dX0_classes_21 : decode cX0_classes 21 = .ok (.iload_n 2, 1) := by decide +kernel
theorem dX0_classes_22 : decode cX0_classes 22 = .ok (.if_icmp .ne 7, 3) := by decide +kernel
theorem dX0_classes_25 : decode cX0_classes 25 = .ok (.iconst 1, 1) := by decide +kernel
theorem dX0_classes_26 : decode cX0_classes 26 = .ok (.goto 4, 3) := by decide +kernel
theorem dX0_classes_29 : decode cX0_classes 29 = .ok (.iconst 0, 1) := by decide +kernel
theorem dX0_classes_30 : decode cX0_classes 30 = .ok (.iadd, 1) := by decide +kernel
theorem dX0_classes_31 : decode cX0_classes 31 = .ok (.istore_n 1, 1) := by decide +kernel
theorem dX0_classes_32 : decode cX0_classes 32 = .ok (.iinc 2 1, 3) := by decide +kernel
theorem dX0_classes_35 : decode cX0_classes 35 = .ok (.goto (-27), 3) := by decide +kernel
theorem dX0_classes_38 : decode cX0_classes 38 = .ok (.iload_n 1, 1) := by decide +kernel
theorem dX0_classes_39 : decode cX0_classes 39 = .ok (.ireturn, 1) := by decide +kernel
abbrev cX0_pointing : ByteArray := prog_1_method_9_code
def yX0_pointing : MethodName := ⟨RX0, "pointing", "()I"⟩
theorem dX0_pointing_0 : decode cX0_pointing 0 = .ok (.aload_n 0, 1) := by decide +kernel
theorem dX0_pointing_1 : decode cX0_pointing 1 = .ok (.invokevirtual 53, 3) := by decide +kernel
theorem dX0_pointing_4 : decode cX0_pointing 4 = .ok (.iconst 0, 1) := by decide +kernel
theorem dX0_pointing_5 : decode cX0_pointing 5 = .ok (.istore_n 1, 1) := by decide +kernel
theorem dX0_pointing_6 : decode cX0_pointing 6 = .ok (.iconst 0, 1) := by decide +kernel
theorem dX0_pointing_7 : decode cX0_pointing 7 = .ok (.istore_n 2, 1) := by decide +kernel
theorem dX0_pointing_8 : decode cX0_pointing 8 = .ok (.iload_n 2, 1) := by decide +kernel
theorem dX0_pointing_9 : decode cX0_pointing 9 = .ok (.bipush 12, 2) := by decide +kernel
theorem dX0_pointing_11 : decode cX0_pointing 11 = .ok (.if_icmp .ge 36, 3) := by decide +kernel
theorem dX0_pointing_14 : decode cX0_pointing 14 = .ok (.iload_n 1, 1) := by decide +kernel
theorem dX0_pointing_15 : decode cX0_pointing 15 = .ok (.aload_n 0, 1) := by decide +kernel
theorem dX0_pointing_16 : decode cX0_pointing 16 = .ok (.getfield 19, 3) := by decide +kernel
theorem dX0_pointing_19 : decode cX0_pointing 19 = .ok (.iload_n 2, 1) := by decide +kernel
theorem dX0_pointing_20 : decode cX0_pointing 20 = .ok (.iaload, 1) := by decide +kernel
theorem dX0_pointing_21 : decode cX0_pointing 21 = .ok (.iload_n 2, 1) := by decide +kernel
theorem dX0_pointing_22 : decode cX0_pointing 22 = .ok (.if_icmp .ne 16, 3) := by decide +kernel
theorem dX0_pointing_25 : decode cX0_pointing 25 = .ok (.aload_n 0, 1) := by decide +kernel
theorem dX0_pointing_26 : decode cX0_pointing 26 = .ok (.getfield 22, 3) := by decide +kernel
theorem dX0_pointing_29 : decode cX0_pointing 29 = .ok (.iload_n 2, 1) := by decide +kernel
theorem dX0_pointing_30 : decode cX0_pointing 30 = .ok (.iaload, 1) := by decide +kernel
theorem dX0_pointing_31 : decode cX0_pointing 31 = .ok (.ifCond .lt 7, 3) := by decide +kernel
theorem dX0_pointing_34 : decode cX0_pointing 34 = .ok (.iconst 1, 1) := by decide +kernel
theorem dX0_pointing_35 : decode cX0_pointing 35 = .ok (.goto 4, 3) := by decide +kernel
theorem dX0_pointing_38 : decode cX0_pointing 38 = .ok (.iconst 0, 1) := by decide +kernel
theorem dX0_pointing_39 : decode cX0_pointing 39 = .ok (.iadd, 1) := by decide +kernel
theorem dX0_pointing_40 : decode cX0_pointing 40 = .ok (.istore_n 1, 1) := by decide +kernel
theorem dX0_pointing_41 : decode cX0_pointing 41 = .ok (.iinc 2 1, 3) := by decide +kernel
theorem dX0_pointing_44 : decode cX0_pointing 44 = .ok (.goto (-36), 3) := by decide +kernel
theorem dX0_pointing_47 : decode cX0_pointing 47 = .ok (.iload_n 1, 1) := by decide +kernel
theorem dX0_pointing_48 : decode cX0_pointing 48 = .ok (.ireturn, 1) := by decide +kernel
abbrev cX0_steps : ByteArray := prog_1_method_10_code
def yX0_steps : MethodName := ⟨RX0, "steps", "(I)I"⟩
theorem dX0_steps_0 : decode cX0_steps 0 = .ok (.iload_n 1, 1) := by decide +kernel
theorem dX0_steps_1 : decode cX0_steps 1 = .ok (.invokestatic 41, 3) := by decide +kernel
theorem dX0_steps_4 : decode cX0_steps 4 = .ok (.ifCond .ne 5, 3) := by decide +kernel
theorem dX0_steps_7 : decode cX0_steps 7 = .ok (.iconst (-1), 1) := by decide +kernel
theorem dX0_steps_8 : decode cX0_steps 8 = .ok (.ireturn, 1) := by decide +kernel
theorem dX0_steps_9 : decode cX0_steps 9 = .ok (.aload_n 0, 1) := by decide +kernel
theorem dX0_steps_10 : decode cX0_steps 10 = .ok (.invokevirtual 53, 3) := by decide +kernel
theorem dX0_steps_13 : decode cX0_steps 13 = .ok (.iconst 0, 1) := by decide +kernel
theorem dX0_steps_14 : decode cX0_steps 14 = .ok (.istore_n 2, 1) := by decide +kernel
theorem dX0_steps_15 : decode cX0_steps 15 = .ok (.aload_n 0, 1) := by decide +kernel
theorem dX0_steps_16 : decode cX0_steps 16 = .ok (.iload_n 1, 1) := by decide +kernel
theorem dX0_steps_17 : decode cX0_steps 17 = .ok (.invokevirtual 56, 3) := by decide +kernel
theorem dX0_steps_20 : decode cX0_steps 20 = .ok (.istore_n 3, 1) := by decide +kernel
theorem dX0_steps_21 : decode cX0_steps 21 = .ok (.iconst 0, 1) := by decide +kernel
theorem dX0_steps_22 : decode cX0_steps 22 = .ok (.istore 4, 2) := by decide +kernel
theorem dX0_steps_24 : decode cX0_steps 24 = .ok (.iload 4, 2) := by decide +kernel
theorem dX0_steps_26 : decode cX0_steps 26 = .ok (.bipush 12, 2) := by decide +kernel
theorem dX0_steps_28 : decode cX0_steps 28 = .ok (.if_icmp .ge 32, 3) := by decide +kernel
theorem dX0_steps_31 : decode cX0_steps 31 = .ok (.aload_n 0, 1) := by decide +kernel
theorem dX0_steps_32 : decode cX0_steps 32 = .ok (.getfield 22, 3) := by decide +kernel
theorem dX0_steps_35 : decode cX0_steps 35 = .ok (.iload_n 3, 1) := by decide +kernel
theorem dX0_steps_36 : decode cX0_steps 36 = .ok (.iaload, 1) := by decide +kernel
theorem dX0_steps_37 : decode cX0_steps 37 = .ok (.ifCond .lt 23, 3) := by decide +kernel
theorem dX0_steps_40 : decode cX0_steps 40 = .ok (.aload_n 0, 1) := by decide +kernel
theorem dX0_steps_41 : decode cX0_steps 41 = .ok (.aload_n 0, 1) := by decide +kernel
theorem dX0_steps_42 : decode cX0_steps 42 = .ok (.getfield 22, 3) := by decide +kernel
theorem dX0_steps_45 : decode cX0_steps 45 = .ok (.iload_n 3, 1) := by decide +kernel
theorem dX0_steps_46 : decode cX0_steps 46 = .ok (.iaload, 1) := by decide +kernel
theorem dX0_steps_47 : decode cX0_steps 47 = .ok (.invokevirtual 56, 3) := by decide +kernel
theorem dX0_steps_50 : decode cX0_steps 50 = .ok (.istore_n 3, 1) := by decide +kernel
theorem dX0_steps_51 : decode cX0_steps 51 = .ok (.iinc 2 1, 3) := by decide +kernel
theorem dX0_steps_54 : decode cX0_steps 54 = .ok (.iinc 4 1, 3) := by decide +kernel
theorem dX0_steps_57 : decode cX0_steps 57 = .ok (.goto (-33), 3) := by decide +kernel
theorem dX0_steps_60 : decode cX0_steps 60 = .ok (.iload_n 2, 1) := by decide +kernel
theorem dX0_steps_61 : decode cX0_steps 61 = .ok (.ireturn, 1) := by decide +kernel
end
section
set_option maxRecDepth 100000
theorem q19 : (Jvm.Cond.initialized "AliasClasses") ∈ lw_all := lw_g (lw_at lw_m0 1 rfl) rfl
theorem q22 : (Jvm.Cond.instantiable "AliasClasses" (14 : Nat)) ∈ lw_all := lw_g (lw_at lw_m0 4 rfl) rfl
theorem q24 : (Jvm.Cond.instanceMethod ({ cls := "AliasClasses", name := "<init>", desc := "()V" } : Jvm.MethodName)) ∈ lw_all := lw_g (lw_at lw_m0 6 rfl) rfl
theorem q25 : (Jvm.Cond.code ({ cls := "AliasClasses", name := "<init>", desc := "()V" } : Jvm.MethodName) prog_1_method_1_code (1 : Nat) (Option.none : Option Jvm.ClassFile.FieldType)) ∈ lw_all := lw_g (lw_at lw_m0 7 rfl) rfl
theorem q26 : (Jvm.Cond.methodLink "AliasClasses" (1 : Nat) ({ cls := "java/lang/Object", name := "<init>", desc := "()V" } : Jvm.MethodName)) ∈ lw_all := lw_g (lw_at lw_m0 8 rfl) rfl
theorem q29 : (Jvm.Cond.fieldLink "AliasClasses" (45 : Nat) "AliasClasses" "assignments" "I") ∈ lw_all := lw_g (lw_at lw_m0 11 rfl) rfl
theorem q30 : (Jvm.Cond.fieldLink "AliasClasses" (7 : Nat) "AliasClasses" "kindOf" "[I") ∈ lw_all := lw_g (lw_at lw_m0 12 rfl) rfl
theorem q31 : (Jvm.Cond.fieldLink "AliasClasses" (13 : Nat) "AliasClasses" "leftOf" "[I") ∈ lw_all := lw_g (lw_at lw_m0 13 rfl) rfl
theorem q32 : (Jvm.Cond.fieldLink "AliasClasses" (16 : Nat) "AliasClasses" "rightOf" "[I") ∈ lw_all := lw_g (lw_at lw_m0 14 rfl) rfl
theorem q33 : (Jvm.Cond.fieldLink "AliasClasses" (49 : Nat) "AliasClasses" "known" "Z") ∈ lw_all := lw_g (lw_at lw_m0 15 rfl) rfl
theorem q34 : (Jvm.Cond.fieldLink "AliasClasses" (19 : Nat) "AliasClasses" "up" "[I") ∈ lw_all := lw_g (lw_at lw_m0 16 rfl) rfl
theorem q35 : (Jvm.Cond.fieldLink "AliasClasses" (22 : Nat) "AliasClasses" "pointee" "[I") ∈ lw_all := lw_g (lw_at lw_m0 17 rfl) rfl
theorem q36 : (Jvm.Cond.fieldLink "AliasClasses" (25 : Nat) "AliasClasses" "waitsFor" "[I") ∈ lw_all := lw_g (lw_at lw_m0 18 rfl) rfl
theorem q37 : (Jvm.Cond.fieldLink "AliasClasses" (63 : Nat) "AliasClasses" "ready" "I") ∈ lw_all := lw_g (lw_at lw_m0 19 rfl) rfl
theorem q38 : (Jvm.Cond.fieldLink "AliasClasses" (28 : Nat) "AliasClasses" "queue" "[I") ∈ lw_all := lw_g (lw_at lw_m0 20 rfl) rfl
theorem q39 : (Jvm.Cond.fieldLink "AliasClasses" (31 : Nat) "AliasClasses" "queued" "[Z") ∈ lw_all := lw_g (lw_at lw_m0 21 rfl) rfl
theorem q40 : (Jvm.Cond.fieldLink "AliasClasses" (66 : Nat) "AliasClasses" "pairs" "I") ∈ lw_all := lw_g (lw_at lw_m0 22 rfl) rfl
theorem q41 : (Jvm.Cond.fieldLink "AliasClasses" (35 : Nat) "AliasClasses" "pairA" "[I") ∈ lw_all := lw_g (lw_at lw_m0 23 rfl) rfl
theorem q42 : (Jvm.Cond.fieldLink "AliasClasses" (38 : Nat) "AliasClasses" "pairB" "[I") ∈ lw_all := lw_g (lw_at lw_m0 24 rfl) rfl
theorem q43 : (Jvm.Cond.lays "AliasClasses" "AliasClasses" "assignments" "I") ∈ lw_all := lw_g (lw_at lw_m0 25 rfl) rfl
theorem q44 : (Jvm.Cond.soleField "AliasClasses" "assignments") ∈ lw_all := lw_g (lw_at lw_m0 26 rfl) rfl
theorem q45 : (Jvm.Cond.laysFinal "AliasClasses" "AliasClasses" "kindOf" "[I") ∈ lw_all := lw_g (lw_at lw_m0 27 rfl) rfl
theorem q46 : (Jvm.Cond.soleField "AliasClasses" "kindOf") ∈ lw_all := lw_g (lw_at lw_m0 28 rfl) rfl
theorem q47 : (Jvm.Cond.laysFinal "AliasClasses" "AliasClasses" "leftOf" "[I") ∈ lw_all := lw_g (lw_at lw_m0 29 rfl) rfl
theorem q48 : (Jvm.Cond.soleField "AliasClasses" "leftOf") ∈ lw_all := lw_g (lw_at lw_m0 30 rfl) rfl
theorem q49 : (Jvm.Cond.laysFinal "AliasClasses" "AliasClasses" "rightOf" "[I") ∈ lw_all := lw_g (lw_at lw_m0 31 rfl) rfl
theorem q50 : (Jvm.Cond.soleField "AliasClasses" "rightOf") ∈ lw_all := lw_g (lw_at lw_m0 32 rfl) rfl
theorem q51 : (Jvm.Cond.lays "AliasClasses" "AliasClasses" "known" "Z") ∈ lw_all := lw_g (lw_at lw_m0 33 rfl) rfl
theorem q52 : (Jvm.Cond.soleField "AliasClasses" "known") ∈ lw_all := lw_g (lw_at lw_m0 34 rfl) rfl
theorem q53 : (Jvm.Cond.laysFinal "AliasClasses" "AliasClasses" "up" "[I") ∈ lw_all := lw_g (lw_at lw_m0 35 rfl) rfl
theorem q54 : (Jvm.Cond.soleField "AliasClasses" "up") ∈ lw_all := lw_g (lw_at lw_m0 36 rfl) rfl
theorem q55 : (Jvm.Cond.laysFinal "AliasClasses" "AliasClasses" "pointee" "[I") ∈ lw_all := lw_g (lw_at lw_m0 37 rfl) rfl
theorem q56 : (Jvm.Cond.soleField "AliasClasses" "pointee") ∈ lw_all := lw_g (lw_at lw_m0 38 rfl) rfl
theorem q57 : (Jvm.Cond.laysFinal "AliasClasses" "AliasClasses" "waitsFor" "[I") ∈ lw_all := lw_g (lw_at lw_m0 39 rfl) rfl
theorem q58 : (Jvm.Cond.soleField "AliasClasses" "waitsFor") ∈ lw_all := lw_g (lw_at lw_m0 40 rfl) rfl
theorem q59 : (Jvm.Cond.lays "AliasClasses" "AliasClasses" "ready" "I") ∈ lw_all := lw_g (lw_at lw_m0 41 rfl) rfl
theorem q60 : (Jvm.Cond.soleField "AliasClasses" "ready") ∈ lw_all := lw_g (lw_at lw_m0 42 rfl) rfl
theorem q61 : (Jvm.Cond.laysFinal "AliasClasses" "AliasClasses" "queue" "[I") ∈ lw_all := lw_g (lw_at lw_m0 43 rfl) rfl
theorem q62 : (Jvm.Cond.soleField "AliasClasses" "queue") ∈ lw_all := lw_g (lw_at lw_m0 44 rfl) rfl
theorem q63 : (Jvm.Cond.laysFinal "AliasClasses" "AliasClasses" "queued" "[Z") ∈ lw_all := lw_g (lw_at lw_m0 45 rfl) rfl
theorem q64 : (Jvm.Cond.soleField "AliasClasses" "queued") ∈ lw_all := lw_g (lw_at lw_m0 46 rfl) rfl
theorem q65 : (Jvm.Cond.lays "AliasClasses" "AliasClasses" "pairs" "I") ∈ lw_all := lw_g (lw_at lw_m0 47 rfl) rfl
theorem q66 : (Jvm.Cond.soleField "AliasClasses" "pairs") ∈ lw_all := lw_g (lw_at lw_m0 48 rfl) rfl
theorem q67 : (Jvm.Cond.laysFinal "AliasClasses" "AliasClasses" "pairA" "[I") ∈ lw_all := lw_g (lw_at lw_m0 49 rfl) rfl
theorem q68 : (Jvm.Cond.soleField "AliasClasses" "pairA") ∈ lw_all := lw_g (lw_at lw_m0 50 rfl) rfl
theorem q69 : (Jvm.Cond.laysFinal "AliasClasses" "AliasClasses" "pairB" "[I") ∈ lw_all := lw_g (lw_at lw_m0 51 rfl) rfl
theorem q70 : (Jvm.Cond.soleField "AliasClasses" "pairB") ∈ lw_all := lw_g (lw_at lw_m0 52 rfl) rfl
theorem q71 : (Jvm.Cond.superclass "AliasClasses" "java/lang/Object") ∈ lw_all := lw_g (lw_at lw_m0 53 rfl) rfl
theorem q75 : (Jvm.Cond.instanceMethod ({ cls := "AliasClasses", name := "assign", desc := "(III)I" } : Jvm.MethodName)) ∈ lw_all := lw_g (lw_at lw_m0 57 rfl) rfl
theorem q76 : (Jvm.Cond.selects "AliasClasses" ({ cls := "AliasClasses", name := "assign", desc := "(III)I" } : Jvm.MethodName) ({ cls := "AliasClasses", name := "assign", desc := "(III)I" } : Jvm.MethodName)) ∈ lw_all := lw_g (lw_at lw_m0 58 rfl) rfl
theorem q77 : (Jvm.Cond.code ({ cls := "AliasClasses", name := "assign", desc := "(III)I" } : Jvm.MethodName) prog_1_method_2_code (4 : Nat) (Option.some Jvm.ClassFile.FieldType.int)) ∈ lw_all := lw_g (lw_at lw_m0 59 rfl) rfl
theorem q78 : (Jvm.Cond.methodLink "AliasClasses" (41 : Nat) ({ cls := "AliasClasses", name := "isVariable", desc := "(I)Z" } : Jvm.MethodName)) ∈ lw_all := lw_g (lw_at lw_m0 60 rfl) rfl
theorem q79 : (Jvm.Cond.static ({ cls := "AliasClasses", name := "isVariable", desc := "(I)Z" } : Jvm.MethodName)) ∈ lw_all := lw_g (lw_at lw_m0 61 rfl) rfl
theorem q80 : (Jvm.Cond.code ({ cls := "AliasClasses", name := "isVariable", desc := "(I)Z" } : Jvm.MethodName) prog_1_method_11_code (1 : Nat) (Option.some Jvm.ClassFile.FieldType.boolean)) ∈ lw_all := lw_g (lw_at lw_m0 62 rfl) rfl
theorem q82 : (Jvm.Cond.instanceMethod ({ cls := "AliasClasses", name := "drop", desc := "(I)I" } : Jvm.MethodName)) ∈ lw_all := lw_g (lw_at lw_m0 64 rfl) rfl
theorem q83 : (Jvm.Cond.selects "AliasClasses" ({ cls := "AliasClasses", name := "drop", desc := "(I)I" } : Jvm.MethodName) ({ cls := "AliasClasses", name := "drop", desc := "(I)I" } : Jvm.MethodName)) ∈ lw_all := lw_g (lw_at lw_m0 65 rfl) rfl
theorem q84 : (Jvm.Cond.code ({ cls := "AliasClasses", name := "drop", desc := "(I)I" } : Jvm.MethodName) prog_1_method_3_code (3 : Nat) (Option.some Jvm.ClassFile.FieldType.int)) ∈ lw_all := lw_g (lw_at lw_m0 66 rfl) rfl
theorem q86 : (Jvm.Cond.instanceMethod ({ cls := "AliasClasses", name := "same", desc := "(II)I" } : Jvm.MethodName)) ∈ lw_all := lw_g (lw_at lw_m0 68 rfl) rfl
theorem q87 : (Jvm.Cond.selects "AliasClasses" ({ cls := "AliasClasses", name := "same", desc := "(II)I" } : Jvm.MethodName) ({ cls := "AliasClasses", name := "same", desc := "(II)I" } : Jvm.MethodName)) ∈ lw_all := lw_g (lw_at lw_m0 69 rfl) rfl
theorem q88 : (Jvm.Cond.code ({ cls := "AliasClasses", name := "same", desc := "(II)I" } : Jvm.MethodName) prog_1_method_4_code (5 : Nat) (Option.some Jvm.ClassFile.FieldType.int)) ∈ lw_all := lw_g (lw_at lw_m0 70 rfl) rfl
theorem q89 : (Jvm.Cond.methodLink "AliasClasses" (53 : Nat) ({ cls := "AliasClasses", name := "workOut", desc := "()V" } : Jvm.MethodName)) ∈ lw_all := lw_g (lw_at lw_m0 71 rfl) rfl
theorem q90 : (Jvm.Cond.privateMethod ({ cls := "AliasClasses", name := "workOut", desc := "()V" } : Jvm.MethodName)) ∈ lw_tbl := lw_at lw_m0 72 rfl
theorem q91 : (Jvm.Cond.instanceMethod ({ cls := "AliasClasses", name := "workOut", desc := "()V" } : Jvm.MethodName)) ∈ lw_all := lw_g (lw_at lw_m0 73 rfl) rfl
theorem q92 : (Jvm.Cond.code ({ cls := "AliasClasses", name := "workOut", desc := "()V" } : Jvm.MethodName) prog_1_method_14_code (3 : Nat) (Option.none : Option Jvm.ClassFile.FieldType)) ∈ lw_all := lw_g (lw_at lw_m0 74 rfl) rfl
theorem q93 : (Jvm.Cond.methodLink "AliasClasses" (69 : Nat) ({ cls := "AliasClasses", name := "enqueue", desc := "(I)V" } : Jvm.MethodName)) ∈ lw_all := lw_g (lw_at lw_m0 75 rfl) rfl
theorem q94 : (Jvm.Cond.privateMethod ({ cls := "AliasClasses", name := "enqueue", desc := "(I)V" } : Jvm.MethodName)) ∈ lw_tbl := lw_at lw_m0 76 rfl
theorem q95 : (Jvm.Cond.instanceMethod ({ cls := "AliasClasses", name := "enqueue", desc := "(I)V" } : Jvm.MethodName)) ∈ lw_all := lw_g (lw_at lw_m0 77 rfl) rfl
theorem q96 : (Jvm.Cond.code ({ cls := "AliasClasses", name := "enqueue", desc := "(I)V" } : Jvm.MethodName) prog_1_method_15_code (2 : Nat) (Option.none : Option Jvm.ClassFile.FieldType)) ∈ lw_all := lw_g (lw_at lw_m0 78 rfl) rfl
theorem q97 : (Jvm.Cond.methodLink "AliasClasses" (73 : Nat) ({ cls := "AliasClasses", name := "carryOut", desc := "(I)V" } : Jvm.MethodName)) ∈ lw_all := lw_g (lw_at lw_m0 79 rfl) rfl
theorem q98 : (Jvm.Cond.privateMethod ({ cls := "AliasClasses", name := "carryOut", desc := "(I)V" } : Jvm.MethodName)) ∈ lw_tbl := lw_at lw_m0 80 rfl
theorem q99 : (Jvm.Cond.instanceMethod ({ cls := "AliasClasses", name := "carryOut", desc := "(I)V" } : Jvm.MethodName)) ∈ lw_all := lw_g (lw_at lw_m0 81 rfl) rfl
theorem q100 : (Jvm.Cond.code ({ cls := "AliasClasses", name := "carryOut", desc := "(I)V" } : Jvm.MethodName) prog_1_method_16_code (6 : Nat) (Option.none : Option Jvm.ClassFile.FieldType)) ∈ lw_all := lw_g (lw_at lw_m0 82 rfl) rfl
theorem q101 : (Jvm.Cond.methodLink "AliasClasses" (79 : Nat) ({ cls := "AliasClasses", name := "pointAt", desc := "(II)V" } : Jvm.MethodName)) ∈ lw_all := lw_g (lw_at lw_m0 83 rfl) rfl
theorem q102 : (Jvm.Cond.privateMethod ({ cls := "AliasClasses", name := "pointAt", desc := "(II)V" } : Jvm.MethodName)) ∈ lw_tbl := lw_at lw_m0 84 rfl
theorem q103 : (Jvm.Cond.instanceMethod ({ cls := "AliasClasses", name := "pointAt", desc := "(II)V" } : Jvm.MethodName)) ∈ lw_all := lw_g (lw_at lw_m0 85 rfl) rfl
theorem q104 : (Jvm.Cond.code ({ cls := "AliasClasses", name := "pointAt", desc := "(II)V" } : Jvm.MethodName) prog_1_method_19_code (4 : Nat) (Option.none : Option Jvm.ClassFile.FieldType)) ∈ lw_all := lw_g (lw_at lw_m0 86 rfl) rfl
theorem q105 : (Jvm.Cond.methodLink "AliasClasses" (56 : Nat) ({ cls := "AliasClasses", name := "find", desc := "(I)I" } : Jvm.MethodName)) ∈ lw_all := lw_g (lw_at lw_m0 87 rfl) rfl
theorem q106 : (Jvm.Cond.privateMethod ({ cls := "AliasClasses", name := "find", desc := "(I)I" } : Jvm.MethodName)) ∈ lw_tbl := lw_at lw_m0 88 rfl
theorem q107 : (Jvm.Cond.instanceMethod ({ cls := "AliasClasses", name := "find", desc := "(I)I" } : Jvm.MethodName)) ∈ lw_all := lw_g (lw_at lw_m0 89 rfl) rfl
theorem q108 : (Jvm.Cond.code ({ cls := "AliasClasses", name := "find", desc := "(I)I" } : Jvm.MethodName) prog_1_method_13_code (4 : Nat) (Option.some Jvm.ClassFile.FieldType.int)) ∈ lw_all := lw_g (lw_at lw_m0 90 rfl) rfl
theorem q109 : (Jvm.Cond.methodLink "AliasClasses" (91 : Nat) ({ cls := "AliasClasses", name := "wake", desc := "(I)V" } : Jvm.MethodName)) ∈ lw_all := lw_g (lw_at lw_m0 91 rfl) rfl
theorem q110 : (Jvm.Cond.privateMethod ({ cls := "AliasClasses", name := "wake", desc := "(I)V" } : Jvm.MethodName)) ∈ lw_tbl := lw_at lw_m0 92 rfl
theorem q111 : (Jvm.Cond.instanceMethod ({ cls := "AliasClasses", name := "wake", desc := "(I)V" } : Jvm.MethodName)) ∈ lw_all := lw_g (lw_at lw_m0 93 rfl) rfl
theorem q112 : (Jvm.Cond.code ({ cls := "AliasClasses", name := "wake", desc := "(I)V" } : Jvm.MethodName) prog_1_method_20_code (4 : Nat) (Option.none : Option Jvm.ClassFile.FieldType)) ∈ lw_all := lw_g (lw_at lw_m0 94 rfl) rfl
theorem q113 : (Jvm.Cond.methodLink "AliasClasses" (94 : Nat) ({ cls := "AliasClasses", name := "addPair", desc := "(II)V" } : Jvm.MethodName)) ∈ lw_all := lw_g (lw_at lw_m0 95 rfl) rfl
theorem q114 : (Jvm.Cond.privateMethod ({ cls := "AliasClasses", name := "addPair", desc := "(II)V" } : Jvm.MethodName)) ∈ lw_tbl := lw_at lw_m0 96 rfl
theorem q115 : (Jvm.Cond.instanceMethod ({ cls := "AliasClasses", name := "addPair", desc := "(II)V" } : Jvm.MethodName)) ∈ lw_all := lw_g (lw_at lw_m0 97 rfl) rfl
theorem q116 : (Jvm.Cond.code ({ cls := "AliasClasses", name := "addPair", desc := "(II)V" } : Jvm.MethodName) prog_1_method_21_code (3 : Nat) (Option.none : Option Jvm.ClassFile.FieldType)) ∈ lw_all := lw_g (lw_at lw_m0 98 rfl) rfl
theorem q117 : (Jvm.Cond.methodLink "AliasClasses" (83 : Nat) ({ cls := "AliasClasses", name := "points", desc := "(II)Z" } : Jvm.MethodName)) ∈ lw_all := lw_g (lw_at lw_m0 99 rfl) rfl
theorem q118 : (Jvm.Cond.privateMethod ({ cls := "AliasClasses", name := "points", desc := "(II)Z" } : Jvm.MethodName)) ∈ lw_tbl := lw_at lw_m0 100 rfl
theorem q119 : (Jvm.Cond.instanceMethod ({ cls := "AliasClasses", name := "points", desc := "(II)Z" } : Jvm.MethodName)) ∈ lw_all := lw_g (lw_at lw_m0 101 rfl) rfl
theorem q120 : (Jvm.Cond.code ({ cls := "AliasClasses", name := "points", desc := "(II)Z" } : Jvm.MethodName) prog_1_method_18_code (4 : Nat) (Option.some Jvm.ClassFile.FieldType.boolean)) ∈ lw_all := lw_g (lw_at lw_m0 102 rfl) rfl
theorem q121 : (Jvm.Cond.methodLink "AliasClasses" (87 : Nat) ({ cls := "AliasClasses", name := "followRight", desc := "(III)V" } : Jvm.MethodName)) ∈ lw_all := lw_g (lw_at lw_m0 103 rfl) rfl
theorem q122 : (Jvm.Cond.privateMethod ({ cls := "AliasClasses", name := "followRight", desc := "(III)V" } : Jvm.MethodName)) ∈ lw_tbl := lw_at lw_m0 104 rfl
theorem q123 : (Jvm.Cond.instanceMethod ({ cls := "AliasClasses", name := "followRight", desc := "(III)V" } : Jvm.MethodName)) ∈ lw_all := lw_g (lw_at lw_m0 105 rfl) rfl
theorem q124 : (Jvm.Cond.code ({ cls := "AliasClasses", name := "followRight", desc := "(III)V" } : Jvm.MethodName) prog_1_method_17_code (6 : Nat) (Option.none : Option Jvm.ClassFile.FieldType)) ∈ lw_all := lw_g (lw_at lw_m0 106 rfl) rfl
theorem q125 : (Jvm.Cond.methodLink "AliasClasses" (76 : Nat) ({ cls := "AliasClasses", name := "joinAll", desc := "()V" } : Jvm.MethodName)) ∈ lw_all := lw_g (lw_at lw_m0 107 rfl) rfl
theorem q126 : (Jvm.Cond.privateMethod ({ cls := "AliasClasses", name := "joinAll", desc := "()V" } : Jvm.MethodName)) ∈ lw_tbl := lw_at lw_m0 108 rfl
theorem q127 : (Jvm.Cond.instanceMethod ({ cls := "AliasClasses", name := "joinAll", desc := "()V" } : Jvm.MethodName)) ∈ lw_all := lw_g (lw_at lw_m0 109 rfl) rfl
theorem q128 : (Jvm.Cond.code ({ cls := "AliasClasses", name := "joinAll", desc := "()V" } : Jvm.MethodName) prog_1_method_22_code (4 : Nat) (Option.none : Option Jvm.ClassFile.FieldType)) ∈ lw_all := lw_g (lw_at lw_m0 110 rfl) rfl
theorem q129 : (Jvm.Cond.methodLink "AliasClasses" (97 : Nat) ({ cls := "AliasClasses", name := "joinClasses", desc := "(II)V" } : Jvm.MethodName)) ∈ lw_all := lw_g (lw_at lw_m0 111 rfl) rfl
theorem q130 : (Jvm.Cond.privateMethod ({ cls := "AliasClasses", name := "joinClasses", desc := "(II)V" } : Jvm.MethodName)) ∈ lw_tbl := lw_at lw_m0 112 rfl
theorem q131 : (Jvm.Cond.instanceMethod ({ cls := "AliasClasses", name := "joinClasses", desc := "(II)V" } : Jvm.MethodName)) ∈ lw_all := lw_g (lw_at lw_m0 113 rfl) rfl
theorem q132 : (Jvm.Cond.code ({ cls := "AliasClasses", name := "joinClasses", desc := "(II)V" } : Jvm.MethodName) prog_1_method_23_code (5 : Nat) (Option.none : Option Jvm.ClassFile.FieldType)) ∈ lw_all := lw_g (lw_at lw_m0 114 rfl) rfl
theorem q134 : (Jvm.Cond.instanceMethod ({ cls := "AliasClasses", name := "members", desc := "(I)I" } : Jvm.MethodName)) ∈ lw_all := lw_g (lw_at lw_m0 116 rfl) rfl
theorem q135 : (Jvm.Cond.selects "AliasClasses" ({ cls := "AliasClasses", name := "members", desc := "(I)I" } : Jvm.MethodName) ({ cls := "AliasClasses", name := "members", desc := "(I)I" } : Jvm.MethodName)) ∈ lw_all := lw_g (lw_at lw_m0 117 rfl) rfl
theorem q136 : (Jvm.Cond.code ({ cls := "AliasClasses", name := "members", desc := "(I)I" } : Jvm.MethodName) prog_1_method_5_code (2 : Nat) (Option.some Jvm.ClassFile.FieldType.int)) ∈ lw_all := lw_g (lw_at lw_m0 118 rfl) rfl
theorem q137 : (Jvm.Cond.methodLink "AliasClasses" (60 : Nat) ({ cls := "AliasClasses", name := "membersOf", desc := "(I)I" } : Jvm.MethodName)) ∈ lw_all := lw_g (lw_at lw_m0 119 rfl) rfl
theorem q138 : (Jvm.Cond.privateMethod ({ cls := "AliasClasses", name := "membersOf", desc := "(I)I" } : Jvm.MethodName)) ∈ lw_tbl := lw_at lw_m0 120 rfl
theorem q139 : (Jvm.Cond.instanceMethod ({ cls := "AliasClasses", name := "membersOf", desc := "(I)I" } : Jvm.MethodName)) ∈ lw_all := lw_g (lw_at lw_m0 121 rfl) rfl
theorem q140 : (Jvm.Cond.code ({ cls := "AliasClasses", name := "membersOf", desc := "(I)I" } : Jvm.MethodName) prog_1_method_12_code (6 : Nat) (Option.some Jvm.ClassFile.FieldType.int)) ∈ lw_all := lw_g (lw_at lw_m0 122 rfl) rfl
theorem q142 : (Jvm.Cond.instanceMethod ({ cls := "AliasClasses", name := "target", desc := "(I)I" } : Jvm.MethodName)) ∈ lw_all := lw_g (lw_at lw_m0 124 rfl) rfl
theorem q143 : (Jvm.Cond.selects "AliasClasses" ({ cls := "AliasClasses", name := "target", desc := "(I)I" } : Jvm.MethodName) ({ cls := "AliasClasses", name := "target", desc := "(I)I" } : Jvm.MethodName)) ∈ lw_all := lw_g (lw_at lw_m0 125 rfl) rfl
theorem q144 : (Jvm.Cond.code ({ cls := "AliasClasses", name := "target", desc := "(I)I" } : Jvm.MethodName) prog_1_method_6_code (7 : Nat) (Option.some Jvm.ClassFile.FieldType.int)) ∈ lw_all := lw_g (lw_at lw_m0 126 rfl) rfl
theorem q146 : (Jvm.Cond.instanceMethod ({ cls := "AliasClasses", name := "meet", desc := "(II)I" } : Jvm.MethodName)) ∈ lw_all := lw_g (lw_at lw_m0 128 rfl) rfl
theorem q147 : (Jvm.Cond.selects "AliasClasses" ({ cls := "AliasClasses", name := "meet", desc := "(II)I" } : Jvm.MethodName) ({ cls := "AliasClasses", name := "meet", desc := "(II)I" } : Jvm.MethodName)) ∈ lw_all := lw_g (lw_at lw_m0 129 rfl) rfl
theorem q148 : (Jvm.Cond.code ({ cls := "AliasClasses", name := "meet", desc := "(II)I" } : Jvm.MethodName) prog_1_method_7_code (7 : Nat) (Option.some Jvm.ClassFile.FieldType.int)) ∈ lw_all := lw_g (lw_at lw_m0 130 rfl) rfl
theorem q150 : (Jvm.Cond.instanceMethod ({ cls := "AliasClasses", name := "classes", desc := "()I" } : Jvm.MethodName)) ∈ lw_all := lw_g (lw_at lw_m0 132 rfl) rfl
theorem q151 : (Jvm.Cond.selects "AliasClasses" ({ cls := "AliasClasses", name := "classes", desc := "()I" } : Jvm.MethodName) ({ cls := "AliasClasses", name := "classes", desc := "()I" } : Jvm.MethodName)) ∈ lw_all := lw_g (lw_at lw_m0 133 rfl) rfl
theorem q152 : (Jvm.Cond.code ({ cls := "AliasClasses", name := "classes", desc := "()I" } : Jvm.MethodName) prog_1_method_8_code (3 : Nat) (Option.some Jvm.ClassFile.FieldType.int)) ∈ lw_all := lw_g (lw_at lw_m0 134 rfl) rfl
theorem q154 : (Jvm.Cond.instanceMethod ({ cls := "AliasClasses", name := "pointing", desc := "()I" } : Jvm.MethodName)) ∈ lw_all := lw_g (lw_at lw_m0 136 rfl) rfl
theorem q155 : (Jvm.Cond.selects "AliasClasses" ({ cls := "AliasClasses", name := "pointing", desc := "()I" } : Jvm.MethodName) ({ cls := "AliasClasses", name := "pointing", desc := "()I" } : Jvm.MethodName)) ∈ lw_all := lw_g (lw_at lw_m0 137 rfl) rfl
theorem q156 : (Jvm.Cond.code ({ cls := "AliasClasses", name := "pointing", desc := "()I" } : Jvm.MethodName) prog_1_method_9_code (3 : Nat) (Option.some Jvm.ClassFile.FieldType.int)) ∈ lw_all := lw_g (lw_at lw_m0 138 rfl) rfl
theorem q158 : (Jvm.Cond.instanceMethod ({ cls := "AliasClasses", name := "steps", desc := "(I)I" } : Jvm.MethodName)) ∈ lw_all := lw_g (lw_at lw_m0 140 rfl) rfl
theorem q159 : (Jvm.Cond.selects "AliasClasses" ({ cls := "AliasClasses", name := "steps", desc := "(I)I" } : Jvm.MethodName) ({ cls := "AliasClasses", name := "steps", desc := "(I)I" } : Jvm.MethodName)) ∈ lw_all := lw_g (lw_at lw_m0 141 rfl) rfl
theorem q160 : (Jvm.Cond.code ({ cls := "AliasClasses", name := "steps", desc := "(I)I" } : Jvm.MethodName) prog_1_method_10_code (5 : Nat) (Option.some Jvm.ClassFile.FieldType.int)) ∈ lw_all := lw_g (lw_at lw_m0 142 rfl) rfl
theorem in_X0 : ∀ w ∈ wsX00, w ∈ lw_all := lw_in wsX00 [43, 45, 47, 49, 51, 53, 55, 57, 59, 61, 63, 65, 67, 69] (by decide +kernel) (by decide +kernel)
end
section
/-! AliasClassesModel -/
set_option maxRecDepth 100000
def RX1 : String := "AliasClassesModel"
def TX1 : u_T := fun k => match k with
  | 0 => ("AliasClassesModel", "held", "I", false)
  | 1 => ("AliasClassesModel", "kinds", "[I", true)
  | 2 => ("AliasClassesModel", "lefts", "[I", true)
  | 3 => ("AliasClassesModel", "rights", "[I", true)
  | 4 => ("AliasClassesModel", "classOf", "[I", true)
  | 5 => ("AliasClassesModel", "to", "[I", true)
  | _ => ("AliasClassesModel", "changed", "Z", false)
def tyX1 : Nat → FieldType := fun k => match k with
  | 0 => .int
  | 1 => .array .int
  | 2 => .array .int
  | 3 => .array .int
  | 4 => .array .int
  | 5 => .array .int
  | _ => .boolean
abbrev wsX10 : List Cond := u_ws RX1 TX1 7
theorem nmX1 : ∀ a, a < 7 → ∀ b, b < 7 → a ≠ b → (TX1 a).2.1 ≠ (TX1 b).2.1 := by decide +kernel
theorem tyX1_ok : ∀ k, k < 7 → parseFieldDescriptor (TX1 k).2.2.1 = some (tyX1 k) := by decide +kernel
abbrev cX1_init : ByteArray := prog_3_method_1_code
def yX1_init : MethodName := ⟨RX1, "<init>", "()V"⟩
theorem dX1_init_0 : decode cX1_init 0 = .ok (.aload_n 0, 1) := by decide +kernel
theorem dX1_init_1 : decode cX1_init 1 = .ok (.invokespecial 1, 3) := by decide +kernel
theorem dX1_init_4 : decode cX1_init 4 = .ok (.aload_n 0, 1) := by decide +kernel
theorem dX1_init_5 : decode cX1_init 5 = .ok (.bipush 24, 2) := by decide +kernel
theorem dX1_init_7 : decode cX1_init 7 = .ok (.newarray .int, 2) := by decide +kernel
theorem dX1_init_9 : decode cX1_init 9 = .ok (.putfield 7, 3) := by decide +kernel
theorem dX1_init_12 : decode cX1_init 12 = .ok (.aload_n 0, 1) := by decide +kernel
theorem dX1_init_13 : decode cX1_init 13 = .ok (.bipush 24, 2) := by decide +kernel
theorem dX1_init_15 : decode cX1_init 15 = .ok (.newarray .int, 2) := by decide +kernel
theorem dX1_init_17 : decode cX1_init 17 = .ok (.putfield 13, 3) := by decide +kernel
theorem dX1_init_20 : decode cX1_init 20 = .ok (.aload_n 0, 1) := by decide +kernel
theorem dX1_init_21 : decode cX1_init 21 = .ok (.bipush 24, 2) := by decide +kernel
theorem dX1_init_23 : decode cX1_init 23 = .ok (.newarray .int, 2) := by decide +kernel
theorem dX1_init_25 : decode cX1_init 25 = .ok (.putfield 16, 3) := by decide +kernel
theorem dX1_init_28 : decode cX1_init 28 = .ok (.aload_n 0, 1) := by decide +kernel
theorem dX1_init_29 : decode cX1_init 29 = .ok (.bipush 12, 2) := by decide +kernel
theorem dX1_init_31 : decode cX1_init 31 = .ok (.newarray .int, 2) := by decide +kernel
theorem dX1_init_33 : decode cX1_init 33 = .ok (.putfield 19, 3) := by decide +kernel
theorem dX1_init_36 : decode cX1_init 36 = .ok (.aload_n 0, 1) := by decide +kernel
theorem dX1_init_37 : decode cX1_init 37 = .ok (.bipush 12, 2) := by decide +kernel
theorem dX1_init_39 : decode cX1_init 39 = .ok (.newarray .int, 2) := by decide +kernel
theorem dX1_init_41 : decode cX1_init 41 = .ok (.putfield 22, 3) := by decide +kernel
theorem dX1_init_44 : decode cX1_init 44 = .ok (.return_, 1) := by decide +kernel
abbrev cX1_assign : ByteArray := prog_3_method_3_code
def yX1_assign : MethodName := ⟨RX1, "assign", "(III)I"⟩
theorem dX1_assign_0 : decode cX1_assign 0 = .ok (.iload_n 2, 1) := by decide +kernel
theorem dX1_assign_1 : decode cX1_assign 1 = .ok (.invokestatic 25, 3) := by decide +kernel
theorem dX1_assign_4 : decode cX1_assign 4 = .ok (.ifCond .ne 28, 3) := by decide +kernel
theorem dX1_assign_7 : decode cX1_assign 7 = .ok (.iload_n 3, 1) := by decide +kernel
theorem dX1_assign_8 : decode cX1_assign 8 = .ok (.invokestatic 25, 3) := by decide +kernel
theorem dX1_assign_11 : decode cX1_assign 11 = .ok (.ifCond .ne 21, 3) := by decide +kernel
theorem dX1_assign_14 : decode cX1_assign 14 = .ok (.iload_n 1, 1) := by decide +kernel
theorem dX1_assign_15 : decode cX1_assign 15 = .ok (.ifCond .lt 17, 3) := by decide +kernel
theorem dX1_assign_18 : decode cX1_assign 18 = .ok (.iload_n 1, 1) := by decide +kernel
theorem dX1_assign_19 : decode cX1_assign 19 = .ok (.iconst 3, 1) := by decide +kernel
theorem dX1_assign_20 : decode cX1_assign 20 = .ok (.if_icmp .gt 12, 3) := by decide +kernel
theorem dX1_assign_23 : decode cX1_assign 23 = .ok (.aload_n 0, 1) := by decide +kernel
theorem dX1_assign_24 : decode cX1_assign 24 = .ok (.getfield 29, 3) := by decide +kernel
theorem dX1_assign_27 : decode cX1_assign 27 = .ok (.bipush 24, 2) := by decide +kernel
theorem dX1_assign_29 : decode cX1_assign 29 = .ok (.if_icmp .ne 5, 3) := by decide +kernel
theorem dX1_assign_32 : decode cX1_assign 32 = .ok (.iconst (-1), 1) := by decide +kernel
theorem dX1_assign_33 : decode cX1_assign 33 = .ok (.ireturn, 1) := by decide +kernel
theorem dX1_assign_34 : decode cX1_assign 34 = .ok (.aload_n 0, 1) := by decide +kernel
theorem dX1_assign_35 : decode cX1_assign 35 = .ok (.getfield 7, 3) := by decide +kernel
theorem dX1_assign_38 : decode cX1_assign 38 = .ok (.aload_n 0, 1) := by decide +kernel
theorem dX1_assign_39 : decode cX1_assign 39 = .ok (.getfield 29, 3) := by decide +kernel
theorem dX1_assign_42 : decode cX1_assign 42 = .ok (.iload_n 1, 1) := by decide +kernel
theorem dX1_assign_43 : decode cX1_assign 43 = .ok (.iastore, 1) := by decide +kernel
theorem dX1_assign_44 : decode cX1_assign 44 = .ok (.aload_n 0, 1) := by decide +kernel
theorem dX1_assign_45 : decode cX1_assign 45 = .ok (.getfield 13, 3) := by decide +kernel
theorem dX1_assign_48 : decode cX1_assign 48 = .ok (.aload_n 0, 1) := by decide +kernel
theorem dX1_assign_49 : decode cX1_assign 49 = .ok (.getfield 29, 3) := by decide +kernel
theorem dX1_assign_52 : decode cX1_assign 52 = .ok (.iload_n 2, 1) := by decide +kernel
theorem dX1_assign_53 : decode cX1_assign 53 = .ok (.iastore, 1) := by decide +kernel
theorem dX1_assign_54 : decode cX1_assign 54 = .ok (.aload_n 0, 1) := by decide +kernel
theorem dX1_assign_55 : decode cX1_assign 55 = .ok (.getfield 16, 3) := by decide +kernel
theorem dX1_assign_58 : decode cX1_assign 58 = .ok (.aload_n 0, 1) := by decide +kernel
theorem dX1_assign_59 : decode cX1_assign 59 = .ok (.getfield 29, 3) := by decide +kernel
theorem dX1_assign_62 : decode cX1_assign 62 = .ok (.iload_n 3, 1) := by decide +kernel
theorem dX1_assign_63 : decode cX1_assign 63 = .ok (.iastore, 1) := by decide +kernel
theorem dX1_assign_64 : decode cX1_assign 64 = .ok (.aload_n 0, 1) := by decide +kernel
theorem dX1_assign_65 : decode cX1_assign 65 = .ok (.dup, 1) := by decide +kernel
theorem dX1_assign_66 : decode cX1_assign 66 = .ok (.getfield 29, 3) := by decide +kernel
theorem dX1_assign_69 : decode cX1_assign 69 = .ok (.iconst 1, 1) := by decide +kernel
theorem dX1_assign_70 : decode cX1_assign 70 = .ok (.iadd, 1) := by decide +kernel
theorem dX1_assign_71 : decode cX1_assign 71 = .ok (.putfield 29, 3) := by decide +kernel
theorem dX1_assign_74 : decode cX1_assign 74 = .ok (.aload_n 0, 1) := by decide +kernel
theorem dX1_assign_75 : decode cX1_assign 75 = .ok (.getfield 29, 3) := by decide +kernel
theorem dX1_assign_78 : decode cX1_assign 78 = .ok (.ireturn, 1) := by decide +kernel
abbrev cX1_bad : ByteArray := prog_3_method_2_code
def yX1_bad : MethodName := ⟨RX1, "bad", "(I)Z"⟩
theorem dX1_bad_0 : decode cX1_bad 0 = .ok (.iload_n 0, 1) := by decide +kernel
theorem dX1_bad_1 : decode cX1_bad 1 = .ok (.ifCond .lt 9, 3) := by decide +kernel
theorem dX1_bad_4 : decode cX1_bad 4 = .ok (.iload_n 0, 1) := by decide +kernel
theorem dX1_bad_5 : decode cX1_bad 5 = .ok (.bipush 11, 2) := by decide +kernel
theorem dX1_bad_7 : decode cX1_bad 7 = .ok (.if_icmp .le 7, 3) := by decide +kernel
theorem dX1_bad_10 : decode cX1_bad 10 = .ok (.iconst 1, 1) := by decide +kernel
theorem dX1_bad_11 : decode cX1_bad 11 = .ok (.goto 4, 3) := by decide +kernel
theorem dX1_bad_14 : decode cX1_bad 14 = .ok (.iconst 0, 1) := by decide +kernel
theorem dX1_bad_15 : decode cX1_bad 15 = .ok (.ireturn, 1) := by decide +kernel
abbrev cX1_drop : ByteArray := prog_3_method_4_code
def yX1_drop : MethodName := ⟨RX1, "drop", "(I)I"⟩
theorem dX1_drop_0 : decode cX1_drop 0 = .ok (.iload_n 1, 1) := by decide +kernel
theorem dX1_drop_1 : decode cX1_drop 1 = .ok (.ifCond .lt 11, 3) := by decide +kernel
theorem dX1_drop_4 : decode cX1_drop 4 = .ok (.iload_n 1, 1) := by decide +kernel
theorem dX1_drop_5 : decode cX1_drop 5 = .ok (.aload_n 0, 1) := by decide +kernel
theorem dX1_drop_6 : decode cX1_drop 6 = .ok (.getfield 29, 3) := by decide +kernel
theorem dX1_drop_9 : decode cX1_drop 9 = .ok (.if_icmp .lt 5, 3) := by decide +kernel
theorem dX1_drop_12 : decode cX1_drop 12 = .ok (.iconst (-1), 1) := by decide +kernel
theorem dX1_drop_13 : decode cX1_drop 13 = .ok (.ireturn, 1) := by decide +kernel
theorem dX1_drop_14 : decode cX1_drop 14 = .ok (.aload_n 0, 1) := by decide +kernel
theorem dX1_drop_15 : decode cX1_drop 15 = .ok (.dup, 1) := by decide +kernel
theorem dX1_drop_16 : decode cX1_drop 16 = .ok (.getfield 29, 3) := by decide +kernel
theorem dX1_drop_19 : decode cX1_drop 19 = .ok (.iconst 1, 1) := by decide +kernel
theorem dX1_drop_20 : decode cX1_drop 20 = .ok (.isub, 1) := by decide +kernel
theorem dX1_drop_21 : decode cX1_drop 21 = .ok (.putfield 29, 3) := by decide +kernel
theorem dX1_drop_24 : decode cX1_drop 24 = .ok (.iload_n 1, 1) := by decide +kernel
theorem dX1_drop_25 : decode cX1_drop 25 = .ok (.istore_n 2, 1) := by decide +kernel
theorem dX1_drop_26 : decode cX1_drop 26 = .ok (.iload_n 2, 1) := by decide +kernel
theorem dX1_drop_27 : decode cX1_drop 27 = .ok (.aload_n 0, 1) := by decide +kernel
theorem dX1_drop_28 : decode cX1_drop 28 = .ok (.getfield 29, 3) := by decide +kernel
theorem dX1_drop_31 : decode cX1_drop 31 = .ok (.if_icmp .ge 51, 3) := by decide +kernel
theorem dX1_drop_34 : decode cX1_drop 34 = .ok (.aload_n 0, 1) := by decide +kernel
theorem dX1_drop_35 : decode cX1_drop 35 = .ok (.getfield 7, 3) := by decide +kernel
theorem dX1_drop_38 : decode cX1_drop 38 = .ok (.iload_n 2, 1) := by decide +kernel
theorem dX1_drop_39 : decode cX1_drop 39 = .ok (.aload_n 0, 1) := by decide +kernel
theorem dX1_drop_40 : decode cX1_drop 40 = .ok (.getfield 7, 3) := by decide +kernel
theorem dX1_drop_43 : decode cX1_drop 43 = .ok (.iload_n 2, 1) := by decide +kernel
theorem dX1_drop_44 : decode cX1_drop 44 = .ok (.iconst 1, 1) := by decide +kernel
theorem dX1_drop_45 : decode cX1_drop 45 = .ok (.iadd, 1) := by decide +kernel
theorem dX1_drop_46 : decode cX1_drop 46 = .ok (.iaload, 1) := by decide +kernel
theorem dX1_drop_47 : decode cX1_drop 47 = .ok (.iastore, 1) := by decide +kernel
theorem dX1_drop_48 : decode cX1_drop 48 = .ok (.aload_n 0, 1) := by decide +kernel
theorem dX1_drop_49 : decode cX1_drop 49 = .ok (.getfield 13, 3) := by decide +kernel
theorem dX1_drop_52 : decode cX1_drop 52 = .ok (.iload_n 2, 1) := by decide +kernel
theorem dX1_drop_53 : decode cX1_drop 53 = .ok (.aload_n 0, 1) := by decide +kernel
theorem dX1_drop_54 : decode cX1_drop 54 = .ok (.getfield 13, 3) := by decide +kernel
theorem dX1_drop_57 : decode cX1_drop 57 = .ok (.iload_n 2, 1) := by decide +kernel
theorem dX1_drop_58 : decode cX1_drop 58 = .ok (.iconst 1, 1) := by decide +kernel
theorem dX1_drop_59 : decode cX1_drop 59 = .ok (.iadd, 1) := by decide +kernel
theorem dX1_drop_60 : decode cX1_drop 60 = .ok (.iaload, 1) := by decide +kernel
theorem dX1_drop_61 : decode cX1_drop 61 = .ok (.iastore, 1) := by decide +kernel
theorem dX1_drop_62 : decode cX1_drop 62 = .ok (.aload_n 0, 1) := by decide +kernel
theorem dX1_drop_63 : decode cX1_drop 63 = .ok (.getfield 16, 3) := by decide +kernel
theorem dX1_drop_66 : decode cX1_drop 66 = .ok (.iload_n 2, 1) := by decide +kernel
theorem dX1_drop_67 : decode cX1_drop 67 = .ok (.aload_n 0, 1) := by decide +kernel
theorem dX1_drop_68 : decode cX1_drop 68 = .ok (.getfield 16, 3) := by decide +kernel
theorem dX1_drop_71 : decode cX1_drop 71 = .ok (.iload_n 2, 1) := by decide +kernel
theorem dX1_drop_72 : decode cX1_drop 72 = .ok (.iconst 1, 1) := by decide +kernel
theorem dX1_drop_73 : decode cX1_drop 73 = .ok (.iadd, 1) := by decide +kernel
theorem dX1_drop_74 : decode cX1_drop 74 = .ok (.iaload, 1) := by decide +kernel
theorem dX1_drop_75 : decode cX1_drop 75 = .ok (.iastore, 1) := by decide +kernel
theorem dX1_drop_76 : decode cX1_drop 76 = .ok (.iinc 2 1, 3) := by decide +kernel
theorem dX1_drop_79 : decode cX1_drop 79 = .ok (.goto (-53), 3) := by decide +kernel
theorem dX1_drop_82 : decode cX1_drop 82 = .ok (.aload_n 0, 1) := by decide +kernel
theorem dX1_drop_83 : decode cX1_drop 83 = .ok (.getfield 29, 3) := by decide +kernel
theorem dX1_drop_86 : decode cX1_drop 86 = .ok (.ireturn, 1) := by decide +kernel
abbrev cX1_same : ByteArray := prog_3_method_9_code
def yX1_same : MethodName := ⟨RX1, "same", "(II)I"⟩
theorem dX1_same_0 : decode cX1_same 0 = .ok (.iload_n 1, 1) := by decide +kernel
theorem dX1_same_1 : decode cX1_same 1 = .ok (.invokestatic 25, 3) := by decide +kernel
theorem dX1_same_4 : decode cX1_same 4 = .ok (.ifCond .ne 10, 3) := by decide +kernel
theorem dX1_same_7 : decode cX1_same 7 = .ok (.iload_n 2, 1) := by decide +kernel
theorem dX1_same_8 : decode cX1_same 8 = .ok (.invokestatic 25, 3) := by decide +kernel
theorem dX1_same_11 : decode cX1_same 11 = .ok (.ifCond .eq 5, 3) := by decide +kernel
theorem dX1_same_14 : decode cX1_same 14 = .ok (.iconst (-1), 1) := by decide +kernel
theorem dX1_same_15 : decode cX1_same 15 = .ok (.ireturn, 1) := by decide +kernel
theorem dX1_same_16 : decode cX1_same 16 = .ok (.aload_n 0, 1) := by decide +kernel
theorem dX1_same_17 : decode cX1_same 17 = .ok (.invokevirtual 48, 3) := by decide +kernel
theorem dX1_same_20 : decode cX1_same 20 = .ok (.aload_n 0, 1) := by decide +kernel
theorem dX1_same_21 : decode cX1_same 21 = .ok (.getfield 19, 3) := by decide +kernel
theorem dX1_same_24 : decode cX1_same 24 = .ok (.iload_n 1, 1) := by decide +kernel
theorem dX1_same_25 : decode cX1_same 25 = .ok (.iaload, 1) := by decide +kernel
theorem dX1_same_26 : decode cX1_same 26 = .ok (.aload_n 0, 1) := by decide +kernel
theorem dX1_same_27 : decode cX1_same 27 = .ok (.getfield 19, 3) := by decide +kernel
theorem dX1_same_30 : decode cX1_same 30 = .ok (.iload_n 2, 1) := by decide +kernel
theorem dX1_same_31 : decode cX1_same 31 = .ok (.iaload, 1) := by decide +kernel
theorem dX1_same_32 : decode cX1_same 32 = .ok (.if_icmp .ne 7, 3) := by decide +kernel
theorem dX1_same_35 : decode cX1_same 35 = .ok (.iconst 1, 1) := by decide +kernel
theorem dX1_same_36 : decode cX1_same 36 = .ok (.goto 4, 3) := by decide +kernel
theorem dX1_same_39 : decode cX1_same 39 = .ok (.iconst 0, 1) := by decide +kernel
theorem dX1_same_40 : decode cX1_same 40 = .ok (.ireturn, 1) := by decide +kernel
abbrev cX1_work : ByteArray := prog_3_method_8_code
def yX1_work : MethodName := ⟨RX1, "work", "()V"⟩
theorem dX1_work_0 : decode cX1_work 0 = .ok (.iconst 0, 1) := by decide +kernel
theorem dX1_work_1 : decode cX1_work 1 = .ok (.istore_n 1, 1) := by decide +kernel
theorem dX1_work_2 : decode cX1_work 2 = .ok (.iload_n 1, 1) := by decide +kernel
theorem dX1_work_3 : decode cX1_work 3 = .ok (.bipush 12, 2) := by decide +kernel
theorem dX1_work_5 : decode cX1_work 5 = .ok (.if_icmp .ge 23, 3) := by decide +kernel
theorem dX1_work_8 : decode cX1_work 8 = .ok (.aload_n 0, 1) := by decide +kernel
theorem dX1_work_9 : decode cX1_work 9 = .ok (.getfield 19, 3) := by decide +kernel
theorem dX1_work_12 : decode cX1_work 12 = .ok (.iload_n 1, 1) := by decide +kernel
theorem dX1_work_13 : decode cX1_work 13 = .ok (.iload_n 1, 1) := by decide +kernel
theorem dX1_work_14 : decode cX1_work 14 = .ok (.iastore, 1) := by decide +kernel
theorem dX1_work_15 : decode cX1_work 15 = .ok (.aload_n 0, 1) := by decide +kernel
theorem dX1_work_16 : decode cX1_work 16 = .ok (.getfield 22, 3) := by decide +kernel
theorem dX1_work_19 : decode cX1_work 19 = .ok (.iload_n 1, 1) := by decide +kernel
theorem dX1_work_20 : decode cX1_work 20 = .ok (.iconst (-1), 1) := by decide +kernel
theorem dX1_work_21 : decode cX1_work 21 = .ok (.iastore, 1) := by decide +kernel
theorem dX1_work_22 : decode cX1_work 22 = .ok (.iinc 1 1, 3) := by decide +kernel
theorem dX1_work_25 : decode cX1_work 25 = .ok (.goto (-23), 3) := by decide +kernel
theorem dX1_work_28 : decode cX1_work 28 = .ok (.aload_n 0, 1) := by decide +kernel
theorem dX1_work_29 : decode cX1_work 29 = .ok (.iconst 1, 1) := by decide +kernel
theorem dX1_work_30 : decode cX1_work 30 = .ok (.putfield 33, 3) := by decide +kernel
theorem dX1_work_33 : decode cX1_work 33 = .ok (.iconst 0, 1) := by decide +kernel
theorem dX1_work_34 : decode cX1_work 34 = .ok (.istore_n 1, 1) := by decide +kernel
theorem dX1_work_35 : decode cX1_work 35 = .ok (.iload_n 1, 1) := by decide +kernel
theorem dX1_work_36 : decode cX1_work 36 = .ok (.bipush 30, 2) := by decide +kernel
theorem dX1_work_38 : decode cX1_work 38 = .ok (.if_icmp .ge 42, 3) := by decide +kernel
theorem dX1_work_41 : decode cX1_work 41 = .ok (.aload_n 0, 1) := by decide +kernel
theorem dX1_work_42 : decode cX1_work 42 = .ok (.getfield 33, 3) := by decide +kernel
theorem dX1_work_45 : decode cX1_work 45 = .ok (.ifCond .eq 35, 3) := by decide +kernel
theorem dX1_work_48 : decode cX1_work 48 = .ok (.aload_n 0, 1) := by decide +kernel
theorem dX1_work_49 : decode cX1_work 49 = .ok (.iconst 0, 1) := by decide +kernel
theorem dX1_work_50 : decode cX1_work 50 = .ok (.putfield 33, 3) := by decide +kernel
theorem dX1_work_53 : decode cX1_work 53 = .ok (.iconst 0, 1) := by decide +kernel
theorem dX1_work_54 : decode cX1_work 54 = .ok (.istore_n 2, 1) := by decide +kernel
theorem dX1_work_55 : decode cX1_work 55 = .ok (.iload_n 2, 1) := by decide +kernel
theorem dX1_work_56 : decode cX1_work 56 = .ok (.aload_n 0, 1) := by decide +kernel
theorem dX1_work_57 : decode cX1_work 57 = .ok (.getfield 29, 3) := by decide +kernel
theorem dX1_work_60 : decode cX1_work 60 = .ok (.if_icmp .ge 14, 3) := by decide +kernel
theorem dX1_work_63 : decode cX1_work 63 = .ok (.aload_n 0, 1) := by decide +kernel
theorem dX1_work_64 : decode cX1_work 64 = .ok (.iload_n 2, 1) := by decide +kernel
theorem dX1_work_65 : decode cX1_work 65 = .ok (.invokevirtual 44, 3) := by decide +kernel
theorem dX1_work_68 : decode cX1_work 68 = .ok (.iinc 2 1, 3) := by decide +kernel
theorem dX1_work_71 : decode cX1_work 71 = .ok (.goto (-16), 3) := by decide +kernel
theorem dX1_work_74 : decode cX1_work 74 = .ok (.iinc 1 1, 3) := by decide +kernel
theorem dX1_work_77 : decode cX1_work 77 = .ok (.goto (-42), 3) := by decide +kernel
theorem dX1_work_80 : decode cX1_work 80 = .ok (.return_, 1) := by decide +kernel
abbrev cX1_apply : ByteArray := prog_3_method_7_code
def yX1_apply : MethodName := ⟨RX1, "apply", "(I)V"⟩
theorem dX1_apply_0 : decode cX1_apply 0 = .ok (.aload_n 0, 1) := by decide +kernel
theorem dX1_apply_1 : decode cX1_apply 1 = .ok (.getfield 19, 3) := by decide +kernel
theorem dX1_apply_4 : decode cX1_apply 4 = .ok (.aload_n 0, 1) := by decide +kernel
theorem dX1_apply_5 : decode cX1_apply 5 = .ok (.getfield 13, 3) := by decide +kernel
theorem dX1_apply_8 : decode cX1_apply 8 = .ok (.iload_n 1, 1) := by decide +kernel
theorem dX1_apply_9 : decode cX1_apply 9 = .ok (.iaload, 1) := by decide +kernel
theorem dX1_apply_10 : decode cX1_apply 10 = .ok (.iaload, 1) := by decide +kernel
theorem dX1_apply_11 : decode cX1_apply 11 = .ok (.istore_n 2, 1) := by decide +kernel
theorem dX1_apply_12 : decode cX1_apply 12 = .ok (.aload_n 0, 1) := by decide +kernel
theorem dX1_apply_13 : decode cX1_apply 13 = .ok (.getfield 19, 3) := by decide +kernel
theorem dX1_apply_16 : decode cX1_apply 16 = .ok (.aload_n 0, 1) := by decide +kernel
theorem dX1_apply_17 : decode cX1_apply 17 = .ok (.getfield 16, 3) := by decide +kernel
theorem dX1_apply_20 : decode cX1_apply 20 = .ok (.iload_n 1, 1) := by decide +kernel
theorem dX1_apply_21 : decode cX1_apply 21 = .ok (.iaload, 1) := by decide +kernel
theorem dX1_apply_22 : decode cX1_apply 22 = .ok (.iaload, 1) := by decide +kernel
theorem dX1_apply_23 : decode cX1_apply 23 = .ok (.istore_n 3, 1) := by decide +kernel
theorem dX1_apply_24 : decode cX1_apply 24 = .ok (.aload_n 0, 1) := by decide +kernel
theorem dX1_apply_25 : decode cX1_apply 25 = .ok (.getfield 22, 3) := by decide +kernel
theorem dX1_apply_28 : decode cX1_apply 28 = .ok (.iload_n 3, 1) := by decide +kernel
theorem dX1_apply_29 : decode cX1_apply 29 = .ok (.iaload, 1) := by decide +kernel
theorem dX1_apply_30 : decode cX1_apply 30 = .ok (.istore 4, 2) := by decide +kernel
theorem dX1_apply_32 : decode cX1_apply 32 = .ok (.aload_n 0, 1) := by decide +kernel
theorem dX1_apply_33 : decode cX1_apply 33 = .ok (.getfield 7, 3) := by decide +kernel
theorem dX1_apply_36 : decode cX1_apply 36 = .ok (.iload_n 1, 1) := by decide +kernel
theorem dX1_apply_37 : decode cX1_apply 37 = .ok (.iaload, 1) := by decide +kernel
theorem dX1_apply_38 : decode cX1_apply 38 = .ok (.ifCond .ne 9, 3) := by decide +kernel
theorem dX1_apply_41 : decode cX1_apply 41 = .ok (.aload_n 0, 1) := by decide +kernel
theorem dX1_apply_42 : decode cX1_apply 42 = .ok (.iload_n 2, 1) := by decide +kernel
theorem dX1_apply_43 : decode cX1_apply 43 = .ok (.iload_n 3, 1) := by decide +kernel
theorem dX1_apply_44 : decode cX1_apply 44 = .ok (.invokevirtual 41, 3) := by decide +kernel
theorem dX1_apply_47 : decode cX1_apply 47 = .ok (.aload_n 0, 1) := by decide +kernel
theorem dX1_apply_48 : decode cX1_apply 48 = .ok (.getfield 7, 3) := by decide +kernel
theorem dX1_apply_51 : decode cX1_apply 51 = .ok (.iload_n 1, 1) := by decide +kernel
theorem dX1_apply_52 : decode cX1_apply 52 = .ok (.iaload, 1) := by decide +kernel
theorem dX1_apply_53 : decode cX1_apply 53 = .ok (.iconst 1, 1) := by decide +kernel
theorem dX1_apply_54 : decode cX1_apply 54 = .ok (.if_icmp .ne 15, 3) := by decide +kernel
theorem dX1_apply_57 : decode cX1_apply 57 = .ok (.iload 4, 2) := by decide +kernel
theorem dX1_apply_59 : decode cX1_apply 59 = .ok (.ifCond .lt 10, 3) := by decide +kernel
theorem dX1_apply_62 : decode cX1_apply 62 = .ok (.aload_n 0, 1) := by decide +kernel
theorem dX1_apply_63 : decode cX1_apply 63 = .ok (.iload_n 2, 1) := by decide +kernel
theorem dX1_apply_64 : decode cX1_apply 64 = .ok (.iload 4, 2) := by decide +kernel
theorem dX1_apply_66 : decode cX1_apply 66 = .ok (.invokevirtual 41, 3) := by decide +kernel
theorem dX1_apply_69 : decode cX1_apply 69 = .ok (.aload_n 0, 1) := by decide +kernel
theorem dX1_apply_70 : decode cX1_apply 70 = .ok (.getfield 7, 3) := by decide +kernel
theorem dX1_apply_73 : decode cX1_apply 73 = .ok (.iload_n 1, 1) := by decide +kernel
theorem dX1_apply_74 : decode cX1_apply 74 = .ok (.iaload, 1) := by decide +kernel
theorem dX1_apply_75 : decode cX1_apply 75 = .ok (.iconst 2, 1) := by decide +kernel
theorem dX1_apply_76 : decode cX1_apply 76 = .ok (.if_icmp .ne 30, 3) := by decide +kernel
theorem dX1_apply_79 : decode cX1_apply 79 = .ok (.iload 4, 2) := by decide +kernel
theorem dX1_apply_81 : decode cX1_apply 81 = .ok (.ifCond .lt 25, 3) := by decide +kernel
theorem dX1_apply_84 : decode cX1_apply 84 = .ok (.aload_n 0, 1) := by decide +kernel
theorem dX1_apply_85 : decode cX1_apply 85 = .ok (.getfield 22, 3) := by decide +kernel
theorem dX1_apply_88 : decode cX1_apply 88 = .ok (.iload 4, 2) := by decide +kernel
theorem dX1_apply_90 : decode cX1_apply 90 = .ok (.iaload, 1) := by decide +kernel
theorem dX1_apply_91 : decode cX1_apply 91 = .ok (.ifCond .lt 15, 3) := by decide +kernel
theorem dX1_apply_94 : decode cX1_apply 94 = .ok (.aload_n 0, 1) := by decide +kernel
theorem dX1_apply_95 : decode cX1_apply 95 = .ok (.iload_n 2, 1) := by decide +kernel
theorem dX1_apply_96 : decode cX1_apply 96 = .ok (.aload_n 0, 1) := by decide +kernel
theorem dX1_apply_97 : decode cX1_apply 97 = .ok (.getfield 22, 3) := by decide +kernel
theorem dX1_apply_100 : decode cX1_apply 100 = .ok (.iload 4, 2) := by decide +kernel
theorem dX1_apply_102 : decode cX1_apply 102 = .ok (.iaload, 1) := by decide +kernel
theorem dX1_apply_103 : decode cX1_apply 103 = .ok (.invokevirtual 41, 3) := by decide +kernel
theorem dX1_apply_106 : decode cX1_apply 106 = .ok (.aload_n 0, 1) := by decide +kernel
theorem dX1_apply_107 : decode cX1_apply 107 = .ok (.getfield 7, 3) := by decide +kernel
theorem dX1_apply_110 : decode cX1_apply 110 = .ok (.iload_n 1, 1) := by decide +kernel
theorem dX1_apply_111 : decode cX1_apply 111 = .ok (.iaload, 1) := by decide +kernel
theorem dX1_apply_112 : decode cX1_apply 112 = .ok (.iconst 3, 1) := by decide +kernel
theorem dX1_apply_113 : decode cX1_apply 113 = .ok (.if_icmp .ne 29, 3) := by decide +kernel
theorem dX1_apply_116 : decode cX1_apply 116 = .ok (.aload_n 0, 1) := by decide +kernel
theorem dX1_apply_117 : decode cX1_apply 117 = .ok (.getfield 22, 3) := by decide +kernel
theorem dX1_apply_120 : decode cX1_apply 120 = .ok (.iload_n 2, 1) := by decide +kernel
theorem dX1_apply_121 : decode cX1_apply 121 = .ok (.iaload, 1) := by decide +kernel
theorem dX1_apply_122 : decode cX1_apply 122 = .ok (.ifCond .lt 20, 3) := by decide +kernel
theorem dX1_apply_125 : decode cX1_apply 125 = .ok (.iload 4, 2) := by decide +kernel
theorem dX1_apply_127 : decode cX1_apply 127 = .ok (.ifCond .lt 15, 3) := by decide +kernel
theorem dX1_apply_130 : decode cX1_apply 130 = .ok (.aload_n 0, 1) := by decide +kernel
theorem dX1_apply_131 : decode cX1_apply 131 = .ok (.aload_n 0, 1) := by decide +kernel
theorem dX1_apply_132 : decode cX1_apply 132 = .ok (.getfield 22, 3) := by decide +kernel
theorem dX1_apply_135 : decode cX1_apply 135 = .ok (.iload_n 2, 1) := by decide +kernel
theorem dX1_apply_136 : decode cX1_apply 136 = .ok (.iaload, 1) := by decide +kernel
theorem dX1_apply_137 : decode cX1_apply 137 = .ok (.iload 4, 2) := by decide +kernel
theorem dX1_apply_139 : decode cX1_apply 139 = .ok (.invokevirtual 41, 3) := by decide +kernel
theorem dX1_apply_142 : decode cX1_apply 142 = .ok (.return_, 1) := by decide +kernel
abbrev cX1_point : ByteArray := prog_3_method_6_code
def yX1_point : MethodName := ⟨RX1, "point", "(II)V"⟩
theorem dX1_point_0 : decode cX1_point 0 = .ok (.aload_n 0, 1) := by decide +kernel
theorem dX1_point_1 : decode cX1_point 1 = .ok (.getfield 22, 3) := by decide +kernel
theorem dX1_point_4 : decode cX1_point 4 = .ok (.iload_n 1, 1) := by decide +kernel
theorem dX1_point_5 : decode cX1_point 5 = .ok (.iaload, 1) := by decide +kernel
theorem dX1_point_6 : decode cX1_point 6 = .ok (.ifCond .ge 18, 3) := by decide +kernel
theorem dX1_point_9 : decode cX1_point 9 = .ok (.aload_n 0, 1) := by decide +kernel
theorem dX1_point_10 : decode cX1_point 10 = .ok (.getfield 22, 3) := by decide +kernel
theorem dX1_point_13 : decode cX1_point 13 = .ok (.iload_n 1, 1) := by decide +kernel
theorem dX1_point_14 : decode cX1_point 14 = .ok (.iload_n 2, 1) := by decide +kernel
theorem dX1_point_15 : decode cX1_point 15 = .ok (.iastore, 1) := by decide +kernel
theorem dX1_point_16 : decode cX1_point 16 = .ok (.aload_n 0, 1) := by decide +kernel
theorem dX1_point_17 : decode cX1_point 17 = .ok (.iconst 1, 1) := by decide +kernel
theorem dX1_point_18 : decode cX1_point 18 = .ok (.putfield 33, 3) := by decide +kernel
theorem dX1_point_21 : decode cX1_point 21 = .ok (.goto 14, 3) := by decide +kernel
theorem dX1_point_24 : decode cX1_point 24 = .ok (.aload_n 0, 1) := by decide +kernel
theorem dX1_point_25 : decode cX1_point 25 = .ok (.aload_n 0, 1) := by decide +kernel
theorem dX1_point_26 : decode cX1_point 26 = .ok (.getfield 22, 3) := by decide +kernel
theorem dX1_point_29 : decode cX1_point 29 = .ok (.iload_n 1, 1) := by decide +kernel
theorem dX1_point_30 : decode cX1_point 30 = .ok (.iaload, 1) := by decide +kernel
theorem dX1_point_31 : decode cX1_point 31 = .ok (.iload_n 2, 1) := by decide +kernel
theorem dX1_point_32 : decode cX1_point 32 = .ok (.invokevirtual 37, 3) := by decide +kernel
theorem dX1_point_35 : decode cX1_point 35 = .ok (.return_, 1) := by decide +kernel
abbrev cX1_join : ByteArray := prog_3_method_5_code
def yX1_join : MethodName := ⟨RX1, "join", "(II)V"⟩
theorem dX1_join_0 : decode cX1_join 0 = .ok (.iload_n 1, 1) := by decide +kernel
theorem dX1_join_1 : decode cX1_join 1 = .ok (.istore_n 3, 1) := by decide +kernel
theorem dX1_join_2 : decode cX1_join 2 = .ok (.iload_n 2, 1) := by decide +kernel
theorem dX1_join_3 : decode cX1_join 3 = .ok (.istore 4, 2) := by decide +kernel
theorem dX1_join_5 : decode cX1_join 5 = .ok (.iload_n 3, 1) := by decide +kernel
theorem dX1_join_6 : decode cX1_join 6 = .ok (.iload 4, 2) := by decide +kernel
theorem dX1_join_8 : decode cX1_join 8 = .ok (.if_icmp .eq 157, 3) := by decide +kernel
theorem dX1_join_11 : decode cX1_join 11 = .ok (.iload_n 3, 1) := by decide +kernel
theorem dX1_join_12 : decode cX1_join 12 = .ok (.ifCond .lt 153, 3) := by decide +kernel
theorem dX1_join_15 : decode cX1_join 15 = .ok (.iload 4, 2) := by decide +kernel
theorem dX1_join_17 : decode cX1_join 17 = .ok (.ifCond .lt 148, 3) := by decide +kernel
theorem dX1_join_20 : decode cX1_join 20 = .ok (.aload_n 0, 1) := by decide +kernel
theorem dX1_join_21 : decode cX1_join 21 = .ok (.iconst 1, 1) := by decide +kernel
theorem dX1_join_22 : decode cX1_join 22 = .ok (.putfield 33, 3) := by decide +kernel
theorem dX1_join_25 : decode cX1_join 25 = .ok (.aload_n 0, 1) := by decide +kernel
theorem dX1_join_26 : decode cX1_join 26 = .ok (.getfield 22, 3) := by decide +kernel
theorem dX1_join_29 : decode cX1_join 29 = .ok (.iload_n 3, 1) := by decide +kernel
theorem dX1_join_30 : decode cX1_join 30 = .ok (.iaload, 1) := by decide +kernel
theorem dX1_join_31 : decode cX1_join 31 = .ok (.iload 4, 2) := by decide +kernel
theorem dX1_join_33 : decode cX1_join 33 = .ok (.if_icmp .ne 7, 3) := by decide +kernel
theorem dX1_join_36 : decode cX1_join 36 = .ok (.iload_n 3, 1) := by decide +kernel
theorem dX1_join_37 : decode cX1_join 37 = .ok (.goto 9, 3) := by decide +kernel
theorem dX1_join_40 : decode cX1_join 40 = .ok (.aload_n 0, 1) := by decide +kernel
theorem dX1_join_41 : decode cX1_join 41 = .ok (.getfield 22, 3) := by decide +kernel
theorem dX1_join_44 : decode cX1_join 44 = .ok (.iload_n 3, 1) := by decide +kernel
theorem dX1_join_45 : decode cX1_join 45 = .ok (.iaload, 1) := by decide +kernel
theorem dX1_join_46 : decode cX1_join 46 = .ok (.istore 5, 2) := by decide +kernel
theorem dX1_join_48 : decode cX1_join 48 = .ok (.aload_n 0, 1) := by decide +kernel
theorem dX1_join_49 : decode cX1_join 49 = .ok (.getfield 22, 3) := by decide +kernel
theorem dX1_join_52 : decode cX1_join 52 = .ok (.iload 4, 2) := by decide +kernel
theorem dX1_join_54 : decode cX1_join 54 = .ok (.iaload, 1) := by decide +kernel
theorem dX1_join_55 : decode cX1_join 55 = .ok (.iload 4, 2) := by decide +kernel
theorem dX1_join_57 : decode cX1_join 57 = .ok (.if_icmp .ne 7, 3) := by decide +kernel
theorem dX1_join_60 : decode cX1_join 60 = .ok (.iload_n 3, 1) := by decide +kernel
theorem dX1_join_61 : decode cX1_join 61 = .ok (.goto 10, 3) := by decide +kernel
theorem dX1_join_64 : decode cX1_join 64 = .ok (.aload_n 0, 1) := by decide +kernel
theorem dX1_join_65 : decode cX1_join 65 = .ok (.getfield 22, 3) := by decide +kernel
theorem dX1_join_68 : decode cX1_join 68 = .ok (.iload 4, 2) := by decide +kernel
theorem dX1_join_70 : decode cX1_join 70 = .ok (.iaload, 1) := by decide +kernel
theorem dX1_join_71 : decode cX1_join 71 = .ok (.istore 6, 2) := by decide +kernel
theorem dX1_join_73 : decode cX1_join 73 = .ok (.iconst 0, 1) := by decide +kernel
theorem dX1_join_74 : decode cX1_join 74 = .ok (.istore 7, 2) := by decide +kernel
theorem dX1_join_76 : decode cX1_join 76 = .ok (.iload 7, 2) := by decide +kernel
theorem dX1_join_78 : decode cX1_join 78 = .ok (.bipush 12, 2) := by decide +kernel
theorem dX1_join_80 : decode cX1_join 80 = .ok (.if_icmp .ge 49, 3) := by decide +kernel
theorem dX1_join_83 : decode cX1_join 83 = .ok (.aload_n 0, 1) := by decide +kernel
theorem dX1_join_84 : decode cX1_join 84 = .ok (.getfield 19, 3) := by decide +kernel
theorem dX1_join_87 : decode cX1_join 87 = .ok (.iload 7, 2) := by decide +kernel
theorem dX1_join_89 : decode cX1_join 89 = .ok (.iaload, 1) := by decide +kernel
theorem dX1_join_90 : decode cX1_join 90 = .ok (.iload 4, 2) := by decide +kernel
theorem dX1_join_92 : decode cX1_join 92 = .ok (.if_icmp .ne 11, 3) := by decide +kernel
theorem dX1_join_95 : decode cX1_join 95 = .ok (.aload_n 0, 1) := by decide +kernel
theorem dX1_join_96 : decode cX1_join 96 = .ok (.getfield 19, 3) := by decide +kernel
theorem dX1_join_99 : decode cX1_join 99 = .ok (.iload 7, 2) := by decide +kernel
theorem dX1_join_101 : decode cX1_join 101 = .ok (.iload_n 3, 1) := by decide +kernel
theorem dX1_join_102 : decode cX1_join 102 = .ok (.iastore, 1) := by decide +kernel
theorem dX1_join_103 : decode cX1_join 103 = .ok (.aload_n 0, 1) := by decide +kernel
theorem dX1_join_104 : decode cX1_join 104 = .ok (.getfield 22, 3) := by decide +kernel
theorem dX1_join_107 : decode cX1_join 107 = .ok (.iload 7, 2) := by decide +kernel
theorem dX1_join_109 : decode cX1_join 109 = .ok (.iaload, 1) := by decide +kernel
theorem dX1_join_110 : decode cX1_join 110 = .ok (.iload 4, 2) := by decide +kernel
theorem dX1_join_112 : decode cX1_join 112 = .ok (.if_icmp .ne 11, 3) := by decide +kernel
theorem dX1_join_115 : decode cX1_join 115 = .ok (.aload_n 0, 1) := by decide +kernel
theorem dX1_join_116 : decode cX1_join 116 = .ok (.getfield 22, 3) := by decide +kernel
theorem dX1_join_119 : decode cX1_join 119 = .ok (.iload 7, 2) := by decide +kernel
theorem dX1_join_121 : decode cX1_join 121 = .ok (.iload_n 3, 1) := by decide +kernel
theorem dX1_join_122 : decode cX1_join 122 = .ok (.iastore, 1) := by decide +kernel
theorem dX1_join_123 : decode cX1_join 123 = .ok (.iinc 7 1, 3) := by decide +kernel
theorem dX1_join_126 : decode cX1_join 126 = .ok (.goto (-50), 3) := by decide +kernel
theorem dX1_join_129 : decode cX1_join 129 = .ok (.aload_n 0, 1) := by decide +kernel
theorem dX1_join_130 : decode cX1_join 130 = .ok (.getfield 22, 3) := by decide +kernel
theorem dX1_join_133 : decode cX1_join 133 = .ok (.iload_n 3, 1) := by decide +kernel
theorem dX1_join_134 : decode cX1_join 134 = .ok (.iload 5, 2) := by decide +kernel
theorem dX1_join_136 : decode cX1_join 136 = .ok (.ifCond .lt 8, 3) := by decide +kernel
theorem dX1_join_139 : decode cX1_join 139 = .ok (.iload 5, 2) := by decide +kernel
theorem dX1_join_141 : decode cX1_join 141 = .ok (.goto 5, 3) := by decide +kernel
theorem dX1_join_144 : decode cX1_join 144 = .ok (.iload 6, 2) := by decide +kernel
theorem dX1_join_146 : decode cX1_join 146 = .ok (.iastore, 1) := by decide +kernel
theorem dX1_join_147 : decode cX1_join 147 = .ok (.aload_n 0, 1) := by decide +kernel
theorem dX1_join_148 : decode cX1_join 148 = .ok (.getfield 22, 3) := by decide +kernel
theorem dX1_join_151 : decode cX1_join 151 = .ok (.iload 4, 2) := by decide +kernel
theorem dX1_join_153 : decode cX1_join 153 = .ok (.iconst (-1), 1) := by decide +kernel
theorem dX1_join_154 : decode cX1_join 154 = .ok (.iastore, 1) := by decide +kernel
theorem dX1_join_155 : decode cX1_join 155 = .ok (.iload 5, 2) := by decide +kernel
theorem dX1_join_157 : decode cX1_join 157 = .ok (.istore_n 3, 1) := by decide +kernel
theorem dX1_join_158 : decode cX1_join 158 = .ok (.iload 6, 2) := by decide +kernel
theorem dX1_join_160 : decode cX1_join 160 = .ok (.istore 4, 2) := by decide +kernel
theorem dX1_join_162 : decode cX1_join 162 = .ok (.goto (-157), 3) := by decide +kernel
theorem dX1_join_165 : decode cX1_join 165 = .ok (.return_, 1) := by decide +kernel
abbrev cX1_members : ByteArray := prog_3_method_11_code
def yX1_members : MethodName := ⟨RX1, "members", "(I)I"⟩
theorem dX1_members_0 : decode cX1_members 0 = .ok (.iload_n 1, 1) := by decide +kernel
theorem dX1_members_1 : decode cX1_members 1 = .ok (.invokestatic 25, 3) := by decide +kernel
theorem dX1_members_4 : decode cX1_members 4 = .ok (.ifCond .eq 5, 3) := by decide +kernel
theorem dX1_members_7 : decode cX1_members 7 = .ok (.iconst (-1), 1) := by decide +kernel
theorem dX1_members_8 : decode cX1_members 8 = .ok (.ireturn, 1) := by decide +kernel
theorem dX1_members_9 : decode cX1_members 9 = .ok (.aload_n 0, 1) := by decide +kernel
theorem dX1_members_10 : decode cX1_members 10 = .ok (.invokevirtual 48, 3) := by decide +kernel
theorem dX1_members_13 : decode cX1_members 13 = .ok (.aload_n 0, 1) := by decide +kernel
theorem dX1_members_14 : decode cX1_members 14 = .ok (.aload_n 0, 1) := by decide +kernel
theorem dX1_members_15 : decode cX1_members 15 = .ok (.getfield 19, 3) := by decide +kernel
theorem dX1_members_18 : decode cX1_members 18 = .ok (.iload_n 1, 1) := by decide +kernel
theorem dX1_members_19 : decode cX1_members 19 = .ok (.iaload, 1) := by decide +kernel
theorem dX1_members_20 : decode cX1_members 20 = .ok (.invokevirtual 51, 3) := by decide +kernel
theorem dX1_members_23 : decode cX1_members 23 = .ok (.ireturn, 1) := by decide +kernel
abbrev cX1_membersOf : ByteArray := prog_3_method_10_code
def yX1_membersOf : MethodName := ⟨RX1, "membersOf", "(I)I"⟩
theorem dX1_membersOf_0 : decode cX1_membersOf 0 = .ok (.iconst 0, 1) := by decide +kernel
theorem dX1_membersOf_1 : decode cX1_membersOf 1 = .ok (.istore_n 2, 1) := by decide +kernel
theorem dX1_membersOf_2 : decode cX1_membersOf 2 = .ok (.iconst 0, 1) := by decide +kernel
theorem dX1_membersOf_3 : decode cX1_membersOf 3 = .ok (.istore_n 3, 1) := by decide +kernel
theorem dX1_membersOf_4 : decode cX1_membersOf 4 = .ok (.iload_n 3, 1) := by decide +kernel
theorem dX1_membersOf_5 : decode cX1_membersOf 5 = .ok (.bipush 12, 2) := by decide +kernel
theorem dX1_membersOf_7 : decode cX1_membersOf 7 = .ok (.if_icmp .ge 25, 3) := by decide +kernel
theorem dX1_membersOf_10 : decode cX1_membersOf 10 = .ok (.aload_n 0, 1) := by decide +kernel
theorem dX1_membersOf_11 : decode cX1_membersOf 11 = .ok (.getfield 19, 3) := by decide +kernel
theorem dX1_membersOf_14 : decode cX1_membersOf 14 = .ok (.iload_n 3, 1) := by decide +kernel
theorem dX1_membersOf_15 : decode cX1_membersOf 15 = .ok (.iaload, 1) := by decide +kernel
theorem dX1_membersOf_16 : decode cX1_membersOf 16 = .ok (.iload_n 1, 1) := by decide +kernel
theorem dX1_membersOf_17 : decode cX1_membersOf 17 = .ok (.if_icmp .ne 9, 3) := by decide +kernel
theorem dX1_membersOf_20 : decode cX1_membersOf 20 = .ok (.iload_n 2, 1) := by decide +kernel
theorem dX1_membersOf_21 : decode cX1_membersOf 21 = .ok (.iconst 1, 1) := by decide +kernel
theorem dX1_membersOf_22 : decode cX1_membersOf 22 = .ok (.iload_n 3, 1) := by decide +kernel
theorem dX1_membersOf_23 : decode cX1_membersOf 23 = .ok (.ishl, 1) := by decide +kernel
theorem dX1_membersOf_24 : decode cX1_membersOf 24 = .ok (.ior, 1) := by decide +kernel
theorem dX1_membersOf_25 : decode cX1_membersOf 25 = .ok (.istore_n 2, 1) := by decide +kernel
theorem dX1_membersOf_26 : decode cX1_membersOf 26 = .ok (.iinc 3 1, 3) := by decide +kernel
theorem dX1_membersOf_29 : decode cX1_membersOf 29 = .ok (.goto (-25), 3) := by decide +kernel
theorem dX1_membersOf_32 : decode cX1_membersOf 32 = .ok (.iload_n 2, 1) := by decide +kernel
theorem dX1_membersOf_33 : decode cX1_membersOf 33 = .ok (.ireturn, 1) := by decide +kernel
abbrev cX1_target : ByteArray := prog_3_method_12_code
def yX1_target : MethodName := ⟨RX1, "target", "(I)I"⟩
theorem dX1_target_0 : decode cX1_target 0 = .ok (.iload_n 1, 1) := by decide +kernel
theorem dX1_target_1 : decode cX1_target 1 = .ok (.invokestatic 25, 3) := by decide +kernel
theorem dX1_target_4 : decode cX1_target 4 = .ok (.ifCond .eq 5, 3) := by decide +kernel
theorem dX1_target_7 : decode cX1_target 7 = .ok (.iconst (-1), 1) := by decide +kernel
theorem dX1_target_8 : decode cX1_target 8 = .ok (.ireturn, 1) := by decide +kernel
theorem dX1_target_9 : decode cX1_target 9 = .ok (.aload_n 0, 1) := by decide +kernel
theorem dX1_target_10 : decode cX1_target 10 = .ok (.invokevirtual 48, 3) := by decide +kernel
theorem dX1_target_13 : decode cX1_target 13 = .ok (.aload_n 0, 1) := by decide +kernel
theorem dX1_target_14 : decode cX1_target 14 = .ok (.getfield 22, 3) := by decide +kernel
theorem dX1_target_17 : decode cX1_target 17 = .ok (.aload_n 0, 1) := by decide +kernel
theorem dX1_target_18 : decode cX1_target 18 = .ok (.getfield 19, 3) := by decide +kernel
theorem dX1_target_21 : decode cX1_target 21 = .ok (.iload_n 1, 1) := by decide +kernel
theorem dX1_target_22 : decode cX1_target 22 = .ok (.iaload, 1) := by decide +kernel
theorem dX1_target_23 : decode cX1_target 23 = .ok (.iaload, 1) := by decide +kernel
theorem dX1_target_24 : decode cX1_target 24 = .ok (.istore_n 2, 1) := by decide +kernel
theorem dX1_target_25 : decode cX1_target 25 = .ok (.iconst 0, 1) := by decide +kernel
theorem dX1_target_26 : decode cX1_target 26 = .ok (.istore_n 3, 1) := by decide +kernel
theorem dX1_target_27 : decode cX1_target 27 = .ok (.iload_n 3, 1) := by decide +kernel
theorem dX1_target_28 : decode cX1_target 28 = .ok (.bipush 12, 2) := by decide +kernel
theorem dX1_target_30 : decode cX1_target 30 = .ok (.if_icmp .ge 25, 3) := by decide +kernel
theorem dX1_target_33 : decode cX1_target 33 = .ok (.iload_n 2, 1) := by decide +kernel
theorem dX1_target_34 : decode cX1_target 34 = .ok (.ifCond .lt 15, 3) := by decide +kernel
theorem dX1_target_37 : decode cX1_target 37 = .ok (.aload_n 0, 1) := by decide +kernel
theorem dX1_target_38 : decode cX1_target 38 = .ok (.getfield 19, 3) := by decide +kernel
theorem dX1_target_41 : decode cX1_target 41 = .ok (.iload_n 3, 1) := by decide +kernel
theorem dX1_target_42 : decode cX1_target 42 = .ok (.iaload, 1) := by decide +kernel
theorem dX1_target_43 : decode cX1_target 43 = .ok (.iload_n 2, 1) := by decide +kernel
theorem dX1_target_44 : decode cX1_target 44 = .ok (.if_icmp .ne 5, 3) := by decide +kernel
theorem dX1_target_47 : decode cX1_target 47 = .ok (.iload_n 3, 1) := by decide +kernel
theorem dX1_target_48 : decode cX1_target 48 = .ok (.ireturn, 1) := by decide +kernel
theorem dX1_target_49 : decode cX1_target 49 = .ok (.iinc 3 1, 3) := by decide +kernel
theorem dX1_target_52 : decode cX1_target 52 = .ok (.goto (-25), 3) := by decide +kernel
theorem dX1_target_55 : decode cX1_target 55 = .ok (.iconst (-1), 1) := by decide +kernel
theorem dX1_target_56 : decode cX1_target 56 = .ok (.ireturn, 1) := by decide +kernel
abbrev cX1_meet : ByteArray := prog_3_method_13_code
def yX1_meet : MethodName := ⟨RX1, "meet", "(II)I"⟩
theorem dX1_meet_0 : decode cX1_meet 0 = .ok (.iload_n 1, 1) := by decide +kernel
theorem dX1_meet_1 : decode cX1_meet 1 = .ok (.invokestatic 25, 3) := by decide +kernel
theorem dX1_meet_4 : decode cX1_meet 4 = .ok (.ifCond .ne 10, 3) := by decide +kernel
theorem dX1_meet_7 : decode cX1_meet 7 = .ok (.iload_n 2, 1) := by decide +kernel
theorem dX1_meet_8 : decode cX1_meet 8 = .ok (.invokestatic 25, 3) := by decide +kernel
theorem dX1_meet_11 : decode cX1_meet 11 = .ok (.ifCond .eq 5, 3) := by decide +kernel
theorem dX1_meet_14 : decode cX1_meet 14 = .ok (.iconst (-1), 1) := by decide +kernel
theorem dX1_meet_15 : decode cX1_meet 15 = .ok (.ireturn, 1) := by decide +kernel
theorem dX1_meet_16 : decode cX1_meet 16 = .ok (.aload_n 0, 1) := by decide +kernel
theorem dX1_meet_17 : decode cX1_meet 17 = .ok (.invokevirtual 48, 3) := by decide +kernel
theorem dX1_meet_20 : decode cX1_meet 20 = .ok (.aload_n 0, 1) := by decide +kernel
theorem dX1_meet_21 : decode cX1_meet 21 = .ok (.getfield 22, 3) := by decide +kernel
theorem dX1_meet_24 : decode cX1_meet 24 = .ok (.aload_n 0, 1) := by decide +kernel
theorem dX1_meet_25 : decode cX1_meet 25 = .ok (.getfield 19, 3) := by decide +kernel
theorem dX1_meet_28 : decode cX1_meet 28 = .ok (.iload_n 1, 1) := by decide +kernel
theorem dX1_meet_29 : decode cX1_meet 29 = .ok (.iaload, 1) := by decide +kernel
theorem dX1_meet_30 : decode cX1_meet 30 = .ok (.iaload, 1) := by decide +kernel
theorem dX1_meet_31 : decode cX1_meet 31 = .ok (.istore_n 3, 1) := by decide +kernel
theorem dX1_meet_32 : decode cX1_meet 32 = .ok (.iload_n 3, 1) := by decide +kernel
theorem dX1_meet_33 : decode cX1_meet 33 = .ok (.ifCond .lt 22, 3) := by decide +kernel
theorem dX1_meet_36 : decode cX1_meet 36 = .ok (.iload_n 3, 1) := by decide +kernel
theorem dX1_meet_37 : decode cX1_meet 37 = .ok (.aload_n 0, 1) := by decide +kernel
theorem dX1_meet_38 : decode cX1_meet 38 = .ok (.getfield 22, 3) := by decide +kernel
theorem dX1_meet_41 : decode cX1_meet 41 = .ok (.aload_n 0, 1) := by decide +kernel
theorem dX1_meet_42 : decode cX1_meet 42 = .ok (.getfield 19, 3) := by decide +kernel
theorem dX1_meet_45 : decode cX1_meet 45 = .ok (.iload_n 2, 1) := by decide +kernel
theorem dX1_meet_46 : decode cX1_meet 46 = .ok (.iaload, 1) := by decide +kernel
theorem dX1_meet_47 : decode cX1_meet 47 = .ok (.iaload, 1) := by decide +kernel
theorem dX1_meet_48 : decode cX1_meet 48 = .ok (.if_icmp .ne 7, 3) := by decide +kernel
theorem dX1_meet_51 : decode cX1_meet 51 = .ok (.iconst 1, 1) := by decide +kernel
theorem dX1_meet_52 : decode cX1_meet 52 = .ok (.goto 4, 3) := by decide +kernel
theorem dX1_meet_55 : decode cX1_meet 55 = .ok (.iconst 0, 1) := by decide +kernel
theorem dX1_meet_56 : decode cX1_meet 56 = .ok (.ireturn, 1) := by decide +kernel
abbrev cX1_classes : ByteArray := prog_3_method_15_code
def yX1_classes : MethodName := ⟨RX1, "classes", "()I"⟩
theorem dX1_classes_0 : decode cX1_classes 0 = .ok (.aload_n 0, 1) := by decide +kernel
theorem dX1_classes_1 : decode cX1_classes 1 = .ok (.iconst 0, 1) := by decide +kernel
theorem dX1_classes_2 : decode cX1_classes 2 = .ok (.invokevirtual 55, 3) := by decide +kernel
theorem dX1_classes_5 : decode cX1_classes 5 = .ok (.ireturn, 1) := by decide +kernel
abbrev cX1_count : ByteArray := prog_3_method_14_code
def yX1_count : MethodName := ⟨RX1, "count", "(Z)I"⟩
theorem dX1_count_0 : decode cX1_count 0 = .ok (.aload_n 0, 1) := by decide +kernel
theorem dX1_count_1 : decode cX1_count 1 = .ok (.invokevirtual 48, 3) := by decide +kernel
theorem dX1_count_4 : decode cX1_count 4 = .ok (.iconst 0, 1) := by decide +kernel
theorem dX1_count_5 : decode cX1_count 5 = .ok (.istore_n 2, 1) := by decide +kernel
theorem dX1_count_6 : decode cX1_count 6 = .ok (.iconst 0, 1) := by decide +kernel
theorem dX1_count_7 : decode cX1_count 7 = .ok (.istore_n 3, 1) := by decide +kernel
theorem dX1_count_8 : decode cX1_count 8 = .ok (.iconst 0, 1) := by decide +kernel
theorem dX1_count_9 : decode cX1_count 9 = .ok (.istore 4, 2) := by decide +kernel
theorem dX1_count_11 : decode cX1_count 11 = .ok (.iload 4, 2) := by decide +kernel
theorem dX1_count_13 : decode cX1_count 13 = .ok (.bipush 12, 2) := by decide +kernel
theorem dX1_count_15 : decode cX1_count 15 = .ok (.if_icmp .ge 51, 3) := by decide +kernel
theorem dX1_count_18 : decode cX1_count 18 = .ok (.aload_n 0, 1) := by decide +kernel
theorem dX1_count_19 : decode cX1_count 19 = .ok (.getfield 19, 3) := by decide +kernel
theorem dX1_count_22 : decode cX1_count 22 = .ok (.iload 4, 2) := by decide +kernel
theorem dX1_count_24 : decode cX1_count 24 = .ok (.iaload, 1) := by decide +kernel
theorem dX1_count_25 : decode cX1_count 25 = .ok (.istore 5, 2) := by decide +kernel
theorem dX1_count_27 : decode cX1_count 27 = .ok (.iload_n 2, 1) := by decide +kernel
theorem dX1_count_28 : decode cX1_count 28 = .ok (.iload 5, 2) := by decide +kernel
theorem dX1_count_30 : decode cX1_count 30 = .ok (.ishr, 1) := by decide +kernel
theorem dX1_count_31 : decode cX1_count 31 = .ok (.iconst 1, 1) := by decide +kernel
theorem dX1_count_32 : decode cX1_count 32 = .ok (.iand, 1) := by decide +kernel
theorem dX1_count_33 : decode cX1_count 33 = .ok (.ifCond .ne 20, 3) := by decide +kernel
theorem dX1_count_36 : decode cX1_count 36 = .ok (.iload_n 1, 1) := by decide +kernel
theorem dX1_count_37 : decode cX1_count 37 = .ok (.ifCond .eq 13, 3) := by decide +kernel
theorem dX1_count_40 : decode cX1_count 40 = .ok (.aload_n 0, 1) := by decide +kernel
theorem dX1_count_41 : decode cX1_count 41 = .ok (.getfield 22, 3) := by decide +kernel
theorem dX1_count_44 : decode cX1_count 44 = .ok (.iload 5, 2) := by decide +kernel
theorem dX1_count_46 : decode cX1_count 46 = .ok (.iaload, 1) := by decide +kernel
theorem dX1_count_47 : decode cX1_count 47 = .ok (.ifCond .lt 6, 3) := by decide +kernel
theorem dX1_count_50 : decode cX1_count 50 = .ok (.iinc 3 1, 3) := by decide +kernel
theorem dX1_count_53 : decode cX1_count 53 = .ok (.iload_n 2, 1) := by decide +kernel
theorem dX1_count_54 : decode cX1_count 54 = .ok (.iconst 1, 1) := by decide +kernel
theorem dX1_count_55 : decode cX1_count 55 = .ok (.iload 5, 2) := by decide +kernel
theorem dX1_count_57 : decode cX1_count 57 = .ok (.ishl, 1) := by decide +kernel
theorem dX1_count_58 : decode cX1_count 58 = .ok (.ior, 1) := by decide +kernel
theorem dX1_count_59 : decode cX1_count 59 = .ok (.istore_n 2, 1) := by decide +kernel
theorem dX1_count_60 : decode cX1_count 60 = .ok (.iinc 4 1, 3) := by decide +kernel
theorem dX1_count_63 : decode cX1_count 63 = .ok (.goto (-52), 3) := by decide +kernel
theorem dX1_count_66 : decode cX1_count 66 = .ok (.iload_n 3, 1) := by decide +kernel
theorem dX1_count_67 : decode cX1_count 67 = .ok (.ireturn, 1) := by decide +kernel
abbrev cX1_pointing : ByteArray := prog_3_method_16_code
def yX1_pointing : MethodName := ⟨RX1, "pointing", "()I"⟩
theorem dX1_pointing_0 : decode cX1_pointing 0 = .ok (.aload_n 0, 1) := by decide +kernel
theorem dX1_pointing_1 : decode cX1_pointing 1 = .ok (.iconst 1, 1) := by decide +kernel
theorem dX1_pointing_2 : decode cX1_pointing 2 = .ok (.invokevirtual 55, 3) := by decide +kernel
theorem dX1_pointing_5 : decode cX1_pointing 5 = .ok (.ireturn, 1) := by decide +kernel
abbrev cX1_steps : ByteArray := prog_3_method_17_code
def yX1_steps : MethodName := ⟨RX1, "steps", "(I)I"⟩
theorem dX1_steps_0 : decode cX1_steps 0 = .ok (.iload_n 1, 1) := by decide +kernel
theorem dX1_steps_1 : decode cX1_steps 1 = .ok (.invokestatic 25, 3) := by decide +kernel
theorem dX1_steps_4 : decode cX1_steps 4 = .ok (.ifCond .eq 5, 3) := by decide +kernel
theorem dX1_steps_7 : decode cX1_steps 7 = .ok (.iconst (-1), 1) := by decide +kernel
theorem dX1_steps_8 : decode cX1_steps 8 = .ok (.ireturn, 1) := by decide +kernel
theorem dX1_steps_9 : decode cX1_steps 9 = .ok (.aload_n 0, 1) := by decide +kernel
theorem dX1_steps_10 : decode cX1_steps 10 = .ok (.invokevirtual 48, 3) := by decide +kernel
theorem dX1_steps_13 : decode cX1_steps 13 = .ok (.aload_n 0, 1) := by decide +kernel
theorem dX1_steps_14 : decode cX1_steps 14 = .ok (.getfield 19, 3) := by decide +kernel
theorem dX1_steps_17 : decode cX1_steps 17 = .ok (.iload_n 1, 1) := by decide +kernel
theorem dX1_steps_18 : decode cX1_steps 18 = .ok (.iaload, 1) := by decide +kernel
theorem dX1_steps_19 : decode cX1_steps 19 = .ok (.istore_n 2, 1) := by decide +kernel
theorem dX1_steps_20 : decode cX1_steps 20 = .ok (.iconst 0, 1) := by decide +kernel
theorem dX1_steps_21 : decode cX1_steps 21 = .ok (.istore_n 3, 1) := by decide +kernel
theorem dX1_steps_22 : decode cX1_steps 22 = .ok (.iload_n 3, 1) := by decide +kernel
theorem dX1_steps_23 : decode cX1_steps 23 = .ok (.bipush 12, 2) := by decide +kernel
theorem dX1_steps_25 : decode cX1_steps 25 = .ok (.if_icmp .ge 25, 3) := by decide +kernel
theorem dX1_steps_28 : decode cX1_steps 28 = .ok (.aload_n 0, 1) := by decide +kernel
theorem dX1_steps_29 : decode cX1_steps 29 = .ok (.getfield 22, 3) := by decide +kernel
theorem dX1_steps_32 : decode cX1_steps 32 = .ok (.iload_n 2, 1) := by decide +kernel
theorem dX1_steps_33 : decode cX1_steps 33 = .ok (.iaload, 1) := by decide +kernel
theorem dX1_steps_34 : decode cX1_steps 34 = .ok (.ifCond .lt 16, 3) := by decide +kernel
theorem dX1_steps_37 : decode cX1_steps 37 = .ok (.aload_n 0, 1) := by decide +kernel
theorem dX1_steps_38 : decode cX1_steps 38 = .ok (.getfield 22, 3) := by decide +kernel
theorem dX1_steps_41 : decode cX1_steps 41 = .ok (.iload_n 2, 1) := by decide +kernel
theorem dX1_steps_42 : decode cX1_steps 42 = .ok (.iaload, 1) := by decide +kernel
theorem dX1_steps_43 : decode cX1_steps 43 = .ok (.istore_n 2, 1) := by decide +kernel
theorem dX1_steps_44 : decode cX1_steps 44 = .ok (.iinc 3 1, 3) := by decide +kernel
theorem dX1_steps_47 : decode cX1_steps 47 = .ok (.goto (-25), 3) := by decide +kernel
theorem dX1_steps_50 : decode cX1_steps 50 = .ok (.iload_n 3, 1) := by decide +kernel
theorem dX1_steps_51 : decode cX1_steps 51 = .ok (.ireturn, 1) := by decide +kernel
end
section
set_option maxRecDepth 100000
theorem q20 : (Jvm.Cond.initialized "AliasClassesModel") ∈ lw_all := lw_g (lw_at lw_m0 2 rfl) rfl
theorem q162 : (Jvm.Cond.instantiable "AliasClassesModel" (7 : Nat)) ∈ lw_all := lw_g (lw_at lw_m0 144 rfl) rfl
theorem q164 : (Jvm.Cond.instanceMethod ({ cls := "AliasClassesModel", name := "<init>", desc := "()V" } : Jvm.MethodName)) ∈ lw_all := lw_g (lw_at lw_m0 146 rfl) rfl
theorem q165 : (Jvm.Cond.code ({ cls := "AliasClassesModel", name := "<init>", desc := "()V" } : Jvm.MethodName) prog_3_method_1_code (1 : Nat) (Option.none : Option Jvm.ClassFile.FieldType)) ∈ lw_all := lw_g (lw_at lw_m0 147 rfl) rfl
theorem q166 : (Jvm.Cond.methodLink "AliasClassesModel" (1 : Nat) ({ cls := "java/lang/Object", name := "<init>", desc := "()V" } : Jvm.MethodName)) ∈ lw_all := lw_g (lw_at lw_m0 148 rfl) rfl
theorem q167 : (Jvm.Cond.fieldLink "AliasClassesModel" (29 : Nat) "AliasClassesModel" "held" "I") ∈ lw_all := lw_g (lw_at lw_m0 149 rfl) rfl
theorem q168 : (Jvm.Cond.fieldLink "AliasClassesModel" (7 : Nat) "AliasClassesModel" "kinds" "[I") ∈ lw_all := lw_g (lw_at lw_m0 150 rfl) rfl
theorem q169 : (Jvm.Cond.fieldLink "AliasClassesModel" (13 : Nat) "AliasClassesModel" "lefts" "[I") ∈ lw_all := lw_g (lw_at lw_m0 151 rfl) rfl
theorem q170 : (Jvm.Cond.fieldLink "AliasClassesModel" (16 : Nat) "AliasClassesModel" "rights" "[I") ∈ lw_all := lw_g (lw_at lw_m0 152 rfl) rfl
theorem q171 : (Jvm.Cond.fieldLink "AliasClassesModel" (19 : Nat) "AliasClassesModel" "classOf" "[I") ∈ lw_all := lw_g (lw_at lw_m0 153 rfl) rfl
theorem q172 : (Jvm.Cond.fieldLink "AliasClassesModel" (22 : Nat) "AliasClassesModel" "to" "[I") ∈ lw_all := lw_g (lw_at lw_m0 154 rfl) rfl
theorem q173 : (Jvm.Cond.fieldLink "AliasClassesModel" (33 : Nat) "AliasClassesModel" "changed" "Z") ∈ lw_all := lw_g (lw_at lw_m0 155 rfl) rfl
theorem q174 : (Jvm.Cond.lays "AliasClassesModel" "AliasClassesModel" "held" "I") ∈ lw_all := lw_g (lw_at lw_m0 156 rfl) rfl
theorem q175 : (Jvm.Cond.soleField "AliasClassesModel" "held") ∈ lw_all := lw_g (lw_at lw_m0 157 rfl) rfl
theorem q176 : (Jvm.Cond.laysFinal "AliasClassesModel" "AliasClassesModel" "kinds" "[I") ∈ lw_all := lw_g (lw_at lw_m0 158 rfl) rfl
theorem q177 : (Jvm.Cond.soleField "AliasClassesModel" "kinds") ∈ lw_all := lw_g (lw_at lw_m0 159 rfl) rfl
theorem q178 : (Jvm.Cond.laysFinal "AliasClassesModel" "AliasClassesModel" "lefts" "[I") ∈ lw_all := lw_g (lw_at lw_m0 160 rfl) rfl
theorem q179 : (Jvm.Cond.soleField "AliasClassesModel" "lefts") ∈ lw_all := lw_g (lw_at lw_m0 161 rfl) rfl
theorem q180 : (Jvm.Cond.laysFinal "AliasClassesModel" "AliasClassesModel" "rights" "[I") ∈ lw_all := lw_g (lw_at lw_m0 162 rfl) rfl
theorem q181 : (Jvm.Cond.soleField "AliasClassesModel" "rights") ∈ lw_all := lw_g (lw_at lw_m0 163 rfl) rfl
theorem q182 : (Jvm.Cond.laysFinal "AliasClassesModel" "AliasClassesModel" "classOf" "[I") ∈ lw_all := lw_g (lw_at lw_m0 164 rfl) rfl
theorem q183 : (Jvm.Cond.soleField "AliasClassesModel" "classOf") ∈ lw_all := lw_g (lw_at lw_m0 165 rfl) rfl
theorem q184 : (Jvm.Cond.laysFinal "AliasClassesModel" "AliasClassesModel" "to" "[I") ∈ lw_all := lw_g (lw_at lw_m0 166 rfl) rfl
theorem q185 : (Jvm.Cond.soleField "AliasClassesModel" "to") ∈ lw_all := lw_g (lw_at lw_m0 167 rfl) rfl
theorem q186 : (Jvm.Cond.lays "AliasClassesModel" "AliasClassesModel" "changed" "Z") ∈ lw_all := lw_g (lw_at lw_m0 168 rfl) rfl
theorem q187 : (Jvm.Cond.soleField "AliasClassesModel" "changed") ∈ lw_all := lw_g (lw_at lw_m0 169 rfl) rfl
theorem q188 : (Jvm.Cond.superclass "AliasClassesModel" "java/lang/Object") ∈ lw_all := lw_g (lw_at lw_m0 170 rfl) rfl
theorem q190 : (Jvm.Cond.instanceMethod ({ cls := "AliasClassesModel", name := "assign", desc := "(III)I" } : Jvm.MethodName)) ∈ lw_all := lw_g (lw_at lw_m0 172 rfl) rfl
theorem q191 : (Jvm.Cond.selects "AliasClassesModel" ({ cls := "AliasClassesModel", name := "assign", desc := "(III)I" } : Jvm.MethodName) ({ cls := "AliasClassesModel", name := "assign", desc := "(III)I" } : Jvm.MethodName)) ∈ lw_all := lw_g (lw_at lw_m0 173 rfl) rfl
theorem q192 : (Jvm.Cond.code ({ cls := "AliasClassesModel", name := "assign", desc := "(III)I" } : Jvm.MethodName) prog_3_method_3_code (4 : Nat) (Option.some Jvm.ClassFile.FieldType.int)) ∈ lw_all := lw_g (lw_at lw_m0 174 rfl) rfl
theorem q193 : (Jvm.Cond.methodLink "AliasClassesModel" (25 : Nat) ({ cls := "AliasClassesModel", name := "bad", desc := "(I)Z" } : Jvm.MethodName)) ∈ lw_all := lw_g (lw_at lw_m0 175 rfl) rfl
theorem q194 : (Jvm.Cond.static ({ cls := "AliasClassesModel", name := "bad", desc := "(I)Z" } : Jvm.MethodName)) ∈ lw_all := lw_g (lw_at lw_m0 176 rfl) rfl
theorem q195 : (Jvm.Cond.code ({ cls := "AliasClassesModel", name := "bad", desc := "(I)Z" } : Jvm.MethodName) prog_3_method_2_code (1 : Nat) (Option.some Jvm.ClassFile.FieldType.boolean)) ∈ lw_all := lw_g (lw_at lw_m0 177 rfl) rfl
theorem q197 : (Jvm.Cond.instanceMethod ({ cls := "AliasClassesModel", name := "drop", desc := "(I)I" } : Jvm.MethodName)) ∈ lw_all := lw_g (lw_at lw_m0 179 rfl) rfl
theorem q198 : (Jvm.Cond.selects "AliasClassesModel" ({ cls := "AliasClassesModel", name := "drop", desc := "(I)I" } : Jvm.MethodName) ({ cls := "AliasClassesModel", name := "drop", desc := "(I)I" } : Jvm.MethodName)) ∈ lw_all := lw_g (lw_at lw_m0 180 rfl) rfl
theorem q199 : (Jvm.Cond.code ({ cls := "AliasClassesModel", name := "drop", desc := "(I)I" } : Jvm.MethodName) prog_3_method_4_code (3 : Nat) (Option.some Jvm.ClassFile.FieldType.int)) ∈ lw_all := lw_g (lw_at lw_m0 181 rfl) rfl
theorem q201 : (Jvm.Cond.instanceMethod ({ cls := "AliasClassesModel", name := "same", desc := "(II)I" } : Jvm.MethodName)) ∈ lw_all := lw_g (lw_at lw_m0 183 rfl) rfl
theorem q202 : (Jvm.Cond.selects "AliasClassesModel" ({ cls := "AliasClassesModel", name := "same", desc := "(II)I" } : Jvm.MethodName) ({ cls := "AliasClassesModel", name := "same", desc := "(II)I" } : Jvm.MethodName)) ∈ lw_all := lw_g (lw_at lw_m0 184 rfl) rfl
theorem q203 : (Jvm.Cond.code ({ cls := "AliasClassesModel", name := "same", desc := "(II)I" } : Jvm.MethodName) prog_3_method_9_code (3 : Nat) (Option.some Jvm.ClassFile.FieldType.int)) ∈ lw_all := lw_g (lw_at lw_m0 185 rfl) rfl
theorem q204 : (Jvm.Cond.methodLink "AliasClassesModel" (48 : Nat) ({ cls := "AliasClassesModel", name := "work", desc := "()V" } : Jvm.MethodName)) ∈ lw_all := lw_g (lw_at lw_m0 186 rfl) rfl
theorem q205 : (Jvm.Cond.privateMethod ({ cls := "AliasClassesModel", name := "work", desc := "()V" } : Jvm.MethodName)) ∈ lw_tbl := lw_at lw_m0 187 rfl
theorem q206 : (Jvm.Cond.instanceMethod ({ cls := "AliasClassesModel", name := "work", desc := "()V" } : Jvm.MethodName)) ∈ lw_all := lw_g (lw_at lw_m0 188 rfl) rfl
theorem q207 : (Jvm.Cond.code ({ cls := "AliasClassesModel", name := "work", desc := "()V" } : Jvm.MethodName) prog_3_method_8_code (3 : Nat) (Option.none : Option Jvm.ClassFile.FieldType)) ∈ lw_all := lw_g (lw_at lw_m0 189 rfl) rfl
theorem q208 : (Jvm.Cond.methodLink "AliasClassesModel" (44 : Nat) ({ cls := "AliasClassesModel", name := "apply", desc := "(I)V" } : Jvm.MethodName)) ∈ lw_all := lw_g (lw_at lw_m0 190 rfl) rfl
theorem q209 : (Jvm.Cond.privateMethod ({ cls := "AliasClassesModel", name := "apply", desc := "(I)V" } : Jvm.MethodName)) ∈ lw_tbl := lw_at lw_m0 191 rfl
theorem q210 : (Jvm.Cond.instanceMethod ({ cls := "AliasClassesModel", name := "apply", desc := "(I)V" } : Jvm.MethodName)) ∈ lw_all := lw_g (lw_at lw_m0 192 rfl) rfl
theorem q211 : (Jvm.Cond.code ({ cls := "AliasClassesModel", name := "apply", desc := "(I)V" } : Jvm.MethodName) prog_3_method_7_code (5 : Nat) (Option.none : Option Jvm.ClassFile.FieldType)) ∈ lw_all := lw_g (lw_at lw_m0 193 rfl) rfl
theorem q212 : (Jvm.Cond.methodLink "AliasClassesModel" (41 : Nat) ({ cls := "AliasClassesModel", name := "point", desc := "(II)V" } : Jvm.MethodName)) ∈ lw_all := lw_g (lw_at lw_m0 194 rfl) rfl
theorem q213 : (Jvm.Cond.privateMethod ({ cls := "AliasClassesModel", name := "point", desc := "(II)V" } : Jvm.MethodName)) ∈ lw_tbl := lw_at lw_m0 195 rfl
theorem q214 : (Jvm.Cond.instanceMethod ({ cls := "AliasClassesModel", name := "point", desc := "(II)V" } : Jvm.MethodName)) ∈ lw_all := lw_g (lw_at lw_m0 196 rfl) rfl
theorem q215 : (Jvm.Cond.code ({ cls := "AliasClassesModel", name := "point", desc := "(II)V" } : Jvm.MethodName) prog_3_method_6_code (3 : Nat) (Option.none : Option Jvm.ClassFile.FieldType)) ∈ lw_all := lw_g (lw_at lw_m0 197 rfl) rfl
theorem q216 : (Jvm.Cond.methodLink "AliasClassesModel" (37 : Nat) ({ cls := "AliasClassesModel", name := "join", desc := "(II)V" } : Jvm.MethodName)) ∈ lw_all := lw_g (lw_at lw_m0 198 rfl) rfl
theorem q217 : (Jvm.Cond.privateMethod ({ cls := "AliasClassesModel", name := "join", desc := "(II)V" } : Jvm.MethodName)) ∈ lw_tbl := lw_at lw_m0 199 rfl
theorem q218 : (Jvm.Cond.instanceMethod ({ cls := "AliasClassesModel", name := "join", desc := "(II)V" } : Jvm.MethodName)) ∈ lw_all := lw_g (lw_at lw_m0 200 rfl) rfl
theorem q219 : (Jvm.Cond.code ({ cls := "AliasClassesModel", name := "join", desc := "(II)V" } : Jvm.MethodName) prog_3_method_5_code (8 : Nat) (Option.none : Option Jvm.ClassFile.FieldType)) ∈ lw_all := lw_g (lw_at lw_m0 201 rfl) rfl
theorem q221 : (Jvm.Cond.instanceMethod ({ cls := "AliasClassesModel", name := "members", desc := "(I)I" } : Jvm.MethodName)) ∈ lw_all := lw_g (lw_at lw_m0 203 rfl) rfl
theorem q222 : (Jvm.Cond.selects "AliasClassesModel" ({ cls := "AliasClassesModel", name := "members", desc := "(I)I" } : Jvm.MethodName) ({ cls := "AliasClassesModel", name := "members", desc := "(I)I" } : Jvm.MethodName)) ∈ lw_all := lw_g (lw_at lw_m0 204 rfl) rfl
theorem q223 : (Jvm.Cond.code ({ cls := "AliasClassesModel", name := "members", desc := "(I)I" } : Jvm.MethodName) prog_3_method_11_code (2 : Nat) (Option.some Jvm.ClassFile.FieldType.int)) ∈ lw_all := lw_g (lw_at lw_m0 205 rfl) rfl
theorem q224 : (Jvm.Cond.methodLink "AliasClassesModel" (51 : Nat) ({ cls := "AliasClassesModel", name := "membersOf", desc := "(I)I" } : Jvm.MethodName)) ∈ lw_all := lw_g (lw_at lw_m0 206 rfl) rfl
theorem q225 : (Jvm.Cond.privateMethod ({ cls := "AliasClassesModel", name := "membersOf", desc := "(I)I" } : Jvm.MethodName)) ∈ lw_tbl := lw_at lw_m0 207 rfl
theorem q226 : (Jvm.Cond.instanceMethod ({ cls := "AliasClassesModel", name := "membersOf", desc := "(I)I" } : Jvm.MethodName)) ∈ lw_all := lw_g (lw_at lw_m0 208 rfl) rfl
theorem q227 : (Jvm.Cond.code ({ cls := "AliasClassesModel", name := "membersOf", desc := "(I)I" } : Jvm.MethodName) prog_3_method_10_code (4 : Nat) (Option.some Jvm.ClassFile.FieldType.int)) ∈ lw_all := lw_g (lw_at lw_m0 209 rfl) rfl
theorem q229 : (Jvm.Cond.instanceMethod ({ cls := "AliasClassesModel", name := "target", desc := "(I)I" } : Jvm.MethodName)) ∈ lw_all := lw_g (lw_at lw_m0 211 rfl) rfl
theorem q230 : (Jvm.Cond.selects "AliasClassesModel" ({ cls := "AliasClassesModel", name := "target", desc := "(I)I" } : Jvm.MethodName) ({ cls := "AliasClassesModel", name := "target", desc := "(I)I" } : Jvm.MethodName)) ∈ lw_all := lw_g (lw_at lw_m0 212 rfl) rfl
theorem q231 : (Jvm.Cond.code ({ cls := "AliasClassesModel", name := "target", desc := "(I)I" } : Jvm.MethodName) prog_3_method_12_code (4 : Nat) (Option.some Jvm.ClassFile.FieldType.int)) ∈ lw_all := lw_g (lw_at lw_m0 213 rfl) rfl
theorem q233 : (Jvm.Cond.instanceMethod ({ cls := "AliasClassesModel", name := "meet", desc := "(II)I" } : Jvm.MethodName)) ∈ lw_all := lw_g (lw_at lw_m0 215 rfl) rfl
theorem q234 : (Jvm.Cond.selects "AliasClassesModel" ({ cls := "AliasClassesModel", name := "meet", desc := "(II)I" } : Jvm.MethodName) ({ cls := "AliasClassesModel", name := "meet", desc := "(II)I" } : Jvm.MethodName)) ∈ lw_all := lw_g (lw_at lw_m0 216 rfl) rfl
theorem q235 : (Jvm.Cond.code ({ cls := "AliasClassesModel", name := "meet", desc := "(II)I" } : Jvm.MethodName) prog_3_method_13_code (4 : Nat) (Option.some Jvm.ClassFile.FieldType.int)) ∈ lw_all := lw_g (lw_at lw_m0 217 rfl) rfl
theorem q237 : (Jvm.Cond.instanceMethod ({ cls := "AliasClassesModel", name := "classes", desc := "()I" } : Jvm.MethodName)) ∈ lw_all := lw_g (lw_at lw_m0 219 rfl) rfl
theorem q238 : (Jvm.Cond.selects "AliasClassesModel" ({ cls := "AliasClassesModel", name := "classes", desc := "()I" } : Jvm.MethodName) ({ cls := "AliasClassesModel", name := "classes", desc := "()I" } : Jvm.MethodName)) ∈ lw_all := lw_g (lw_at lw_m0 220 rfl) rfl
theorem q239 : (Jvm.Cond.code ({ cls := "AliasClassesModel", name := "classes", desc := "()I" } : Jvm.MethodName) prog_3_method_15_code (1 : Nat) (Option.some Jvm.ClassFile.FieldType.int)) ∈ lw_all := lw_g (lw_at lw_m0 221 rfl) rfl
theorem q240 : (Jvm.Cond.methodLink "AliasClassesModel" (55 : Nat) ({ cls := "AliasClassesModel", name := "count", desc := "(Z)I" } : Jvm.MethodName)) ∈ lw_all := lw_g (lw_at lw_m0 222 rfl) rfl
theorem q241 : (Jvm.Cond.privateMethod ({ cls := "AliasClassesModel", name := "count", desc := "(Z)I" } : Jvm.MethodName)) ∈ lw_tbl := lw_at lw_m0 223 rfl
theorem q242 : (Jvm.Cond.instanceMethod ({ cls := "AliasClassesModel", name := "count", desc := "(Z)I" } : Jvm.MethodName)) ∈ lw_all := lw_g (lw_at lw_m0 224 rfl) rfl
theorem q243 : (Jvm.Cond.code ({ cls := "AliasClassesModel", name := "count", desc := "(Z)I" } : Jvm.MethodName) prog_3_method_14_code (6 : Nat) (Option.some Jvm.ClassFile.FieldType.int)) ∈ lw_all := lw_g (lw_at lw_m0 225 rfl) rfl
theorem q245 : (Jvm.Cond.instanceMethod ({ cls := "AliasClassesModel", name := "pointing", desc := "()I" } : Jvm.MethodName)) ∈ lw_all := lw_g (lw_at lw_m0 227 rfl) rfl
theorem q246 : (Jvm.Cond.selects "AliasClassesModel" ({ cls := "AliasClassesModel", name := "pointing", desc := "()I" } : Jvm.MethodName) ({ cls := "AliasClassesModel", name := "pointing", desc := "()I" } : Jvm.MethodName)) ∈ lw_all := lw_g (lw_at lw_m0 228 rfl) rfl
theorem q247 : (Jvm.Cond.code ({ cls := "AliasClassesModel", name := "pointing", desc := "()I" } : Jvm.MethodName) prog_3_method_16_code (1 : Nat) (Option.some Jvm.ClassFile.FieldType.int)) ∈ lw_all := lw_g (lw_at lw_m0 229 rfl) rfl
theorem q249 : (Jvm.Cond.instanceMethod ({ cls := "AliasClassesModel", name := "steps", desc := "(I)I" } : Jvm.MethodName)) ∈ lw_all := lw_g (lw_at lw_m0 231 rfl) rfl
theorem q250 : (Jvm.Cond.selects "AliasClassesModel" ({ cls := "AliasClassesModel", name := "steps", desc := "(I)I" } : Jvm.MethodName) ({ cls := "AliasClassesModel", name := "steps", desc := "(I)I" } : Jvm.MethodName)) ∈ lw_all := lw_g (lw_at lw_m0 232 rfl) rfl
theorem q251 : (Jvm.Cond.code ({ cls := "AliasClassesModel", name := "steps", desc := "(I)I" } : Jvm.MethodName) prog_3_method_17_code (4 : Nat) (Option.some Jvm.ClassFile.FieldType.int)) ∈ lw_all := lw_g (lw_at lw_m0 233 rfl) rfl
theorem in_X1 : ∀ w ∈ wsX10, w ∈ lw_all := lw_in wsX10 [174, 176, 178, 180, 182, 184, 186] (by decide +kernel) (by decide +kernel)
end
section
/-! the law's own entry -/
set_option maxRecDepth 100000
abbrev cL_law : ByteArray := code
theorem dL_law_0 : decode cL_law 0 = .ok (.new 7, 3) := by decide +kernel
theorem dL_law_3 : decode cL_law 3 = .ok (.dup, 1) := by decide +kernel
theorem dL_law_4 : decode cL_law 4 = .ok (.invokespecial 9, 3) := by decide +kernel
theorem dL_law_7 : decode cL_law 7 = .ok (.astore_n 1, 1) := by decide +kernel
theorem dL_law_8 : decode cL_law 8 = .ok (.new 10, 3) := by decide +kernel
theorem dL_law_11 : decode cL_law 11 = .ok (.dup, 1) := by decide +kernel
theorem dL_law_12 : decode cL_law 12 = .ok (.invokespecial 12, 3) := by decide +kernel
theorem dL_law_15 : decode cL_law 15 = .ok (.astore_n 2, 1) := by decide +kernel
theorem dL_law_16 : decode cL_law 16 = .ok (.iconst 0, 1) := by decide +kernel
theorem dL_law_17 : decode cL_law 17 = .ok (.istore_n 3, 1) := by decide +kernel
theorem dL_law_18 : decode cL_law 18 = .ok (.iload_n 3, 1) := by decide +kernel
theorem dL_law_19 : decode cL_law 19 = .ok (.aload_n 0, 1) := by decide +kernel
theorem dL_law_20 : decode cL_law 20 = .ok (.arraylength, 1) := by decide +kernel
theorem dL_law_21 : decode cL_law 21 = .ok (.iconst 4, 1) := by decide +kernel
theorem dL_law_22 : decode cL_law 22 = .ok (.isub, 1) := by decide +kernel
theorem dL_law_23 : decode cL_law 23 = .ok (.if_icmp .gt 294, 3) := by decide +kernel
theorem dL_law_26 : decode cL_law 26 = .ok (.aload_n 0, 1) := by decide +kernel
theorem dL_law_27 : decode cL_law 27 = .ok (.iload_n 3, 1) := by decide +kernel
theorem dL_law_28 : decode cL_law 28 = .ok (.iaload, 1) := by decide +kernel
theorem dL_law_29 : decode cL_law 29 = .ok (.bipush 15, 2) := by decide +kernel
theorem dL_law_31 : decode cL_law 31 = .ok (.iand, 1) := by decide +kernel
theorem dL_law_32 : decode cL_law 32 = .ok (.tableswitch 279 0 8 #[52, 95, 118, 151, 174, 197, 230, 243, 256], 52) := by decide +kernel
theorem dL_law_84 : decode cL_law 84 = .ok (.aload_n 1, 1) := by decide +kernel
theorem dL_law_85 : decode cL_law 85 = .ok (.aload_n 0, 1) := by decide +kernel
theorem dL_law_86 : decode cL_law 86 = .ok (.iload_n 3, 1) := by decide +kernel
theorem dL_law_87 : decode cL_law 87 = .ok (.iconst 1, 1) := by decide +kernel
theorem dL_law_88 : decode cL_law 88 = .ok (.iadd, 1) := by decide +kernel
theorem dL_law_89 : decode cL_law 89 = .ok (.iaload, 1) := by decide +kernel
theorem dL_law_90 : decode cL_law 90 = .ok (.aload_n 0, 1) := by decide +kernel
theorem dL_law_91 : decode cL_law 91 = .ok (.iload_n 3, 1) := by decide +kernel
theorem dL_law_92 : decode cL_law 92 = .ok (.iconst 2, 1) := by decide +kernel
theorem dL_law_93 : decode cL_law 93 = .ok (.iadd, 1) := by decide +kernel
theorem dL_law_94 : decode cL_law 94 = .ok (.iaload, 1) := by decide +kernel
theorem dL_law_95 : decode cL_law 95 = .ok (.aload_n 0, 1) := by decide +kernel
theorem dL_law_96 : decode cL_law 96 = .ok (.iload_n 3, 1) := by decide +kernel
theorem dL_law_97 : decode cL_law 97 = .ok (.iconst 3, 1) := by decide +kernel
theorem dL_law_98 : decode cL_law 98 = .ok (.iadd, 1) := by decide +kernel
theorem dL_law_99 : decode cL_law 99 = .ok (.iaload, 1) := by decide +kernel
theorem dL_law_100 : decode cL_law 100 = .ok (.invokevirtual 13, 3) := by decide +kernel
theorem dL_law_103 : decode cL_law 103 = .ok (.aload_n 2, 1) := by decide +kernel
theorem dL_law_104 : decode cL_law 104 = .ok (.aload_n 0, 1) := by decide +kernel
theorem dL_law_105 : decode cL_law 105 = .ok (.iload_n 3, 1) := by decide +kernel
theorem dL_law_106 : decode cL_law 106 = .ok (.iconst 1, 1) := by decide +kernel
theorem dL_law_107 : decode cL_law 107 = .ok (.iadd, 1) := by decide +kernel
theorem dL_law_108 : decode cL_law 108 = .ok (.iaload, 1) := by decide +kernel
theorem dL_law_109 : decode cL_law 109 = .ok (.aload_n 0, 1) := by decide +kernel
theorem dL_law_110 : decode cL_law 110 = .ok (.iload_n 3, 1) := by decide +kernel
theorem dL_law_111 : decode cL_law 111 = .ok (.iconst 2, 1) := by decide +kernel
theorem dL_law_112 : decode cL_law 112 = .ok (.iadd, 1) := by decide +kernel
theorem dL_law_113 : decode cL_law 113 = .ok (.iaload, 1) := by decide +kernel
theorem dL_law_114 : decode cL_law 114 = .ok (.aload_n 0, 1) := by decide +kernel
theorem dL_law_115 : decode cL_law 115 = .ok (.iload_n 3, 1) := by decide +kernel
theorem dL_law_116 : decode cL_law 116 = .ok (.iconst 3, 1) := by decide +kernel
theorem dL_law_117 : decode cL_law 117 = .ok (.iadd, 1) := by decide +kernel
theorem dL_law_118 : decode cL_law 118 = .ok (.iaload, 1) := by decide +kernel
theorem dL_law_119 : decode cL_law 119 = .ok (.invokevirtual 17, 3) := by decide +kernel
theorem dL_law_122 : decode cL_law 122 = .ok (.if_icmp .eq 189, 3) := by decide +kernel
theorem dL_law_125 : decode cL_law 125 = .ok (.iconst 0, 1) := by decide +kernel
theorem dL_law_126 : decode cL_law 126 = .ok (.ireturn, 1) := by decide +kernel
theorem dL_law_127 : decode cL_law 127 = .ok (.aload_n 1, 1) := by decide +kernel
theorem dL_law_128 : decode cL_law 128 = .ok (.aload_n 0, 1) := by decide +kernel
theorem dL_law_129 : decode cL_law 129 = .ok (.iload_n 3, 1) := by decide +kernel
theorem dL_law_130 : decode cL_law 130 = .ok (.iconst 1, 1) := by decide +kernel
theorem dL_law_131 : decode cL_law 131 = .ok (.iadd, 1) := by decide +kernel
theorem dL_law_132 : decode cL_law 132 = .ok (.iaload, 1) := by decide +kernel
theorem dL_law_133 : decode cL_law 133 = .ok (.invokevirtual 18, 3) := by decide +kernel
theorem dL_law_136 : decode cL_law 136 = .ok (.aload_n 2, 1) := by decide +kernel
theorem dL_law_137 : decode cL_law 137 = .ok (.aload_n 0, 1) := by decide +kernel
theorem dL_law_138 : decode cL_law 138 = .ok (.iload_n 3, 1) := by decide +kernel
theorem dL_law_139 : decode cL_law 139 = .ok (.iconst 1, 1) := by decide +kernel
theorem dL_law_140 : decode cL_law 140 = .ok (.iadd, 1) := by decide +kernel
theorem dL_law_141 : decode cL_law 141 = .ok (.iaload, 1) := by decide +kernel
theorem dL_law_142 : decode cL_law 142 = .ok (.invokevirtual 22, 3) := by decide +kernel
theorem dL_law_145 : decode cL_law 145 = .ok (.if_icmp .eq 166, 3) := by decide +kernel
theorem dL_law_148 : decode cL_law 148 = .ok (.iconst 0, 1) := by decide +kernel
theorem dL_law_149 : decode cL_law 149 = .ok (.ireturn, 1) := by decide +kernel
theorem dL_law_150 : decode cL_law 150 = .ok (.aload_n 1, 1) := by decide +kernel
theorem dL_law_151 : decode cL_law 151 = .ok (.aload_n 0, 1) := by decide +kernel
theorem dL_law_152 : decode cL_law 152 = .ok (.iload_n 3, 1) := by decide +kernel
theorem dL_law_153 : decode cL_law 153 = .ok (.iconst 1, 1) := by decide +kernel
theorem dL_law_154 : decode cL_law 154 = .ok (.iadd, 1) := by decide +kernel
theorem dL_law_155 : decode cL_law 155 = .ok (.iaload, 1) := by decide +kernel
theorem dL_law_156 : decode cL_law 156 = .ok (.aload_n 0, 1) := by decide +kernel
theorem dL_law_157 : decode cL_law 157 = .ok (.iload_n 3, 1) := by decide +kernel
theorem dL_law_158 : decode cL_law 158 = .ok (.iconst 2, 1) := by decide +kernel
theorem dL_law_159 : decode cL_law 159 = .ok (.iadd, 1) := by decide +kernel
theorem dL_law_160 : decode cL_law 160 = .ok (.iaload, 1) := by decide +kernel
theorem dL_law_161 : decode cL_law 161 = .ok (.invokevirtual 23, 3) := by decide +kernel
theorem dL_law_164 : decode cL_law 164 = .ok (.aload_n 2, 1) := by decide +kernel
theorem dL_law_165 : decode cL_law 165 = .ok (.aload_n 0, 1) := by decide +kernel
theorem dL_law_166 : decode cL_law 166 = .ok (.iload_n 3, 1) := by decide +kernel
theorem dL_law_167 : decode cL_law 167 = .ok (.iconst 1, 1) := by decide +kernel
theorem dL_law_168 : decode cL_law 168 = .ok (.iadd, 1) := by decide +kernel
theorem dL_law_169 : decode cL_law 169 = .ok (.iaload, 1) := by decide +kernel
theorem dL_law_170 : decode cL_law 170 = .ok (.aload_n 0, 1) := by decide +kernel
theorem dL_law_171 : decode cL_law 171 = .ok (.iload_n 3, 1) := by decide +kernel
theorem dL_law_172 : decode cL_law 172 = .ok (.iconst 2, 1) := by decide +kernel
theorem dL_law_173 : decode cL_law 173 = .ok (.iadd, 1) := by decide +kernel
theorem dL_law_174 : decode cL_law 174 = .ok (.iaload, 1) := by decide +kernel
theorem dL_law_175 : decode cL_law 175 = .ok (.invokevirtual 27, 3) := by decide +kernel
theorem dL_law_178 : decode cL_law 178 = .ok (.if_icmp .eq 133, 3) := by decide +kernel
theorem dL_law_181 : decode cL_law 181 = .ok (.iconst 0, 1) := by decide +kernel
theorem dL_law_182 : decode cL_law 182 = .ok (.ireturn, 1) := by decide +kernel
theorem dL_law_183 : decode cL_law 183 = .ok (.aload_n 1, 1) := by decide +kernel
theorem dL_law_184 : decode cL_law 184 = .ok (.aload_n 0, 1) := by decide +kernel
theorem dL_law_185 : decode cL_law 185 = .ok (.iload_n 3, 1) := by decide +kernel
theorem dL_law_186 : decode cL_law 186 = .ok (.iconst 1, 1) := by decide +kernel
theorem dL_law_187 : decode cL_law 187 = .ok (.iadd, 1) := by decide +kernel
theorem dL_law_188 : decode cL_law 188 = .ok (.iaload, 1) := by decide +kernel
theorem dL_law_189 : decode cL_law 189 = .ok (.invokevirtual 28, 3) := by decide +kernel
theorem dL_law_192 : decode cL_law 192 = .ok (.aload_n 2, 1) := by decide +kernel
theorem dL_law_193 : decode cL_law 193 = .ok (.aload_n 0, 1) := by decide +kernel
theorem dL_law_194 : decode cL_law 194 = .ok (.iload_n 3, 1) := by decide +kernel
theorem dL_law_195 : decode cL_law 195 = .ok (.iconst 1, 1) := by decide +kernel
theorem dL_law_196 : decode cL_law 196 = .ok (.iadd, 1) := by decide +kernel
theorem dL_law_197 : decode cL_law 197 = .ok (.iaload, 1) := by decide +kernel
theorem dL_law_198 : decode cL_law 198 = .ok (.invokevirtual 31, 3) := by decide +kernel
theorem dL_law_201 : decode cL_law 201 = .ok (.if_icmp .eq 110, 3) := by decide +kernel
theorem dL_law_204 : decode cL_law 204 = .ok (.iconst 0, 1) := by decide +kernel
theorem dL_law_205 : decode cL_law 205 = .ok (.ireturn, 1) := by decide +kernel
theorem dL_law_206 : decode cL_law 206 = .ok (.aload_n 1, 1) := by decide +kernel
theorem dL_law_207 : decode cL_law 207 = .ok (.aload_n 0, 1) := by decide +kernel
theorem dL_law_208 : decode cL_law 208 = .ok (.iload_n 3, 1) := by decide +kernel
theorem dL_law_209 : decode cL_law 209 = .ok (.iconst 1, 1) := by decide +kernel
theorem dL_law_210 : decode cL_law 210 = .ok (.iadd, 1) := by decide +kernel
theorem dL_law_211 : decode cL_law 211 = .ok (.iaload, 1) := by decide +kernel
theorem dL_law_212 : decode cL_law 212 = .ok (.invokevirtual 32, 3) := by decide +kernel
theorem dL_law_215 : decode cL_law 215 = .ok (.aload_n 2, 1) := by decide +kernel
theorem dL_law_216 : decode cL_law 216 = .ok (.aload_n 0, 1) := by decide +kernel
theorem dL_law_217 : decode cL_law 217 = .ok (.iload_n 3, 1) := by decide +kernel
theorem dL_law_218 : decode cL_law 218 = .ok (.iconst 1, 1) := by decide +kernel
theorem dL_law_219 : decode cL_law 219 = .ok (.iadd, 1) := by decide +kernel
theorem dL_law_220 : decode cL_law 220 = .ok (.iaload, 1) := by decide +kernel
theorem dL_law_221 : decode cL_law 221 = .ok (.invokevirtual 35, 3) := by decide +kernel
theorem dL_law_224 : decode cL_law 224 = .ok (.if_icmp .eq 87, 3) := by decide +kernel
theorem dL_law_227 : decode cL_law 227 = .ok (.iconst 0, 1) := by decide +kernel
theorem dL_law_228 : decode cL_law 228 = .ok (.ireturn, 1) := by decide +kernel
theorem dL_law_229 : decode cL_law 229 = .ok (.aload_n 1, 1) := by decide +kernel
theorem dL_law_230 : decode cL_law 230 = .ok (.aload_n 0, 1) := by decide +kernel
theorem dL_law_231 : decode cL_law 231 = .ok (.iload_n 3, 1) := by decide +kernel
theorem dL_law_232 : decode cL_law 232 = .ok (.iconst 1, 1) := by decide +kernel
theorem dL_law_233 : decode cL_law 233 = .ok (.iadd, 1) := by decide +kernel
theorem dL_law_234 : decode cL_law 234 = .ok (.iaload, 1) := by decide +kernel
theorem dL_law_235 : decode cL_law 235 = .ok (.aload_n 0, 1) := by decide +kernel
theorem dL_law_236 : decode cL_law 236 = .ok (.iload_n 3, 1) := by decide +kernel
theorem dL_law_237 : decode cL_law 237 = .ok (.iconst 2, 1) := by decide +kernel
theorem dL_law_238 : decode cL_law 238 = .ok (.iadd, 1) := by decide +kernel
theorem dL_law_239 : decode cL_law 239 = .ok (.iaload, 1) := by decide +kernel
theorem dL_law_240 : decode cL_law 240 = .ok (.invokevirtual 36, 3) := by decide +kernel
theorem dL_law_243 : decode cL_law 243 = .ok (.aload_n 2, 1) := by decide +kernel
theorem dL_law_244 : decode cL_law 244 = .ok (.aload_n 0, 1) := by decide +kernel
theorem dL_law_245 : decode cL_law 245 = .ok (.iload_n 3, 1) := by decide +kernel
theorem dL_law_246 : decode cL_law 246 = .ok (.iconst 1, 1) := by decide +kernel
theorem dL_law_247 : decode cL_law 247 = .ok (.iadd, 1) := by decide +kernel
theorem dL_law_248 : decode cL_law 248 = .ok (.iaload, 1) := by decide +kernel
theorem dL_law_249 : decode cL_law 249 = .ok (.aload_n 0, 1) := by decide +kernel
theorem dL_law_250 : decode cL_law 250 = .ok (.iload_n 3, 1) := by decide +kernel
theorem dL_law_251 : decode cL_law 251 = .ok (.iconst 2, 1) := by decide +kernel
theorem dL_law_252 : decode cL_law 252 = .ok (.iadd, 1) := by decide +kernel
theorem dL_law_253 : decode cL_law 253 = .ok (.iaload, 1) := by decide +kernel
theorem dL_law_254 : decode cL_law 254 = .ok (.invokevirtual 39, 3) := by decide +kernel
theorem dL_law_257 : decode cL_law 257 = .ok (.if_icmp .eq 54, 3) := by decide +kernel
theorem dL_law_260 : decode cL_law 260 = .ok (.iconst 0, 1) := by decide +kernel
theorem dL_law_261 : decode cL_law 261 = .ok (.ireturn, 1) := by decide +kernel
theorem dL_law_262 : decode cL_law 262 = .ok (.aload_n 1, 1) := by decide +kernel
theorem dL_law_263 : decode cL_law 263 = .ok (.invokevirtual 40, 3) := by decide +kernel
theorem dL_law_266 : decode cL_law 266 = .ok (.aload_n 2, 1) := by decide +kernel
theorem dL_law_267 : decode cL_law 267 = .ok (.invokevirtual 44, 3) := by decide +kernel
theorem dL_law_270 : decode cL_law 270 = .ok (.if_icmp .eq 41, 3) := by decide +kernel
theorem dL_law_273 : decode cL_law 273 = .ok (.iconst 0, 1) := by decide +kernel
theorem dL_law_274 : decode cL_law 274 = .ok (.ireturn, 1) := by decide +kernel
theorem dL_law_275 : decode cL_law 275 = .ok (.aload_n 1, 1) := by decide +kernel
theorem dL_law_276 : decode cL_law 276 = .ok (.invokevirtual 45, 3) := by decide +kernel
theorem dL_law_279 : decode cL_law 279 = .ok (.aload_n 2, 1) := by decide +kernel
theorem dL_law_280 : decode cL_law 280 = .ok (.invokevirtual 48, 3) := by decide +kernel
theorem dL_law_283 : decode cL_law 283 = .ok (.if_icmp .eq 28, 3) := by decide +kernel
theorem dL_law_286 : decode cL_law 286 = .ok (.iconst 0, 1) := by decide +kernel
theorem dL_law_287 : decode cL_law 287 = .ok (.ireturn, 1) := by decide +kernel
theorem dL_law_288 : decode cL_law 288 = .ok (.aload_n 1, 1) := by decide +kernel
theorem dL_law_289 : decode cL_law 289 = .ok (.aload_n 0, 1) := by decide +kernel
theorem dL_law_290 : decode cL_law 290 = .ok (.iload_n 3, 1) := by decide +kernel
theorem dL_law_291 : decode cL_law 291 = .ok (.iconst 1, 1) := by decide +kernel
theorem dL_law_292 : decode cL_law 292 = .ok (.iadd, 1) := by decide +kernel
theorem dL_law_293 : decode cL_law 293 = .ok (.iaload, 1) := by decide +kernel
theorem dL_law_294 : decode cL_law 294 = .ok (.invokevirtual 49, 3) := by decide +kernel
theorem dL_law_297 : decode cL_law 297 = .ok (.aload_n 2, 1) := by decide +kernel
theorem dL_law_298 : decode cL_law 298 = .ok (.aload_n 0, 1) := by decide +kernel
theorem dL_law_299 : decode cL_law 299 = .ok (.iload_n 3, 1) := by decide +kernel
theorem dL_law_300 : decode cL_law 300 = .ok (.iconst 1, 1) := by decide +kernel
theorem dL_law_301 : decode cL_law 301 = .ok (.iadd, 1) := by decide +kernel
theorem dL_law_302 : decode cL_law 302 = .ok (.iaload, 1) := by decide +kernel
theorem dL_law_303 : decode cL_law 303 = .ok (.invokevirtual 52, 3) := by decide +kernel
theorem dL_law_306 : decode cL_law 306 = .ok (.if_icmp .eq 5, 3) := by decide +kernel
theorem dL_law_309 : decode cL_law 309 = .ok (.iconst 0, 1) := by decide +kernel
theorem dL_law_310 : decode cL_law 310 = .ok (.ireturn, 1) := by decide +kernel
theorem dL_law_311 : decode cL_law 311 = .ok (.iinc 3 4, 3) := by decide +kernel
theorem dL_law_314 : decode cL_law 314 = .ok (.goto (-296), 3) := by decide +kernel
theorem dL_law_317 : decode cL_law 317 = .ok (.iconst 1, 1) := by decide +kernel
theorem dL_law_318 : decode cL_law 318 = .ok (.ireturn, 1) := by decide +kernel
end
section
/-! A LAYER OVER THE KIT: a walk's goal as a pure state: world u, pc, locals xs, stack st -/
set_option maxRecDepth 100000
abbrev vwCl : List vw_C := [(RX0, TX0, 14), (RX1, TX1, 7)]
/-- the machine's part of a walk: program, env, start, method, arguments, frames below, method, code, cells that may change -/
abbrev GC : Type := Program × Env × State × MethodId × Array Value × List Frame × Method × Code × (Nat → Prop)
abbrev gp (Γ : GC) : Program := Γ.1
abbrev ge (Γ : GC) : Env := Γ.2.1
abbrev gs (Γ : GC) : State := Γ.2.2.1
abbrev gm (Γ : GC) : MethodId := Γ.2.2.2.1
abbrev ga (Γ : GC) : Array Value := Γ.2.2.2.2.1
abbrev gb (Γ : GC) : List Frame := Γ.2.2.2.2.2.1
abbrev gh (Γ : GC) : Method := Γ.2.2.2.2.2.2.1
abbrev gc (Γ : GC) : Code := Γ.2.2.2.2.2.2.2.1
abbrev gA (Γ : GC) : Nat → Prop := Γ.2.2.2.2.2.2.2.2
def ix : Nat → List Value → List (Nat × Value)
  | _, [] => []
  | i, v :: vs => (i, v) :: ix (i + 1) vs
theorem ix_get : ∀ (xs : List Value) (j i : Nat) (v : Value), xs[i]? = some v → (j + i, v) ∈ ix j xs
  | [], j, i, v, h => by simp at h
  | x :: xs, j, 0, v, h => by
    simp at h
    subst h
    exact List.mem_cons_self
  | x :: xs, j, i + 1, v, h => by
    have h1 := ix_get xs (j + 1) i v (by simpa using h)
    have e : j + 1 + i = j + (i + 1) := by omega
    rw [e] at h1
    exact List.mem_cons_of_mem _ h1
theorem ix_mem : ∀ (xs : List Value) (j : Nat) (q : Nat × Value), q ∈ ix j xs → ∃ i, q.1 = j + i ∧ xs[i]? = some q.2
  | [], j, q, h => by simp [ix] at h
  | x :: xs, j, q, h => by
    rcases List.mem_cons.mp h with e | e
    · subst e
      exact ⟨0, by simp, by simp⟩
    · obtain ⟨i, h1, h2⟩ := ix_mem xs (j + 1) q e
      exact ⟨i + 1, by omega, by simpa using h2⟩
theorem ix_ls {ls : Array Slot} {nL : Nat} {xs : List Value} (h : lv_has ls nL (ix 0 xs)) {i : Nat} {v : Value} (hi : xs[i]? = some v) : ls[i]? = some (.val v) := by
  have h1 := ix_get xs 0 i v hi
  rw [Nat.zero_add] at h1
  exact h.2.2 (i, v) h1
def stl : List Value → Nat → Value → List Value
  | [], _, v => [v]
  | _ :: xs, 0, v => v :: xs
  | x :: xs, i + 1, v => x :: stl xs i v
def cat1 (xs : List Value) : Bool := xs.all (fun v => v.category == 1)
theorem stl_get : ∀ (xs : List Value) (i j : Nat) (v : Value), i ≤ xs.length → (stl xs i v)[j]? = if j = i then some v else xs[j]?
  | [], i, j, v, h => by
    have hi : i = 0 := by simpa using h
    subst hi
    cases j <;> simp [stl]
  | x :: xs, 0, j, v, h => by
    cases j <;> simp [stl]
  | x :: xs, i + 1, j, v, h => by
    cases j with
    | zero => simp [stl]
    | succ j =>
      have h1 := stl_get xs i j v (by simpa using h)
      simp [stl, h1]
theorem ix_store {ls' : Array Slot} {nL : Nat} {xs : List Value} {i : Nat} {v : Value} (hc : cat1 xs = true) (hi : i ≤ xs.length) (h : lv_has ls' nL ((i, v) :: (ix 0 xs).filter (fun q => !(q.1 == i) && !(q.1 + 1 == i && q.2.category == 2)))) : lv_has ls' nL (ix 0 (stl xs i v)) := by
  refine ⟨h.1, h.2.1, fun q hq => ?_⟩
  obtain ⟨j, h1, h2⟩ := ix_mem _ 0 q hq
  rw [Nat.zero_add] at h1
  rw [stl_get xs i j v hi] at h2
  obtain ⟨q1, q2⟩ := q
  dsimp only at h1 h2 ⊢
  subst h1
  by_cases hj : q1 = i
  · rw [if_pos hj] at h2
    have h3 : v = q2 := Option.some.inj h2
    subst h3
    subst hj
    exact h.2.2 (q1, v) List.mem_cons_self
  · rw [if_neg hj] at h2
    refine h.2.2 (q1, q2) (List.mem_cons_of_mem _ (List.mem_filter.mpr ⟨?_, ?_⟩))
    · have h3 := ix_get xs 0 q1 q2 h2
      rw [Nat.zero_add] at h3
      exact h3
    · have hcat : q2.category = 1 := by
        have h4 := List.all_eq_true.mp hc q2 (List.mem_of_getElem? h2)
        simpa using h4
      simp [hcat, hj]
/-- the goal: with the world u in the heap, at pc with locals xs and stack st, the machine comes to a state with Q -/
def JG {S : Type} (l : Launch) (D : va_G) (w : S → va_W) (Γ : GC) (R : Room) (nL ce sl : Nat) (Q : State → Prop) (u : S) (pc : Nat) (xs st : List Value) : Prop :=
  ∀ (H : Heap) (locs : List Loc) (ls : Array Slot), va_P D vwCl (w u) H → va_S (gA Γ) (gs Γ).heap H locs → lv_has ls nL (ix 0 xs) → W (gp Γ) l (ge Γ) R (gs Γ) (gm Γ) (ga Γ) (gb Γ) (gh Γ) (gc Γ) H locs ce sl Q (F0 (gm Γ) pc ls st)
/-- what stays all through a walk -/
def CG {S : Type} (D : va_G) (tys : List (ClassId × FieldType)) (w : S → va_W) (own : String) (Γ : GC) (cc : ByteArray) (nL : Nat) (rt : Option FieldType) : Prop :=
  (gp Γ).tables.exec = Jvm.exec ∧ (gc Γ).code = cc ∧ (gh Γ).sig.returnType = rt ∧ (gc Γ).maxLocals = nL ∧ (gs Γ).vm.findClass own = some (gm Γ).cls ∧ (gh Γ).locks = false ∧ (∀ z ∈ lw_all, z.before (ga Γ) (gs Γ) = true) ∧ va_K D vwCl tys (gs Γ) ∧ (∀ q, (gs Γ).heap.size ≤ q → gA Γ q) ∧ (∀ u, va_D (gA Γ) (w u))
def WD {S : Type} (w : S → va_W) : Prop := ∀ (u u' : S) (sz : Nat), va_D (va_A (w u') sz) (w u)
/-- numbers: none is -1; booleans; a number one less -/
def oI : Option Nat → Int32
  | none => -1
  | some t => nI t
def bI : Bool → Int32
  | true => nI 1
  | false => nI 0
def pm : Nat → Int32
  | 0 => -1
  | j + 1 => nI j
def eN (f : Nat → Nat) : Nat → Int32 := fun j => nI (f j)
def eO (f : Nat → Option Nat) : Nat → Int32 := fun j => oI (f j)
def eB (f : Nat → Bool) : Nat → Int32 := fun j => bI (f j)
theorem upd_eN (f : Nat → Nat) (i x : Nat) : upd (eN f) i (nI x) = eN (va_up f i x) := by
  funext j
  by_cases h : j = i <;> simp [upd, eN, va_up, h]
theorem upd_eO (f : Nat → Option Nat) (i : Nat) (x : Option Nat) : upd (eO f) i (oI x) = eO (va_up f i x) := by
  funext j
  by_cases h : j = i <;> simp [upd, eO, va_up, h]
theorem upd_eB (f : Nat → Bool) (i : Nat) (x : Bool) : upd (eB f) i (bI x) = eB (va_up f i x) := by
  funext j
  by_cases h : j = i <;> simp [upd, eB, va_up, h]
theorem nar_bI (b : Bool) : narrow .boolean (.int (bI b)) = .int (bI b) := by cases b <;> decide +kernel
theorem vp_nar_bI (b : Bool) : vp_nar .boolean (bI b) = bI b := by cases b <;> decide +kernel
theorem fits_bI (b : Bool) : fits .boolean (.int (bI b)) = true := by cases b <;> decide +kernel
theorem bI_0 (b : Bool) : bI b = 0 ↔ b = false := by cases b <;> decide +kernel
theorem oI_lt {o : Option Nat} (h : ∀ t, o = some t → t < 2 ^ 31) : oI o < 0 ↔ o = none := by
  cases o with
  | none => exact ⟨fun _ => rfl, fun _ => by decide +kernel⟩
  | some t => exact ⟨fun h1 => absurd h1 (nI_pos (h t rfl)), fun h1 => by cases h1⟩
theorem oI_ge {o : Option Nat} (h : ∀ t, o = some t → t < 2 ^ 31) : 0 ≤ oI o ↔ o ≠ none := by
  cases o with
  | none => exact ⟨fun h1 => absurd h1 (by decide +kernel), fun h1 => absurd rfl h1⟩
  | some t => exact ⟨fun _ => by simp, fun _ => nI_pos' (h t rfl)⟩
theorem oI_inj {o q : Option Nat} (ho : ∀ t, o = some t → t < 2 ^ 31) (hq : ∀ t, q = some t → t < 2 ^ 31) : oI o = oI q ↔ o = q := by
  cases o with
  | none =>
    cases q with
    | none => simp
    | some t =>
      refine ⟨fun h => ?_, fun h => by cases h⟩
      have h1 := nI_pos' (hq t rfl)
      rw [show nI t = oI (some t) from rfl, ← h] at h1
      exact absurd h1 (by decide +kernel)
  | some s =>
    cases q with
    | none =>
      refine ⟨fun h => ?_, fun h => by cases h⟩
      have h1 := nI_pos' (ho s rfl)
      rw [show nI s = oI (some s) from rfl, h] at h1
      exact absurd h1 (by decide +kernel)
    | some t =>
      refine ⟨fun h => ?_, fun h => by rw [h]⟩
      rw [(nI_eq (ho s rfl) (hq t rfl)).mp h]
theorem pm_dec (j : Nat) : nI j + Int32.ofInt (-1) = pm j := by
  cases j with
  | zero => decide +kernel
  | succ j => exact pk_m1 j
theorem arr_known {ty : FieldType} {args : Array Value} {s : State} (h : (Cond.arrayClass ty).before args s = true) : ∃ cA : ClassId, ArrOfT s cA ty ∧ s.vm.findClass ("[" ++ ty.toString) = some cA := by
  obtain ⟨c, k, comp, h1, h2, h3⟩ := Cond.arrayClass_spec h
  exact ⟨c, fun n z => ⟨fun k h => (by cases h), k, h2, comp, h3⟩, h1⟩
end
section
/-! one rule an instruction -/
set_option maxRecDepth 100000
section GR
variable {S : Type} {l : Launch} {D : va_G} {w : S → va_W} {Γ : GC} {R : Room} {nL ce sl : Nat} {Q : State → Prop} {u : S} {pc : Nat} {xs st : List Value} {tys : List (ClassId × FieldType)} {own : String} {cc : ByteArray} {rt : Option FieldType}
theorem g_iconst (C : CG D tys w own Γ cc nL rt) {n : Int} {v : Int32} (hd : decode cc pc = .ok (.iconst n, 1)) (hv : Int32.ofInt n = v) (k : JG l D w Γ R nL ce sl Q u (pc + 1) xs (.int v :: st)) : JG l D w Γ R nL ce sl Q u pc xs st :=
  fun H locs ls hP hS hl => lv_iconst C.1 C.2.1 hd hv (k H locs ls hP hS hl)
theorem g_bipush (C : CG D tys w own Γ cc nL rt) {n : Int} {v : Int32} (hd : decode cc pc = .ok (.bipush n, 2)) (hv : (Int8.ofInt n).toInt32 = v) (k : JG l D w Γ R nL ce sl Q u (pc + 2) xs (.int v :: st)) : JG l D w Γ R nL ce sl Q u pc xs st :=
  fun H locs ls hP hS hl => lv_bipush C.1 C.2.1 hd hv (k H locs ls hP hS hl)
theorem g_sipush (C : CG D tys w own Γ cc nL rt) {n : Int} {v : Int32} (hd : decode cc pc = .ok (.sipush n, 3)) (hv : (Int16.ofInt n).toInt32 = v) (k : JG l D w Γ R nL ce sl Q u (pc + 3) xs (.int v :: st)) : JG l D w Γ R nL ce sl Q u pc xs st :=
  fun H locs ls hP hS hl => lv_sipush C.1 C.2.1 hd hv (k H locs ls hP hS hl)
theorem g_iload_n (C : CG D tys w own Γ cc nL rt) {k : Fin 4} {x : Int32} (hd : decode cc pc = .ok (.iload_n k, 1)) (hi : xs[(k : Nat)]? = some (.int x)) (kk : JG l D w Γ R nL ce sl Q u (pc + 1) xs (.int x :: st)) : JG l D w Γ R nL ce sl Q u pc xs st :=
  fun H locs ls hP hS hl => lv_iload_n C.1 C.2.1 hd rfl (ix_ls hl hi) (kk H locs ls hP hS hl)
theorem g_iload (C : CG D tys w own Γ cc nL rt) {i : Nat} {x : Int32} (hd : decode cc pc = .ok (.iload i, 2)) (hi : xs[i]? = some (.int x)) (kk : JG l D w Γ R nL ce sl Q u (pc + 2) xs (.int x :: st)) : JG l D w Γ R nL ce sl Q u pc xs st :=
  fun H locs ls hP hS hl => lv_iload C.1 C.2.1 hd (ix_ls hl hi) (kk H locs ls hP hS hl)
theorem g_aload_n (C : CG D tys w own Γ cc nL rt) {k : Fin 4} {x : Nat} (hd : decode cc pc = .ok (.aload_n k, 1)) (hi : xs[(k : Nat)]? = some (.ref x)) (kk : JG l D w Γ R nL ce sl Q u (pc + 1) xs (.ref x :: st)) : JG l D w Γ R nL ce sl Q u pc xs st :=
  fun H locs ls hP hS hl => lv_aload_n C.1 C.2.1 hd rfl (ix_ls hl hi) (kk H locs ls hP hS hl)
theorem g_dup (C : CG D tys w own Γ cc nL rt) {v : Value} (hd : decode cc pc = .ok (.dup, 1)) (hv : v.category = 1) (kk : JG l D w Γ R nL ce sl Q u (pc + 1) xs (v :: v :: st)) : JG l D w Γ R nL ce sl Q u pc xs (v :: st) :=
  fun H locs ls hP hS hl => lv_dup C.1 C.2.1 hd hv (kk H locs ls hP hS hl)
theorem g_istore_n (C : CG D tys w own Γ cc nL rt) {k : Fin 4} {x : Int32} {xs' : List Value} (hd : decode cc pc = .ok (.istore_n k, 1)) (hc : cat1 xs = true) (hi : (k : Nat) ≤ xs.length) (hn : (k : Nat) < nL) (hx : stl xs k (.int x) = xs') (kk : JG l D w Γ R nL ce sl Q u (pc + 1) xs' st) : JG l D w Γ R nL ce sl Q u pc xs (.int x :: st) := by
  subst hx
  exact fun H locs ls hP hS hl => lv_istore_n C.1 C.2.1 hd rfl hl hn rfl (fun ls' h' => kk H locs ls' hP hS (ix_store hc hi h'))
theorem g_astore_n (C : CG D tys w own Γ cc nL rt) {k : Fin 4} {x : Nat} {xs' : List Value} (hd : decode cc pc = .ok (.astore_n k, 1)) (hc : cat1 xs = true) (hi : (k : Nat) ≤ xs.length) (hn : (k : Nat) < nL) (hx : stl xs k (.ref x) = xs') (kk : JG l D w Γ R nL ce sl Q u (pc + 1) xs' st) : JG l D w Γ R nL ce sl Q u pc xs (.ref x :: st) := by
  subst hx
  exact fun H locs ls hP hS hl => lv_astore_n C.1 C.2.1 hd rfl hl hn rfl (fun ls' h' => kk H locs ls' hP hS (ix_store hc hi h'))
theorem g_istore (C : CG D tys w own Γ cc nL rt) {i : Nat} {x : Int32} {xs' : List Value} (hd : decode cc pc = .ok (.istore i, 2)) (hc : cat1 xs = true) (hi : i ≤ xs.length) (hn : i < nL) (hx : stl xs i (.int x) = xs') (kk : JG l D w Γ R nL ce sl Q u (pc + 2) xs' st) : JG l D w Γ R nL ce sl Q u pc xs (.int x :: st) := by
  subst hx
  exact fun H locs ls hP hS hl => lv_istore C.1 C.2.1 hd hl hn rfl (fun ls' h' => kk H locs ls' hP hS (ix_store hc hi h'))
theorem g_iinc (C : CG D tys w own Γ cc nL rt) {i : Nat} {n : Int} {x v : Int32} {xs' : List Value} (hd : decode cc pc = .ok (.iinc i n, 3)) (hc : cat1 xs = true) (hi : xs[i]? = some (.int x)) (hn : i < nL) (hv : x + Int32.ofInt n = v) (hx : stl xs i (.int v) = xs') (kk : JG l D w Γ R nL ce sl Q u (pc + 3) xs' st) : JG l D w Γ R nL ce sl Q u pc xs st := by
  subst hx
  intro H locs ls hP hS hl
  have hg := ix_get xs 0 i (.int x) hi
  rw [Nat.zero_add] at hg
  obtain ⟨k, hk⟩ := List.getElem?_of_mem hg
  have hle : i ≤ xs.length := Nat.le_of_lt (List.getElem?_eq_some_iff.mp hi).1
  exact lv_iinc C.1 C.2.1 hd hl hk hv hn rfl (fun ls' h' => kk H locs ls' hP hS (ix_store hc hle h'))
theorem g_set1 (C : CG D tys w own Γ cc nL rt) {x0 y : Value} {r : List Value} {x : Int32} (hd : decode cc pc = .ok (.istore_n 1, 1)) (hc : cat1 (x0 :: y :: r) = true) (hn : 1 < nL) (kk : JG l D w Γ R nL ce sl Q u (pc + 1) (x0 :: .int x :: r) st) : JG l D w Γ R nL ce sl Q u pc (x0 :: y :: r) (.int x :: st) :=
  g_istore_n C hd hc (by show 1 ≤ _; simp) hn rfl kk
theorem g_app1 (C : CG D tys w own Γ cc nL rt) {x0 : Value} {x : Int32} (hd : decode cc pc = .ok (.istore_n 1, 1)) (hc : cat1 [x0] = true) (hn : 1 < nL) (kk : JG l D w Γ R nL ce sl Q u (pc + 1) [x0, .int x] st) : JG l D w Γ R nL ce sl Q u pc [x0] (.int x :: st) :=
  g_istore_n C hd hc (by show 1 ≤ _; simp) hn rfl kk
theorem g_inc1 (C : CG D tys w own Γ cc nL rt) {x0 : Value} {r : List Value} {n : Int} {x v : Int32} (hd : decode cc pc = .ok (.iinc 1 n, 3)) (hc : cat1 (x0 :: .int x :: r) = true) (hn : 1 < nL) (hv : x + Int32.ofInt n = v) (kk : JG l D w Γ R nL ce sl Q u (pc + 3) (x0 :: .int v :: r) st) : JG l D w Γ R nL ce sl Q u pc (x0 :: .int x :: r) st :=
  g_iinc C hd hc rfl hn hv rfl kk
theorem g_set2 (C : CG D tys w own Γ cc nL rt) {x0 x1 y : Value} {r : List Value} {x : Int32} (hd : decode cc pc = .ok (.istore_n 2, 1)) (hc : cat1 (x0 :: x1 :: y :: r) = true) (hn : 2 < nL) (kk : JG l D w Γ R nL ce sl Q u (pc + 1) (x0 :: x1 :: .int x :: r) st) : JG l D w Γ R nL ce sl Q u pc (x0 :: x1 :: y :: r) (.int x :: st) :=
  g_istore_n C hd hc (by show 2 ≤ _; simp) hn rfl kk
theorem g_app2 (C : CG D tys w own Γ cc nL rt) {x0 x1 : Value} {x : Int32} (hd : decode cc pc = .ok (.istore_n 2, 1)) (hc : cat1 [x0, x1] = true) (hn : 2 < nL) (kk : JG l D w Γ R nL ce sl Q u (pc + 1) [x0, x1, .int x] st) : JG l D w Γ R nL ce sl Q u pc [x0, x1] (.int x :: st) :=
  g_istore_n C hd hc (by show 2 ≤ _; simp) hn rfl kk
theorem g_inc2 (C : CG D tys w own Γ cc nL rt) {x0 x1 : Value} {r : List Value} {n : Int} {x v : Int32} (hd : decode cc pc = .ok (.iinc 2 n, 3)) (hc : cat1 (x0 :: x1 :: .int x :: r) = true) (hn : 2 < nL) (hv : x + Int32.ofInt n = v) (kk : JG l D w Γ R nL ce sl Q u (pc + 3) (x0 :: x1 :: .int v :: r) st) : JG l D w Γ R nL ce sl Q u pc (x0 :: x1 :: .int x :: r) st :=
  g_iinc C hd hc rfl hn hv rfl kk
theorem g_set3 (C : CG D tys w own Γ cc nL rt) {x0 x1 x2 y : Value} {r : List Value} {x : Int32} (hd : decode cc pc = .ok (.istore_n 3, 1)) (hc : cat1 (x0 :: x1 :: x2 :: y :: r) = true) (hn : 3 < nL) (kk : JG l D w Γ R nL ce sl Q u (pc + 1) (x0 :: x1 :: x2 :: .int x :: r) st) : JG l D w Γ R nL ce sl Q u pc (x0 :: x1 :: x2 :: y :: r) (.int x :: st) :=
  g_istore_n C hd hc (by show 3 ≤ _; simp) hn rfl kk
theorem g_app3 (C : CG D tys w own Γ cc nL rt) {x0 x1 x2 : Value} {x : Int32} (hd : decode cc pc = .ok (.istore_n 3, 1)) (hc : cat1 [x0, x1, x2] = true) (hn : 3 < nL) (kk : JG l D w Γ R nL ce sl Q u (pc + 1) [x0, x1, x2, .int x] st) : JG l D w Γ R nL ce sl Q u pc [x0, x1, x2] (.int x :: st) :=
  g_istore_n C hd hc (by show 3 ≤ _; simp) hn rfl kk
theorem g_inc3 (C : CG D tys w own Γ cc nL rt) {x0 x1 x2 : Value} {r : List Value} {n : Int} {x v : Int32} (hd : decode cc pc = .ok (.iinc 3 n, 3)) (hc : cat1 (x0 :: x1 :: x2 :: .int x :: r) = true) (hn : 3 < nL) (hv : x + Int32.ofInt n = v) (kk : JG l D w Γ R nL ce sl Q u (pc + 3) (x0 :: x1 :: x2 :: .int v :: r) st) : JG l D w Γ R nL ce sl Q u pc (x0 :: x1 :: x2 :: .int x :: r) st :=
  g_iinc C hd hc rfl hn hv rfl kk
theorem g_set4 (C : CG D tys w own Γ cc nL rt) {x0 x1 x2 x3 y : Value} {r : List Value} {x : Int32} (hd : decode cc pc = .ok (.istore 4, 2)) (hc : cat1 (x0 :: x1 :: x2 :: x3 :: y :: r) = true) (hn : 4 < nL) (kk : JG l D w Γ R nL ce sl Q u (pc + 2) (x0 :: x1 :: x2 :: x3 :: .int x :: r) st) : JG l D w Γ R nL ce sl Q u pc (x0 :: x1 :: x2 :: x3 :: y :: r) (.int x :: st) :=
  g_istore C hd hc (by show 4 ≤ _; simp) hn rfl kk
theorem g_app4 (C : CG D tys w own Γ cc nL rt) {x0 x1 x2 x3 : Value} {x : Int32} (hd : decode cc pc = .ok (.istore 4, 2)) (hc : cat1 [x0, x1, x2, x3] = true) (hn : 4 < nL) (kk : JG l D w Γ R nL ce sl Q u (pc + 2) [x0, x1, x2, x3, .int x] st) : JG l D w Γ R nL ce sl Q u pc [x0, x1, x2, x3] (.int x :: st) :=
  g_istore C hd hc (by show 4 ≤ _; simp) hn rfl kk
theorem g_inc4 (C : CG D tys w own Γ cc nL rt) {x0 x1 x2 x3 : Value} {r : List Value} {n : Int} {x v : Int32} (hd : decode cc pc = .ok (.iinc 4 n, 3)) (hc : cat1 (x0 :: x1 :: x2 :: x3 :: .int x :: r) = true) (hn : 4 < nL) (hv : x + Int32.ofInt n = v) (kk : JG l D w Γ R nL ce sl Q u (pc + 3) (x0 :: x1 :: x2 :: x3 :: .int v :: r) st) : JG l D w Γ R nL ce sl Q u pc (x0 :: x1 :: x2 :: x3 :: .int x :: r) st :=
  g_iinc C hd hc rfl hn hv rfl kk
theorem g_set5 (C : CG D tys w own Γ cc nL rt) {x0 x1 x2 x3 x4 y : Value} {r : List Value} {x : Int32} (hd : decode cc pc = .ok (.istore 5, 2)) (hc : cat1 (x0 :: x1 :: x2 :: x3 :: x4 :: y :: r) = true) (hn : 5 < nL) (kk : JG l D w Γ R nL ce sl Q u (pc + 2) (x0 :: x1 :: x2 :: x3 :: x4 :: .int x :: r) st) : JG l D w Γ R nL ce sl Q u pc (x0 :: x1 :: x2 :: x3 :: x4 :: y :: r) (.int x :: st) :=
  g_istore C hd hc (by show 5 ≤ _; simp) hn rfl kk
theorem g_app5 (C : CG D tys w own Γ cc nL rt) {x0 x1 x2 x3 x4 : Value} {x : Int32} (hd : decode cc pc = .ok (.istore 5, 2)) (hc : cat1 [x0, x1, x2, x3, x4] = true) (hn : 5 < nL) (kk : JG l D w Γ R nL ce sl Q u (pc + 2) [x0, x1, x2, x3, x4, .int x] st) : JG l D w Γ R nL ce sl Q u pc [x0, x1, x2, x3, x4] (.int x :: st) :=
  g_istore C hd hc (by show 5 ≤ _; simp) hn rfl kk
theorem g_inc5 (C : CG D tys w own Γ cc nL rt) {x0 x1 x2 x3 x4 : Value} {r : List Value} {n : Int} {x v : Int32} (hd : decode cc pc = .ok (.iinc 5 n, 3)) (hc : cat1 (x0 :: x1 :: x2 :: x3 :: x4 :: .int x :: r) = true) (hn : 5 < nL) (hv : x + Int32.ofInt n = v) (kk : JG l D w Γ R nL ce sl Q u (pc + 3) (x0 :: x1 :: x2 :: x3 :: x4 :: .int v :: r) st) : JG l D w Γ R nL ce sl Q u pc (x0 :: x1 :: x2 :: x3 :: x4 :: .int x :: r) st :=
  g_iinc C hd hc rfl hn hv rfl kk
theorem g_set6 (C : CG D tys w own Γ cc nL rt) {x0 x1 x2 x3 x4 x5 y : Value} {r : List Value} {x : Int32} (hd : decode cc pc = .ok (.istore 6, 2)) (hc : cat1 (x0 :: x1 :: x2 :: x3 :: x4 :: x5 :: y :: r) = true) (hn : 6 < nL) (kk : JG l D w Γ R nL ce sl Q u (pc + 2) (x0 :: x1 :: x2 :: x3 :: x4 :: x5 :: .int x :: r) st) : JG l D w Γ R nL ce sl Q u pc (x0 :: x1 :: x2 :: x3 :: x4 :: x5 :: y :: r) (.int x :: st) :=
  g_istore C hd hc (by show 6 ≤ _; simp) hn rfl kk
theorem g_app6 (C : CG D tys w own Γ cc nL rt) {x0 x1 x2 x3 x4 x5 : Value} {x : Int32} (hd : decode cc pc = .ok (.istore 6, 2)) (hc : cat1 [x0, x1, x2, x3, x4, x5] = true) (hn : 6 < nL) (kk : JG l D w Γ R nL ce sl Q u (pc + 2) [x0, x1, x2, x3, x4, x5, .int x] st) : JG l D w Γ R nL ce sl Q u pc [x0, x1, x2, x3, x4, x5] (.int x :: st) :=
  g_istore C hd hc (by show 6 ≤ _; simp) hn rfl kk
theorem g_inc6 (C : CG D tys w own Γ cc nL rt) {x0 x1 x2 x3 x4 x5 : Value} {r : List Value} {n : Int} {x v : Int32} (hd : decode cc pc = .ok (.iinc 6 n, 3)) (hc : cat1 (x0 :: x1 :: x2 :: x3 :: x4 :: x5 :: .int x :: r) = true) (hn : 6 < nL) (hv : x + Int32.ofInt n = v) (kk : JG l D w Γ R nL ce sl Q u (pc + 3) (x0 :: x1 :: x2 :: x3 :: x4 :: x5 :: .int v :: r) st) : JG l D w Γ R nL ce sl Q u pc (x0 :: x1 :: x2 :: x3 :: x4 :: x5 :: .int x :: r) st :=
  g_iinc C hd hc rfl hn hv rfl kk
theorem g_set7 (C : CG D tys w own Γ cc nL rt) {x0 x1 x2 x3 x4 x5 x6 y : Value} {r : List Value} {x : Int32} (hd : decode cc pc = .ok (.istore 7, 2)) (hc : cat1 (x0 :: x1 :: x2 :: x3 :: x4 :: x5 :: x6 :: y :: r) = true) (hn : 7 < nL) (kk : JG l D w Γ R nL ce sl Q u (pc + 2) (x0 :: x1 :: x2 :: x3 :: x4 :: x5 :: x6 :: .int x :: r) st) : JG l D w Γ R nL ce sl Q u pc (x0 :: x1 :: x2 :: x3 :: x4 :: x5 :: x6 :: y :: r) (.int x :: st) :=
  g_istore C hd hc (by show 7 ≤ _; simp) hn rfl kk
theorem g_app7 (C : CG D tys w own Γ cc nL rt) {x0 x1 x2 x3 x4 x5 x6 : Value} {x : Int32} (hd : decode cc pc = .ok (.istore 7, 2)) (hc : cat1 [x0, x1, x2, x3, x4, x5, x6] = true) (hn : 7 < nL) (kk : JG l D w Γ R nL ce sl Q u (pc + 2) [x0, x1, x2, x3, x4, x5, x6, .int x] st) : JG l D w Γ R nL ce sl Q u pc [x0, x1, x2, x3, x4, x5, x6] (.int x :: st) :=
  g_istore C hd hc (by show 7 ≤ _; simp) hn rfl kk
theorem g_inc7 (C : CG D tys w own Γ cc nL rt) {x0 x1 x2 x3 x4 x5 x6 : Value} {r : List Value} {n : Int} {x v : Int32} (hd : decode cc pc = .ok (.iinc 7 n, 3)) (hc : cat1 (x0 :: x1 :: x2 :: x3 :: x4 :: x5 :: x6 :: .int x :: r) = true) (hn : 7 < nL) (hv : x + Int32.ofInt n = v) (kk : JG l D w Γ R nL ce sl Q u (pc + 3) (x0 :: x1 :: x2 :: x3 :: x4 :: x5 :: x6 :: .int v :: r) st) : JG l D w Γ R nL ce sl Q u pc (x0 :: x1 :: x2 :: x3 :: x4 :: x5 :: x6 :: .int x :: r) st :=
  g_iinc C hd hc rfl hn hv rfl kk
theorem g_take (n : Nat) {xs' : List Value} (hx : xs.take n = xs') (kk : JG l D w Γ R nL ce sl Q u pc xs' st) : JG l D w Γ R nL ce sl Q u pc xs st := by
  intro H locs ls hP hS hl
  refine kk H locs ls hP hS ⟨hl.1, hl.2.1, fun q hq => ?_⟩
  subst hx
  obtain ⟨j, h1, h2⟩ := ix_mem _ 0 q hq
  rw [List.getElem?_take] at h2
  split at h2
  · have h3 := ix_get xs 0 j q.2 h2
    rw [← h1] at h3
    exact hl.2.2 q h3
  · cases h2
theorem g_iadd (C : CG D tys w own Γ cc nL rt) {x y v : Int32} (hd : decode cc pc = .ok (.iadd, 1)) (hv : x + y = v) (kk : JG l D w Γ R nL ce sl Q u (pc + 1) xs (.int v :: st)) : JG l D w Γ R nL ce sl Q u pc xs (.int y :: .int x :: st) := by
  subst hv
  exact fun H locs ls hP hS hl => lv_iadd C.1 C.2.1 hd (kk H locs ls hP hS hl)
theorem g_isub (C : CG D tys w own Γ cc nL rt) {x y v : Int32} (hd : decode cc pc = .ok (.isub, 1)) (hv : x - y = v) (kk : JG l D w Γ R nL ce sl Q u (pc + 1) xs (.int v :: st)) : JG l D w Γ R nL ce sl Q u pc xs (.int y :: .int x :: st) := by
  subst hv
  exact fun H locs ls hP hS hl => lv_isub C.1 C.2.1 hd (kk H locs ls hP hS hl)
theorem g_iand (C : CG D tys w own Γ cc nL rt) {x y v : Int32} (hd : decode cc pc = .ok (.iand, 1)) (hv : x &&& y = v) (kk : JG l D w Γ R nL ce sl Q u (pc + 1) xs (.int v :: st)) : JG l D w Γ R nL ce sl Q u pc xs (.int y :: .int x :: st) := by
  subst hv
  exact fun H locs ls hP hS hl => lv_iand C.1 C.2.1 hd (kk H locs ls hP hS hl)
theorem g_ior (C : CG D tys w own Γ cc nL rt) {x y v : Int32} (hd : decode cc pc = .ok (.ior, 1)) (hv : x ||| y = v) (kk : JG l D w Γ R nL ce sl Q u (pc + 1) xs (.int v :: st)) : JG l D w Γ R nL ce sl Q u pc xs (.int y :: .int x :: st) := by
  subst hv
  exact fun H locs ls hP hS hl => lv_ior C.1 C.2.1 hd (kk H locs ls hP hS hl)
theorem g_ishl (C : CG D tys w own Γ cc nL rt) {x y v : Int32} (hd : decode cc pc = .ok (.ishl, 1)) (hv : x <<< (y &&& 31) = v) (kk : JG l D w Γ R nL ce sl Q u (pc + 1) xs (.int v :: st)) : JG l D w Γ R nL ce sl Q u pc xs (.int y :: .int x :: st) := by
  subst hv
  exact fun H locs ls hP hS hl => lv_ishl C.1 C.2.1 hd (kk H locs ls hP hS hl)
theorem g_ishr (C : CG D tys w own Γ cc nL rt) {x y v : Int32} (hd : decode cc pc = .ok (.ishr, 1)) (hv : x >>> (y &&& 31) = v) (kk : JG l D w Γ R nL ce sl Q u (pc + 1) xs (.int v :: st)) : JG l D w Γ R nL ce sl Q u pc xs (.int y :: .int x :: st) := by
  subst hv
  exact fun H locs ls hP hS hl => lv_ishr C.1 C.2.1 hd (kk H locs ls hP hS hl)
theorem g_iushr (C : CG D tys w own Γ cc nL rt) {x y v : Int32} (hd : decode cc pc = .ok (.iushr, 1)) (hv : (x.toUInt32 >>> (y.toUInt32 &&& Int32.toUInt32 31)).toInt32 = v) (kk : JG l D w Γ R nL ce sl Q u (pc + 1) xs (.int v :: st)) : JG l D w Γ R nL ce sl Q u pc xs (.int y :: .int x :: st) :=
  fun H locs ls hP hS hl => lv_iushr C.1 C.2.1 hd hv (kk H locs ls hP hS hl)
theorem g_goto (C : CG D tys w own Γ cc nL rt) {off : Int} {tgt : Nat} (hd : decode cc pc = .ok (.goto off, 3)) (ht : (pc : Int) + off = (tgt : Int)) (kk : JG l D w Γ R nL ce sl Q u tgt xs st) : JG l D w Γ R nL ce sl Q u pc xs st :=
  fun H locs ls hP hS hl => lv_goto C.1 C.2.1 hd ht (kk H locs ls hP hS hl)
theorem gr_icmp_eq (C : CG D tys w own Γ cc nL rt) {x y : Int32} {off : Int} {tgt : Nat} (hd : decode cc pc = .ok (.if_icmp .eq off, 3)) (ht : (pc : Int) + off = (tgt : Int)) (kt : x = y → JG l D w Γ R nL ce sl Q u tgt xs st) (kf : ¬ x = y → JG l D w Γ R nL ce sl Q u (pc + 3) xs st) : JG l D w Γ R nL ce sl Q u pc xs (.int y :: .int x :: st) :=
  fun H locs ls hP hS hl => lv_icmp_eq C.1 C.2.1 hd ht (fun h => kt h H locs ls hP hS hl) (fun h => kf h H locs ls hP hS hl)
theorem gr_if_eq (C : CG D tys w own Γ cc nL rt) {x : Int32} {off : Int} {tgt : Nat} (hd : decode cc pc = .ok (.ifCond .eq off, 3)) (ht : (pc : Int) + off = (tgt : Int)) (kt : x = 0 → JG l D w Γ R nL ce sl Q u tgt xs st) (kf : ¬ x = 0 → JG l D w Γ R nL ce sl Q u (pc + 3) xs st) : JG l D w Γ R nL ce sl Q u pc xs (.int x :: st) :=
  fun H locs ls hP hS hl => lv_if_eq C.1 C.2.1 hd ht (fun h => kt h H locs ls hP hS hl) (fun h => kf h H locs ls hP hS hl)
theorem gr_icmp_ne (C : CG D tys w own Γ cc nL rt) {x y : Int32} {off : Int} {tgt : Nat} (hd : decode cc pc = .ok (.if_icmp .ne off, 3)) (ht : (pc : Int) + off = (tgt : Int)) (kt : ¬ x = y → JG l D w Γ R nL ce sl Q u tgt xs st) (kf : x = y → JG l D w Γ R nL ce sl Q u (pc + 3) xs st) : JG l D w Γ R nL ce sl Q u pc xs (.int y :: .int x :: st) :=
  fun H locs ls hP hS hl => lv_icmp_ne C.1 C.2.1 hd ht (fun h => kt h H locs ls hP hS hl) (fun h => kf h H locs ls hP hS hl)
theorem gr_if_ne (C : CG D tys w own Γ cc nL rt) {x : Int32} {off : Int} {tgt : Nat} (hd : decode cc pc = .ok (.ifCond .ne off, 3)) (ht : (pc : Int) + off = (tgt : Int)) (kt : ¬ x = 0 → JG l D w Γ R nL ce sl Q u tgt xs st) (kf : x = 0 → JG l D w Γ R nL ce sl Q u (pc + 3) xs st) : JG l D w Γ R nL ce sl Q u pc xs (.int x :: st) :=
  fun H locs ls hP hS hl => lv_if_ne C.1 C.2.1 hd ht (fun h => kt h H locs ls hP hS hl) (fun h => kf h H locs ls hP hS hl)
theorem gr_icmp_lt (C : CG D tys w own Γ cc nL rt) {x y : Int32} {off : Int} {tgt : Nat} (hd : decode cc pc = .ok (.if_icmp .lt off, 3)) (ht : (pc : Int) + off = (tgt : Int)) (kt : x < y → JG l D w Γ R nL ce sl Q u tgt xs st) (kf : ¬ x < y → JG l D w Γ R nL ce sl Q u (pc + 3) xs st) : JG l D w Γ R nL ce sl Q u pc xs (.int y :: .int x :: st) :=
  fun H locs ls hP hS hl => lv_icmp_lt C.1 C.2.1 hd ht (fun h => kt h H locs ls hP hS hl) (fun h => kf h H locs ls hP hS hl)
theorem gr_if_lt (C : CG D tys w own Γ cc nL rt) {x : Int32} {off : Int} {tgt : Nat} (hd : decode cc pc = .ok (.ifCond .lt off, 3)) (ht : (pc : Int) + off = (tgt : Int)) (kt : x < 0 → JG l D w Γ R nL ce sl Q u tgt xs st) (kf : ¬ x < 0 → JG l D w Γ R nL ce sl Q u (pc + 3) xs st) : JG l D w Γ R nL ce sl Q u pc xs (.int x :: st) :=
  fun H locs ls hP hS hl => lv_if_lt C.1 C.2.1 hd ht (fun h => kt h H locs ls hP hS hl) (fun h => kf h H locs ls hP hS hl)
theorem gr_icmp_ge (C : CG D tys w own Γ cc nL rt) {x y : Int32} {off : Int} {tgt : Nat} (hd : decode cc pc = .ok (.if_icmp .ge off, 3)) (ht : (pc : Int) + off = (tgt : Int)) (kt : y ≤ x → JG l D w Γ R nL ce sl Q u tgt xs st) (kf : ¬ y ≤ x → JG l D w Γ R nL ce sl Q u (pc + 3) xs st) : JG l D w Γ R nL ce sl Q u pc xs (.int y :: .int x :: st) :=
  fun H locs ls hP hS hl => lv_icmp_ge C.1 C.2.1 hd ht (fun h => kt h H locs ls hP hS hl) (fun h => kf h H locs ls hP hS hl)
theorem gr_if_ge (C : CG D tys w own Γ cc nL rt) {x : Int32} {off : Int} {tgt : Nat} (hd : decode cc pc = .ok (.ifCond .ge off, 3)) (ht : (pc : Int) + off = (tgt : Int)) (kt : 0 ≤ x → JG l D w Γ R nL ce sl Q u tgt xs st) (kf : ¬ 0 ≤ x → JG l D w Γ R nL ce sl Q u (pc + 3) xs st) : JG l D w Γ R nL ce sl Q u pc xs (.int x :: st) :=
  fun H locs ls hP hS hl => lv_if_ge C.1 C.2.1 hd ht (fun h => kt h H locs ls hP hS hl) (fun h => kf h H locs ls hP hS hl)
theorem gr_icmp_gt (C : CG D tys w own Γ cc nL rt) {x y : Int32} {off : Int} {tgt : Nat} (hd : decode cc pc = .ok (.if_icmp .gt off, 3)) (ht : (pc : Int) + off = (tgt : Int)) (kt : y < x → JG l D w Γ R nL ce sl Q u tgt xs st) (kf : ¬ y < x → JG l D w Γ R nL ce sl Q u (pc + 3) xs st) : JG l D w Γ R nL ce sl Q u pc xs (.int y :: .int x :: st) :=
  fun H locs ls hP hS hl => lv_icmp_gt C.1 C.2.1 hd ht (fun h => kt h H locs ls hP hS hl) (fun h => kf h H locs ls hP hS hl)
theorem gr_if_gt (C : CG D tys w own Γ cc nL rt) {x : Int32} {off : Int} {tgt : Nat} (hd : decode cc pc = .ok (.ifCond .gt off, 3)) (ht : (pc : Int) + off = (tgt : Int)) (kt : 0 < x → JG l D w Γ R nL ce sl Q u tgt xs st) (kf : ¬ 0 < x → JG l D w Γ R nL ce sl Q u (pc + 3) xs st) : JG l D w Γ R nL ce sl Q u pc xs (.int x :: st) :=
  fun H locs ls hP hS hl => lv_if_gt C.1 C.2.1 hd ht (fun h => kt h H locs ls hP hS hl) (fun h => kf h H locs ls hP hS hl)
theorem gr_icmp_le (C : CG D tys w own Γ cc nL rt) {x y : Int32} {off : Int} {tgt : Nat} (hd : decode cc pc = .ok (.if_icmp .le off, 3)) (ht : (pc : Int) + off = (tgt : Int)) (kt : x ≤ y → JG l D w Γ R nL ce sl Q u tgt xs st) (kf : ¬ x ≤ y → JG l D w Γ R nL ce sl Q u (pc + 3) xs st) : JG l D w Γ R nL ce sl Q u pc xs (.int y :: .int x :: st) :=
  fun H locs ls hP hS hl => lv_icmp_le C.1 C.2.1 hd ht (fun h => kt h H locs ls hP hS hl) (fun h => kf h H locs ls hP hS hl)
theorem gr_if_le (C : CG D tys w own Γ cc nL rt) {x : Int32} {off : Int} {tgt : Nat} (hd : decode cc pc = .ok (.ifCond .le off, 3)) (ht : (pc : Int) + off = (tgt : Int)) (kt : x ≤ 0 → JG l D w Γ R nL ce sl Q u tgt xs st) (kf : ¬ x ≤ 0 → JG l D w Γ R nL ce sl Q u (pc + 3) xs st) : JG l D w Γ R nL ce sl Q u pc xs (.int x :: st) :=
  fun H locs ls hP hS hl => lv_if_le C.1 C.2.1 hd ht (fun h => kt h H locs ls hP hS hl) (fun h => kf h H locs ls hP hS hl)
theorem gn_icmp_eq (C : CG D tys w own Γ cc nL rt) {a b : Nat} {off : Int} {tgt : Nat} (ha : a < 2 ^ 31) (hb : b < 2 ^ 31) (hd : decode cc pc = .ok (.if_icmp .eq off, 3)) (ht : (pc : Int) + off = (tgt : Int)) (kt : a = b → JG l D w Γ R nL ce sl Q u tgt xs st) (kf : a ≠ b → JG l D w Γ R nL ce sl Q u (pc + 3) xs st) : JG l D w Γ R nL ce sl Q u pc xs (.int (nI b) :: .int (nI a) :: st) :=
  gr_icmp_eq C hd ht (fun h => kt ((nI_eq ha hb).mp h)) (fun h => kf (fun q => h ((nI_eq ha hb).mpr q)))
theorem gn_icmp_ne (C : CG D tys w own Γ cc nL rt) {a b : Nat} {off : Int} {tgt : Nat} (ha : a < 2 ^ 31) (hb : b < 2 ^ 31) (hd : decode cc pc = .ok (.if_icmp .ne off, 3)) (ht : (pc : Int) + off = (tgt : Int)) (kt : a ≠ b → JG l D w Γ R nL ce sl Q u tgt xs st) (kf : a = b → JG l D w Γ R nL ce sl Q u (pc + 3) xs st) : JG l D w Γ R nL ce sl Q u pc xs (.int (nI b) :: .int (nI a) :: st) :=
  gr_icmp_ne C hd ht (fun h => kt (fun q => h ((nI_eq ha hb).mpr q))) (fun h => kf ((nI_eq ha hb).mp h))
theorem gn_icmp_lt (C : CG D tys w own Γ cc nL rt) {a b : Nat} {off : Int} {tgt : Nat} (ha : a < 2 ^ 31) (hb : b < 2 ^ 31) (hd : decode cc pc = .ok (.if_icmp .lt off, 3)) (ht : (pc : Int) + off = (tgt : Int)) (kt : a < b → JG l D w Γ R nL ce sl Q u tgt xs st) (kf : b ≤ a → JG l D w Γ R nL ce sl Q u (pc + 3) xs st) : JG l D w Γ R nL ce sl Q u pc xs (.int (nI b) :: .int (nI a) :: st) :=
  gr_icmp_lt C hd ht (fun h => kt ((nI_ltI ha hb).mp h)) (fun h => kf (Nat.le_of_not_lt (fun q => h ((nI_ltI ha hb).mpr q))))
theorem gn_icmp_ge (C : CG D tys w own Γ cc nL rt) {a b : Nat} {off : Int} {tgt : Nat} (ha : a < 2 ^ 31) (hb : b < 2 ^ 31) (hd : decode cc pc = .ok (.if_icmp .ge off, 3)) (ht : (pc : Int) + off = (tgt : Int)) (kt : b ≤ a → JG l D w Γ R nL ce sl Q u tgt xs st) (kf : a < b → JG l D w Γ R nL ce sl Q u (pc + 3) xs st) : JG l D w Γ R nL ce sl Q u pc xs (.int (nI b) :: .int (nI a) :: st) :=
  gr_icmp_ge C hd ht (fun h => kt ((nI_leI hb ha).mp h)) (fun h => kf (Nat.lt_of_not_le (fun q => h ((nI_leI hb ha).mpr q))))
theorem gn_icmp_gt (C : CG D tys w own Γ cc nL rt) {a b : Nat} {off : Int} {tgt : Nat} (ha : a < 2 ^ 31) (hb : b < 2 ^ 31) (hd : decode cc pc = .ok (.if_icmp .gt off, 3)) (ht : (pc : Int) + off = (tgt : Int)) (kt : b < a → JG l D w Γ R nL ce sl Q u tgt xs st) (kf : a ≤ b → JG l D w Γ R nL ce sl Q u (pc + 3) xs st) : JG l D w Γ R nL ce sl Q u pc xs (.int (nI b) :: .int (nI a) :: st) :=
  gr_icmp_gt C hd ht (fun h => kt ((nI_ltI hb ha).mp h)) (fun h => kf (Nat.le_of_not_lt (fun q => h ((nI_ltI hb ha).mpr q))))
theorem gn_icmp_le (C : CG D tys w own Γ cc nL rt) {a b : Nat} {off : Int} {tgt : Nat} (ha : a < 2 ^ 31) (hb : b < 2 ^ 31) (hd : decode cc pc = .ok (.if_icmp .le off, 3)) (ht : (pc : Int) + off = (tgt : Int)) (kt : a ≤ b → JG l D w Γ R nL ce sl Q u tgt xs st) (kf : b < a → JG l D w Γ R nL ce sl Q u (pc + 3) xs st) : JG l D w Γ R nL ce sl Q u pc xs (.int (nI b) :: .int (nI a) :: st) :=
  gr_icmp_le C hd ht (fun h => kt ((nI_leI ha hb).mp h)) (fun h => kf (Nat.lt_of_not_le (fun q => h ((nI_leI ha hb).mpr q))))
theorem nI_z {a : Nat} (ha : a < 2 ^ 31) : nI a = 0 ↔ a = 0 := by
  rw [← nI_0]
  exact nI_eq ha (by decide)
theorem gn_if_eq (C : CG D tys w own Γ cc nL rt) {a : Nat} {off : Int} {tgt : Nat} (ha : a < 2 ^ 31) (hd : decode cc pc = .ok (.ifCond .eq off, 3)) (ht : (pc : Int) + off = (tgt : Int)) (kt : a = 0 → JG l D w Γ R nL ce sl Q u tgt xs st) (kf : a ≠ 0 → JG l D w Γ R nL ce sl Q u (pc + 3) xs st) : JG l D w Γ R nL ce sl Q u pc xs (.int (nI a) :: st) :=
  gr_if_eq C hd ht (fun h => kt ((nI_z ha).mp h)) (fun h => kf (fun q => h ((nI_z ha).mpr q)))
theorem gn_if_ne (C : CG D tys w own Γ cc nL rt) {a : Nat} {off : Int} {tgt : Nat} (ha : a < 2 ^ 31) (hd : decode cc pc = .ok (.ifCond .ne off, 3)) (ht : (pc : Int) + off = (tgt : Int)) (kt : a ≠ 0 → JG l D w Γ R nL ce sl Q u tgt xs st) (kf : a = 0 → JG l D w Γ R nL ce sl Q u (pc + 3) xs st) : JG l D w Γ R nL ce sl Q u pc xs (.int (nI a) :: st) :=
  gr_if_ne C hd ht (fun h => kt (fun q => h ((nI_z ha).mpr q))) (fun h => kf ((nI_z ha).mp h))
theorem gn_if_le (C : CG D tys w own Γ cc nL rt) {a : Nat} {off : Int} {tgt : Nat} (ha : a < 2 ^ 31) (hd : decode cc pc = .ok (.ifCond .le off, 3)) (ht : (pc : Int) + off = (tgt : Int)) (kt : a = 0 → JG l D w Γ R nL ce sl Q u tgt xs st) (kf : 0 < a → JG l D w Γ R nL ce sl Q u (pc + 3) xs st) : JG l D w Γ R nL ce sl Q u pc xs (.int (nI a) :: st) :=
  gr_if_le C hd ht (fun h => kt (by rcases Nat.eq_zero_or_pos a with q | q; exact q; exact absurd h (nI_nle q ha))) (fun h => kf (by rcases Nat.eq_zero_or_pos a with q | q; exact absurd (by rw [q, nI_0]; decide) h; exact q))
theorem gn_if_lt (C : CG D tys w own Γ cc nL rt) {a : Nat} {off : Int} {tgt : Nat} (ha : a < 2 ^ 31) (hd : decode cc pc = .ok (.ifCond .lt off, 3)) (ht : (pc : Int) + off = (tgt : Int)) (kf : JG l D w Γ R nL ce sl Q u (pc + 3) xs st) : JG l D w Γ R nL ce sl Q u pc xs (.int (nI a) :: st) :=
  gr_if_lt C hd ht (fun h => absurd h (nI_pos ha)) (fun _ => kf)
theorem gn_if_ge (C : CG D tys w own Γ cc nL rt) {a : Nat} {off : Int} {tgt : Nat} (ha : a < 2 ^ 31) (hd : decode cc pc = .ok (.ifCond .ge off, 3)) (ht : (pc : Int) + off = (tgt : Int)) (kt : JG l D w Γ R nL ce sl Q u tgt xs st) : JG l D w Γ R nL ce sl Q u pc xs (.int (nI a) :: st) :=
  gr_if_ge C hd ht (fun _ => kt) (fun h => absurd (nI_pos' ha) h)
theorem go_if_lt (C : CG D tys w own Γ cc nL rt) {o : Option Nat} {off : Int} {tgt : Nat} (ho : ∀ t, o = some t → t < 2 ^ 31) (hd : decode cc pc = .ok (.ifCond .lt off, 3)) (ht : (pc : Int) + off = (tgt : Int)) (kt : o = none → JG l D w Γ R nL ce sl Q u tgt xs st) (kf : ∀ t, o = some t → JG l D w Γ R nL ce sl Q u (pc + 3) xs st) : JG l D w Γ R nL ce sl Q u pc xs (.int (oI o) :: st) :=
  gr_if_lt C hd ht (fun h => kt ((oI_lt ho).mp h)) (fun h => by
    cases hq : o with
    | none => exact absurd ((oI_lt ho).mpr hq) h
    | some t => exact kf t hq)
theorem go_if_ge (C : CG D tys w own Γ cc nL rt) {o : Option Nat} {off : Int} {tgt : Nat} (ho : ∀ t, o = some t → t < 2 ^ 31) (hd : decode cc pc = .ok (.ifCond .ge off, 3)) (ht : (pc : Int) + off = (tgt : Int)) (kt : ∀ t, o = some t → JG l D w Γ R nL ce sl Q u tgt xs st) (kf : o = none → JG l D w Γ R nL ce sl Q u (pc + 3) xs st) : JG l D w Γ R nL ce sl Q u pc xs (.int (oI o) :: st) :=
  gr_if_ge C hd ht (fun h => by
    cases hq : o with
    | none => exact absurd hq ((oI_ge ho).mp h)
    | some t => exact kt t hq) (fun h => kf (by
    cases hq : o with
    | none => rfl
    | some t => exact absurd ((oI_ge ho).mpr (by rw [hq]; simp)) h))
theorem gb_if_eq (C : CG D tys w own Γ cc nL rt) {b : Bool} {off : Int} {tgt : Nat} (hd : decode cc pc = .ok (.ifCond .eq off, 3)) (ht : (pc : Int) + off = (tgt : Int)) (kt : b = false → JG l D w Γ R nL ce sl Q u tgt xs st) (kf : b = true → JG l D w Γ R nL ce sl Q u (pc + 3) xs st) : JG l D w Γ R nL ce sl Q u pc xs (.int (bI b) :: st) :=
  gr_if_eq C hd ht (fun h => kt ((bI_0 b).mp h)) (fun h => kf (by cases b; exact absurd ((bI_0 false).mpr rfl) h; rfl))
theorem gb_if_ne (C : CG D tys w own Γ cc nL rt) {b : Bool} {off : Int} {tgt : Nat} (hd : decode cc pc = .ok (.ifCond .ne off, 3)) (ht : (pc : Int) + off = (tgt : Int)) (kt : b = true → JG l D w Γ R nL ce sl Q u tgt xs st) (kf : b = false → JG l D w Γ R nL ce sl Q u (pc + 3) xs st) : JG l D w Γ R nL ce sl Q u pc xs (.int (bI b) :: st) :=
  gr_if_ne C hd ht (fun h => kt (by cases b; exact absurd ((bI_0 false).mpr rfl) h; rfl)) (fun h => kf ((bI_0 b).mp h))
theorem go_icmp_eq (C : CG D tys w own Γ cc nL rt) {o q : Option Nat} {off : Int} {tgt : Nat} (ho : ∀ t, o = some t → t < 2 ^ 31) (hq : ∀ t, q = some t → t < 2 ^ 31) (hd : decode cc pc = .ok (.if_icmp .eq off, 3)) (ht : (pc : Int) + off = (tgt : Int)) (kt : o = q → JG l D w Γ R nL ce sl Q u tgt xs st) (kf : o ≠ q → JG l D w Γ R nL ce sl Q u (pc + 3) xs st) : JG l D w Γ R nL ce sl Q u pc xs (.int (oI q) :: .int (oI o) :: st) :=
  gr_icmp_eq C hd ht (fun h => kt ((oI_inj ho hq).mp h)) (fun h => kf (fun e => h (by rw [e])))
theorem go_icmp_ne (C : CG D tys w own Γ cc nL rt) {o q : Option Nat} {off : Int} {tgt : Nat} (ho : ∀ t, o = some t → t < 2 ^ 31) (hq : ∀ t, q = some t → t < 2 ^ 31) (hd : decode cc pc = .ok (.if_icmp .ne off, 3)) (ht : (pc : Int) + off = (tgt : Int)) (kt : o ≠ q → JG l D w Γ R nL ce sl Q u tgt xs st) (kf : o = q → JG l D w Γ R nL ce sl Q u (pc + 3) xs st) : JG l D w Γ R nL ce sl Q u pc xs (.int (oI q) :: .int (oI o) :: st) :=
  gr_icmp_ne C hd ht (fun h => kt (fun e => h (by rw [e]))) (fun h => kf ((oI_inj ho hq).mp h))
theorem gon_icmp_ne (C : CG D tys w own Γ cc nL rt) {o : Option Nat} {t0 : Nat} {off : Int} {tgt : Nat} (ho : ∀ t, o = some t → t < 2 ^ 31) (hq : t0 < 2 ^ 31) (hd : decode cc pc = .ok (.if_icmp .ne off, 3)) (ht : (pc : Int) + off = (tgt : Int)) (kt : o ≠ some t0 → JG l D w Γ R nL ce sl Q u tgt xs st) (kf : o = some t0 → JG l D w Γ R nL ce sl Q u (pc + 3) xs st) : JG l D w Γ R nL ce sl Q u pc xs (.int (nI t0) :: .int (oI o) :: st) :=
  go_icmp_ne (q := some t0) C ho (fun t e => by cases e; exact hq) hd ht kt kf
theorem oI_s (t : Nat) : oI (some t) = nI t := rfl
end GR
section GM
variable {S : Type} {l : Launch} {D : va_G} {w : S → va_W} {Γ : GC} {R : Room} {nL ce sl : Nat} {Q : State → Prop} {u : S} {pc : Nat} {xs st : List Value} {tys : List (ClassId × FieldType)} {own : String} {cc : ByteArray} {rt : Option FieldType}
abbrev QGi {S : Type} (D : va_G) (w : S → va_W) (Γ : GC) (post : Int32 → S → Prop) : State → Prop := MQ (gb Γ) (va_Qi post (fun u t => va_P D vwCl (w u) t.heap) (gA Γ)) (ga Γ) (gs Γ) 0 0 (gA Γ)
abbrev QGv {S : Type} (D : va_G) (w : S → va_W) (Γ : GC) (post : S → Prop) : State → Prop := MQ (gb Γ) (va_Qv post (fun u t => va_P D vwCl (w u) t.heap) (gA Γ)) (ga Γ) (gs Γ) 0 0 (gA Γ)
theorem g_iret (C : CG D tys w own Γ cc nL (some .int)) {post : Int32 → S → Prop} {v : Int32} (hd : decode cc pc = .ok (.ireturn, 1)) (hp : post v u) : JG l D w Γ R nL 0 0 (QGi D w Γ post) u pc xs [.int v] :=
  fun H locs ls hP hS hl => W.iret (v := v) C.1 C.2.1 C.2.2.1 (fun t ht hW => ⟨⟨v, u, rfl, hp, by show va_P D vwCl (w u) t.heap; rw [ht]; exact hP⟩, hS.F ht⟩) hS.2.2 hd C.2.2.2.2.2.1
theorem g_zret (C : CG D tys w own Γ cc nL (some .boolean)) {post : Int32 → S → Prop} {b : Bool} (hd : decode cc pc = .ok (.ireturn, 1)) (hp : post (bI b) u) : JG l D w Γ R nL 0 0 (QGi D w Γ post) u pc xs [.int (bI b)] :=
  fun H locs ls hP hS hl => W.zret (v := bI b) C.1 C.2.1 C.2.2.1 (nar_bI b) (fun t ht hW => ⟨⟨bI b, u, rfl, hp, by show va_P D vwCl (w u) t.heap; rw [ht]; exact hP⟩, hS.F ht⟩) hS.2.2 hd C.2.2.2.2.2.1
theorem g_vret (C : CG D tys w own Γ cc nL none) {post : S → Prop} (hd : decode cc pc = .ok (.return_, 1)) (hp : post u) : JG l D w Γ R nL 0 0 (QGv D w Γ post) u pc xs [] :=
  fun H locs ls hP hS hl => W.vret C.1 C.2.1 C.2.2.1 (fun t ht hW => ⟨⟨u, rfl, hp, by show va_P D vwCl (w u) t.heap; rw [ht]; exact hP⟩, hS.F ht⟩) hS.2.2 hd C.2.2.2.2.2.1
/-- contracts: y at the world u with arguments As answers r and leaves u' with post r u' -/
def MGi {S : Type} (l : Launch) (D : va_G) (tys : List (ClassId × FieldType)) (w : S → va_W) (y : MethodName) (cc : ByteArray) (nL : Nat) (rt : Option FieldType) (rm : Room) (As : List Value) (u : S) (post : Int32 → S → Prop) : Prop :=
  ∀ sz : Nat, Met l y (ws_ y cc nL rt) rm (va_Pc As (fun U => U.heap.size = sz ∧ va_P D vwCl (w u) U.heap ∧ va_K D vwCl tys U)) (va_Qi post (fun u' t => va_P D vwCl (w u') t.heap) (va_A (w u) sz)) 0 0 (va_A (w u) sz)
def MGv {S : Type} (l : Launch) (D : va_G) (tys : List (ClassId × FieldType)) (w : S → va_W) (y : MethodName) (cc : ByteArray) (nL : Nat) (rm : Room) (As : List Value) (u : S) (post : S → Prop) : Prop :=
  ∀ sz : Nat, Met l y (ws_ y cc nL none) rm (va_Pc As (fun U => U.heap.size = sz ∧ va_P D vwCl (w u) U.heap ∧ va_K D vwCl tys U)) (va_Qv post (fun u' t => va_P D vwCl (w u') t.heap) (va_A (w u) sz)) 0 0 (va_A (w u) sz)
theorem MGi.of {y : MethodName} {rm : Room} {As : List Value} {post : Int32 → S → Prop} (hw : WD w) (hy : plainName y.cls = true) (hn : (lg_sl As).length ≤ nL) (he : lv_args 0 As = ix 0 As) (h : ∀ Γ : GC, CG D tys w y.cls Γ cc nL rt → JG l D w Γ rm nL 0 0 (QGi D w Γ post) u 0 As []) : MGi l D tys w y cc nL rt rm As u post := by
  intro sz
  refine Met.ofW (cc := cc) (maxL := nL) (ret := rt) hy rfl ?_
  intro p e s m args below meth c s₁ B hml hv
  obtain ⟨rfl, hsz, hP, hK⟩ := hv
  subst hsz
  have hts := atoms_spec (ws := ws_ y cc nL rt) B.pre
  have hts : ∀ w ∈ lw_all, w.before _ s = true := fun w h => hts w (List.mem_cons_of_mem _ h)
  have hown : s.vm.findClass y.cls = some m.cls := findClass_of_methodNamed B.named
  have hl := lv_entry As (n := nL) hn
  rw [he] at hl
  rw [lg_entry_eq]
  exact h (p, e, s, m, As.toArray, below, meth, c, va_A (w u) s.heap.size) ⟨B.exec, B.bytes, B.returns, hml, hown, B.notSynchronized, hts, hK, fun q h => Or.inr h, fun u' => hw u' u _⟩ s.heap [] _ hP va_S.rf hl
theorem MGv.of {y : MethodName} {rm : Room} {As : List Value} {post : S → Prop} (hw : WD w) (hy : plainName y.cls = true) (hn : (lg_sl As).length ≤ nL) (he : lv_args 0 As = ix 0 As) (h : ∀ Γ : GC, CG D tys w y.cls Γ cc nL none → JG l D w Γ rm nL 0 0 (QGv D w Γ post) u 0 As []) : MGv l D tys w y cc nL rm As u post := by
  intro sz
  refine Met.ofW (cc := cc) (maxL := nL) (ret := none) hy rfl ?_
  intro p e s m args below meth c s₁ B hml hv
  obtain ⟨rfl, hsz, hP, hK⟩ := hv
  subst hsz
  have hts := atoms_spec (ws := ws_ y cc nL none) B.pre
  have hts : ∀ w ∈ lw_all, w.before _ s = true := fun w h => hts w (List.mem_cons_of_mem _ h)
  have hown : s.vm.findClass y.cls = some m.cls := findClass_of_methodNamed B.named
  have hl := lv_entry As (n := nL) hn
  rw [he] at hl
  rw [lg_entry_eq]
  exact h (p, e, s, m, As.toArray, below, meth, c, va_A (w u) s.heap.size) ⟨B.exec, B.bytes, B.returns, hml, hown, B.notSynchronized, hts, hK, fun q h => Or.inr h, fun u' => hw u' u _⟩ s.heap [] _ hP va_S.rf hl
theorem g_free (C : CG D tys w own Γ cc nL rt) {H : Heap} {locs : List Loc} (hS : va_S (gA Γ) (gs Γ).heap H locs) : ∀ q, va_A (w u) H.size q → gA Γ q := by
  intro q h
  rcases h with ⟨k, e, h⟩ | h
  · exact (C.2.2.2.2.2.2.2.2.2 u).2 k (q, e) h
  · exact C.2.2.2.2.2.2.2.2.1 q (Nat.le_trans hS.1 h)
/-- a call through an object, in the same world -/
theorem g_calli (C : CG D tys w own Γ cc nL rt) {y : MethodName} {bytes : ByteArray} {maxL : Nat} {rt' : Option FieldType} {rm : Room} {As stk fs : List Value} {post : Int32 → S → Prop} {C' : String} {T' : u_T} {N' ci b index n : Nat}
    (hM : MGi l D tys w y bytes maxL rt' rm (.ref b :: As) u post) (hG : GoodIn lw_all (wsV own index C' y (ws_ y bytes maxL rt')))
    (hdd : y.cls = C' ∧ y.cls ≠ "java/lang/invoke/MethodHandle" ∧ y.cls ≠ "java/lang/invoke/VarHandle" ∧ (parseMethodDescriptor y.desc).map (fun d => d.parameters.length) = some n) (hn : As.length = n) (hz : rm.cells = 0 ∧ rm.slots = 0) (hR : rm.frames + 1 ≤ R.frames ∧ 8 + (maxL + 11) + rm.locals ≤ R.locals) (hce : ce + 0 ≤ R.cells ∧ sl + 0 ≤ R.slots)
    (hc : vwCl[ci]? = some (C', T', N')) (he : (w u)[0]? = some (b, .inr (ci, fs))) (hst : stk = As.reverse ++ .ref b :: st) (hcat : (st.map fun v => v.category).sum ≤ 8) (hd : decode cc pc = .ok (.invokevirtual index, 3))
    (kk : ∀ (r : Int32) (u' : S), post r u' → JG l D w Γ R nL ce sl Q u' (pc + 3) xs (.int r :: st)) : JG l D w Γ R nL ce sl Q u pc xs stk := by
  subst hst
  intro H locs ls hP hS hl
  have hF := g_free (u := u) C hS
  obtain ⟨hx, hb, hr, hml, hown, hlk, hts, hK, hA, hD⟩ := C
  refine va_calli (va_runV (As := As) (rest := st) ⟨hx, hb, hml, hown, hts⟩ (hM H.size) (cwV n hts hG rfl hz.1 hz.2 hdd hR) ⟨fun a U g mk q => by obtain ⟨q0, q1, qP, qK⟩ := q; exact ⟨q0, q1, qP, va_K.moved (u := U) (U := U.calling g mk a) (Vm.Alike.refl U.vm) qK⟩, va_recv hK hP hc he, fun U hU hW => ⟨rfl, by rw [hU], by rw [hU]; exact hP, va_K.moved hW.alike hK⟩⟩ rfl hn hl.1 rfl (lv_room hcat) hd hce) hS (fun q _ h => hF q h) hF (fun r u' t H1 locs1 ht hvm hpost hB hz1 hk1 hS1 => ?_)
  have hB : va_P D vwCl (w u') t.heap := hB
  rw [ht] at hB
  exact kk r u' hpost H1 locs1 ls hB hS1 hl
theorem g_callv (C : CG D tys w own Γ cc nL rt) {y : MethodName} {bytes : ByteArray} {maxL : Nat} {rm : Room} {As stk fs : List Value} {post : S → Prop} {C' : String} {T' : u_T} {N' ci b index n : Nat}
    (hM : MGv l D tys w y bytes maxL rm (.ref b :: As) u post) (hG : GoodIn lw_all (wsV own index C' y (ws_ y bytes maxL none)))
    (hdd : y.cls = C' ∧ y.cls ≠ "java/lang/invoke/MethodHandle" ∧ y.cls ≠ "java/lang/invoke/VarHandle" ∧ (parseMethodDescriptor y.desc).map (fun d => d.parameters.length) = some n) (hn : As.length = n) (hz : rm.cells = 0 ∧ rm.slots = 0) (hR : rm.frames + 1 ≤ R.frames ∧ 8 + (maxL + 11) + rm.locals ≤ R.locals) (hce : ce + 0 ≤ R.cells ∧ sl + 0 ≤ R.slots)
    (hc : vwCl[ci]? = some (C', T', N')) (he : (w u)[0]? = some (b, .inr (ci, fs))) (hst : stk = As.reverse ++ .ref b :: st) (hcat : (st.map fun v => v.category).sum ≤ 8) (hd : decode cc pc = .ok (.invokevirtual index, 3))
    (kk : ∀ (u' : S), post u' → JG l D w Γ R nL ce sl Q u' (pc + 3) xs st) : JG l D w Γ R nL ce sl Q u pc xs stk := by
  subst hst
  intro H locs ls hP hS hl
  have hF := g_free (u := u) C hS
  obtain ⟨hx, hb, hr, hml, hown, hlk, hts, hK, hA, hD⟩ := C
  refine va_callv (va_runV (As := As) (rest := st) ⟨hx, hb, hml, hown, hts⟩ (hM H.size) (cwV n hts hG rfl hz.1 hz.2 hdd hR) ⟨fun a U g mk q => by obtain ⟨q0, q1, qP, qK⟩ := q; exact ⟨q0, q1, qP, va_K.moved (u := U) (U := U.calling g mk a) (Vm.Alike.refl U.vm) qK⟩, va_recv hK hP hc he, fun U hU hW => ⟨rfl, by rw [hU], by rw [hU]; exact hP, va_K.moved hW.alike hK⟩⟩ rfl hn hl.1 rfl (lv_room hcat) hd hce) hS (fun q _ h => hF q h) hF (fun u' t H1 locs1 ht hvm hpost hB hz1 hk1 hS1 => ?_)
  have hB : va_P D vwCl (w u') t.heap := hB
  rw [ht] at hB
  exact kk u' hpost H1 locs1 ls hB hS1 hl
/-- a static method's world is empty -/
def w0 : Unit → va_W := fun _ => []
theorem w0_D : WD w0 := fun u u' sz => ⟨fun i j p q h => by simp [w0] at h, fun k q h => by simp [w0] at h⟩
theorem g_calls (C : CG D tys w own Γ cc nL rt) {y : MethodName} {bytes : ByteArray} {maxL : Nat} {rt' : Option FieldType} {rm : Room} {As stk : List Value} {post : Int32 → Unit → Prop} {index n : Nat}
    (hM : MGi l D tys w0 y bytes maxL rt' rm As () post) (hG : GoodIn lw_all (va_wsS own index y (ws_ y bytes maxL rt')))
    (hdd : y.cls ≠ "java/lang/invoke/MethodHandle" ∧ y.cls ≠ "java/lang/invoke/VarHandle" ∧ (parseMethodDescriptor y.desc).map (fun d => d.parameters.length) = some n) (hn : As.length = n) (hz : rm.cells = 0 ∧ rm.slots = 0) (hR : rm.frames + 1 ≤ R.frames ∧ 8 + (maxL + 11) + rm.locals ≤ R.locals) (hce : ce + 0 ≤ R.cells ∧ sl + 0 ≤ R.slots)
    (hst : stk = As.reverse ++ st) (hcat : (st.map fun v => v.category).sum ≤ 8) (hd : decode cc pc = .ok (.invokestatic index, 3))
    (kk : ∀ (r : Int32), post r () → JG l D w Γ R nL ce sl Q u (pc + 3) xs (.int r :: st)) : JG l D w Γ R nL ce sl Q u pc xs stk := by
  subst hst
  intro H locs ls hP hS hl
  have hA0 := C.2.2.2.2.2.2.2.2.1
  have hF : ∀ q, va_A (w0 ()) H.size q → gA Γ q := by
    intro q h
    rcases h with ⟨k, e, h⟩ | h
    · simp [w0] at h
    · exact hA0 q (Nat.le_trans hS.1 h)
  obtain ⟨hx, hb, hr, hml, hown, hlk, hts, hK, hA, hD⟩ := C
  refine va_calli (va_runS (As := As) (rest := st) ⟨hx, hb, hml, hown, hts⟩ (hM H.size) (va_cwS n hts hG rfl hz.1 hz.2 hdd hR) ⟨fun a U g mk q => by obtain ⟨q0, q1, qP, qK⟩ := q; exact ⟨q0, q1, qP, va_K.moved (u := U) (U := U.calling g mk a) (Vm.Alike.refl U.vm) qK⟩, fun U hU hW => ⟨rfl, by rw [hU], fun k q h => by simp [w0] at h, va_K.moved hW.alike hK⟩⟩ rfl hn hl.1 rfl (lv_room hcat) hd hce) hS (fun q _ h => hF q h) hF (fun r u' t H1 locs1 ht hvm hpost hB hz1 hk1 hS1 => ?_)
  refine kk r hpost H1 locs1 ls (hP.kept (fun k q hq => hk1 q.1 ((hP k q hq).lt) (fun h => ?_))) hS1 hl
  rcases h with ⟨k2, e2, h⟩ | h
  · simp [w0] at h
  · exact absurd ((hP k q hq).lt) (Nat.not_lt.mpr h)
end GM
end
section
/-! the two objects as worlds: a rule a field and an array -/
set_option maxRecDepth 100000
def tyZ (di dz : ClassId) : List (ClassId × FieldType) := [(di, .int), (dz, .boolean)]
abbrev XS : Type := Nat × Bool × Nat × Nat × (Nat → Nat) × (Nat → Nat) × (Nat → Nat) × (Nat → Nat) × (Nat → Option Nat) × (Nat → Option Nat) × (Nat → Nat) × (Nat → Bool) × (Nat → Nat) × (Nat → Nat)
def xw (a : Nat → Nat) (di dz : ClassId) (u : XS) : va_W := match u with
  | (n, kn, rd, pr, kd, lf, rg, up, pt, wf, qu, qd, pa, pb) => [(a 0, .inr (0, [.int (nI n), .ref (a 1), .ref (a 2), .ref (a 3), .int (bI kn), .ref (a 4), .ref (a 5), .ref (a 6), .int (nI rd), .ref (a 7), .ref (a 8), .int (nI pr), .ref (a 9), .ref (a 10)])), (a 1, .inl (di, 24, .inl (eN kd))), (a 2, .inl (di, 24, .inl (eN lf))), (a 3, .inl (di, 24, .inl (eN rg))), (a 4, .inl (di, 12, .inl (eN up))), (a 5, .inl (di, 12, .inl (eO pt))), (a 6, .inl (di, 24, .inl (eO wf))), (a 7, .inl (di, 24, .inl (eN qu))), (a 8, .inl (dz, 24, .inl (eB qd))), (a 9, .inl (di, 16, .inl (eN pa))), (a 10, .inl (di, 16, .inl (eN pb)))]
theorem xw_at (a : Nat → Nat) (di dz : ClassId) (u : XS) (k : Nat) (q : Nat × va_E) (h : (xw a di dz u)[k]? = some q) : k < 11 ∧ q.1 = a k := by
  obtain ⟨n, kn, rd, pr, kd, lf, rg, up, pt, wf, qu, qd, pa, pb⟩ := u
  match k, h with
  | 0, h => cases h; exact ⟨by decide, rfl⟩
  | 1, h => cases h; exact ⟨by decide, rfl⟩
  | 2, h => cases h; exact ⟨by decide, rfl⟩
  | 3, h => cases h; exact ⟨by decide, rfl⟩
  | 4, h => cases h; exact ⟨by decide, rfl⟩
  | 5, h => cases h; exact ⟨by decide, rfl⟩
  | 6, h => cases h; exact ⟨by decide, rfl⟩
  | 7, h => cases h; exact ⟨by decide, rfl⟩
  | 8, h => cases h; exact ⟨by decide, rfl⟩
  | 9, h => cases h; exact ⟨by decide, rfl⟩
  | 10, h => cases h; exact ⟨by decide, rfl⟩
  | k + 11, h => simp [xw] at h
theorem xw_in (a : Nat → Nat) (di dz : ClassId) (u : XS) (k : Nat) (hk : k < 11) : ∃ e, (xw a di dz u)[k]? = some (a k, e) := by
  obtain ⟨n, kn, rd, pr, kd, lf, rg, up, pt, wf, qu, qd, pa, pb⟩ := u
  match k, hk with
  | 0, _ => exact ⟨_, rfl⟩
  | 1, _ => exact ⟨_, rfl⟩
  | 2, _ => exact ⟨_, rfl⟩
  | 3, _ => exact ⟨_, rfl⟩
  | 4, _ => exact ⟨_, rfl⟩
  | 5, _ => exact ⟨_, rfl⟩
  | 6, _ => exact ⟨_, rfl⟩
  | 7, _ => exact ⟨_, rfl⟩
  | 8, _ => exact ⟨_, rfl⟩
  | 9, _ => exact ⟨_, rfl⟩
  | 10, _ => exact ⟨_, rfl⟩
  | k + 11, hk => omega
theorem xw_D {a : Nat → Nat} {di dz : ClassId} (ha : ∀ i, i < 11 → ∀ j, j < 11 → a i = a j → i = j) : WD (xw a di dz) := by
  intro u u' sz
  refine ⟨fun i j x y hi hj hxy => ?_, fun k q hk => ?_⟩
  · obtain ⟨h1, h2⟩ := xw_at a di dz u i x hi
    obtain ⟨h3, h4⟩ := xw_at a di dz u j y hj
    exact ha i h1 j h3 (by rw [← h2, ← h4]; exact hxy)
  · obtain ⟨h1, h2⟩ := xw_at a di dz u k q hk
    obtain ⟨e, h3⟩ := xw_in a di dz u' k h1
    exact Or.inl ⟨k, e, by rw [h2]; exact h3⟩
section XW
variable {l : Launch} {D : va_G} {a : Nat → Nat} {di dz : ClassId} {Γ : GC} {R : Room} {nL ce sl : Nat} {Q : State → Prop} {pc : Nat} {xs st : List Value} {cc : ByteArray} {rt : Option FieldType} {n : Nat} {kn : Bool} {rd : Nat} {pr : Nat} {kd : (Nat → Nat)} {lf : (Nat → Nat)} {rg : (Nat → Nat)} {up : (Nat → Nat)} {pt : (Nat → Option Nat)} {wf : (Nat → Option Nat)} {qu : (Nat → Nat)} {qd : (Nat → Bool)} {pa : (Nat → Nat)} {pb : (Nat → Nat)}
theorem x_get_n (C : CG D (tyZ di dz) (xw a di dz) RX0 Γ cc nL rt) (hd : decode cc pc = .ok (.getfield 45, 3)) (kk : JG l D (xw a di dz) Γ R nL ce sl Q (n, kn, rd, pr, kd, lf, rg, up, pt, wf, qu, qd, pa, pb) (pc + 3) xs (.int (nI n) :: st)) : JG l D (xw a di dz) Γ R nL ce sl Q (n, kn, rd, pr, kd, lf, rg, up, pt, wf, qu, qd, pa, pb) pc xs (.ref (a 0) :: st) :=
  fun H locs ls hP hS hl => va_get (D := D) (ci := 0) (v := .int (nI n)) (C := RX0) (T := TX0) (N := 14) C.1 C.2.1 C.2.2.2.2.2.2.1 in_X0 C.2.2.2.2.1 C.2.2.2.2.2.2.2.1 hP 0 rfl rfl 0 (by decide) (C.2.2.2.2.2.2.1 _ q29) (fun _ h9 => h9) rfl hd (kk H locs ls hP hS hl)
theorem x_put_n (C : CG D (tyZ di dz) (xw a di dz) RX0 Γ cc nL rt) {z : Nat} (hd : decode cc pc = .ok (.putfield 45, 3)) (kk : JG l D (xw a di dz) Γ R nL ce sl Q (z, kn, rd, pr, kd, lf, rg, up, pt, wf, qu, qd, pa, pb) (pc + 3) xs st) : JG l D (xw a di dz) Γ R nL ce sl Q (n, kn, rd, pr, kd, lf, rg, up, pt, wf, qu, qd, pa, pb) pc xs (.int (nI z) :: .ref (a 0) :: st) :=
  fun H locs ls hP hS hl => va_put (D := D) (ci := 0) (v := .int (nI z)) (ty := .int) (C := RX0) (T := TX0) (N := 14) C.1 C.2.1 C.2.2.2.2.2.2.1 in_X0 tyX0 tyX0_ok nmX0 C.2.2.2.2.1 C.2.2.2.2.2.2.2.1 hP (C.2.2.2.2.2.2.2.2.2 _) hS 0 rfl rfl 0 (by decide) (C.2.2.2.2.2.2.1 _ q29) (fun _ h9 => h9) rfl (by decide +kernel) rfl rfl (Nat.le_of_ble_eq_true rfl) hd (fun H1 locs1 hP1 _ hS1 => kk H1 locs1 ls hP1 hS1 hl)
theorem x_get_kd (C : CG D (tyZ di dz) (xw a di dz) RX0 Γ cc nL rt) (hd : decode cc pc = .ok (.getfield 7, 3)) (kk : JG l D (xw a di dz) Γ R nL ce sl Q (n, kn, rd, pr, kd, lf, rg, up, pt, wf, qu, qd, pa, pb) (pc + 3) xs (.ref (a 1) :: st)) : JG l D (xw a di dz) Γ R nL ce sl Q (n, kn, rd, pr, kd, lf, rg, up, pt, wf, qu, qd, pa, pb) pc xs (.ref (a 0) :: st) :=
  fun H locs ls hP hS hl => va_get (D := D) (ci := 0) (v := .ref (a 1)) (C := RX0) (T := TX0) (N := 14) C.1 C.2.1 C.2.2.2.2.2.2.1 in_X0 C.2.2.2.2.1 C.2.2.2.2.2.2.2.1 hP 0 rfl rfl 1 (by decide) (C.2.2.2.2.2.2.1 _ q30) (fun _ h9 => h9) rfl hd (kk H locs ls hP hS hl)
theorem x_get_lf (C : CG D (tyZ di dz) (xw a di dz) RX0 Γ cc nL rt) (hd : decode cc pc = .ok (.getfield 13, 3)) (kk : JG l D (xw a di dz) Γ R nL ce sl Q (n, kn, rd, pr, kd, lf, rg, up, pt, wf, qu, qd, pa, pb) (pc + 3) xs (.ref (a 2) :: st)) : JG l D (xw a di dz) Γ R nL ce sl Q (n, kn, rd, pr, kd, lf, rg, up, pt, wf, qu, qd, pa, pb) pc xs (.ref (a 0) :: st) :=
  fun H locs ls hP hS hl => va_get (D := D) (ci := 0) (v := .ref (a 2)) (C := RX0) (T := TX0) (N := 14) C.1 C.2.1 C.2.2.2.2.2.2.1 in_X0 C.2.2.2.2.1 C.2.2.2.2.2.2.2.1 hP 0 rfl rfl 2 (by decide) (C.2.2.2.2.2.2.1 _ q31) (fun _ h9 => h9) rfl hd (kk H locs ls hP hS hl)
theorem x_get_rg (C : CG D (tyZ di dz) (xw a di dz) RX0 Γ cc nL rt) (hd : decode cc pc = .ok (.getfield 16, 3)) (kk : JG l D (xw a di dz) Γ R nL ce sl Q (n, kn, rd, pr, kd, lf, rg, up, pt, wf, qu, qd, pa, pb) (pc + 3) xs (.ref (a 3) :: st)) : JG l D (xw a di dz) Γ R nL ce sl Q (n, kn, rd, pr, kd, lf, rg, up, pt, wf, qu, qd, pa, pb) pc xs (.ref (a 0) :: st) :=
  fun H locs ls hP hS hl => va_get (D := D) (ci := 0) (v := .ref (a 3)) (C := RX0) (T := TX0) (N := 14) C.1 C.2.1 C.2.2.2.2.2.2.1 in_X0 C.2.2.2.2.1 C.2.2.2.2.2.2.2.1 hP 0 rfl rfl 3 (by decide) (C.2.2.2.2.2.2.1 _ q32) (fun _ h9 => h9) rfl hd (kk H locs ls hP hS hl)
theorem x_get_kn (C : CG D (tyZ di dz) (xw a di dz) RX0 Γ cc nL rt) (hd : decode cc pc = .ok (.getfield 49, 3)) (kk : JG l D (xw a di dz) Γ R nL ce sl Q (n, kn, rd, pr, kd, lf, rg, up, pt, wf, qu, qd, pa, pb) (pc + 3) xs (.int (bI kn) :: st)) : JG l D (xw a di dz) Γ R nL ce sl Q (n, kn, rd, pr, kd, lf, rg, up, pt, wf, qu, qd, pa, pb) pc xs (.ref (a 0) :: st) :=
  fun H locs ls hP hS hl => va_get (D := D) (ci := 0) (v := .int (bI kn)) (C := RX0) (T := TX0) (N := 14) C.1 C.2.1 C.2.2.2.2.2.2.1 in_X0 C.2.2.2.2.1 C.2.2.2.2.2.2.2.1 hP 0 rfl rfl 4 (by decide) (C.2.2.2.2.2.2.1 _ q33) (fun _ h9 => h9) rfl hd (kk H locs ls hP hS hl)
theorem x_put_kn (C : CG D (tyZ di dz) (xw a di dz) RX0 Γ cc nL rt) (z : Bool) (hd : decode cc pc = .ok (.putfield 49, 3)) (kk : JG l D (xw a di dz) Γ R nL ce sl Q (n, z, rd, pr, kd, lf, rg, up, pt, wf, qu, qd, pa, pb) (pc + 3) xs st) : JG l D (xw a di dz) Γ R nL ce sl Q (n, kn, rd, pr, kd, lf, rg, up, pt, wf, qu, qd, pa, pb) pc xs (.int (bI z) :: .ref (a 0) :: st) :=
  fun H locs ls hP hS hl => va_put (D := D) (ci := 0) (v := .int (bI z)) (ty := .boolean) (C := RX0) (T := TX0) (N := 14) C.1 C.2.1 C.2.2.2.2.2.2.1 in_X0 tyX0 tyX0_ok nmX0 C.2.2.2.2.1 C.2.2.2.2.2.2.2.1 hP (C.2.2.2.2.2.2.2.2.2 _) hS 0 rfl rfl 4 (by decide) (C.2.2.2.2.2.2.1 _ q33) (fun _ h9 => h9) rfl (by decide +kernel) (nar_bI z) (fits_bI z) (Nat.le_of_ble_eq_true rfl) hd (fun H1 locs1 hP1 _ hS1 => kk H1 locs1 ls hP1 hS1 hl)
theorem x_get_up (C : CG D (tyZ di dz) (xw a di dz) RX0 Γ cc nL rt) (hd : decode cc pc = .ok (.getfield 19, 3)) (kk : JG l D (xw a di dz) Γ R nL ce sl Q (n, kn, rd, pr, kd, lf, rg, up, pt, wf, qu, qd, pa, pb) (pc + 3) xs (.ref (a 4) :: st)) : JG l D (xw a di dz) Γ R nL ce sl Q (n, kn, rd, pr, kd, lf, rg, up, pt, wf, qu, qd, pa, pb) pc xs (.ref (a 0) :: st) :=
  fun H locs ls hP hS hl => va_get (D := D) (ci := 0) (v := .ref (a 4)) (C := RX0) (T := TX0) (N := 14) C.1 C.2.1 C.2.2.2.2.2.2.1 in_X0 C.2.2.2.2.1 C.2.2.2.2.2.2.2.1 hP 0 rfl rfl 5 (by decide) (C.2.2.2.2.2.2.1 _ q34) (fun _ h9 => h9) rfl hd (kk H locs ls hP hS hl)
theorem x_get_pt (C : CG D (tyZ di dz) (xw a di dz) RX0 Γ cc nL rt) (hd : decode cc pc = .ok (.getfield 22, 3)) (kk : JG l D (xw a di dz) Γ R nL ce sl Q (n, kn, rd, pr, kd, lf, rg, up, pt, wf, qu, qd, pa, pb) (pc + 3) xs (.ref (a 5) :: st)) : JG l D (xw a di dz) Γ R nL ce sl Q (n, kn, rd, pr, kd, lf, rg, up, pt, wf, qu, qd, pa, pb) pc xs (.ref (a 0) :: st) :=
  fun H locs ls hP hS hl => va_get (D := D) (ci := 0) (v := .ref (a 5)) (C := RX0) (T := TX0) (N := 14) C.1 C.2.1 C.2.2.2.2.2.2.1 in_X0 C.2.2.2.2.1 C.2.2.2.2.2.2.2.1 hP 0 rfl rfl 6 (by decide) (C.2.2.2.2.2.2.1 _ q35) (fun _ h9 => h9) rfl hd (kk H locs ls hP hS hl)
theorem x_get_wf (C : CG D (tyZ di dz) (xw a di dz) RX0 Γ cc nL rt) (hd : decode cc pc = .ok (.getfield 25, 3)) (kk : JG l D (xw a di dz) Γ R nL ce sl Q (n, kn, rd, pr, kd, lf, rg, up, pt, wf, qu, qd, pa, pb) (pc + 3) xs (.ref (a 6) :: st)) : JG l D (xw a di dz) Γ R nL ce sl Q (n, kn, rd, pr, kd, lf, rg, up, pt, wf, qu, qd, pa, pb) pc xs (.ref (a 0) :: st) :=
  fun H locs ls hP hS hl => va_get (D := D) (ci := 0) (v := .ref (a 6)) (C := RX0) (T := TX0) (N := 14) C.1 C.2.1 C.2.2.2.2.2.2.1 in_X0 C.2.2.2.2.1 C.2.2.2.2.2.2.2.1 hP 0 rfl rfl 7 (by decide) (C.2.2.2.2.2.2.1 _ q36) (fun _ h9 => h9) rfl hd (kk H locs ls hP hS hl)
theorem x_get_rd (C : CG D (tyZ di dz) (xw a di dz) RX0 Γ cc nL rt) (hd : decode cc pc = .ok (.getfield 63, 3)) (kk : JG l D (xw a di dz) Γ R nL ce sl Q (n, kn, rd, pr, kd, lf, rg, up, pt, wf, qu, qd, pa, pb) (pc + 3) xs (.int (nI rd) :: st)) : JG l D (xw a di dz) Γ R nL ce sl Q (n, kn, rd, pr, kd, lf, rg, up, pt, wf, qu, qd, pa, pb) pc xs (.ref (a 0) :: st) :=
  fun H locs ls hP hS hl => va_get (D := D) (ci := 0) (v := .int (nI rd)) (C := RX0) (T := TX0) (N := 14) C.1 C.2.1 C.2.2.2.2.2.2.1 in_X0 C.2.2.2.2.1 C.2.2.2.2.2.2.2.1 hP 0 rfl rfl 8 (by decide) (C.2.2.2.2.2.2.1 _ q37) (fun _ h9 => h9) rfl hd (kk H locs ls hP hS hl)
theorem x_put_rd (C : CG D (tyZ di dz) (xw a di dz) RX0 Γ cc nL rt) {z : Nat} (hd : decode cc pc = .ok (.putfield 63, 3)) (kk : JG l D (xw a di dz) Γ R nL ce sl Q (n, kn, z, pr, kd, lf, rg, up, pt, wf, qu, qd, pa, pb) (pc + 3) xs st) : JG l D (xw a di dz) Γ R nL ce sl Q (n, kn, rd, pr, kd, lf, rg, up, pt, wf, qu, qd, pa, pb) pc xs (.int (nI z) :: .ref (a 0) :: st) :=
  fun H locs ls hP hS hl => va_put (D := D) (ci := 0) (v := .int (nI z)) (ty := .int) (C := RX0) (T := TX0) (N := 14) C.1 C.2.1 C.2.2.2.2.2.2.1 in_X0 tyX0 tyX0_ok nmX0 C.2.2.2.2.1 C.2.2.2.2.2.2.2.1 hP (C.2.2.2.2.2.2.2.2.2 _) hS 0 rfl rfl 8 (by decide) (C.2.2.2.2.2.2.1 _ q37) (fun _ h9 => h9) rfl (by decide +kernel) rfl rfl (Nat.le_of_ble_eq_true rfl) hd (fun H1 locs1 hP1 _ hS1 => kk H1 locs1 ls hP1 hS1 hl)
theorem x_get_qu (C : CG D (tyZ di dz) (xw a di dz) RX0 Γ cc nL rt) (hd : decode cc pc = .ok (.getfield 28, 3)) (kk : JG l D (xw a di dz) Γ R nL ce sl Q (n, kn, rd, pr, kd, lf, rg, up, pt, wf, qu, qd, pa, pb) (pc + 3) xs (.ref (a 7) :: st)) : JG l D (xw a di dz) Γ R nL ce sl Q (n, kn, rd, pr, kd, lf, rg, up, pt, wf, qu, qd, pa, pb) pc xs (.ref (a 0) :: st) :=
  fun H locs ls hP hS hl => va_get (D := D) (ci := 0) (v := .ref (a 7)) (C := RX0) (T := TX0) (N := 14) C.1 C.2.1 C.2.2.2.2.2.2.1 in_X0 C.2.2.2.2.1 C.2.2.2.2.2.2.2.1 hP 0 rfl rfl 9 (by decide) (C.2.2.2.2.2.2.1 _ q38) (fun _ h9 => h9) rfl hd (kk H locs ls hP hS hl)
theorem x_get_qd (C : CG D (tyZ di dz) (xw a di dz) RX0 Γ cc nL rt) (hd : decode cc pc = .ok (.getfield 31, 3)) (kk : JG l D (xw a di dz) Γ R nL ce sl Q (n, kn, rd, pr, kd, lf, rg, up, pt, wf, qu, qd, pa, pb) (pc + 3) xs (.ref (a 8) :: st)) : JG l D (xw a di dz) Γ R nL ce sl Q (n, kn, rd, pr, kd, lf, rg, up, pt, wf, qu, qd, pa, pb) pc xs (.ref (a 0) :: st) :=
  fun H locs ls hP hS hl => va_get (D := D) (ci := 0) (v := .ref (a 8)) (C := RX0) (T := TX0) (N := 14) C.1 C.2.1 C.2.2.2.2.2.2.1 in_X0 C.2.2.2.2.1 C.2.2.2.2.2.2.2.1 hP 0 rfl rfl 10 (by decide) (C.2.2.2.2.2.2.1 _ q39) (fun _ h9 => h9) rfl hd (kk H locs ls hP hS hl)
theorem x_get_pr (C : CG D (tyZ di dz) (xw a di dz) RX0 Γ cc nL rt) (hd : decode cc pc = .ok (.getfield 66, 3)) (kk : JG l D (xw a di dz) Γ R nL ce sl Q (n, kn, rd, pr, kd, lf, rg, up, pt, wf, qu, qd, pa, pb) (pc + 3) xs (.int (nI pr) :: st)) : JG l D (xw a di dz) Γ R nL ce sl Q (n, kn, rd, pr, kd, lf, rg, up, pt, wf, qu, qd, pa, pb) pc xs (.ref (a 0) :: st) :=
  fun H locs ls hP hS hl => va_get (D := D) (ci := 0) (v := .int (nI pr)) (C := RX0) (T := TX0) (N := 14) C.1 C.2.1 C.2.2.2.2.2.2.1 in_X0 C.2.2.2.2.1 C.2.2.2.2.2.2.2.1 hP 0 rfl rfl 11 (by decide) (C.2.2.2.2.2.2.1 _ q40) (fun _ h9 => h9) rfl hd (kk H locs ls hP hS hl)
theorem x_put_pr (C : CG D (tyZ di dz) (xw a di dz) RX0 Γ cc nL rt) {z : Nat} (hd : decode cc pc = .ok (.putfield 66, 3)) (kk : JG l D (xw a di dz) Γ R nL ce sl Q (n, kn, rd, z, kd, lf, rg, up, pt, wf, qu, qd, pa, pb) (pc + 3) xs st) : JG l D (xw a di dz) Γ R nL ce sl Q (n, kn, rd, pr, kd, lf, rg, up, pt, wf, qu, qd, pa, pb) pc xs (.int (nI z) :: .ref (a 0) :: st) :=
  fun H locs ls hP hS hl => va_put (D := D) (ci := 0) (v := .int (nI z)) (ty := .int) (C := RX0) (T := TX0) (N := 14) C.1 C.2.1 C.2.2.2.2.2.2.1 in_X0 tyX0 tyX0_ok nmX0 C.2.2.2.2.1 C.2.2.2.2.2.2.2.1 hP (C.2.2.2.2.2.2.2.2.2 _) hS 0 rfl rfl 11 (by decide) (C.2.2.2.2.2.2.1 _ q40) (fun _ h9 => h9) rfl (by decide +kernel) rfl rfl (Nat.le_of_ble_eq_true rfl) hd (fun H1 locs1 hP1 _ hS1 => kk H1 locs1 ls hP1 hS1 hl)
theorem x_get_pa (C : CG D (tyZ di dz) (xw a di dz) RX0 Γ cc nL rt) (hd : decode cc pc = .ok (.getfield 35, 3)) (kk : JG l D (xw a di dz) Γ R nL ce sl Q (n, kn, rd, pr, kd, lf, rg, up, pt, wf, qu, qd, pa, pb) (pc + 3) xs (.ref (a 9) :: st)) : JG l D (xw a di dz) Γ R nL ce sl Q (n, kn, rd, pr, kd, lf, rg, up, pt, wf, qu, qd, pa, pb) pc xs (.ref (a 0) :: st) :=
  fun H locs ls hP hS hl => va_get (D := D) (ci := 0) (v := .ref (a 9)) (C := RX0) (T := TX0) (N := 14) C.1 C.2.1 C.2.2.2.2.2.2.1 in_X0 C.2.2.2.2.1 C.2.2.2.2.2.2.2.1 hP 0 rfl rfl 12 (by decide) (C.2.2.2.2.2.2.1 _ q41) (fun _ h9 => h9) rfl hd (kk H locs ls hP hS hl)
theorem x_get_pb (C : CG D (tyZ di dz) (xw a di dz) RX0 Γ cc nL rt) (hd : decode cc pc = .ok (.getfield 38, 3)) (kk : JG l D (xw a di dz) Γ R nL ce sl Q (n, kn, rd, pr, kd, lf, rg, up, pt, wf, qu, qd, pa, pb) (pc + 3) xs (.ref (a 10) :: st)) : JG l D (xw a di dz) Γ R nL ce sl Q (n, kn, rd, pr, kd, lf, rg, up, pt, wf, qu, qd, pa, pb) pc xs (.ref (a 0) :: st) :=
  fun H locs ls hP hS hl => va_get (D := D) (ci := 0) (v := .ref (a 10)) (C := RX0) (T := TX0) (N := 14) C.1 C.2.1 C.2.2.2.2.2.2.1 in_X0 C.2.2.2.2.1 C.2.2.2.2.2.2.2.1 hP 0 rfl rfl 13 (by decide) (C.2.2.2.2.2.2.1 _ q42) (fun _ h9 => h9) rfl hd (kk H locs ls hP hS hl)
theorem x_ld_kd (C : CG D (tyZ di dz) (xw a di dz) RX0 Γ cc nL rt) {i : Nat} {v : Nat} (hi : i < 24) (hv : kd i = v) (hd : decode cc pc = .ok (.iaload, 1)) (kk : JG l D (xw a di dz) Γ R nL ce sl Q (n, kn, rd, pr, kd, lf, rg, up, pt, wf, qu, qd, pa, pb) (pc + 1) xs (.int (nI v) :: st)) : JG l D (xw a di dz) Γ R nL ce sl Q (n, kn, rd, pr, kd, lf, rg, up, pt, wf, qu, qd, pa, pb) pc xs (.int (nI i) :: .ref (a 1) :: st) := by
  subst hv
  exact fun H locs ls hP hS hl => va_iald C.1 C.2.1 C.2.2.2.2.2.2.2.1 hP 1 0 rfl rfl (vp_in_nI hi (by decide)) hd (by rw [nI_clamp (by omega)]; exact kk H locs ls hP hS hl)
theorem x_st_kd (C : CG D (tyZ di dz) (xw a di dz) RX0 Γ cc nL rt) {i : Nat} (z : Nat) (hi : i < 24) (hd : decode cc pc = .ok (.iastore, 1)) (kk : JG l D (xw a di dz) Γ R nL ce sl Q (n, kn, rd, pr, va_up kd i z, lf, rg, up, pt, wf, qu, qd, pa, pb) (pc + 1) xs st) : JG l D (xw a di dz) Γ R nL ce sl Q (n, kn, rd, pr, kd, lf, rg, up, pt, wf, qu, qd, pa, pb) pc xs (.int (nI z) :: .int (nI i) :: .ref (a 1) :: st) :=
  fun H locs ls hP hS hl => va_iast C.1 C.2.1 C.2.2.2.2.2.2.2.1 hP (C.2.2.2.2.2.2.2.2.2 _) hS 1 0 rfl rfl (vp_in_nI hi (by decide)) hd (fun H1 locs1 hP1 _ hS1 => kk H1 locs1 ls (by rw [nI_clamp (show i < 2 ^ 31 by omega), upd_eN] at hP1; exact hP1) hS1 hl)
theorem x_ld_lf (C : CG D (tyZ di dz) (xw a di dz) RX0 Γ cc nL rt) {i : Nat} {v : Nat} (hi : i < 24) (hv : lf i = v) (hd : decode cc pc = .ok (.iaload, 1)) (kk : JG l D (xw a di dz) Γ R nL ce sl Q (n, kn, rd, pr, kd, lf, rg, up, pt, wf, qu, qd, pa, pb) (pc + 1) xs (.int (nI v) :: st)) : JG l D (xw a di dz) Γ R nL ce sl Q (n, kn, rd, pr, kd, lf, rg, up, pt, wf, qu, qd, pa, pb) pc xs (.int (nI i) :: .ref (a 2) :: st) := by
  subst hv
  exact fun H locs ls hP hS hl => va_iald C.1 C.2.1 C.2.2.2.2.2.2.2.1 hP 2 0 rfl rfl (vp_in_nI hi (by decide)) hd (by rw [nI_clamp (by omega)]; exact kk H locs ls hP hS hl)
theorem x_st_lf (C : CG D (tyZ di dz) (xw a di dz) RX0 Γ cc nL rt) {i : Nat} (z : Nat) (hi : i < 24) (hd : decode cc pc = .ok (.iastore, 1)) (kk : JG l D (xw a di dz) Γ R nL ce sl Q (n, kn, rd, pr, kd, va_up lf i z, rg, up, pt, wf, qu, qd, pa, pb) (pc + 1) xs st) : JG l D (xw a di dz) Γ R nL ce sl Q (n, kn, rd, pr, kd, lf, rg, up, pt, wf, qu, qd, pa, pb) pc xs (.int (nI z) :: .int (nI i) :: .ref (a 2) :: st) :=
  fun H locs ls hP hS hl => va_iast C.1 C.2.1 C.2.2.2.2.2.2.2.1 hP (C.2.2.2.2.2.2.2.2.2 _) hS 2 0 rfl rfl (vp_in_nI hi (by decide)) hd (fun H1 locs1 hP1 _ hS1 => kk H1 locs1 ls (by rw [nI_clamp (show i < 2 ^ 31 by omega), upd_eN] at hP1; exact hP1) hS1 hl)
theorem x_ld_rg (C : CG D (tyZ di dz) (xw a di dz) RX0 Γ cc nL rt) {i : Nat} {v : Nat} (hi : i < 24) (hv : rg i = v) (hd : decode cc pc = .ok (.iaload, 1)) (kk : JG l D (xw a di dz) Γ R nL ce sl Q (n, kn, rd, pr, kd, lf, rg, up, pt, wf, qu, qd, pa, pb) (pc + 1) xs (.int (nI v) :: st)) : JG l D (xw a di dz) Γ R nL ce sl Q (n, kn, rd, pr, kd, lf, rg, up, pt, wf, qu, qd, pa, pb) pc xs (.int (nI i) :: .ref (a 3) :: st) := by
  subst hv
  exact fun H locs ls hP hS hl => va_iald C.1 C.2.1 C.2.2.2.2.2.2.2.1 hP 3 0 rfl rfl (vp_in_nI hi (by decide)) hd (by rw [nI_clamp (by omega)]; exact kk H locs ls hP hS hl)
theorem x_st_rg (C : CG D (tyZ di dz) (xw a di dz) RX0 Γ cc nL rt) {i : Nat} (z : Nat) (hi : i < 24) (hd : decode cc pc = .ok (.iastore, 1)) (kk : JG l D (xw a di dz) Γ R nL ce sl Q (n, kn, rd, pr, kd, lf, va_up rg i z, up, pt, wf, qu, qd, pa, pb) (pc + 1) xs st) : JG l D (xw a di dz) Γ R nL ce sl Q (n, kn, rd, pr, kd, lf, rg, up, pt, wf, qu, qd, pa, pb) pc xs (.int (nI z) :: .int (nI i) :: .ref (a 3) :: st) :=
  fun H locs ls hP hS hl => va_iast C.1 C.2.1 C.2.2.2.2.2.2.2.1 hP (C.2.2.2.2.2.2.2.2.2 _) hS 3 0 rfl rfl (vp_in_nI hi (by decide)) hd (fun H1 locs1 hP1 _ hS1 => kk H1 locs1 ls (by rw [nI_clamp (show i < 2 ^ 31 by omega), upd_eN] at hP1; exact hP1) hS1 hl)
theorem x_ld_up (C : CG D (tyZ di dz) (xw a di dz) RX0 Γ cc nL rt) {i : Nat} {v : Nat} (hi : i < 12) (hv : up i = v) (hd : decode cc pc = .ok (.iaload, 1)) (kk : JG l D (xw a di dz) Γ R nL ce sl Q (n, kn, rd, pr, kd, lf, rg, up, pt, wf, qu, qd, pa, pb) (pc + 1) xs (.int (nI v) :: st)) : JG l D (xw a di dz) Γ R nL ce sl Q (n, kn, rd, pr, kd, lf, rg, up, pt, wf, qu, qd, pa, pb) pc xs (.int (nI i) :: .ref (a 4) :: st) := by
  subst hv
  exact fun H locs ls hP hS hl => va_iald C.1 C.2.1 C.2.2.2.2.2.2.2.1 hP 4 0 rfl rfl (vp_in_nI hi (by decide)) hd (by rw [nI_clamp (by omega)]; exact kk H locs ls hP hS hl)
theorem x_st_up (C : CG D (tyZ di dz) (xw a di dz) RX0 Γ cc nL rt) {i : Nat} (z : Nat) (hi : i < 12) (hd : decode cc pc = .ok (.iastore, 1)) (kk : JG l D (xw a di dz) Γ R nL ce sl Q (n, kn, rd, pr, kd, lf, rg, va_up up i z, pt, wf, qu, qd, pa, pb) (pc + 1) xs st) : JG l D (xw a di dz) Γ R nL ce sl Q (n, kn, rd, pr, kd, lf, rg, up, pt, wf, qu, qd, pa, pb) pc xs (.int (nI z) :: .int (nI i) :: .ref (a 4) :: st) :=
  fun H locs ls hP hS hl => va_iast C.1 C.2.1 C.2.2.2.2.2.2.2.1 hP (C.2.2.2.2.2.2.2.2.2 _) hS 4 0 rfl rfl (vp_in_nI hi (by decide)) hd (fun H1 locs1 hP1 _ hS1 => kk H1 locs1 ls (by rw [nI_clamp (show i < 2 ^ 31 by omega), upd_eN] at hP1; exact hP1) hS1 hl)
theorem x_ld_pt (C : CG D (tyZ di dz) (xw a di dz) RX0 Γ cc nL rt) {i : Nat} {v : Option Nat} (hi : i < 12) (hv : pt i = v) (hd : decode cc pc = .ok (.iaload, 1)) (kk : JG l D (xw a di dz) Γ R nL ce sl Q (n, kn, rd, pr, kd, lf, rg, up, pt, wf, qu, qd, pa, pb) (pc + 1) xs (.int (oI v) :: st)) : JG l D (xw a di dz) Γ R nL ce sl Q (n, kn, rd, pr, kd, lf, rg, up, pt, wf, qu, qd, pa, pb) pc xs (.int (nI i) :: .ref (a 5) :: st) := by
  subst hv
  exact fun H locs ls hP hS hl => va_iald C.1 C.2.1 C.2.2.2.2.2.2.2.1 hP 5 0 rfl rfl (vp_in_nI hi (by decide)) hd (by rw [nI_clamp (by omega)]; exact kk H locs ls hP hS hl)
theorem x_ld_pt_s (C : CG D (tyZ di dz) (xw a di dz) RX0 Γ cc nL rt) {i v : Nat} (hi : i < 12) (hv : pt i = some v) (hd : decode cc pc = .ok (.iaload, 1)) (kk : JG l D (xw a di dz) Γ R nL ce sl Q (n, kn, rd, pr, kd, lf, rg, up, pt, wf, qu, qd, pa, pb) (pc + 1) xs (.int (nI v) :: st)) : JG l D (xw a di dz) Γ R nL ce sl Q (n, kn, rd, pr, kd, lf, rg, up, pt, wf, qu, qd, pa, pb) pc xs (.int (nI i) :: .ref (a 5) :: st) := x_ld_pt C hi hv hd kk
theorem x_st_pt (C : CG D (tyZ di dz) (xw a di dz) RX0 Γ cc nL rt) {i : Nat} (z : Option Nat) (hi : i < 12) (hd : decode cc pc = .ok (.iastore, 1)) (kk : JG l D (xw a di dz) Γ R nL ce sl Q (n, kn, rd, pr, kd, lf, rg, up, va_up pt i z, wf, qu, qd, pa, pb) (pc + 1) xs st) : JG l D (xw a di dz) Γ R nL ce sl Q (n, kn, rd, pr, kd, lf, rg, up, pt, wf, qu, qd, pa, pb) pc xs (.int (oI z) :: .int (nI i) :: .ref (a 5) :: st) :=
  fun H locs ls hP hS hl => va_iast C.1 C.2.1 C.2.2.2.2.2.2.2.1 hP (C.2.2.2.2.2.2.2.2.2 _) hS 5 0 rfl rfl (vp_in_nI hi (by decide)) hd (fun H1 locs1 hP1 _ hS1 => kk H1 locs1 ls (by rw [nI_clamp (show i < 2 ^ 31 by omega), upd_eO] at hP1; exact hP1) hS1 hl)
theorem x_ld_wf (C : CG D (tyZ di dz) (xw a di dz) RX0 Γ cc nL rt) {i : Nat} {v : Option Nat} (hi : i < 24) (hv : wf i = v) (hd : decode cc pc = .ok (.iaload, 1)) (kk : JG l D (xw a di dz) Γ R nL ce sl Q (n, kn, rd, pr, kd, lf, rg, up, pt, wf, qu, qd, pa, pb) (pc + 1) xs (.int (oI v) :: st)) : JG l D (xw a di dz) Γ R nL ce sl Q (n, kn, rd, pr, kd, lf, rg, up, pt, wf, qu, qd, pa, pb) pc xs (.int (nI i) :: .ref (a 6) :: st) := by
  subst hv
  exact fun H locs ls hP hS hl => va_iald C.1 C.2.1 C.2.2.2.2.2.2.2.1 hP 6 0 rfl rfl (vp_in_nI hi (by decide)) hd (by rw [nI_clamp (by omega)]; exact kk H locs ls hP hS hl)
theorem x_ld_wf_s (C : CG D (tyZ di dz) (xw a di dz) RX0 Γ cc nL rt) {i v : Nat} (hi : i < 24) (hv : wf i = some v) (hd : decode cc pc = .ok (.iaload, 1)) (kk : JG l D (xw a di dz) Γ R nL ce sl Q (n, kn, rd, pr, kd, lf, rg, up, pt, wf, qu, qd, pa, pb) (pc + 1) xs (.int (nI v) :: st)) : JG l D (xw a di dz) Γ R nL ce sl Q (n, kn, rd, pr, kd, lf, rg, up, pt, wf, qu, qd, pa, pb) pc xs (.int (nI i) :: .ref (a 6) :: st) := x_ld_wf C hi hv hd kk
theorem x_st_wf (C : CG D (tyZ di dz) (xw a di dz) RX0 Γ cc nL rt) {i : Nat} (z : Option Nat) (hi : i < 24) (hd : decode cc pc = .ok (.iastore, 1)) (kk : JG l D (xw a di dz) Γ R nL ce sl Q (n, kn, rd, pr, kd, lf, rg, up, pt, va_up wf i z, qu, qd, pa, pb) (pc + 1) xs st) : JG l D (xw a di dz) Γ R nL ce sl Q (n, kn, rd, pr, kd, lf, rg, up, pt, wf, qu, qd, pa, pb) pc xs (.int (oI z) :: .int (nI i) :: .ref (a 6) :: st) :=
  fun H locs ls hP hS hl => va_iast C.1 C.2.1 C.2.2.2.2.2.2.2.1 hP (C.2.2.2.2.2.2.2.2.2 _) hS 6 0 rfl rfl (vp_in_nI hi (by decide)) hd (fun H1 locs1 hP1 _ hS1 => kk H1 locs1 ls (by rw [nI_clamp (show i < 2 ^ 31 by omega), upd_eO] at hP1; exact hP1) hS1 hl)
theorem x_ld_qu (C : CG D (tyZ di dz) (xw a di dz) RX0 Γ cc nL rt) {i : Nat} {v : Nat} (hi : i < 24) (hv : qu i = v) (hd : decode cc pc = .ok (.iaload, 1)) (kk : JG l D (xw a di dz) Γ R nL ce sl Q (n, kn, rd, pr, kd, lf, rg, up, pt, wf, qu, qd, pa, pb) (pc + 1) xs (.int (nI v) :: st)) : JG l D (xw a di dz) Γ R nL ce sl Q (n, kn, rd, pr, kd, lf, rg, up, pt, wf, qu, qd, pa, pb) pc xs (.int (nI i) :: .ref (a 7) :: st) := by
  subst hv
  exact fun H locs ls hP hS hl => va_iald C.1 C.2.1 C.2.2.2.2.2.2.2.1 hP 7 0 rfl rfl (vp_in_nI hi (by decide)) hd (by rw [nI_clamp (by omega)]; exact kk H locs ls hP hS hl)
theorem x_st_qu (C : CG D (tyZ di dz) (xw a di dz) RX0 Γ cc nL rt) {i : Nat} (z : Nat) (hi : i < 24) (hd : decode cc pc = .ok (.iastore, 1)) (kk : JG l D (xw a di dz) Γ R nL ce sl Q (n, kn, rd, pr, kd, lf, rg, up, pt, wf, va_up qu i z, qd, pa, pb) (pc + 1) xs st) : JG l D (xw a di dz) Γ R nL ce sl Q (n, kn, rd, pr, kd, lf, rg, up, pt, wf, qu, qd, pa, pb) pc xs (.int (nI z) :: .int (nI i) :: .ref (a 7) :: st) :=
  fun H locs ls hP hS hl => va_iast C.1 C.2.1 C.2.2.2.2.2.2.2.1 hP (C.2.2.2.2.2.2.2.2.2 _) hS 7 0 rfl rfl (vp_in_nI hi (by decide)) hd (fun H1 locs1 hP1 _ hS1 => kk H1 locs1 ls (by rw [nI_clamp (show i < 2 ^ 31 by omega), upd_eN] at hP1; exact hP1) hS1 hl)
theorem x_ld_qd (C : CG D (tyZ di dz) (xw a di dz) RX0 Γ cc nL rt) {i : Nat} {v : Bool} (hi : i < 24) (hv : qd i = v) (hd : decode cc pc = .ok (.baload, 1)) (kk : JG l D (xw a di dz) Γ R nL ce sl Q (n, kn, rd, pr, kd, lf, rg, up, pt, wf, qu, qd, pa, pb) (pc + 1) xs (.int (bI v) :: st)) : JG l D (xw a di dz) Γ R nL ce sl Q (n, kn, rd, pr, kd, lf, rg, up, pt, wf, qu, qd, pa, pb) pc xs (.int (nI i) :: .ref (a 8) :: st) := by
  subst hv
  exact fun H locs ls hP hS hl => va_zald C.1 C.2.1 C.2.2.2.2.2.2.2.1 hP 8 1 rfl rfl (vp_in_nI hi (by decide)) hd (by rw [nI_clamp (by omega)]; exact kk H locs ls hP hS hl)
theorem x_st_qd (C : CG D (tyZ di dz) (xw a di dz) RX0 Γ cc nL rt) {i : Nat} (z : Bool) (hi : i < 24) (hd : decode cc pc = .ok (.bastore, 1)) (kk : JG l D (xw a di dz) Γ R nL ce sl Q (n, kn, rd, pr, kd, lf, rg, up, pt, wf, qu, va_up qd i z, pa, pb) (pc + 1) xs st) : JG l D (xw a di dz) Γ R nL ce sl Q (n, kn, rd, pr, kd, lf, rg, up, pt, wf, qu, qd, pa, pb) pc xs (.int (bI z) :: .int (nI i) :: .ref (a 8) :: st) :=
  fun H locs ls hP hS hl => va_zast C.1 C.2.1 C.2.2.2.2.2.2.2.1 hP (C.2.2.2.2.2.2.2.2.2 _) hS 8 1 rfl rfl (vp_in_nI hi (by decide)) hd (fun H1 locs1 hP1 _ hS1 => kk H1 locs1 ls (by rw [nI_clamp (show i < 2 ^ 31 by omega), vp_nar_bI, upd_eB] at hP1; exact hP1) hS1 hl)
theorem x_ld_pa (C : CG D (tyZ di dz) (xw a di dz) RX0 Γ cc nL rt) {i : Nat} {v : Nat} (hi : i < 16) (hv : pa i = v) (hd : decode cc pc = .ok (.iaload, 1)) (kk : JG l D (xw a di dz) Γ R nL ce sl Q (n, kn, rd, pr, kd, lf, rg, up, pt, wf, qu, qd, pa, pb) (pc + 1) xs (.int (nI v) :: st)) : JG l D (xw a di dz) Γ R nL ce sl Q (n, kn, rd, pr, kd, lf, rg, up, pt, wf, qu, qd, pa, pb) pc xs (.int (nI i) :: .ref (a 9) :: st) := by
  subst hv
  exact fun H locs ls hP hS hl => va_iald C.1 C.2.1 C.2.2.2.2.2.2.2.1 hP 9 0 rfl rfl (vp_in_nI hi (by decide)) hd (by rw [nI_clamp (by omega)]; exact kk H locs ls hP hS hl)
theorem x_st_pa (C : CG D (tyZ di dz) (xw a di dz) RX0 Γ cc nL rt) {i : Nat} (z : Nat) (hi : i < 16) (hd : decode cc pc = .ok (.iastore, 1)) (kk : JG l D (xw a di dz) Γ R nL ce sl Q (n, kn, rd, pr, kd, lf, rg, up, pt, wf, qu, qd, va_up pa i z, pb) (pc + 1) xs st) : JG l D (xw a di dz) Γ R nL ce sl Q (n, kn, rd, pr, kd, lf, rg, up, pt, wf, qu, qd, pa, pb) pc xs (.int (nI z) :: .int (nI i) :: .ref (a 9) :: st) :=
  fun H locs ls hP hS hl => va_iast C.1 C.2.1 C.2.2.2.2.2.2.2.1 hP (C.2.2.2.2.2.2.2.2.2 _) hS 9 0 rfl rfl (vp_in_nI hi (by decide)) hd (fun H1 locs1 hP1 _ hS1 => kk H1 locs1 ls (by rw [nI_clamp (show i < 2 ^ 31 by omega), upd_eN] at hP1; exact hP1) hS1 hl)
theorem x_ld_pb (C : CG D (tyZ di dz) (xw a di dz) RX0 Γ cc nL rt) {i : Nat} {v : Nat} (hi : i < 16) (hv : pb i = v) (hd : decode cc pc = .ok (.iaload, 1)) (kk : JG l D (xw a di dz) Γ R nL ce sl Q (n, kn, rd, pr, kd, lf, rg, up, pt, wf, qu, qd, pa, pb) (pc + 1) xs (.int (nI v) :: st)) : JG l D (xw a di dz) Γ R nL ce sl Q (n, kn, rd, pr, kd, lf, rg, up, pt, wf, qu, qd, pa, pb) pc xs (.int (nI i) :: .ref (a 10) :: st) := by
  subst hv
  exact fun H locs ls hP hS hl => va_iald C.1 C.2.1 C.2.2.2.2.2.2.2.1 hP 10 0 rfl rfl (vp_in_nI hi (by decide)) hd (by rw [nI_clamp (by omega)]; exact kk H locs ls hP hS hl)
theorem x_st_pb (C : CG D (tyZ di dz) (xw a di dz) RX0 Γ cc nL rt) {i : Nat} (z : Nat) (hi : i < 16) (hd : decode cc pc = .ok (.iastore, 1)) (kk : JG l D (xw a di dz) Γ R nL ce sl Q (n, kn, rd, pr, kd, lf, rg, up, pt, wf, qu, qd, pa, va_up pb i z) (pc + 1) xs st) : JG l D (xw a di dz) Γ R nL ce sl Q (n, kn, rd, pr, kd, lf, rg, up, pt, wf, qu, qd, pa, pb) pc xs (.int (nI z) :: .int (nI i) :: .ref (a 10) :: st) :=
  fun H locs ls hP hS hl => va_iast C.1 C.2.1 C.2.2.2.2.2.2.2.1 hP (C.2.2.2.2.2.2.2.2.2 _) hS 10 0 rfl rfl (vp_in_nI hi (by decide)) hd (fun H1 locs1 hP1 _ hS1 => kk H1 locs1 ls (by rw [nI_clamp (show i < 2 ^ 31 by omega), upd_eN] at hP1; exact hP1) hS1 hl)
theorem x_calli (C : CG D (tyZ di dz) (xw a di dz) RX0 Γ cc nL rt) {u : XS} {y : MethodName} {bytes : ByteArray} {maxL : Nat} {rt' : Option FieldType} {rm : Room} {As stk : List Value} {post : Int32 → XS → Prop} {index n : Nat}
    (hM : MGi l D (tyZ di dz) (xw a di dz) y bytes maxL rt' rm (.ref (a 0) :: As) u post) (h1 : Cond.methodLink RX0 index y ∈ lw_all) (h2 : Cond.instanceMethod y ∈ lw_all) (h3 : Cond.selects RX0 y y ∈ lw_all) (h5 : Cond.code y bytes maxL rt' ∈ lw_all)
    (hdd : y.cls = RX0 ∧ y.cls ≠ "java/lang/invoke/MethodHandle" ∧ y.cls ≠ "java/lang/invoke/VarHandle" ∧ (parseMethodDescriptor y.desc).map (fun d => d.parameters.length) = some n) (hn : As.length = n) (hz : rm.cells = 0 ∧ rm.slots = 0) (hR : rm.frames + 1 ≤ R.frames ∧ 8 + (maxL + 11) + rm.locals ≤ R.locals) (hce : ce + 0 ≤ R.cells ∧ sl + 0 ≤ R.slots)
    (hst : stk = As.reverse ++ .ref (a 0) :: st) (hcat : (st.map fun v => v.category).sum ≤ 8) (hd : decode cc pc = .ok (.invokevirtual index, 3)) (kk : ∀ (r : Int32) (u' : XS), post r u' → JG l D (xw a di dz) Γ R nL ce sl Q u' (pc + 3) xs (.int r :: st)) : JG l D (xw a di dz) Γ R nL ce sl Q u pc xs stk := by
  obtain ⟨n, kn, rd, pr, kd, lf, rg, up, pt, wf, qu, qd, pa, pb⟩ := u
  exact g_calli C hM (lw_V h1 h2 h3 q19 h5) hdd hn hz hR hce (ci := 0) rfl rfl hst hcat hd kk
theorem x_callv (C : CG D (tyZ di dz) (xw a di dz) RX0 Γ cc nL rt) {u : XS} {y : MethodName} {bytes : ByteArray} {maxL : Nat} {rm : Room} {As stk : List Value} {post : XS → Prop} {index n : Nat}
    (hM : MGv l D (tyZ di dz) (xw a di dz) y bytes maxL rm (.ref (a 0) :: As) u post) (h1 : Cond.methodLink RX0 index y ∈ lw_all) (h2 : Cond.instanceMethod y ∈ lw_all) (h3 : Cond.selects RX0 y y ∈ lw_all) (h5 : Cond.code y bytes maxL none ∈ lw_all)
    (hdd : y.cls = RX0 ∧ y.cls ≠ "java/lang/invoke/MethodHandle" ∧ y.cls ≠ "java/lang/invoke/VarHandle" ∧ (parseMethodDescriptor y.desc).map (fun d => d.parameters.length) = some n) (hn : As.length = n) (hz : rm.cells = 0 ∧ rm.slots = 0) (hR : rm.frames + 1 ≤ R.frames ∧ 8 + (maxL + 11) + rm.locals ≤ R.locals) (hce : ce + 0 ≤ R.cells ∧ sl + 0 ≤ R.slots)
    (hst : stk = As.reverse ++ .ref (a 0) :: st) (hcat : (st.map fun v => v.category).sum ≤ 8) (hd : decode cc pc = .ok (.invokevirtual index, 3)) (kk : ∀ (u' : XS), post u' → JG l D (xw a di dz) Γ R nL ce sl Q u' (pc + 3) xs st) : JG l D (xw a di dz) Γ R nL ce sl Q u pc xs stk := by
  obtain ⟨n, kn, rd, pr, kd, lf, rg, up, pt, wf, qu, qd, pa, pb⟩ := u
  exact g_callv C hM (lw_V h1 h2 h3 q19 h5) hdd hn hz hR hce (ci := 0) rfl rfl hst hcat hd kk
end XW
abbrev MS : Type := Nat × Bool × (Nat → Nat) × (Nat → Nat) × (Nat → Nat) × (Nat → Nat) × (Nat → Option Nat)
def mw (a : Nat → Nat) (di dz : ClassId) (u : MS) : va_W := match u with
  | (n, ch, kd, lf, rg, co, tt) => [(a 0, .inr (1, [.int (nI n), .ref (a 1), .ref (a 2), .ref (a 3), .ref (a 4), .ref (a 5), .int (bI ch)])), (a 1, .inl (di, 24, .inl (eN kd))), (a 2, .inl (di, 24, .inl (eN lf))), (a 3, .inl (di, 24, .inl (eN rg))), (a 4, .inl (di, 12, .inl (eN co))), (a 5, .inl (di, 12, .inl (eO tt)))]
theorem mw_at (a : Nat → Nat) (di dz : ClassId) (u : MS) (k : Nat) (q : Nat × va_E) (h : (mw a di dz u)[k]? = some q) : k < 6 ∧ q.1 = a k := by
  obtain ⟨n, ch, kd, lf, rg, co, tt⟩ := u
  match k, h with
  | 0, h => cases h; exact ⟨by decide, rfl⟩
  | 1, h => cases h; exact ⟨by decide, rfl⟩
  | 2, h => cases h; exact ⟨by decide, rfl⟩
  | 3, h => cases h; exact ⟨by decide, rfl⟩
  | 4, h => cases h; exact ⟨by decide, rfl⟩
  | 5, h => cases h; exact ⟨by decide, rfl⟩
  | k + 6, h => simp [mw] at h
theorem mw_in (a : Nat → Nat) (di dz : ClassId) (u : MS) (k : Nat) (hk : k < 6) : ∃ e, (mw a di dz u)[k]? = some (a k, e) := by
  obtain ⟨n, ch, kd, lf, rg, co, tt⟩ := u
  match k, hk with
  | 0, _ => exact ⟨_, rfl⟩
  | 1, _ => exact ⟨_, rfl⟩
  | 2, _ => exact ⟨_, rfl⟩
  | 3, _ => exact ⟨_, rfl⟩
  | 4, _ => exact ⟨_, rfl⟩
  | 5, _ => exact ⟨_, rfl⟩
  | k + 6, hk => omega
theorem mw_D {a : Nat → Nat} {di dz : ClassId} (ha : ∀ i, i < 6 → ∀ j, j < 6 → a i = a j → i = j) : WD (mw a di dz) := by
  intro u u' sz
  refine ⟨fun i j x y hi hj hxy => ?_, fun k q hk => ?_⟩
  · obtain ⟨h1, h2⟩ := mw_at a di dz u i x hi
    obtain ⟨h3, h4⟩ := mw_at a di dz u j y hj
    exact ha i h1 j h3 (by rw [← h2, ← h4]; exact hxy)
  · obtain ⟨h1, h2⟩ := mw_at a di dz u k q hk
    obtain ⟨e, h3⟩ := mw_in a di dz u' k h1
    exact Or.inl ⟨k, e, by rw [h2]; exact h3⟩
section MW
variable {l : Launch} {D : va_G} {a : Nat → Nat} {di dz : ClassId} {Γ : GC} {R : Room} {nL ce sl : Nat} {Q : State → Prop} {pc : Nat} {xs st : List Value} {cc : ByteArray} {rt : Option FieldType} {n : Nat} {ch : Bool} {kd : (Nat → Nat)} {lf : (Nat → Nat)} {rg : (Nat → Nat)} {co : (Nat → Nat)} {tt : (Nat → Option Nat)}
theorem m_get_n (C : CG D (tyZ di dz) (mw a di dz) RX1 Γ cc nL rt) (hd : decode cc pc = .ok (.getfield 29, 3)) (kk : JG l D (mw a di dz) Γ R nL ce sl Q (n, ch, kd, lf, rg, co, tt) (pc + 3) xs (.int (nI n) :: st)) : JG l D (mw a di dz) Γ R nL ce sl Q (n, ch, kd, lf, rg, co, tt) pc xs (.ref (a 0) :: st) :=
  fun H locs ls hP hS hl => va_get (D := D) (ci := 1) (v := .int (nI n)) (C := RX1) (T := TX1) (N := 7) C.1 C.2.1 C.2.2.2.2.2.2.1 in_X1 C.2.2.2.2.1 C.2.2.2.2.2.2.2.1 hP 0 rfl rfl 0 (by decide) (C.2.2.2.2.2.2.1 _ q167) (fun _ h9 => h9) rfl hd (kk H locs ls hP hS hl)
theorem m_put_n (C : CG D (tyZ di dz) (mw a di dz) RX1 Γ cc nL rt) {z : Nat} (hd : decode cc pc = .ok (.putfield 29, 3)) (kk : JG l D (mw a di dz) Γ R nL ce sl Q (z, ch, kd, lf, rg, co, tt) (pc + 3) xs st) : JG l D (mw a di dz) Γ R nL ce sl Q (n, ch, kd, lf, rg, co, tt) pc xs (.int (nI z) :: .ref (a 0) :: st) :=
  fun H locs ls hP hS hl => va_put (D := D) (ci := 1) (v := .int (nI z)) (ty := .int) (C := RX1) (T := TX1) (N := 7) C.1 C.2.1 C.2.2.2.2.2.2.1 in_X1 tyX1 tyX1_ok nmX1 C.2.2.2.2.1 C.2.2.2.2.2.2.2.1 hP (C.2.2.2.2.2.2.2.2.2 _) hS 0 rfl rfl 0 (by decide) (C.2.2.2.2.2.2.1 _ q167) (fun _ h9 => h9) rfl (by decide +kernel) rfl rfl (Nat.le_of_ble_eq_true rfl) hd (fun H1 locs1 hP1 _ hS1 => kk H1 locs1 ls hP1 hS1 hl)
theorem m_get_kd (C : CG D (tyZ di dz) (mw a di dz) RX1 Γ cc nL rt) (hd : decode cc pc = .ok (.getfield 7, 3)) (kk : JG l D (mw a di dz) Γ R nL ce sl Q (n, ch, kd, lf, rg, co, tt) (pc + 3) xs (.ref (a 1) :: st)) : JG l D (mw a di dz) Γ R nL ce sl Q (n, ch, kd, lf, rg, co, tt) pc xs (.ref (a 0) :: st) :=
  fun H locs ls hP hS hl => va_get (D := D) (ci := 1) (v := .ref (a 1)) (C := RX1) (T := TX1) (N := 7) C.1 C.2.1 C.2.2.2.2.2.2.1 in_X1 C.2.2.2.2.1 C.2.2.2.2.2.2.2.1 hP 0 rfl rfl 1 (by decide) (C.2.2.2.2.2.2.1 _ q168) (fun _ h9 => h9) rfl hd (kk H locs ls hP hS hl)
theorem m_get_lf (C : CG D (tyZ di dz) (mw a di dz) RX1 Γ cc nL rt) (hd : decode cc pc = .ok (.getfield 13, 3)) (kk : JG l D (mw a di dz) Γ R nL ce sl Q (n, ch, kd, lf, rg, co, tt) (pc + 3) xs (.ref (a 2) :: st)) : JG l D (mw a di dz) Γ R nL ce sl Q (n, ch, kd, lf, rg, co, tt) pc xs (.ref (a 0) :: st) :=
  fun H locs ls hP hS hl => va_get (D := D) (ci := 1) (v := .ref (a 2)) (C := RX1) (T := TX1) (N := 7) C.1 C.2.1 C.2.2.2.2.2.2.1 in_X1 C.2.2.2.2.1 C.2.2.2.2.2.2.2.1 hP 0 rfl rfl 2 (by decide) (C.2.2.2.2.2.2.1 _ q169) (fun _ h9 => h9) rfl hd (kk H locs ls hP hS hl)
theorem m_get_rg (C : CG D (tyZ di dz) (mw a di dz) RX1 Γ cc nL rt) (hd : decode cc pc = .ok (.getfield 16, 3)) (kk : JG l D (mw a di dz) Γ R nL ce sl Q (n, ch, kd, lf, rg, co, tt) (pc + 3) xs (.ref (a 3) :: st)) : JG l D (mw a di dz) Γ R nL ce sl Q (n, ch, kd, lf, rg, co, tt) pc xs (.ref (a 0) :: st) :=
  fun H locs ls hP hS hl => va_get (D := D) (ci := 1) (v := .ref (a 3)) (C := RX1) (T := TX1) (N := 7) C.1 C.2.1 C.2.2.2.2.2.2.1 in_X1 C.2.2.2.2.1 C.2.2.2.2.2.2.2.1 hP 0 rfl rfl 3 (by decide) (C.2.2.2.2.2.2.1 _ q170) (fun _ h9 => h9) rfl hd (kk H locs ls hP hS hl)
theorem m_get_co (C : CG D (tyZ di dz) (mw a di dz) RX1 Γ cc nL rt) (hd : decode cc pc = .ok (.getfield 19, 3)) (kk : JG l D (mw a di dz) Γ R nL ce sl Q (n, ch, kd, lf, rg, co, tt) (pc + 3) xs (.ref (a 4) :: st)) : JG l D (mw a di dz) Γ R nL ce sl Q (n, ch, kd, lf, rg, co, tt) pc xs (.ref (a 0) :: st) :=
  fun H locs ls hP hS hl => va_get (D := D) (ci := 1) (v := .ref (a 4)) (C := RX1) (T := TX1) (N := 7) C.1 C.2.1 C.2.2.2.2.2.2.1 in_X1 C.2.2.2.2.1 C.2.2.2.2.2.2.2.1 hP 0 rfl rfl 4 (by decide) (C.2.2.2.2.2.2.1 _ q171) (fun _ h9 => h9) rfl hd (kk H locs ls hP hS hl)
theorem m_get_tt (C : CG D (tyZ di dz) (mw a di dz) RX1 Γ cc nL rt) (hd : decode cc pc = .ok (.getfield 22, 3)) (kk : JG l D (mw a di dz) Γ R nL ce sl Q (n, ch, kd, lf, rg, co, tt) (pc + 3) xs (.ref (a 5) :: st)) : JG l D (mw a di dz) Γ R nL ce sl Q (n, ch, kd, lf, rg, co, tt) pc xs (.ref (a 0) :: st) :=
  fun H locs ls hP hS hl => va_get (D := D) (ci := 1) (v := .ref (a 5)) (C := RX1) (T := TX1) (N := 7) C.1 C.2.1 C.2.2.2.2.2.2.1 in_X1 C.2.2.2.2.1 C.2.2.2.2.2.2.2.1 hP 0 rfl rfl 5 (by decide) (C.2.2.2.2.2.2.1 _ q172) (fun _ h9 => h9) rfl hd (kk H locs ls hP hS hl)
theorem m_get_ch (C : CG D (tyZ di dz) (mw a di dz) RX1 Γ cc nL rt) (hd : decode cc pc = .ok (.getfield 33, 3)) (kk : JG l D (mw a di dz) Γ R nL ce sl Q (n, ch, kd, lf, rg, co, tt) (pc + 3) xs (.int (bI ch) :: st)) : JG l D (mw a di dz) Γ R nL ce sl Q (n, ch, kd, lf, rg, co, tt) pc xs (.ref (a 0) :: st) :=
  fun H locs ls hP hS hl => va_get (D := D) (ci := 1) (v := .int (bI ch)) (C := RX1) (T := TX1) (N := 7) C.1 C.2.1 C.2.2.2.2.2.2.1 in_X1 C.2.2.2.2.1 C.2.2.2.2.2.2.2.1 hP 0 rfl rfl 6 (by decide) (C.2.2.2.2.2.2.1 _ q173) (fun _ h9 => h9) rfl hd (kk H locs ls hP hS hl)
theorem m_put_ch (C : CG D (tyZ di dz) (mw a di dz) RX1 Γ cc nL rt) (z : Bool) (hd : decode cc pc = .ok (.putfield 33, 3)) (kk : JG l D (mw a di dz) Γ R nL ce sl Q (n, z, kd, lf, rg, co, tt) (pc + 3) xs st) : JG l D (mw a di dz) Γ R nL ce sl Q (n, ch, kd, lf, rg, co, tt) pc xs (.int (bI z) :: .ref (a 0) :: st) :=
  fun H locs ls hP hS hl => va_put (D := D) (ci := 1) (v := .int (bI z)) (ty := .boolean) (C := RX1) (T := TX1) (N := 7) C.1 C.2.1 C.2.2.2.2.2.2.1 in_X1 tyX1 tyX1_ok nmX1 C.2.2.2.2.1 C.2.2.2.2.2.2.2.1 hP (C.2.2.2.2.2.2.2.2.2 _) hS 0 rfl rfl 6 (by decide) (C.2.2.2.2.2.2.1 _ q173) (fun _ h9 => h9) rfl (by decide +kernel) (nar_bI z) (fits_bI z) (Nat.le_of_ble_eq_true rfl) hd (fun H1 locs1 hP1 _ hS1 => kk H1 locs1 ls hP1 hS1 hl)
theorem m_ld_kd (C : CG D (tyZ di dz) (mw a di dz) RX1 Γ cc nL rt) {i : Nat} {v : Nat} (hi : i < 24) (hv : kd i = v) (hd : decode cc pc = .ok (.iaload, 1)) (kk : JG l D (mw a di dz) Γ R nL ce sl Q (n, ch, kd, lf, rg, co, tt) (pc + 1) xs (.int (nI v) :: st)) : JG l D (mw a di dz) Γ R nL ce sl Q (n, ch, kd, lf, rg, co, tt) pc xs (.int (nI i) :: .ref (a 1) :: st) := by
  subst hv
  exact fun H locs ls hP hS hl => va_iald C.1 C.2.1 C.2.2.2.2.2.2.2.1 hP 1 0 rfl rfl (vp_in_nI hi (by decide)) hd (by rw [nI_clamp (by omega)]; exact kk H locs ls hP hS hl)
theorem m_st_kd (C : CG D (tyZ di dz) (mw a di dz) RX1 Γ cc nL rt) {i : Nat} (z : Nat) (hi : i < 24) (hd : decode cc pc = .ok (.iastore, 1)) (kk : JG l D (mw a di dz) Γ R nL ce sl Q (n, ch, va_up kd i z, lf, rg, co, tt) (pc + 1) xs st) : JG l D (mw a di dz) Γ R nL ce sl Q (n, ch, kd, lf, rg, co, tt) pc xs (.int (nI z) :: .int (nI i) :: .ref (a 1) :: st) :=
  fun H locs ls hP hS hl => va_iast C.1 C.2.1 C.2.2.2.2.2.2.2.1 hP (C.2.2.2.2.2.2.2.2.2 _) hS 1 0 rfl rfl (vp_in_nI hi (by decide)) hd (fun H1 locs1 hP1 _ hS1 => kk H1 locs1 ls (by rw [nI_clamp (show i < 2 ^ 31 by omega), upd_eN] at hP1; exact hP1) hS1 hl)
theorem m_ld_lf (C : CG D (tyZ di dz) (mw a di dz) RX1 Γ cc nL rt) {i : Nat} {v : Nat} (hi : i < 24) (hv : lf i = v) (hd : decode cc pc = .ok (.iaload, 1)) (kk : JG l D (mw a di dz) Γ R nL ce sl Q (n, ch, kd, lf, rg, co, tt) (pc + 1) xs (.int (nI v) :: st)) : JG l D (mw a di dz) Γ R nL ce sl Q (n, ch, kd, lf, rg, co, tt) pc xs (.int (nI i) :: .ref (a 2) :: st) := by
  subst hv
  exact fun H locs ls hP hS hl => va_iald C.1 C.2.1 C.2.2.2.2.2.2.2.1 hP 2 0 rfl rfl (vp_in_nI hi (by decide)) hd (by rw [nI_clamp (by omega)]; exact kk H locs ls hP hS hl)
theorem m_st_lf (C : CG D (tyZ di dz) (mw a di dz) RX1 Γ cc nL rt) {i : Nat} (z : Nat) (hi : i < 24) (hd : decode cc pc = .ok (.iastore, 1)) (kk : JG l D (mw a di dz) Γ R nL ce sl Q (n, ch, kd, va_up lf i z, rg, co, tt) (pc + 1) xs st) : JG l D (mw a di dz) Γ R nL ce sl Q (n, ch, kd, lf, rg, co, tt) pc xs (.int (nI z) :: .int (nI i) :: .ref (a 2) :: st) :=
  fun H locs ls hP hS hl => va_iast C.1 C.2.1 C.2.2.2.2.2.2.2.1 hP (C.2.2.2.2.2.2.2.2.2 _) hS 2 0 rfl rfl (vp_in_nI hi (by decide)) hd (fun H1 locs1 hP1 _ hS1 => kk H1 locs1 ls (by rw [nI_clamp (show i < 2 ^ 31 by omega), upd_eN] at hP1; exact hP1) hS1 hl)
theorem m_ld_rg (C : CG D (tyZ di dz) (mw a di dz) RX1 Γ cc nL rt) {i : Nat} {v : Nat} (hi : i < 24) (hv : rg i = v) (hd : decode cc pc = .ok (.iaload, 1)) (kk : JG l D (mw a di dz) Γ R nL ce sl Q (n, ch, kd, lf, rg, co, tt) (pc + 1) xs (.int (nI v) :: st)) : JG l D (mw a di dz) Γ R nL ce sl Q (n, ch, kd, lf, rg, co, tt) pc xs (.int (nI i) :: .ref (a 3) :: st) := by
  subst hv
  exact fun H locs ls hP hS hl => va_iald C.1 C.2.1 C.2.2.2.2.2.2.2.1 hP 3 0 rfl rfl (vp_in_nI hi (by decide)) hd (by rw [nI_clamp (by omega)]; exact kk H locs ls hP hS hl)
theorem m_st_rg (C : CG D (tyZ di dz) (mw a di dz) RX1 Γ cc nL rt) {i : Nat} (z : Nat) (hi : i < 24) (hd : decode cc pc = .ok (.iastore, 1)) (kk : JG l D (mw a di dz) Γ R nL ce sl Q (n, ch, kd, lf, va_up rg i z, co, tt) (pc + 1) xs st) : JG l D (mw a di dz) Γ R nL ce sl Q (n, ch, kd, lf, rg, co, tt) pc xs (.int (nI z) :: .int (nI i) :: .ref (a 3) :: st) :=
  fun H locs ls hP hS hl => va_iast C.1 C.2.1 C.2.2.2.2.2.2.2.1 hP (C.2.2.2.2.2.2.2.2.2 _) hS 3 0 rfl rfl (vp_in_nI hi (by decide)) hd (fun H1 locs1 hP1 _ hS1 => kk H1 locs1 ls (by rw [nI_clamp (show i < 2 ^ 31 by omega), upd_eN] at hP1; exact hP1) hS1 hl)
theorem m_ld_co (C : CG D (tyZ di dz) (mw a di dz) RX1 Γ cc nL rt) {i : Nat} {v : Nat} (hi : i < 12) (hv : co i = v) (hd : decode cc pc = .ok (.iaload, 1)) (kk : JG l D (mw a di dz) Γ R nL ce sl Q (n, ch, kd, lf, rg, co, tt) (pc + 1) xs (.int (nI v) :: st)) : JG l D (mw a di dz) Γ R nL ce sl Q (n, ch, kd, lf, rg, co, tt) pc xs (.int (nI i) :: .ref (a 4) :: st) := by
  subst hv
  exact fun H locs ls hP hS hl => va_iald C.1 C.2.1 C.2.2.2.2.2.2.2.1 hP 4 0 rfl rfl (vp_in_nI hi (by decide)) hd (by rw [nI_clamp (by omega)]; exact kk H locs ls hP hS hl)
theorem m_st_co (C : CG D (tyZ di dz) (mw a di dz) RX1 Γ cc nL rt) {i : Nat} (z : Nat) (hi : i < 12) (hd : decode cc pc = .ok (.iastore, 1)) (kk : JG l D (mw a di dz) Γ R nL ce sl Q (n, ch, kd, lf, rg, va_up co i z, tt) (pc + 1) xs st) : JG l D (mw a di dz) Γ R nL ce sl Q (n, ch, kd, lf, rg, co, tt) pc xs (.int (nI z) :: .int (nI i) :: .ref (a 4) :: st) :=
  fun H locs ls hP hS hl => va_iast C.1 C.2.1 C.2.2.2.2.2.2.2.1 hP (C.2.2.2.2.2.2.2.2.2 _) hS 4 0 rfl rfl (vp_in_nI hi (by decide)) hd (fun H1 locs1 hP1 _ hS1 => kk H1 locs1 ls (by rw [nI_clamp (show i < 2 ^ 31 by omega), upd_eN] at hP1; exact hP1) hS1 hl)
theorem m_ld_tt (C : CG D (tyZ di dz) (mw a di dz) RX1 Γ cc nL rt) {i : Nat} {v : Option Nat} (hi : i < 12) (hv : tt i = v) (hd : decode cc pc = .ok (.iaload, 1)) (kk : JG l D (mw a di dz) Γ R nL ce sl Q (n, ch, kd, lf, rg, co, tt) (pc + 1) xs (.int (oI v) :: st)) : JG l D (mw a di dz) Γ R nL ce sl Q (n, ch, kd, lf, rg, co, tt) pc xs (.int (nI i) :: .ref (a 5) :: st) := by
  subst hv
  exact fun H locs ls hP hS hl => va_iald C.1 C.2.1 C.2.2.2.2.2.2.2.1 hP 5 0 rfl rfl (vp_in_nI hi (by decide)) hd (by rw [nI_clamp (by omega)]; exact kk H locs ls hP hS hl)
theorem m_ld_tt_s (C : CG D (tyZ di dz) (mw a di dz) RX1 Γ cc nL rt) {i v : Nat} (hi : i < 12) (hv : tt i = some v) (hd : decode cc pc = .ok (.iaload, 1)) (kk : JG l D (mw a di dz) Γ R nL ce sl Q (n, ch, kd, lf, rg, co, tt) (pc + 1) xs (.int (nI v) :: st)) : JG l D (mw a di dz) Γ R nL ce sl Q (n, ch, kd, lf, rg, co, tt) pc xs (.int (nI i) :: .ref (a 5) :: st) := m_ld_tt C hi hv hd kk
theorem m_st_tt (C : CG D (tyZ di dz) (mw a di dz) RX1 Γ cc nL rt) {i : Nat} (z : Option Nat) (hi : i < 12) (hd : decode cc pc = .ok (.iastore, 1)) (kk : JG l D (mw a di dz) Γ R nL ce sl Q (n, ch, kd, lf, rg, co, va_up tt i z) (pc + 1) xs st) : JG l D (mw a di dz) Γ R nL ce sl Q (n, ch, kd, lf, rg, co, tt) pc xs (.int (oI z) :: .int (nI i) :: .ref (a 5) :: st) :=
  fun H locs ls hP hS hl => va_iast C.1 C.2.1 C.2.2.2.2.2.2.2.1 hP (C.2.2.2.2.2.2.2.2.2 _) hS 5 0 rfl rfl (vp_in_nI hi (by decide)) hd (fun H1 locs1 hP1 _ hS1 => kk H1 locs1 ls (by rw [nI_clamp (show i < 2 ^ 31 by omega), upd_eO] at hP1; exact hP1) hS1 hl)
theorem m_calli (C : CG D (tyZ di dz) (mw a di dz) RX1 Γ cc nL rt) {u : MS} {y : MethodName} {bytes : ByteArray} {maxL : Nat} {rt' : Option FieldType} {rm : Room} {As stk : List Value} {post : Int32 → MS → Prop} {index n : Nat}
    (hM : MGi l D (tyZ di dz) (mw a di dz) y bytes maxL rt' rm (.ref (a 0) :: As) u post) (h1 : Cond.methodLink RX1 index y ∈ lw_all) (h2 : Cond.instanceMethod y ∈ lw_all) (h3 : Cond.selects RX1 y y ∈ lw_all) (h5 : Cond.code y bytes maxL rt' ∈ lw_all)
    (hdd : y.cls = RX1 ∧ y.cls ≠ "java/lang/invoke/MethodHandle" ∧ y.cls ≠ "java/lang/invoke/VarHandle" ∧ (parseMethodDescriptor y.desc).map (fun d => d.parameters.length) = some n) (hn : As.length = n) (hz : rm.cells = 0 ∧ rm.slots = 0) (hR : rm.frames + 1 ≤ R.frames ∧ 8 + (maxL + 11) + rm.locals ≤ R.locals) (hce : ce + 0 ≤ R.cells ∧ sl + 0 ≤ R.slots)
    (hst : stk = As.reverse ++ .ref (a 0) :: st) (hcat : (st.map fun v => v.category).sum ≤ 8) (hd : decode cc pc = .ok (.invokevirtual index, 3)) (kk : ∀ (r : Int32) (u' : MS), post r u' → JG l D (mw a di dz) Γ R nL ce sl Q u' (pc + 3) xs (.int r :: st)) : JG l D (mw a di dz) Γ R nL ce sl Q u pc xs stk := by
  obtain ⟨n, ch, kd, lf, rg, co, tt⟩ := u
  exact g_calli C hM (lw_V h1 h2 h3 q20 h5) hdd hn hz hR hce (ci := 1) rfl rfl hst hcat hd kk
theorem m_callv (C : CG D (tyZ di dz) (mw a di dz) RX1 Γ cc nL rt) {u : MS} {y : MethodName} {bytes : ByteArray} {maxL : Nat} {rm : Room} {As stk : List Value} {post : MS → Prop} {index n : Nat}
    (hM : MGv l D (tyZ di dz) (mw a di dz) y bytes maxL rm (.ref (a 0) :: As) u post) (h1 : Cond.methodLink RX1 index y ∈ lw_all) (h2 : Cond.instanceMethod y ∈ lw_all) (h3 : Cond.selects RX1 y y ∈ lw_all) (h5 : Cond.code y bytes maxL none ∈ lw_all)
    (hdd : y.cls = RX1 ∧ y.cls ≠ "java/lang/invoke/MethodHandle" ∧ y.cls ≠ "java/lang/invoke/VarHandle" ∧ (parseMethodDescriptor y.desc).map (fun d => d.parameters.length) = some n) (hn : As.length = n) (hz : rm.cells = 0 ∧ rm.slots = 0) (hR : rm.frames + 1 ≤ R.frames ∧ 8 + (maxL + 11) + rm.locals ≤ R.locals) (hce : ce + 0 ≤ R.cells ∧ sl + 0 ≤ R.slots)
    (hst : stk = As.reverse ++ .ref (a 0) :: st) (hcat : (st.map fun v => v.category).sum ≤ 8) (hd : decode cc pc = .ok (.invokevirtual index, 3)) (kk : ∀ (u' : MS), post u' → JG l D (mw a di dz) Γ R nL ce sl Q u' (pc + 3) xs st) : JG l D (mw a di dz) Γ R nL ce sl Q u pc xs stk := by
  obtain ⟨n, ch, kd, lf, rg, co, tt⟩ := u
  exact g_callv C hM (lw_V h1 h2 h3 q20 h5) hdd hn hz hR hce (ci := 1) rfl rfl hst hcat hd kk
end MW
end
section
/-! PLAIN LAW, no program in sight: counting, forests, the least pair of relations -/
set_option maxRecDepth 100000
/-- how many v < n have f -/
def cn (f : Nat → Bool) : Nat → Nat
  | 0 => 0
  | k + 1 => cn f k + (if f k = true then 1 else 0)
def sm (f : Nat → Nat) : Nat → Nat
  | 0 => 0
  | k + 1 => sm f k + f k
theorem cn_le (f : Nat → Bool) (n : Nat) : cn f n ≤ n := by
  induction n with
  | zero => simp [cn]
  | succ n ih =>
    simp only [cn]
    split <;> omega
theorem cn_congr {f g : Nat → Bool} {n : Nat} (h : ∀ k, k < n → f k = g k) : cn f n = cn g n := by
  induction n with
  | zero => rfl
  | succ n ih =>
    simp only [cn]
    rw [ih (fun k hk => h k (by omega)), h n (by omega)]
theorem cn_mono {f g : Nat → Bool} {n : Nat} (h : ∀ k, k < n → f k = true → g k = true) : cn f n ≤ cn g n := by
  induction n with
  | zero => simp [cn]
  | succ n ih =>
    simp only [cn]
    have h1 := ih (fun k hk => h k (by omega))
    have h2 := h n (by omega)
    by_cases hf : f n = true
    · rw [if_pos hf, if_pos (h2 hf)]
      omega
    · rw [if_neg hf]
      omega
theorem cn_true {f : Nat → Bool} {n k : Nat} (hk : k < n) (hf : f k = false) : cn (va_up f k true) n = cn f n + 1 := by
  induction n with
  | zero => omega
  | succ n ih =>
    simp only [cn]
    by_cases h : k = n
    · subst h
      have e : cn (va_up f k true) k = cn f k := cn_congr (fun j hj => by simp [va_up, show j ≠ k by omega])
      rw [e]
      simp [va_up, hf]
    · rw [ih (by omega)]
      have e : va_up f k true n = f n := by simp [va_up, show n ≠ k by omega]
      rw [e]
      omega
theorem cn_false {f : Nat → Bool} {n k : Nat} (hk : k < n) (hf : f k = true) : cn (va_up f k false) n + 1 = cn f n := by
  have h1 := cn_true (f := va_up f k false) hk (by simp [va_up])
  have e : cn (va_up (va_up f k false) k true) n = cn f n := cn_congr (fun j _ => by
    by_cases h : j = k
    · subst h; simp [va_up, hf]
    · simp [va_up, h])
  omega
theorem cn_lt {f : Nat → Bool} {n k : Nat} (hk : k < n) (hf : f k = false) : cn f n < n := by
  have h1 := cn_true hk hf
  have h2 := cn_le (va_up f k true) n
  omega
theorem cn_pos {f : Nat → Bool} {n k : Nat} (hk : k < n) (hf : f k = true) : 0 < cn f n := by
  have h1 := cn_false hk hf
  omega
theorem cn_zero {f : Nat → Bool} {n : Nat} (h : cn f n = 0) : ∀ k, k < n → f k = false := by
  intro k hk
  cases hf : f k with
  | false => rfl
  | true =>
    have := cn_pos hk hf
    omega
theorem cn_inj {f : Nat → Bool} {m : Nat} (φ : Nat → Nat) : ∀ (n : Nat) (g : Nat → Bool), (∀ v, v < n → f v = true → φ v < m ∧ g (φ v) = true) → (∀ u v, u < n → v < n → f u = true → f v = true → φ u = φ v → u = v) → cn f n ≤ cn g m := by
  intro n
  induction n with
  | zero => intro g _ _; simp [cn]
  | succ n ih =>
    intro g h1 h2
    simp only [cn]
    by_cases hf : f n = true
    · rw [if_pos hf]
      obtain ⟨h3, h4⟩ := h1 n (by omega) hf
      have h5 := cn_false h3 h4
      have h6 := ih (va_up g (φ n) false) (fun v hv hfv => by
        obtain ⟨a1, a2⟩ := h1 v (by omega) hfv
        refine ⟨a1, ?_⟩
        have hne : φ v ≠ φ n := fun q => by
          have := h2 v n (by omega) (by omega) hfv hf q
          omega
        simp [va_up, hne, a2]) (fun u v hu hv => h2 u v (by omega) (by omega))
      omega
    · rw [if_neg hf]
      have := ih g (fun v hv => h1 v (by omega)) (fun u v hu hv => h2 u v (by omega) (by omega))
      omega
theorem sm_le {f g : Nat → Nat} {n : Nat} (h : ∀ k, k < n → f k ≤ g k) : sm f n ≤ sm g n := by
  induction n with
  | zero => simp [sm]
  | succ n ih =>
    simp only [sm]
    have h1 := ih (fun k hk => h k (by omega))
    have h2 := h n (by omega)
    omega
theorem sm_lt {f g : Nat → Nat} {n j : Nat} (h : ∀ k, k < n → f k ≤ g k) (hj : j < n) (hs : f j < g j) : sm f n < sm g n := by
  induction n with
  | zero => omega
  | succ n ih =>
    simp only [sm]
    by_cases e : j = n
    · subst e
      have h1 := sm_le (f := f) (g := g) (n := j) (fun k hk => h k (by omega))
      omega
    · have h1 := ih (fun k hk => h k (by omega)) (by omega)
      have h2 := h n (by omega)
      omega
theorem sm_bd {f : Nat → Nat} {c n : Nat} (h : ∀ k, k < n → f k ≤ c) : sm f n ≤ c * n := by
  induction n with
  | zero => simp [sm]
  | succ n ih =>
    simp only [sm]
    have h1 := ih (fun k hk => h k (by omega))
    have h2 := h n (by omega)
    rw [Nat.mul_succ]
    omega
/-- the roots -/
def cls (R : Nat → Nat) : Nat := cn (fun v => decide (R v = v)) 12
def FoD (d up R : Nat → Nat) : Prop := ∀ v, v < 12 → up v < 12 ∧ R v < 12 ∧ R (up v) = R v ∧ d v + cls R ≤ 12 ∧ (up v = v → R v = v ∧ d v = 0) ∧ (up v ≠ v → d (up v) < d v)
/-- up is a forest on 12 numbers, with the roots R -/
def Fo (up R : Nat → Nat) : Prop := ∃ d, FoD d up R
theorem FoD.root {d up R : Nat → Nat} (h : FoD d up R) : ∀ (n v : Nat), v < 12 → d v ≤ n → up (R v) = R v ∧ R (R v) = R v := by
  intro n
  induction n with
  | zero =>
    intro v hv hd
    obtain ⟨h1, h2, h3, h4, h5, h6⟩ := h v hv
    by_cases e : up v = v
    · rw [(h5 e).1]; exact ⟨e, (h5 e).1⟩
    · have := h6 e
      omega
  | succ n ih =>
    intro v hv hd
    obtain ⟨h1, h2, h3, h4, h5, h6⟩ := h v hv
    by_cases e : up v = v
    · rw [(h5 e).1]; exact ⟨e, (h5 e).1⟩
    · have h7 := ih (up v) h1 (by have := h6 e; omega)
      rw [h3] at h7
      exact h7
theorem Fo.root {up R : Nat → Nat} (h : Fo up R) {v : Nat} (hv : v < 12) : up (R v) = R v ∧ R (R v) = R v := by
  obtain ⟨d, h⟩ := h
  exact h.root _ v hv (Nat.le_refl _)
theorem Fo.lt {up R : Nat → Nat} (h : Fo up R) {v : Nat} (hv : v < 12) : R v < 12 := by
  obtain ⟨d, h⟩ := h
  exact (h v hv).2.1
theorem Fo.up_iff {up R : Nat → Nat} (h : Fo up R) {v : Nat} (hv : v < 12) : up v = v ↔ R v = v := by
  refine ⟨fun e => ?_, fun e => ?_⟩
  · obtain ⟨d, h⟩ := h
    exact ((h v hv).2.2.2.2.1 e).1
  · have h1 := (h.root hv).1
    rw [e] at h1
    exact h1
theorem cls_pos {R : Nat → Nat} (h : ∀ v, v < 12 → R v < 12 ∧ R (R v) = R v) : 0 < cls R := by
  obtain ⟨h1, h2⟩ := h 0 (by decide)
  exact cn_pos h1 (by simp [h2])
theorem cls_le (R : Nat → Nat) : cls R ≤ 12 := cn_le _ 12
theorem FoD.halve {d up R : Nat → Nat} (h : FoD d up R) {a : Nat} (ha : a < 12) (hne : up a ≠ a) : FoD d (va_up up a (up (up a))) R := by
  intro v hv
  obtain ⟨h1, h2, h3, h4, h5, h6⟩ := h v hv
  by_cases e : v = a
  · subst e
    obtain ⟨g1, g2, g3, g4, g5, g6⟩ := h (up v) h1
    have hd : d (up (up v)) < d v := by
      by_cases e2 : up (up v) = up v
      · rw [e2]; exact h6 hne
      · have := g6 e2
        have := h6 hne
        omega
    simp only [va_up, if_true]
    refine ⟨g1, h2, by rw [g3, h3], h4, fun q => ?_, fun _ => hd⟩
    rw [q] at hd
    omega
  · simp only [va_up, if_neg e]
    exact ⟨h1, h2, h3, h4, h5, h6⟩
/-- two roots become one -/
def mg (R : Nat → Nat) (x y : Nat) : Nat → Nat := fun v => if R v = y then x else R v
theorem cls_mg {R : Nat → Nat} {x y : Nat} (hy : y < 12) (rx : R x = x) (ry : R y = y) (hne : x ≠ y) : cls (mg R x y) + 1 = cls R := by
  have h1 := cn_false (f := fun v => decide (R v = v)) hy (by simp [ry])
  have e : cls (mg R x y) = cn (va_up (fun v => decide (R v = v)) y false) 12 := by
    refine cn_congr (fun v hv => ?_)
    by_cases e1 : v = y
    · subst e1
      simp [va_up, mg, ry, hne]
    · by_cases e2 : R v = y
      · have : v ≠ x := fun q => by rw [q, rx] at e2; exact hne e2
        simp only [va_up, mg, e1, e2, if_true, if_false]
        simp [Ne.symm this, Ne.symm e1]
      · simp [va_up, mg, e1, e2]
  rw [e]
  exact h1
theorem Fo.join {up R : Nat → Nat} (h : Fo up R) {x y : Nat} (hx : x < 12) (hy : y < 12) (rx : R x = x) (ry : R y = y) (hne : x ≠ y) : Fo (va_up up y x) (mg R x y) := by
  have ux : up x = x := (h.up_iff hx).mpr rx
  obtain ⟨d, h⟩ := h
  have hc := cls_mg hy rx ry hne
  refine ⟨fun v => if R v = y then d v + 1 else d v, fun v hv => ?_⟩
  obtain ⟨h1, h2, h3, h4, h5, h6⟩ := h v hv
  by_cases e : v = y
  · subst e
    have dx : d x = 0 := ((h x hx).2.2.2.2.1 ux).2
    simp only [va_up, mg, if_true, ry, rx, if_neg hne]
    exact ⟨hx, hx, trivial, by omega, fun q => absurd q hne, fun _ => by rw [dx]; omega⟩
  · simp only [va_up, mg, if_neg e, h3]
    refine ⟨h1, ?_, trivial, ?_, fun q => ?_, fun q => ?_⟩
    · split
      · exact hx
      · exact h2
    · split <;> omega
    · obtain ⟨g1, g2⟩ := h5 q
      have g3 : ¬ R v = y := by rw [g1]; exact e
      rw [if_neg g3, if_neg g3]
      exact ⟨g1, g2⟩
    · have g1 := h6 q
      by_cases g3 : R v = y
      · rw [if_pos g3, if_pos g3]; omega
      · rw [if_neg g3, if_neg g3]; exact g1
/-- the class of v points at w (up to Rb) -/
def TB (R Rb : Nat → Nat) (pt : Nat → Option Nat) (v w : Nat) : Prop := ∃ t, t < 12 ∧ pt (R v) = some t ∧ Rb t = Rb w
/-- what an assignment asks of T -/
def Ck (kd lf rg : Nat → Nat) (T : Nat → Nat → Prop) (k : Nat) : Prop :=
  (kd k = 0 → T (lf k) (rg k)) ∧ (kd k = 1 → ∀ w, T (rg k) w → T (lf k) w) ∧ (kd k = 2 → ∀ w z, T (rg k) w → T w z → T (lf k) z) ∧ (kd k = 3 → ∀ x y, T (lf k) x → T (rg k) y → T x y)
def Eq12 (E T : Nat → Nat → Prop) : Prop :=
  (∀ v, E v v) ∧ (∀ v w, E v w → E w v) ∧ (∀ v w z, E v w → E w z → E v z) ∧ (∀ v v' w w', E v v' → E w w' → T v w → T v' w') ∧ (∀ v w w', T v w → T v w' → E w w')
def Clo (n : Nat) (kd lf rg : Nat → Nat) (E T : Nat → Nat → Prop) : Prop := Eq12 E T ∧ ∀ k, k < n → Ck kd lf rg T k
def Be (E T : Nat → Nat → Prop) (R : Nat → Nat) (pt : Nat → Option Nat) : Prop := (∀ v w, v < 12 → w < 12 → R v = R w → E v w) ∧ (∀ v t, v < 12 → pt (R v) = some t → T v t)
/-- the state is what the assignments ask, and no more -/
def Fnl (n : Nat) (kd lf rg : Nat → Nat) (R : Nat → Nat) (pt : Nat → Option Nat) : Prop :=
  (∀ v, v < 12 → R v < 12 ∧ R (R v) = R v) ∧ (∀ v t, v < 12 → pt v = some t → t < 12) ∧ (∀ E T, Clo n kd lf rg E T → Be E T R pt) ∧ Clo n kd lf rg (fun v w => R v = R w) (TB R R pt)
theorem TB_eq (R : Nat → Nat) (pt : Nat → Option Nat) : Eq12 (fun v w => R v = R w) (TB R R pt) := by
  refine ⟨fun _ => rfl, fun _ _ h => h.symm, fun _ _ _ h1 h2 => h1.trans h2, fun v v' w w' h1 h2 h3 => ?_, fun v w w' h1 h2 => ?_⟩
  · obtain ⟨t, a1, a2, a3⟩ := h3
    exact ⟨t, a1, by rw [← h1]; exact a2, a3.trans h2⟩
  · obtain ⟨t, a1, a2, a3⟩ := h1
    obtain ⟨s, b1, b2, b3⟩ := h2
    rw [a2] at b2
    cases b2
    exact a3.symm.trans b3
theorem Fnl.half {n : Nat} {kd lf rg R C : Nat → Nat} {pt tt : Nat → Option Nat} (h : Fnl n kd lf rg R pt) (g : Fnl n kd lf rg C tt) : (∀ v w, v < 12 → w < 12 → R v = R w → C v = C w) ∧ (∀ v w, v < 12 → w < 12 → TB R R pt v w → TB C C tt v w) := by
  obtain ⟨h1, h2, h3, h4⟩ := h
  obtain ⟨b1, b2⟩ := h3 _ _ g.2.2.2
  refine ⟨b1, fun v w hv hw h5 => ?_⟩
  obtain ⟨t, a1, a2, a3⟩ := h5
  obtain ⟨s, c1, c2, c3⟩ := b2 v t hv a2
  exact ⟨s, c1, c2, c3.trans (b1 t w a1 hw a3)⟩
theorem Fnl.same {n : Nat} {kd lf rg R C : Nat → Nat} {pt tt : Nat → Option Nat} (h : Fnl n kd lf rg R pt) (g : Fnl n kd lf rg C tt) {v w : Nat} (hv : v < 12) (hw : w < 12) : R v = R w ↔ C v = C w := ⟨(h.half g).1 v w hv hw, (g.half h).1 v w hv hw⟩
theorem Fnl.T {n : Nat} {kd lf rg R C : Nat → Nat} {pt tt : Nat → Option Nat} (h : Fnl n kd lf rg R pt) (g : Fnl n kd lf rg C tt) {v w : Nat} (hv : v < 12) (hw : w < 12) : TB R R pt v w ↔ TB C C tt v w := ⟨(h.half g).2 v w hv hw, (g.half h).2 v w hv hw⟩
theorem fnl_some {n : Nat} {kd lf rg R C : Nat → Nat} {pt tt : Nat → Option Nat} (h : Fnl n kd lf rg R pt) (g : Fnl n kd lf rg C tt) {v t : Nat} (hv : v < 12) (ht : pt (R v) = some t) : ∃ s, s < 12 ∧ t < 12 ∧ tt (C v) = some s ∧ C s = C t := by
  have h1 : t < 12 := h.2.1 (R v) t (h.1 v hv).1 ht
  obtain ⟨s, a1, a2, a3⟩ := (h.T g hv h1).mp ⟨t, h1, ht, rfl⟩
  exact ⟨s, a1, h1, a2, a3⟩
theorem fnl_none {n : Nat} {kd lf rg R C : Nat → Nat} {pt tt : Nat → Option Nat} (h : Fnl n kd lf rg R pt) (g : Fnl n kd lf rg C tt) {v : Nat} (hv : v < 12) : pt (R v) = none ↔ tt (C v) = none := by
  constructor
  · intro q
    cases e : tt (C v) with
    | none => rfl
    | some t =>
      obtain ⟨s, -, -, h1, -⟩ := fnl_some g h hv e
      rw [q] at h1
      cases h1
  · intro q
    cases e : pt (R v) with
    | none => rfl
    | some t =>
      obtain ⟨s, -, -, h1, -⟩ := fnl_some h g hv e
      rw [q] at h1
      cases h1
/-! the answers -/
def mk (f : Nat → Bool) : Nat → Int32
  | 0 => nI 0
  | k + 1 => if f k = true then mk f k ||| (nI 1 <<< (nI k &&& 31)) else mk f k
theorem mk_congr {f g : Nat → Bool} {n : Nat} (h : ∀ k, k < n → f k = g k) : mk f n = mk g n := by
  induction n with
  | zero => rfl
  | succ n ih =>
    simp only [mk]
    rw [ih (fun k hk => h k (by omega)), h n (by omega)]
def aSame (R : Nat → Nat) (a b : Nat) : Int32 := bI (decide (R a = R b))
def aMem (R : Nat → Nat) (a : Nat) : Int32 := mk (fun v => decide (R v = R a)) 12
def aTgt (R : Nat → Nat) (pt : Nat → Option Nat) (a : Nat) (r : Int32) : Prop := (pt (R a) = none ∧ r = -1) ∨ ∃ t v, pt (R a) = some t ∧ r = nI v ∧ v < 12 ∧ R v = R t ∧ ∀ u, u < v → R u ≠ R t
def aMeet (R : Nat → Nat) (pt : Nat → Option Nat) (a b : Nat) (r : Int32) : Prop := (r = bI true ∧ ∃ x y, pt (R a) = some x ∧ pt (R b) = some y ∧ R x = R y) ∨ (r = bI false ∧ ¬ ∃ x y, pt (R a) = some x ∧ pt (R b) = some y ∧ R x = R y)
def mn (R : Nat → Nat) (v : Nat) : Bool := decide (∀ u, u < v → R u ≠ R v)
def sf (R : Nat → Nat) (pt : Nat → Option Nat) : Nat → Nat → Nat
  | 0, _ => 0
  | k + 1, v => match pt (R v) with
    | none => 0
    | some t => sf R pt k t + 1
section Ans
variable {n : Nat} {kd lf rg R C : Nat → Nat} {pt tt : Nat → Option Nat}
theorem same_eq (h : Fnl n kd lf rg R pt) (g : Fnl n kd lf rg C tt) {a b : Nat} (ha : a < 12) (hb : b < 12) : aSame R a b = aSame C a b := by
  simp only [aSame, h.same g ha hb]
theorem mem_eq (h : Fnl n kd lf rg R pt) (g : Fnl n kd lf rg C tt) {a : Nat} (ha : a < 12) : aMem R a = aMem C a :=
  mk_congr (fun v hv => by simp only [h.same g hv ha])
theorem tgt_eq (h : Fnl n kd lf rg R pt) (g : Fnl n kd lf rg C tt) {a : Nat} (ha : a < 12) {r s : Int32} (hr : aTgt R pt a r) (hs : aTgt C tt a s) : r = s := by
  rcases hr with ⟨h1, h2⟩ | ⟨t, v, h1, h2, h3, h4, h5⟩
  · rcases hs with ⟨g1, g2⟩ | ⟨t', v', g1, -⟩
    · rw [h2, g2]
    · rw [(fnl_none h g ha).mp h1] at g1
      cases g1
  · obtain ⟨s0, b1, b2, b3, b4⟩ := fnl_some h g ha h1
    rcases hs with ⟨g1, g2⟩ | ⟨t', v', g1, g2, g3, g4, g5⟩
    · rw [g1] at b3
      cases b3
    · rw [g1] at b3
      have e : t' = s0 := Option.some.inj b3
      subst e
      have c1 : R v' = R t := (h.same g g3 b2).mpr (by rw [← b4]; exact g4)
      have c2 : C v = C t' := by rw [b4]; exact (h.same g h3 b2).mp h4
      have c3 : v = v' := by
        rcases Nat.lt_trichotomy v v' with q | q | q
        · exact absurd c2 (g5 v q)
        · exact q
        · exact absurd c1 (h5 v' q)
      rw [h2, g2, c3]
theorem meet_iff (h : Fnl n kd lf rg R pt) (g : Fnl n kd lf rg C tt) {a b : Nat} (ha : a < 12) (hb : b < 12) (q : ∃ x y, pt (R a) = some x ∧ pt (R b) = some y ∧ R x = R y) : ∃ x y, tt (C a) = some x ∧ tt (C b) = some y ∧ C x = C y := by
  obtain ⟨x, y, h1, h2, h3⟩ := q
  obtain ⟨x', a1, a2, a3, a4⟩ := fnl_some h g ha h1
  obtain ⟨y', b1, b2, b3, b4⟩ := fnl_some h g hb h2
  exact ⟨x', y', a3, b3, by rw [a4, b4]; exact (h.same g a2 b2).mp h3⟩
theorem meet_eq (h : Fnl n kd lf rg R pt) (g : Fnl n kd lf rg C tt) {a b : Nat} (ha : a < 12) (hb : b < 12) {r s : Int32} (hr : aMeet R pt a b r) (hs : aMeet C tt a b s) : r = s := by
  rcases hr with ⟨h1, h2⟩ | ⟨h1, h2⟩ <;> rcases hs with ⟨g1, g2⟩ | ⟨g1, g2⟩
  · rw [h1, g1]
  · exact absurd (meet_iff h g ha hb h2) g2
  · exact absurd (meet_iff g h ha hb g2) h2
  · rw [h1, g1]
theorem sf_eq (h : Fnl n kd lf rg R pt) (g : Fnl n kd lf rg C tt) : ∀ (k v w : Nat), v < 12 → w < 12 → C v = C w → sf R pt k v = sf C tt k w := by
  intro k
  induction k with
  | zero => intro v w _ _ _; rfl
  | succ k ih =>
    intro v w hv hw e
    simp only [sf]
    cases e1 : pt (R v) with
    | none =>
      have e2 := (fnl_none h g hv).mp e1
      rw [e] at e2
      rw [e2]
    | some t =>
      obtain ⟨s, b1, b2, b3, b4⟩ := fnl_some h g hv e1
      rw [e] at b3
      rw [b3]
      simp only
      rw [ih t s b2 b1 b4.symm]
/-- the least of each class, as many as there are roots -/
theorem mn_least (R : Nat → Nat) (v : Nat) : ∃ u, u ≤ v ∧ R u = R v ∧ mn R u = true := by
  obtain ⟨u, h1, h2⟩ := pk_least (fun u => R u = R v) ⟨v, rfl⟩
  refine ⟨u, ?_, h1, ?_⟩
  · rcases Nat.lt_or_ge v u with q | q
    · exact absurd rfl (h2 v q)
    · exact q
  · simp only [mn, decide_eq_true_eq]
    intro j hj
    rw [h1]
    exact h2 j hj
theorem cn_mn {R : Nat → Nat} (hR : ∀ v, v < 12 → R v < 12 ∧ R (R v) = R v) (P : Nat → Bool) : cn (fun v => decide (R v = v) && P v) 12 = cn (fun v => mn R v && P (R v)) 12 := by
  apply Nat.le_antisymm
  · have hc : ∀ v : Nat, ∃ u, u ≤ v ∧ R u = R v ∧ mn R u = true := mn_least R
    refine cn_inj (fun v => Classical.choose (hc v)) 12 (fun v => mn R v && P (R v)) (fun v hv hf => ?_) (fun u v hu hv hfu hfv e => ?_)
    · obtain ⟨a1, a2, a3⟩ := Classical.choose_spec (hc v)
      simp only [Bool.and_eq_true, decide_eq_true_eq] at hf
      refine ⟨by omega, ?_⟩
      simp only [Bool.and_eq_true]
      exact ⟨a3, by rw [a2, hf.1]; exact hf.2⟩
    · obtain ⟨a1, a2, a3⟩ := Classical.choose_spec (hc u)
      obtain ⟨b1, b2, b3⟩ := Classical.choose_spec (hc v)
      simp only [Bool.and_eq_true, decide_eq_true_eq] at hfu hfv
      have e' : Classical.choose (hc u) = Classical.choose (hc v) := e
      rw [← hfu.1, ← hfv.1, ← a2, ← b2, e']
  · refine cn_inj R 12 (fun v => decide (R v = v) && P v) (fun v hv hf => ?_) (fun u v hu hv hfu hfv e => ?_)
    · simp only [Bool.and_eq_true] at hf
      refine ⟨(hR v hv).1, ?_⟩
      simp only [Bool.and_eq_true, decide_eq_true_eq]
      exact ⟨(hR v hv).2, hf.2⟩
    · simp only [Bool.and_eq_true, mn, decide_eq_true_eq] at hfu hfv
      rcases Nat.lt_trichotomy u v with q | q | q
      · exact absurd e (hfv.1 u q)
      · exact q
      · exact absurd e.symm (hfu.1 v q)
theorem cls_eq (h : Fnl n kd lf rg R pt) (g : Fnl n kd lf rg C tt) : cls R = cn (mn C) 12 := by
  have h1 := cn_mn h.1 (fun _ => true)
  simp only [Bool.and_true] at h1
  have h2 : cls R = cn (fun v => mn R v) 12 := h1
  rw [h2]
  refine cn_congr (fun v hv => ?_)
  simp only [mn]
  congr 1
  refine propext ⟨fun a u hu e => a u hu ((h.same g (by omega) hv).mpr e), fun a u hu e => a u hu ((h.same g (by omega) hv).mp e)⟩
theorem pting_eq (h : Fnl n kd lf rg R pt) (g : Fnl n kd lf rg C tt) : cn (fun v => decide (R v = v) && (pt v).isSome) 12 = cn (fun v => mn C v && (tt (C v)).isSome) 12 := by
  rw [cn_mn h.1 (fun v => (pt v).isSome)]
  refine cn_congr (fun v hv => ?_)
  have e1 : mn R v = mn C v := by
    simp only [mn]
    congr 1
    exact propext ⟨fun a u hu e => a u hu ((h.same g (by omega) hv).mpr e), fun a u hu e => a u hu ((h.same g (by omega) hv).mp e)⟩
  have e2 : (pt (R v)).isSome = (tt (C v)).isSome := by
    cases e3 : pt (R v) with
    | none => rw [(fnl_none h g hv).mp e3]
    | some t =>
      obtain ⟨s, b1, b2, b3, b4⟩ := fnl_some h g hv e3
      rw [b3]
      rfl
  simp only [e1, e2]
end Ans
end
section
/-! PLAIN LAW of the class: what its working-out keeps -/
set_option maxRecDepth 100000
/-- the class of v points at something -/
def ps (R : Nat → Nat) (pt : Nat → Option Nat) (v : Nat) : Bool := (pt (R v)).isSome
/-- the roots, with the waiting pair joined -/
theorem mg_c {R : Nat → Nat} {x y v w : Nat} (e : R v = R w) : mg R x y v = mg R x y w := by
  unfold mg
  rw [e]
theorem mg_pq (R : Nat → Nat) (p q : Nat) : mg R (R p) (R q) p = mg R (R p) (R q) q := by
  simp [mg]
def Rb (R : Nat → Nat) (pr : Nat) (pa pb : Nat → Nat) : Nat → Nat := fun v => if pr = 0 then R v else mg R (R (pa 0)) (R (pb 0)) v
theorem Rb_0 (R pa pb : Nat → Nat) : Rb R 0 pa pb = R := by
  funext v
  simp [Rb]
def Qi (n rd : Nat) (qu : Nat → Nat) (qd : Nat → Bool) : Prop := rd = cn qd n ∧ (∀ i, i < rd → qu i < n ∧ qd (qu i) = true) ∧ (∀ i j, i < rd → j < rd → qu i = qu j → i = j)
theorem Qi.push {n rd k : Nat} {qu : Nat → Nat} {qd : Nat → Bool} (h : Qi n rd qu qd) (hk : k < n) (hq : qd k = false) : rd < n ∧ Qi n (rd + 1) (va_up qu rd k) (va_up qd k true) := by
  obtain ⟨h1, h2, h3⟩ := h
  refine ⟨by rw [h1]; exact cn_lt hk hq, by rw [cn_true hk hq, h1], fun i hi => ?_, fun i j hi hj e => ?_⟩
  · by_cases e : i = rd
    · subst e
      simp [va_up, hk]
    · obtain ⟨a1, a2⟩ := h2 i (by omega)
      simp only [va_up, if_neg e]
      refine ⟨a1, ?_⟩
      split
      · rfl
      · exact a2
  · by_cases ei : i = rd <;> by_cases ej : j = rd
    · omega
    · simp only [va_up, if_pos ei, if_neg ej] at e
      obtain ⟨a1, a2⟩ := h2 j (by omega)
      rw [← e, hq] at a2
      cases a2
    · simp only [va_up, if_neg ei, if_pos ej] at e
      obtain ⟨a1, a2⟩ := h2 i (by omega)
      rw [e, hq] at a2
      cases a2
    · simp only [va_up, if_neg ei, if_neg ej] at e
      exact h3 i j (by omega) (by omega) e
theorem Qi.pop {n rd : Nat} {qu : Nat → Nat} {qd : Nat → Bool} (h : Qi n (rd + 1) qu qd) : qu rd < n ∧ qd (qu rd) = true ∧ Qi n rd qu (va_up qd (qu rd) false) := by
  obtain ⟨h1, h2, h3⟩ := h
  obtain ⟨a1, a2⟩ := h2 rd (by omega)
  refine ⟨a1, a2, ?_, fun i hi => ?_, fun i j hi hj e => h3 i j (by omega) (by omega) e⟩
  · have := cn_false a1 a2
    omega
  · obtain ⟨b1, b2⟩ := h2 i (by omega)
    refine ⟨b1, ?_⟩
    have hne : qu i ≠ qu rd := fun q => by
      have := h3 i rd (by omega) (by omega) q
      omega
    simp [va_up, hne, b2]
theorem Qi.le {n rd : Nat} {qu : Nat → Nat} {qd : Nat → Bool} (h : Qi n rd qu qd) : rd ≤ n := by
  rw [h.1]
  exact cn_le qd n
/-- all that was joined or pointed at stays so -/
def Ex (R B : Nat → Nat) (pt : Nat → Option Nat) (R' B' : Nat → Nat) (pt' : Nat → Option Nat) : Prop :=
  (∀ v w, v < 12 → w < 12 → R v = R w → R' v = R' w) ∧ (∀ v w, v < 12 → w < 12 → B v = B w → B' v = B' w) ∧ (∀ v t, v < 12 → t < 12 → pt (R v) = some t → ∃ t', t' < 12 ∧ pt' (R' v) = some t' ∧ B' t' = B' t)
theorem Ex.refl (R B : Nat → Nat) (pt : Nat → Option Nat) : Ex R B pt R B pt := ⟨fun _ _ _ _ h => h, fun _ _ _ _ h => h, fun _ t _ ht h => ⟨t, ht, h, rfl⟩⟩
theorem Ex.trans {R B R1 B1 R2 B2 : Nat → Nat} {pt pt1 pt2 : Nat → Option Nat} (h : Ex R B pt R1 B1 pt1) (g : Ex R1 B1 pt1 R2 B2 pt2) : Ex R B pt R2 B2 pt2 := by
  refine ⟨fun v w hv hw e => g.1 v w hv hw (h.1 v w hv hw e), fun v w hv hw e => g.2.1 v w hv hw (h.2.1 v w hv hw e), fun v t hv ht e => ?_⟩
  obtain ⟨t1, a1, a2, a3⟩ := h.2.2 v t hv ht e
  obtain ⟨t2, b1, b2, b3⟩ := g.2.2 v t1 hv a1 a2
  exact ⟨t2, b1, b2, b3.trans (g.2.1 t1 t a1 ht a3)⟩
theorem Ex.tb {R B R1 B1 : Nat → Nat} {pt pt1 : Nat → Option Nat} (h : Ex R B pt R1 B1 pt1) {v w : Nat} (hv : v < 12) (hw : w < 12) (e : TB R B pt v w) : TB R1 B1 pt1 v w := by
  obtain ⟨t, a1, a2, a3⟩ := e
  obtain ⟨t1, b1, b2, b3⟩ := h.2.2 v t hv a1 a2
  exact ⟨t1, b1, b2, b3.trans (h.2.1 t w a1 hw a3)⟩
def Vd (pt : Nat → Option Nat) : Prop := ∀ v t, v < 12 → pt v = some t → t < 12
theorem ps_iff {R : Nat → Nat} {pt : Nat → Option Nat} {v : Nat} : ps R pt v = true ↔ ∃ t, pt (R v) = some t := by
  simp only [ps]
  cases e : pt (R v) <;> simp
theorem ps_no {R : Nat → Nat} {pt : Nat → Option Nat} {v : Nat} : ps R pt v = false ↔ pt (R v) = none := by
  simp only [ps]
  cases e : pt (R v) <;> simp
theorem Ex.pz {R B R1 B1 : Nat → Nat} {pt pt1 : Nat → Option Nat} (h : Ex R B pt R1 B1 pt1) (hV : Vd pt) {v : Nat} (hv : v < 12) (hR : R v < 12) (e : ps R pt v = true) : ps R1 pt1 v = true := by
  obtain ⟨t, e⟩ := ps_iff.mp e
  obtain ⟨t1, -, b2, -⟩ := h.2.2 v t hv (hV _ t hR e) e
  exact ps_iff.mpr ⟨t1, b2⟩
def W1 (wf : Nat → Option Nat) (qd : Nat → Bool) (wf' : Nat → Option Nat) (qd' : Nat → Bool) (R' : Nat → Nat) (pt' : Nat → Option Nat) (k : Nat) : Prop := (wf' k = wf k ∧ qd' k = qd k) ∨ ∃ v, v < 12 ∧ wf k = some v ∧ wf' k = none ∧ qd' k = true ∧ ps R' pt' v = true
def Wk (n : Nat) (wf : Nat → Option Nat) (qd : Nat → Bool) (wf' : Nat → Option Nat) (qd' : Nat → Bool) (R' : Nat → Nat) (pt' : Nat → Option Nat) : Prop := ∀ k, k < n → W1 wf qd wf' qd' R' pt' k
theorem W1.trans {wf wf1 wf2 : Nat → Option Nat} {qd qd1 qd2 : Nat → Bool} {R1 R2 : Nat → Nat} {pt1 pt2 : Nat → Option Nat} {k : Nat} (hm : ∀ v, v < 12 → ps R1 pt1 v = true → ps R2 pt2 v = true) (h : W1 wf qd wf1 qd1 R1 pt1 k) (g : W1 wf1 qd1 wf2 qd2 R2 pt2 k) : W1 wf qd wf2 qd2 R2 pt2 k := by
  rcases h with ⟨h1, h2⟩ | ⟨v, h0, h1, h2, h3, h4⟩
  · rcases g with ⟨g1, g2⟩ | ⟨v, g0, g1, g2, g3, g4⟩
    · exact Or.inl ⟨g1.trans h1, g2.trans h2⟩
    · exact Or.inr ⟨v, g0, h1 ▸ g1, g2, g3, g4⟩
  · rcases g with ⟨g1, g2⟩ | ⟨w, g0, g1, g2, g3, g4⟩
    · exact Or.inr ⟨v, h0, h1, g1.trans h2, g2.trans h3, hm v h0 h4⟩
    · rw [h2] at g1
      cases g1
def Sd (n : Nat) (kd lf rg R : Nat → Nat) (pt : Nat → Option Nat) (pr : Nat) (pa pb : Nat → Nat) : Prop := ∀ E T, Clo n kd lf rg E T → Be E T R pt ∧ (pr = 1 → E (pa 0) (pb 0))
def Wt (n : Nat) (R : Nat → Nat) (pt wf : Nat → Option Nat) (qd : Nat → Bool) : Prop := ∀ k v, k < n → wf k = some v → v < 12 ∧ ps R pt v = false ∧ qd k = false
/-- what holds between any two steps of the working-out -/
def Iw (n : Nat) (kd lf rg R : Nat → Nat) (rd pr : Nat) (up : Nat → Nat) (pt wf : Nat → Option Nat) (qu : Nat → Nat) (qd : Nat → Bool) (pa pb : Nat → Nat) : Prop :=
  Fo up R ∧ Vd pt ∧ pr ≤ 1 ∧ (pr = 1 → pa 0 < 12 ∧ pb 0 < 12) ∧ Wt n R pt wf qd ∧ Qi n rd qu qd ∧ Sd n kd lf rg R pt pr pa pb
/-- what wake(r) does -/
def WkR (n : Nat) (R : Nat → Nat) (r : Nat) (wf : Nat → Option Nat) (qd : Nat → Bool) (wf' : Nat → Option Nat) (qd' : Nat → Bool) : Prop := ∀ k, k < n → (∃ v, wf k = some v ∧ R v = r ∧ wf' k = none ∧ qd' k = true) ∨ ((∀ v, wf k = some v → R v ≠ r) ∧ wf' k = wf k ∧ qd' k = qd k)
section PX
variable {n : Nat} {kd lf rg R : Nat → Nat} {rd pr : Nat} {up : Nat → Nat} {pt wf : Nat → Option Nat} {qu : Nat → Nat} {qd : Nat → Bool} {pa pb : Nat → Nat}
theorem Iw.ofFo (h : Iw n kd lf rg R rd pr up pt wf qu qd pa pb) {up' : Nat → Nat} (hF : Fo up' R) : Iw n kd lf rg R rd pr up' pt wf qu qd pa pb := ⟨hF, h.2⟩
/-- a class begins to point -/
theorem p_new (h : Iw n kd lf rg R rd 0 up pt wf qu qd pa pb) {a b : Nat} (ha : a < 12) (hb : b < 12) (hn : pt (R a) = none) (hT : ∀ E T, Clo n kd lf rg E T → T a b) {up' : Nat → Nat} {rd' : Nat} {qu' : Nat → Nat} {wf' : Nat → Option Nat} {qd' : Nat → Bool} (hF : Fo up' R) (hQ : Qi n rd' qu' qd') (hW : WkR n R (R a) wf qd wf' qd') :
    Iw n kd lf rg R rd' 0 up' (va_up pt (R a) (some b)) wf' qu' qd' pa pb ∧ Ex R R pt R R (va_up pt (R a) (some b)) ∧ Wk n wf qd wf' qd' R (va_up pt (R a) (some b)) ∧ TB R R (va_up pt (R a) (some b)) a b := by
  obtain ⟨h1, h2, h3, h4, h5, h6, h7⟩ := h
  refine ⟨⟨hF, fun v t hv e => ?_, by omega, fun q => by omega, fun k v hk e => ?_, hQ, fun E T hC => ⟨⟨((h7 E T hC).1).1, fun v t hv e => ?_⟩, fun q => by omega⟩⟩, ⟨fun _ _ _ _ e => e, fun _ _ _ _ e => e, fun v t hv ht e => ⟨t, ht, ?_, rfl⟩⟩, fun k hk => ?_, ⟨b, hb, by simp [va_up], rfl⟩⟩
  · simp only [va_up] at e
    split at e
    · cases e; exact hb
    · exact h2 v t hv e
  · rcases hW k hk with ⟨v0, w1, w2, w3, w4⟩ | ⟨w1, w2, w3⟩
    · rw [w3] at e; cases e
    · rw [w2] at e
      obtain ⟨a1, a2, a3⟩ := h5 k v hk e
      refine ⟨a1, ?_, by rw [w3]; exact a3⟩
      rw [ps_no] at a2 ⊢
      simp only [va_up]
      rw [if_neg (w1 v e)]
      exact a2
  · simp only [va_up] at e
    split at e
    · next q =>
      cases e
      have e1 := (h7 E T hC).1.1 a v ha hv q.symm
      exact hC.1.2.2.2.1 a v b b e1 (hC.1.1 b) (hT E T hC)
    · exact (h7 E T hC).1.2 v t hv e
  · simp only [va_up]
    rw [if_neg]
    · exact e
    · intro q
      rw [q, hn] at e
      cases e
  · rcases hW k hk with ⟨v0, w1, w2, w3, w4⟩ | ⟨w1, w2, w3⟩
    · exact Or.inr ⟨v0, (h5 k v0 hk w1).1, w1, w3, w4, ps_iff.mpr ⟨b, by simp [va_up, w2]⟩⟩
    · exact Or.inl ⟨w2, w3⟩
/-- a pair more -/
theorem p_pair (h : Iw n kd lf rg R rd 0 up pt wf qu qd pa pb) {a b t0 : Nat} (ha : a < 12) (hb : b < 12) (hn : pt (R a) = some t0) (hT : ∀ E T, Clo n kd lf rg E T → T a b) :
    Iw n kd lf rg R rd 1 up pt wf qu qd (va_up pa 0 t0) (va_up pb 0 b) ∧ Ex R R pt R (Rb R 1 (va_up pa 0 t0) (va_up pb 0 b)) pt ∧ TB R (Rb R 1 (va_up pa 0 t0) (va_up pb 0 b)) pt a b := by
  obtain ⟨h1, h2, h3, h4, h5, h6, h7⟩ := h
  have ht0 : t0 < 12 := h2 _ t0 (h1.lt ha) hn
  have e1 : Rb R 1 (va_up pa 0 t0) (va_up pb 0 b) = mg R (R t0) (R b) := by
    funext v
    simp [Rb, va_up]
  rw [e1]
  refine ⟨⟨h1, h2, by omega, fun _ => by simp [va_up, ht0, hb], h5, h6, fun E T hC => ⟨(h7 E T hC).1, fun _ => ?_⟩⟩, ⟨fun _ _ _ _ e => e, fun v w _ _ e => mg_c e, fun v t hv ht e => ⟨t, ht, e, rfl⟩⟩, ⟨t0, ht0, hn, ?_⟩⟩
  · simp only [va_up, if_true]
    exact hC.1.2.2.2.2 a t0 b ((h7 E T hC).1.2 a t0 ha hn) (hT E T hC)
  · exact mg_pq R t0 b
theorem mg_E {E T : Nat → Nat → Prop} (hE : Eq12 E T) (hB : Be E T R pt) (hF : Fo up R) {x y : Nat} (hx : x < 12) (hy : y < 12) (rx : R x = x) (ry : R y = y) (he : E x y) {v : Nat} (hv : v < 12) : E v (mg R x y v) := by
  obtain ⟨e1, e2, e3, e4, e5⟩ := hE
  simp only [mg]
  split
  · next q => exact e3 v y x (hB.1 v y hv hy (by rw [q, ry])) (e2 x y he)
  · exact hB.1 v (R v) hv (hF.lt hv) (hF.root hv).2.symm
theorem mg_Be {E T : Nat → Nat → Prop} (hE : Eq12 E T) (hB : Be E T R pt) (hF : Fo up R) {x y : Nat} (hx : x < 12) (hy : y < 12) (rx : R x = x) (ry : R y = y) (he : E x y) {pt' : Nat → Option Nat} (hp : ∀ c t, c < 12 → R c = c → pt' c = some t → T c t) : Be E T (mg R x y) pt' := by
  refine ⟨fun v w hv hw e => ?_, fun v t hv e => ?_⟩
  · have h1 := mg_E hE hB hF hx hy rx ry he hv
    have h2 := mg_E hE hB hF hx hy rx ry he hw
    rw [e] at h1
    exact hE.2.2.1 v _ w h1 (hE.2.1 w _ h2)
  · have h1 := mg_E hE hB hF hx hy rx ry he hv
    have h2 : mg R x y v < 12 ∧ R (mg R x y v) = mg R x y v := by
      simp only [mg]
      split
      · exact ⟨hx, rx⟩
      · exact ⟨hF.lt hv, (hF.root hv).2⟩
    exact hE.2.2.2.1 _ v t t (hE.2.1 v _ h1) (hE.1 t) (hp _ t h2.1 h2.2 e)
/-- joinClasses, both point -/
theorem j_both (h : Iw n kd lf rg R rd 0 up pt wf qu qd pa pb) {x y p q : Nat} (hx : x < 12) (hy : y < 12) (rx : R x = x) (ry : R y = y) (hne : x ≠ y) (hE : ∀ E T, Clo n kd lf rg E T → E x y) (hp : pt x = some p) (hq : pt y = some q) :
    Iw n kd lf rg (mg R x y) rd 1 (va_up up y x) pt wf qu qd (va_up pa 0 p) (va_up pb 0 q) ∧ Ex R (mg R x y) pt (mg R x y) (Rb (mg R x y) 1 (va_up pa 0 p) (va_up pb 0 q)) pt := by
  obtain ⟨h1, h2, h3, h4, h5, h6, h7⟩ := h
  have e1 : Rb (mg R x y) 1 (va_up pa 0 p) (va_up pb 0 q) = mg (mg R x y) (mg R x y p) (mg R x y q) := by
    funext v
    simp [Rb, va_up]
  have hp12 := h2 x p hx hp
  have hq12 := h2 y q hy hq
  rw [e1]
  refine ⟨⟨h1.join hx hy rx ry hne, h2, by omega, fun _ => by simp [va_up, hp12, hq12], fun k v hk e => ?_, h6, fun E T hC => ⟨?_, fun _ => ?_⟩⟩, ⟨fun v w _ _ e => mg_c e, fun v w _ _ e => mg_c e, fun v t hv ht e => ?_⟩⟩
  · obtain ⟨a1, a2, a3⟩ := h5 k v hk e
    refine ⟨a1, ?_, a3⟩
    rw [ps_no] at a2 ⊢
    simp only [mg]
    split
    · next e2 => rw [e2, hq] at a2; cases a2
    · exact a2
  · exact mg_Be hC.1 (h7 E T hC).1 h1 hx hy rx ry (hE E T hC) (fun c t hc rc e => (h7 E T hC).1.2 c t hc (by rw [rc]; exact e))
  · simp only [va_up, if_true]
    have t1 := (h7 E T hC).1.2 x p hx (by rw [rx]; exact hp)
    have t2 := (h7 E T hC).1.2 y q hy (by rw [ry]; exact hq)
    have t3 := hC.1.2.2.2.1 y x q q (hC.1.2.1 _ _ (hE E T hC)) (hC.1.1 q) t2
    exact hC.1.2.2.2.2 x p q t1 t3
  · by_cases e2 : R v = y
    · rw [e2, hq] at e
      cases e
      refine ⟨p, hp12, by simp [mg, e2, hp], ?_⟩
      exact mg_pq (mg R x y) p _
    · exact ⟨t, ht, by simp only [mg, if_neg e2]; exact e, rfl⟩
/-- joinClasses, none points -/
theorem j_none (h : Iw n kd lf rg R rd 0 up pt wf qu qd pa pb) {x y : Nat} (hx : x < 12) (hy : y < 12) (rx : R x = x) (ry : R y = y) (hne : x ≠ y) (hE : ∀ E T, Clo n kd lf rg E T → E x y) (hp : pt x = none) (hq : pt y = none) :
    Iw n kd lf rg (mg R x y) rd 0 (va_up up y x) pt wf qu qd pa pb ∧ Ex R (mg R x y) pt (mg R x y) (mg R x y) pt := by
  obtain ⟨h1, h2, h3, h4, h5, h6, h7⟩ := h
  refine ⟨⟨h1.join hx hy rx ry hne, h2, by omega, fun q => by omega, fun k v hk e => ?_, h6, fun E T hC => ⟨?_, fun q => by omega⟩⟩, ⟨fun v w _ _ e => mg_c e, fun v w _ _ e => e, fun v t hv ht e => ?_⟩⟩
  · obtain ⟨a1, a2, a3⟩ := h5 k v hk e
    refine ⟨a1, ?_, a3⟩
    rw [ps_no] at a2 ⊢
    simp only [mg]
    split
    · exact hp
    · exact a2
  · exact mg_Be hC.1 (h7 E T hC).1 h1 hx hy rx ry (hE E T hC) (fun c t hc rc e => (h7 E T hC).1.2 c t hc (by rw [rc]; exact e))
  · by_cases e2 : R v = y
    · rw [e2, hq] at e
      cases e
    · exact ⟨t, ht, by simp only [mg, if_neg e2]; exact e, rfl⟩
/-- joinClasses, one points -/
theorem j_one (h : Iw n kd lf rg R rd 0 up pt wf qu qd pa pb) {x y z : Nat} (hx : x < 12) (hy : y < 12) (rx : R x = x) (ry : R y = y) (hne : x ≠ y) (hE : ∀ E T, Clo n kd lf rg E T → E x y) (hz : (pt x = some z ∧ pt y = none) ∨ (pt x = none ∧ pt y = some z)) {up' : Nat → Nat} {rd' : Nat} {qu' : Nat → Nat} {wf' : Nat → Option Nat} {qd' : Nat → Bool} (hF : Fo up' (mg R x y)) (hQ : Qi n rd' qu' qd') (hW : WkR n (mg R x y) x wf qd wf' qd') :
    Iw n kd lf rg (mg R x y) rd' 0 up' (va_up pt x (some z)) wf' qu' qd' pa pb ∧ Ex R (mg R x y) pt (mg R x y) (mg R x y) (va_up pt x (some z)) ∧ Wk n wf qd wf' qd' (mg R x y) (va_up pt x (some z)) := by
  obtain ⟨h1, h2, h3, h4, h5, h6, h7⟩ := h
  have hz12 : z < 12 := by
    rcases hz with ⟨a1, -⟩ | ⟨-, a1⟩
    · exact h2 x z hx a1
    · exact h2 y z hy a1
  have hmx : ∀ v, R v = x → mg R x y v = x := fun v e => by
    simp only [mg]
    split
    · rfl
    · exact e
  have hmo : ∀ v, mg R x y v ≠ x → mg R x y v = R v ∧ R v ≠ y := fun v e => by
    simp only [mg] at e ⊢
    split at e
    · exact absurd rfl e
    · next q => exact ⟨by rw [if_neg q], q⟩
  refine ⟨⟨hF, fun v t hv e => ?_, by omega, fun q => by omega, fun k v hk e => ?_, hQ, fun E T hC => ⟨?_, fun q => by omega⟩⟩, ⟨fun v w _ _ e => mg_c e, fun v w _ _ e => e, fun v t hv ht e => ?_⟩, fun k hk => ?_⟩
  · simp only [va_up] at e
    split at e
    · cases e; exact hz12
    · exact h2 v t hv e
  · rcases hW k hk with ⟨v0, w1, w2, w3, w4⟩ | ⟨w1, w2, w3⟩
    · rw [w3] at e; cases e
    · rw [w2] at e
      obtain ⟨a1, a2, a3⟩ := h5 k v hk e
      refine ⟨a1, ?_, by rw [w3]; exact a3⟩
      rw [ps_no] at a2 ⊢
      simp only [va_up]
      rw [if_neg (w1 v e), (hmo v (w1 v e)).1]
      exact a2
  · refine mg_Be hC.1 (h7 E T hC).1 h1 hx hy rx ry (hE E T hC) (fun c t hc rc e => ?_)
    simp only [va_up] at e
    split at e
    · next q =>
      cases e
      subst q
      rcases hz with ⟨a1, -⟩ | ⟨-, a1⟩
      · exact (h7 E T hC).1.2 c z hc (by rw [rc]; exact a1)
      · have t2 := (h7 E T hC).1.2 y z hy (by rw [ry]; exact a1)
        exact hC.1.2.2.2.1 y c z z (hC.1.2.1 _ _ (hE E T hC)) (hC.1.1 z) t2
    · exact (h7 E T hC).1.2 c t hc (by rw [rc]; exact e)
  · by_cases e2 : mg R x y v = x
    · have e3 : t = z := by
        by_cases e4 : R v = y
        · rw [e4] at e
          rcases hz with ⟨-, a1⟩ | ⟨-, a1⟩
          · rw [a1] at e; cases e
          · rw [a1] at e; exact (Option.some.inj e).symm
        · simp only [mg, if_neg e4] at e2
          rw [e2] at e
          rcases hz with ⟨a1, -⟩ | ⟨a1, -⟩
          · rw [a1] at e; exact (Option.some.inj e).symm
          · rw [a1] at e; cases e
      exact ⟨z, hz12, by simp [va_up, e2], by rw [e3]⟩
    · refine ⟨t, ht, ?_, rfl⟩
      simp only [va_up]
      rw [if_neg e2, (hmo v e2).1]
      exact e
  · rcases hW k hk with ⟨v0, w1, w2, w3, w4⟩ | ⟨w1, w2, w3⟩
    · exact Or.inr ⟨v0, (h5 k v0 hk w1).1, w1, w3, w4, ps_iff.mpr ⟨z, by simp [va_up, w2]⟩⟩
    · exact Or.inl ⟨w2, w3⟩
end PX
/-! the loop over the queue -/
def WS (kd lf rg R : Nat → Nat) (pt : Nat → Option Nat) (k v : Nat) : Prop := (kd k = 1 ∧ v = rg k) ∨ (kd k = 2 ∧ (v = rg k ∨ TB R R pt (rg k) v)) ∨ (kd k = 3 ∧ (v = lf k ∨ v = rg k))
def St (kd lf rg R B : Nat → Nat) (pt : Nat → Option Nat) (k : Nat) : Prop := (kd k = 0 ∧ TB R B pt (lf k) (rg k)) ∨ (kd k = 1 ∧ ∃ w, w < 12 ∧ TB R B pt (rg k) w ∧ TB R B pt (lf k) w) ∨ (kd k = 2 ∧ ∃ w z, w < 12 ∧ z < 12 ∧ TB R B pt (rg k) w ∧ TB R B pt w z ∧ TB R B pt (lf k) z) ∨ (kd k = 3 ∧ ∃ x y, x < 12 ∧ y < 12 ∧ TB R B pt (lf k) x ∧ TB R B pt (rg k) y ∧ TB R B pt x y)
def Ik (kd lf rg R : Nat → Nat) (pt wf : Nat → Option Nat) (qd : Nat → Bool) (k : Nat) : Prop := qd k = true ∨ (∃ v, wf k = some v ∧ WS kd lf rg R pt k v) ∨ (wf k = none ∧ St kd lf rg R R pt k)
def nb (b : Bool) : Nat := if b = true then 0 else 1
def rm1 (kd lf rg R : Nat → Nat) (pt : Nat → Option Nat) (k : Nat) : Nat :=
  if kd k = 1 then nb (ps R pt (rg k)) else if kd k = 2 then (match pt (R (rg k)) with | none => 2 | some t => nb (ps R pt t)) else if kd k = 3 then nb (ps R pt (lf k)) + nb (ps R pt (rg k)) else 0
def mu (n : Nat) (kd lf rg R : Nat → Nat) (pt : Nat → Option Nat) (qd : Nat → Bool) : Nat := sm (fun k => rm1 kd lf rg R pt k + (if qd k = true then 1 else 0)) n
def B12 (kd lf rg : Nat → Nat) : Prop := ∀ k, kd k ≤ 3 ∧ lf k < 12 ∧ rg k < 12
section PQ
variable {n : Nat} {kd lf rg R R' B B' : Nat → Nat} {pt pt' : Nat → Option Nat}
theorem WS.mono (h : Ex R R pt R' R' pt') (hB : B12 kd lf rg) {k v : Nat} (hv : v < 12) (g : WS kd lf rg R pt k v) : WS kd lf rg R' pt' k v := by
  rcases g with g | ⟨g1, g2 | g2⟩ | g
  · exact Or.inl g
  · exact Or.inr (Or.inl ⟨g1, Or.inl g2⟩)
  · exact Or.inr (Or.inl ⟨g1, Or.inr (h.tb (hB k).2.2 hv g2)⟩)
  · exact Or.inr (Or.inr g)
theorem St.mono (h : Ex R B pt R' B' pt') (hB : B12 kd lf rg) {k : Nat} (g : St kd lf rg R B pt k) : St kd lf rg R' B' pt' k := by
  have hl := (hB k).2.1
  have hr := (hB k).2.2
  rcases g with ⟨g1, g2⟩ | ⟨g1, w, hw, g2, g3⟩ | ⟨g1, w, z, hw, hz, g2, g3, g4⟩ | ⟨g1, x, y, hx, hy, g2, g3, g4⟩
  · exact Or.inl ⟨g1, h.tb hl hr g2⟩
  · exact Or.inr (Or.inl ⟨g1, w, hw, h.tb hr hw g2, h.tb hl hw g3⟩)
  · exact Or.inr (Or.inr (Or.inl ⟨g1, w, z, hw, hz, h.tb hr hw g2, h.tb hw hz g3, h.tb hl hz g4⟩))
  · exact Or.inr (Or.inr (Or.inr ⟨g1, x, y, hx, hy, h.tb hl hx g2, h.tb hr hy g3, h.tb hx hy g4⟩))
theorem nb_le {b c : Bool} (h : b = true → c = true) : nb c ≤ nb b := by
  cases b <;> cases c <;> simp_all [nb]
theorem rm1_mono (h : Ex R R pt R' R' pt') (hV : Vd pt) (hR : ∀ v, v < 12 → R v < 12) (hB : B12 kd lf rg) (k : Nat) : rm1 kd lf rg R' pt' k ≤ rm1 kd lf rg R pt k := by
  have hl := (hB k).2.1
  have hr := (hB k).2.2
  have key : ∀ v, v < 12 → nb (ps R' pt' v) ≤ nb (ps R pt v) := fun v hv => nb_le (h.pz hV hv (hR v hv))
  simp only [rm1]
  split
  · exact key _ hr
  · split
    · cases e : pt (R (rg k)) with
      | none =>
        simp only
        split
        · omega
        · simp only [nb]; split <;> omega
      | some t =>
        have ht := hV _ t (hR _ hr) e
        obtain ⟨t1, a1, a2, a3⟩ := h.2.2 _ t hr ht e
        rw [a2]
        simp only
        have e2 : ps R' pt' t1 = ps R' pt' t := by simp only [ps, a3]
        rw [e2]
        exact key t ht
    · split
      · have := key _ hl
        have := key _ hr
        omega
      · omega
theorem rm1_less (h : Ex R R pt R' R' pt') (hV : Vd pt) (hR : ∀ v, v < 12 → R v < 12) (hB : B12 kd lf rg) {k v : Nat} (hv : v < 12) (hw : WS kd lf rg R pt k v) (h0 : ps R pt v = false) (h1 : ps R' pt' v = true) : rm1 kd lf rg R' pt' k < rm1 kd lf rg R pt k := by
  have hl := (hB k).2.1
  have hr := (hB k).2.2
  have key : ∀ v, v < 12 → nb (ps R' pt' v) ≤ nb (ps R pt v) := fun v hv => nb_le (h.pz hV hv (hR v hv))
  rcases hw with ⟨g1, g2⟩ | ⟨g1, g2 | g2⟩ | ⟨g1, g2⟩
  · subst g2
    simp [rm1, g1, nb, h0, h1]
  · subst g2
    rw [ps_no] at h0
    obtain ⟨t, ht⟩ := ps_iff.mp h1
    have e1 : rm1 kd lf rg R' pt' k = nb (ps R' pt' t) := by simp [rm1, g1, ht]
    have e2 : rm1 kd lf rg R pt k = 2 := by simp [rm1, g1, h0]
    have e3 : nb (ps R' pt' t) ≤ 1 := by cases ps R' pt' t <;> simp [nb]
    omega
  · obtain ⟨t, a1, a2, a3⟩ := g2
    obtain ⟨t1, b1, b2, b3⟩ := h.2.2 _ t hr a1 a2
    have c1 : R' t = R' v := h.1 t v a1 hv a3
    have c2 : ps R' pt' t1 = true := by simp only [ps, b3, c1]; exact h1
    have c3 : ps R pt t = false := by simp only [ps, a3]; exact h0
    simp [rm1, g1, a2, b2, nb, c2, c3]
  · have k1 := key _ hl
    have k2 := key _ hr
    simp only [rm1, g1]
    have s1 : nb (ps R' pt' v) < nb (ps R pt v) := by simp [nb, h0, h1]
    rcases g2 with g2 | g2
    · subst g2
      simp
      omega
    · subst g2
      simp
      omega
theorem rm1_le (k : Nat) : rm1 kd lf rg R pt k ≤ 2 := by
  have hn : ∀ b, nb b ≤ 1 := fun b => by cases b <;> simp [nb]
  simp only [rm1]
  split
  · have := hn (ps R pt (rg k)); omega
  · split
    · split
      · omega
      · next t _ => have := hn (ps R pt t); omega
    · split
      · have := hn (ps R pt (lf k)); have := hn (ps R pt (rg k)); omega
      · omega
/-- one turn of the loop: k has been taken out, carried out, and the pairs joined -/
theorem w_step {wf wf1 wf2 : Nat → Option Nat} {qd qd1 qd2 : Nat → Bool} {R2 B1 : Nat → Nat} {pt1 pt2 : Nat → Option Nat} {k : Nat} (hB : B12 kd lf rg) (hk : k < n) (hV : Vd pt) (hR : ∀ v, v < 12 → R v < 12) (hV1 : Vd pt1)
    (hq : qd k = true) (hW : ∀ j v, j < n → wf j = some v → v < 12 ∧ ps R pt v = false) (hI : ∀ j, j < n → Ik kd lf rg R pt wf qd j)
    (h1 : Ex R R pt R B1 pt1) (h2 : ∀ j, j < n → j ≠ k → W1 wf qd wf1 qd1 R pt1 j) (h3 : qd1 k = false) (h4 : (wf1 k = none ∧ St kd lf rg R B1 pt1 k) ∨ ∃ v, wf1 k = some v ∧ WS kd lf rg R pt k v ∧ v < 12 ∧ ps R pt v = false)
    (g1 : Ex R B1 pt1 R2 R2 pt2) (g2 : Wk n wf1 qd1 wf2 qd2 R2 pt2) : (∀ j, j < n → Ik kd lf rg R2 pt2 wf2 qd2 j) ∧ mu n kd lf rg R2 pt2 qd2 < mu n kd lf rg R pt qd := by
  have hx : Ex R R pt R2 R2 pt2 := h1.trans g1
  have hm : ∀ v, v < 12 → ps R pt1 v = true → ps R2 pt2 v = true := fun v hv => g1.pz hV1 hv (hR v hv)
  have hj : ∀ j, j < n → j ≠ k → W1 wf qd wf2 qd2 R2 pt2 j := fun j a b => W1.trans hm (h2 j a b) (g2 j a)
  constructor
  · intro j hjn
    by_cases e : j = k
    · subst e
      rcases g2 j hjn with ⟨a1, a2⟩ | ⟨v, a0, a1, a2, a3, a4⟩
      · rcases h4 with ⟨b1, b2⟩ | ⟨v, b1, b2, b3, b4⟩
        · exact Or.inr (Or.inr ⟨a1.trans b1, b2.mono g1 hB⟩)
        · exact Or.inr (Or.inl ⟨v, a1.trans b1, b2.mono hx hB b3⟩)
      · exact Or.inl a3
    · rcases hj j hjn e with ⟨a1, a2⟩ | ⟨v, a0, a1, a2, a3, a4⟩
      · rcases hI j hjn with b | ⟨v, b1, b2⟩ | ⟨b1, b2⟩
        · exact Or.inl (a2.trans b)
        · exact Or.inr (Or.inl ⟨v, a1.trans b1, b2.mono hx hB (hW j v hjn b1).1⟩)
        · exact Or.inr (Or.inr ⟨a1.trans b1, b2.mono hx hB⟩)
      · exact Or.inl a3
  · refine sm_lt (j := k) (fun j hjn => ?_) hk ?_
    · have m1 := rm1_mono hx hV hR hB j
      by_cases e : j = k
      · subst e
        rw [if_pos hq]
        split <;> omega
      · rcases hj j hjn e with ⟨a1, a2⟩ | ⟨v, a0, a1, a2, a3, a4⟩
        · rw [a2]; omega
        · rcases hI j hjn with b | ⟨w, b1, b2⟩ | ⟨b1, b2⟩
          · rw [if_pos b]; split <;> omega
          · rw [a1] at b1
            cases b1
            have m2 := rm1_less hx hV hR hB a0 b2 (hW j v hjn a1).2 a4
            split <;> split <;> omega
          · rw [a1] at b1; cases b1
    · have m1 := rm1_mono hx hV hR hB k
      rw [if_pos hq]
      rcases g2 k hk with ⟨a1, a2⟩ | ⟨v, a0, a1, a2, a3, a4⟩
      · rw [a2, h3]
        simp
        omega
      · rcases h4 with ⟨b1, b2⟩ | ⟨w, b1, b2, b3, b4⟩
        · rw [a1] at b1; cases b1
        · rw [a1] at b1
          cases b1
          have m2 := rm1_less hx hV hR hB a0 b2 b4 a4
          split <;> omega
end PQ
/-- at the end nothing is left to do -/
theorem w_end {n : Nat} {kd lf rg R : Nat → Nat} {up : Nat → Nat} {pt wf : Nat → Option Nat} {qu : Nat → Nat} {qd : Nat → Bool} {pa pb : Nat → Nat} (hB : B12 kd lf rg) (h : Iw n kd lf rg R 0 0 up pt wf qu qd pa pb) (hI : ∀ j, j < n → Ik kd lf rg R pt wf qd j) : Fnl n kd lf rg R pt := by
  obtain ⟨h1, h2, h3, h4, h5, h6, h7⟩ := h
  have hq := cn_zero h6.1.symm
  refine ⟨fun v hv => ⟨h1.lt hv, (h1.root hv).2⟩, h2, fun E T hC => (h7 E T hC).1, TB_eq R pt, fun k hk => ?_⟩
  have hf : ∀ v w w', TB R R pt v w → TB R R pt v w' → R w = R w' := (TB_eq R pt).2.2.2.2
  have hc : ∀ v v' w w', R v = R v' → R w = R w' → TB R R pt v w → TB R R pt v' w' := (TB_eq R pt).2.2.2.1
  have hp : ∀ v w, TB R R pt v w → ps R pt v = true := fun v w e => by
    obtain ⟨t, a1, a2, a3⟩ := e
    exact ps_iff.mpr ⟨t, a2⟩
  rcases hI k hk with b | ⟨v, b1, b2⟩ | ⟨b1, b2⟩
  · rw [hq k hk] at b; cases b
  · obtain ⟨c1, c2, c3⟩ := h5 k v hk b1
    refine ⟨fun e => ?_, fun e w hw => ?_, fun e w z hw hz => ?_, fun e x y hx hy => ?_⟩
    · rcases b2 with ⟨d1, -⟩ | ⟨d1, -⟩ | ⟨d1, -⟩ <;> omega
    · rcases b2 with ⟨d1, d2⟩ | ⟨d1, -⟩ | ⟨d1, -⟩
      · subst d2
        rw [hp _ _ hw] at c2
        cases c2
      · omega
      · omega
    · rcases b2 with ⟨d1, -⟩ | ⟨d1, d2 | d2⟩ | ⟨d1, -⟩
      · omega
      · subst d2
        rw [hp _ _ hw] at c2
        cases c2
      · have e1 := hf _ _ _ hw d2
        have e2 := hc w v z z e1 rfl hz
        rw [hp _ _ e2] at c2
        cases c2
      · omega
    · rcases b2 with ⟨d1, -⟩ | ⟨d1, -⟩ | ⟨d1, d2 | d2⟩
      · omega
      · omega
      · subst d2
        rw [hp _ _ hx] at c2
        cases c2
      · subst d2
        rw [hp _ _ hy] at c2
        cases c2
  · rcases b2 with ⟨d1, d2⟩ | ⟨d1, w0, -, d2, d3⟩ | ⟨d1, w0, z0, -, -, d2, d3, d4⟩ | ⟨d1, x0, y0, -, -, d2, d3, d4⟩
    · exact ⟨fun _ => d2, fun e => by omega, fun e => by omega, fun e => by omega⟩
    · exact ⟨fun e => by omega, fun _ w hw => hc _ _ w0 w rfl (hf _ _ _ d2 hw) d3, fun e => by omega, fun e => by omega⟩
    · refine ⟨fun e => by omega, fun e => by omega, fun _ w z hw hz => ?_, fun e => by omega⟩
      have e1 := hf _ _ _ d2 hw
      have e2 := hc w0 w z0 z0 e1 rfl d3
      exact hc _ _ z0 z rfl (hf _ _ _ e2 hz) d4
    · refine ⟨fun e => by omega, fun e => by omega, fun e => by omega, fun _ x y hx hy => ?_⟩
      exact hc x0 x y0 y (hf _ _ _ d2 hx) (hf _ _ _ d3 hy) d4
/-- at the start all is to be done -/
theorem w_start {n : Nat} {kd lf rg up : Nat → Nat} {pt wf : Nat → Option Nat} {qu : Nat → Nat} {qd : Nat → Bool} (pa pb : Nat → Nat) (hu : ∀ v, v < 12 → up v = v) (hp : ∀ v, v < 12 → pt v = none) (hw : ∀ k, k < n → wf k = none) (hq : ∀ k, k < n → qd k = true) (hqu : ∀ i, i < n → qu i + i + 1 = n) :
    Iw n kd lf rg (fun v => v) n 0 up pt wf qu qd pa pb ∧ (∀ j, j < n → Ik kd lf rg (fun v => v) pt wf qd j) ∧ mu n kd lf rg (fun v => v) pt qd ≤ 3 * n := by
  refine ⟨⟨⟨fun _ => 0, fun v hv => ?_⟩, fun v t hv e => (by rw [hp v hv] at e; cases e), by omega, fun q => by omega, fun k v hk e => (by rw [hw k hk] at e; cases e), ⟨?_, fun i hi => ?_, fun i j hi hj e => ?_⟩, fun E T hC => ⟨⟨fun v w hv hw e => ?_, fun v t hv e => by rw [hp v hv] at e; cases e⟩, fun q => by omega⟩⟩, fun j hj => Or.inl (hq j hj), sm_bd (fun k hk => ?_)⟩
  · have := cls_le (fun v => v)
    rw [hu v hv]
    exact ⟨hv, hv, rfl, (by show 0 + _ ≤ 12; omega), fun _ => ⟨rfl, rfl⟩, fun q => absurd rfl q⟩
  · have : cn qd n = cn (fun _ => true) n := cn_congr (fun k hk => hq k hk)
    rw [this]
    clear this hqu hq hw
    induction n with
    | zero => rfl
    | succ n ih => simp only [cn, if_true]; omega
  · have := hqu i hi
    exact ⟨by omega, hq _ (by omega)⟩
  · have := hqu i hi
    have := hqu j hj
    omega
  · have e : v = w := e
    subst e
    exact hC.1.1 v
  · have := rm1_le (kd := kd) (lf := lf) (rg := rg) (R := fun v => v) (pt := pt) k
    split <;> omega
end
section
/-! PLAIN LAW of the reference -/
set_option maxRecDepth 100000
def Im (C : Nat → Nat) (tt : Nat → Option Nat) : Prop := (∀ v, v < 12 → C v < 12 ∧ C (C v) = C v) ∧ (∀ c t, c < 12 → tt c = some t → t < 12 ∧ C t = t ∧ C c = c)
def npt (C : Nat → Nat) (tt : Nat → Option Nat) : Nat := cn (fun v => decide (C v = v) && (tt v).isNone) 12
def ms (C : Nat → Nat) (tt : Nat → Option Nat) : Nat := cls C + npt C tt
def Sm (n : Nat) (kd lf rg C : Nat → Nat) (tt : Nat → Option Nat) : Prop := ∀ E T, Clo n kd lf rg E T → Be E T C tt
def rn (p q c : Nat) : Nat := if c = q then p else c
def rno (p q : Nat) (o : Option Nat) : Option Nat := if o = some q then some p else o
theorem rno_some {p q : Nat} {o : Option Nat} {t : Nat} (h : rno p q o = some t) : ∃ t0, o = some t0 ∧ t = rn p q t0 := by
  simp only [rno] at h
  split at h
  · next e => exact ⟨q, e, by simp [rn, Option.some.inj h]⟩
  · next e =>
    refine ⟨t, h, ?_⟩
    simp only [rn]
    rw [if_neg (fun q2 => e (by rw [h, q2]))]
theorem rno_none {p q : Nat} {o : Option Nat} : rno p q o = none ↔ o = none := by
  simp only [rno]
  split
  · next e => rw [e]; simp
  · rfl
section PM
variable {n : Nat} {kd lf rg C : Nat → Nat} {tt : Nat → Option Nat}
theorem rn_E {E T : Nat → Nat → Prop} (hE : Eq12 E T) {p q : Nat} (h : E p q) (t : Nat) : E t (rn p q t) := by
  simp only [rn]
  split
  · next e => rw [e]; exact hE.2.1 _ _ h
  · exact hE.1 t
/-- one turn of join -/
theorem mj_step {C' : Nat → Nat} {t1 : Nat → Option Nat} {p q : Nat} (hI : Im C tt) (hp : p < 12) (hq : q < 12) (rp : C p = p) (rq : C q = q) (hne : p ≠ q) (hC : ∀ j, j < 12 → C' j = rn p q (C j)) (ht : ∀ j, j < 12 → t1 j = rno p q (tt j)) (x y z : Option Nat) (hx : x = rno p q (tt p)) (hy : y = rno p q (tt q)) (hz : z = if x = none then y else x) :
    Im C' (va_up (va_up t1 p z) q none) ∧ cls C' + 1 = cls C ∧ ms C' (va_up (va_up t1 p z) q none) < ms C tt ∧ (∀ x0, x = some x0 → x0 < 12 ∧ C' x0 = x0) ∧ (∀ y0, y = some y0 → y0 < 12 ∧ C' y0 = y0) ∧
    (∀ E T, Clo n kd lf rg E T → Be E T C tt → E p q → Be E T C' (va_up (va_up t1 p z) q none) ∧ ∀ x0 y0, x = some x0 → y = some y0 → E x0 y0) := by
  obtain ⟨i1, i2⟩ := hI
  have fix : ∀ c, c < 12 → C c = c → c ≠ q → C' c = c := fun c hc e e2 => by
    rw [hC c hc, e, rn, if_neg e2]
  have cp : C' p = p := fix p hp rp hne
  have rnr : ∀ t0, t0 < 12 → C t0 = t0 → rn p q t0 < 12 ∧ C' (rn p q t0) = rn p q t0 := fun t0 h1 h2 => by
    by_cases e : t0 = q
    · rw [rn, if_pos e]; exact ⟨hp, cp⟩
    · rw [rn, if_neg e]; exact ⟨h1, fix t0 h1 h2 e⟩
  have gx : ∀ x0, x = some x0 → x0 < 12 ∧ C' x0 = x0 := fun x0 e => by
    rw [hx] at e
    obtain ⟨t0, e1, e2⟩ := rno_some e
    rw [e2]
    exact rnr t0 (i2 p t0 hp e1).1 (i2 p t0 hp e1).2.1
  have gy : ∀ y0, y = some y0 → y0 < 12 ∧ C' y0 = y0 := fun y0 e => by
    rw [hy] at e
    obtain ⟨t0, e1, e2⟩ := rno_some e
    rw [e2]
    exact rnr t0 (i2 q t0 hq e1).1 (i2 q t0 hq e1).2.1
  have gz : ∀ z0, z = some z0 → x = some z0 ∨ y = some z0 := fun z0 e => by
    rw [hz] at e
    split at e
    · exact Or.inr e
    · exact Or.inl e
  have hcl : cls C' + 1 = cls C := by
    have e : cls C' = cls (mg C p q) := cn_congr (fun v hv => by
      have : C' v = mg C p q v := by rw [hC v hv]; rfl
      simp only [this])
    rw [e]
    exact cls_mg hq rp rq hne
  have lt' : ∀ v, v < 12 → C' v < 12 ∧ C' (C' v) = C' v := fun v hv => by
    rw [hC v hv]
    exact rnr (C v) (i1 v hv).1 (i1 v hv).2
  refine ⟨⟨lt', fun c t hc e => ?_⟩, hcl, ?_, gx, gy, fun E T hcl2 hB hE => ⟨⟨fun v w hv hw e => ?_, fun v t hv e => ?_⟩, fun x0 y0 ex ey => ?_⟩⟩
  · by_cases e1 : c = q
    · simp [va_up, e1] at e
    · by_cases e2 : c = p
      · have e3 : z = some t := by simpa [va_up, e1, e2, hne] using e
        rw [e2]
        rcases gz t e3 with g | g
        · exact ⟨(gx t g).1, (gx t g).2, cp⟩
        · exact ⟨(gy t g).1, (gy t g).2, cp⟩
      · have e3 : t1 c = some t := by simpa [va_up, e1, e2] using e
        rw [ht c hc] at e3
        obtain ⟨t0, a1, a2⟩ := rno_some e3
        obtain ⟨b1, b2, b3⟩ := i2 c t0 hc a1
        rw [a2]
        exact ⟨(rnr t0 b1 b2).1, (rnr t0 b1 b2).2, fix c hc b3 e1⟩
  · have h1 : npt C' (va_up (va_up t1 p z) q none) ≤ npt C tt := by
      refine cn_mono (fun v hv e => ?_)
      simp only [Bool.and_eq_true, decide_eq_true_eq, Option.isNone_iff_eq_none] at e ⊢
      obtain ⟨e1, e2⟩ := e
      by_cases a1 : v = q
      · rw [a1, hC q hq, rq, rn, if_pos rfl] at e1
        exact absurd e1 hne
      · by_cases a2 : v = p
        · subst a2
          have e3 : z = none := by simpa [va_up, a1] using e2
          refine ⟨rp, ?_⟩
          rw [hz] at e3
          split at e3
          · next e4 => rw [hx] at e4; exact rno_none.mp e4
          · next e4 => exact absurd e3 e4
        · have e3 : t1 v = none := by simpa [va_up, a1, a2] using e2
          rw [ht v hv] at e3
          refine ⟨?_, rno_none.mp e3⟩
          rw [hC v hv] at e1
          simp only [rn] at e1
          split at e1
          · exact absurd e1.symm a2
          · exact e1
    simp only [ms]
    omega
  · have key : ∀ v, v < 12 → E v (C' v) := fun v hv => by
      rw [hC v hv]
      exact hcl2.1.2.2.1 v (C v) _ (hB.1 v (C v) hv (i1 v hv).1 (i1 v hv).2.symm) (rn_E hcl2.1 hE (C v))
    have k1 := key v hv
    have k2 := key w hw
    rw [e] at k1
    exact hcl2.1.2.2.1 v _ w k1 (hcl2.1.2.1 w _ k2)
  · have key : ∀ v, v < 12 → E v (C' v) := fun v hv => by
      rw [hC v hv]
      exact hcl2.1.2.2.1 v (C v) _ (hB.1 v (C v) hv (i1 v hv).1 (i1 v hv).2.symm) (rn_E hcl2.1 hE (C v))
    have k1 := key v hv
    have tr : ∀ c t0, c < 12 → C c = c → tt c = some t0 → T c (rn p q t0) := fun c t0 hc rc e0 =>
      hcl2.1.2.2.2.1 c c t0 _ (hcl2.1.1 c) (rn_E hcl2.1 hE t0) (hB.2 c t0 hc (by rw [rc]; exact e0))
    have fin : T (C' v) t := by
      obtain ⟨l1, l2⟩ := lt' v hv
      generalize C' v = c at *
      by_cases e1 : c = q
      · simp [va_up, e1] at e
      · by_cases e2 : c = p
        · have e3 : z = some t := by simpa [va_up, e1, e2, hne] using e
          rw [e2]
          rcases gz t e3 with g | g
          · rw [hx] at g
            obtain ⟨t0, a1, a2⟩ := rno_some g
            rw [a2]
            exact tr p t0 hp rp a1
          · rw [hy] at g
            obtain ⟨t0, a1, a2⟩ := rno_some g
            rw [a2]
            exact hcl2.1.2.2.2.1 q p _ _ (hcl2.1.2.1 _ _ hE) (hcl2.1.1 _) (tr q t0 hq rq a1)
        · have e3 : t1 c = some t := by simpa [va_up, e1, e2] using e
          rw [ht c l1] at e3
          obtain ⟨t0, a1, a2⟩ := rno_some e3
          rw [a2]
          exact tr c t0 l1 (i2 c t0 l1 a1).2.2 a1
    exact hcl2.1.2.2.2.1 (C' v) v t t (hcl2.1.2.1 _ _ k1) (hcl2.1.1 t) fin
  · rw [hx] at ex
    rw [hy] at ey
    obtain ⟨a0, a1, a2⟩ := rno_some ex
    obtain ⟨b0, b1, b2⟩ := rno_some ey
    have s1 : T p a0 := hB.2 p a0 hp (by rw [rp]; exact a1)
    have s2 : T q b0 := hB.2 q b0 hq (by rw [rq]; exact b1)
    have s3 : T p b0 := hcl2.1.2.2.2.1 q p b0 b0 (hcl2.1.2.1 _ _ hE) (hcl2.1.1 _) s2
    have s4 : E a0 b0 := hcl2.1.2.2.2.2 p a0 b0 s1 s3
    have u1 := rn_E hcl2.1 hE a0
    have u2 := rn_E hcl2.1 hE b0
    rw [a2, b2]
    exact hcl2.1.2.2.1 _ a0 _ (hcl2.1.2.1 _ _ u1) (hcl2.1.2.2.1 a0 b0 _ s4 u2)
/-- a class begins to point -/
theorem mp_new {p q : Nat} (hI : Im C tt) (hS : Sm n kd lf rg C tt) (hp : p < 12) (hq : q < 12) (rp : C p = p) (rq : C q = q) (h0 : tt p = none) (hT : ∀ E T, Clo n kd lf rg E T → T p q) : Im C (va_up tt p (some q)) ∧ Sm n kd lf rg C (va_up tt p (some q)) ∧ ms C (va_up tt p (some q)) < ms C tt := by
  obtain ⟨i1, i2⟩ := hI
  refine ⟨⟨i1, fun c t hc e => ?_⟩, fun E T hC => ⟨(hS E T hC).1, fun v t hv e => ?_⟩, ?_⟩
  · simp only [va_up] at e
    split at e
    · next e1 => cases e; rw [e1]; exact ⟨hq, rq, rp⟩
    · exact i2 c t hc e
  · simp only [va_up] at e
    split at e
    · next e1 =>
      cases e
      have e2 := (hS E T hC).1 p v hp hv (by rw [rp]; exact e1.symm)
      exact hC.1.2.2.2.1 p v q q e2 (hC.1.1 q) (hT E T hC)
    · exact (hS E T hC).2 v t hv e
  · have h1 := cn_false (f := fun v => decide (C v = v) && (tt v).isNone) hp (by simp [rp, h0])
    have e : npt C (va_up tt p (some q)) = cn (va_up (fun v => decide (C v = v) && (tt v).isNone) p false) 12 := cn_congr (fun v hv => by
      by_cases e1 : v = p <;> simp [va_up, e1])
    simp only [ms]
    have h2 : npt C tt = cn (fun v => decide (C v = v) && (tt v).isNone) 12 := rfl
    omega
/-- the classes of both sides of an assignment -/
theorem m_T {E T : Nat → Nat → Prop} (hI : Im C tt) (hC : Clo n kd lf rg E T) (hS : Sm n kd lf rg C tt) {v w : Nat} (hv : v < 12) (hw : w < 12) (h : T v w) : T (C v) (C w) :=
  hC.1.2.2.2.1 v (C v) w (C w) ((hS E T hC).1 v (C v) hv (hI.1 v hv).1 (hI.1 v hv).2.symm) ((hS E T hC).1 w (C w) hw (hI.1 w hw).1 (hI.1 w hw).2.symm) h
theorem mc_0 (hI : Im C tt) {k : Nat} (hl : lf k < 12) (hr : rg k < 12) (hk : kd k = 0) (h : tt (C (lf k)) = some (C (rg k))) : Ck kd lf rg (TB C C tt) k :=
  ⟨fun _ => ⟨C (rg k), (hI.1 _ hr).1, h, (hI.1 _ hr).2⟩, fun e => by omega, fun e => by omega, fun e => by omega⟩
theorem mc_1n {k : Nat} (hk : kd k = 1) (h : tt (C (rg k)) = none) : Ck kd lf rg (TB C C tt) k := by
  refine ⟨fun e => by omega, fun _ w hw => ?_, fun e => by omega, fun e => by omega⟩
  obtain ⟨t, -, a, -⟩ := hw
  rw [h] at a
  cases a
theorem mc_1 {k t : Nat} (hk : kd k = 1) (h : tt (C (rg k)) = some t) (h2 : tt (C (lf k)) = some t) : Ck kd lf rg (TB C C tt) k := by
  refine ⟨fun e => by omega, fun _ w hw => ?_, fun e => by omega, fun e => by omega⟩
  obtain ⟨s, a1, a2, a3⟩ := hw
  rw [h] at a2
  cases a2
  exact ⟨t, a1, h2, a3⟩
theorem mc_2n {k : Nat} (hk : kd k = 2) (h : tt (C (rg k)) = none) : Ck kd lf rg (TB C C tt) k := by
  refine ⟨fun e => by omega, fun e => by omega, fun _ w z hw hz => ?_, fun e => by omega⟩
  obtain ⟨t, -, a, -⟩ := hw
  rw [h] at a
  cases a
theorem mc_2m (hI : Im C tt) {k t : Nat} (hr : rg k < 12) (hk : kd k = 2) (h : tt (C (rg k)) = some t) (h2 : tt t = none) : Ck kd lf rg (TB C C tt) k := by
  refine ⟨fun e => by omega, fun e => by omega, fun _ w z hw hz => ?_, fun e => by omega⟩
  obtain ⟨s, a1, a2, a3⟩ := hw
  rw [h] at a2
  cases a2
  obtain ⟨r, b1, b2, b3⟩ := hz
  rw [← a3, (hI.2 _ t (hI.1 _ hr).1 h).2.1, h2] at b2
  cases b2
theorem mc_2 (hI : Im C tt) {k t z : Nat} (hr : rg k < 12) (hk : kd k = 2) (h : tt (C (rg k)) = some t) (h2 : tt t = some z) (h3 : tt (C (lf k)) = some z) : Ck kd lf rg (TB C C tt) k := by
  refine ⟨fun e => by omega, fun e => by omega, fun _ w z' hw hz => ?_, fun e => by omega⟩
  obtain ⟨s, a1, a2, a3⟩ := hw
  rw [h] at a2
  cases a2
  obtain ⟨r, b1, b2, b3⟩ := hz
  rw [← a3, (hI.2 _ t (hI.1 _ hr).1 h).2.1, h2] at b2
  cases b2
  exact ⟨z, b1, h3, b3⟩
theorem mc_3n {k : Nat} (hk : kd k = 3) (h : tt (C (lf k)) = none ∨ tt (C (rg k)) = none) : Ck kd lf rg (TB C C tt) k := by
  refine ⟨fun e => by omega, fun e => by omega, fun e => by omega, fun _ x y hx hy => ?_⟩
  obtain ⟨s, -, a, -⟩ := hx
  obtain ⟨t, -, b, -⟩ := hy
  rcases h with h | h
  · rw [h] at a; cases a
  · rw [h] at b; cases b
theorem mc_3 (hI : Im C tt) {k x y : Nat} (hl : lf k < 12) (hk : kd k = 3) (h : tt (C (lf k)) = some x) (h2 : tt (C (rg k)) = some y) (h3 : tt x = some y) : Ck kd lf rg (TB C C tt) k := by
  refine ⟨fun e => by omega, fun e => by omega, fun e => by omega, fun _ x' y' hx hy => ?_⟩
  obtain ⟨s, a1, a2, a3⟩ := hx
  rw [h] at a2
  cases a2
  obtain ⟨t, b1, b2, b3⟩ := hy
  rw [h2] at b2
  cases b2
  exact ⟨y, b1, by rw [← a3, (hI.2 _ x (hI.1 _ hl).1 h).2.1]; exact h3, b3⟩
theorem m_start {co : Nat → Nat} (hc : ∀ v, v < 12 → co v = v) (ht : ∀ v, v < 12 → tt v = none) : Im co tt ∧ Sm n kd lf rg co tt ∧ ms co tt ≤ 24 := by
  refine ⟨⟨fun v hv => by rw [hc v hv]; exact ⟨hv, hc v hv⟩, fun c t hc2 e => by rw [ht c hc2] at e; cases e⟩, fun E T hC => ⟨fun v w hv hw e => ?_, fun v t hv e => ?_⟩, ?_⟩
  · rw [hc v hv, hc w hw] at e
    rw [e]
    exact hC.1.1 w
  · rw [hc v hv, ht v hv] at e
    cases e
  · have h1 := cls_le co
    have h2 : npt co tt ≤ 12 := cn_le _ 12
    simp only [ms]
    omega
theorem m_end (hI : Im C tt) (hS : Sm n kd lf rg C tt) (h : ∀ k, k < n → Ck kd lf rg (TB C C tt) k) : Fnl n kd lf rg C tt :=
  ⟨hI.1, fun v t hv e => (hI.2 v t hv e).1, hS, TB_eq C tt, h⟩
end PM
end
section
/-! AliasClasses: isVariable, find, enqueue, addPair, points, wake -/
set_option maxRecDepth 100000
abbrev rmL (f k : Nat) : Room := { frames := f, cells := 0, slots := 0, locals := k }
theorem inc_1 (a : Nat) : nI a + Int32.ofInt 1 = nI (a + 1) := nI_1 a
theorem inc_4 (a : Nat) : nI a + Int32.ofInt 4 = nI (a + 4) := nI_add a 4
theorem sub_1 (a : Nat) : nI (a + 1) - nI 1 = nI a := nI_pred a
def vI (x : Int32) : Bool := decide (0 ≤ x.toInt ∧ x.toInt < 12)
theorem vI_neg {x : Int32} (h : x < 0) : vI x = false := by
  rw [Int32.lt_iff_toInt_lt, Int32.toInt_zero] at h
  simp only [vI, decide_eq_false_iff_not]
  omega
theorem vI_big {x : Int32} (h : nI 11 < x) : vI x = false := by
  rw [Int32.lt_iff_toInt_lt, nI_toInt (by decide)] at h
  simp only [vI, decide_eq_false_iff_not]
  omega
theorem vI_ok {x : Int32} (h : ¬ x < 0) (h2 : ¬ nI 11 < x) : vI x = true := by
  rw [Int32.lt_iff_toInt_lt, Int32.toInt_zero] at h
  rw [Int32.lt_iff_toInt_lt, nI_toInt (by decide)] at h2
  simp only [vI, decide_eq_true_eq]
  omega
theorem vI_some {x : Int32} (h : vI x = true) : ∃ v, v < 12 ∧ x = nI v := by
  simp only [vI, decide_eq_true_eq] at h
  exact vp_in_of (vp_in_iff.mpr h) (by decide)
section X1W
variable {l : Launch} {D : va_G} {a : Nat → Nat} {di dz : ClassId} {n : Nat} {kn : Bool} {rd pr : Nat} {kd lf rg up : Nat → Nat} {pt wf : Nat → Option Nat} {qu : Nat → Nat} {qd : Nat → Bool} {pa pb : Nat → Nat}
set_option maxHeartbeats 4000000 in
set_option maxRecDepth 100000 in
theorem met_isV (x : Int32) : MGi l D (tyZ di dz) w0 yX0_isVariable cX0_isVariable 1 (some .boolean) (rmL 0 0) [.int x] () (fun r _ => r = bI (vI x)) := by
  refine MGi.of w0_D (by decide +kernel) (Nat.le_of_ble_eq_true rfl) rfl (fun Γ C => ?_)
  have C : CG D (tyZ di dz) w0 RX0 Γ cX0_isVariable 1 (some .boolean) := C
  refine g_iload_n C dX0_isVariable_0 rfl ?_
  refine gr_if_lt (tgt := 14) C dX0_isVariable_1 (by decide) (fun h_1 => ?_) (fun h_1 => ?_)
  · refine g_iconst (v := nI 0) C dX0_isVariable_14 (by decide +kernel) ?_
    exact g_zret (b := false) C dX0_isVariable_15 (by rw [vI_neg h_1])
  · refine g_iload_n C dX0_isVariable_4 rfl ?_
    refine g_bipush (v := nI 11) C dX0_isVariable_5 (by decide +kernel) ?_
    refine gr_icmp_gt (tgt := 14) C dX0_isVariable_7 (by decide) (fun h_7 => ?_) (fun h_7 => ?_)
    · refine g_iconst (v := nI 0) C dX0_isVariable_14 (by decide +kernel) ?_
      exact g_zret (b := false) C dX0_isVariable_15 (by rw [vI_big h_7])
    · refine g_iconst (v := nI 1) C dX0_isVariable_10 (by decide +kernel) ?_
      refine g_goto (tgt := 15) C dX0_isVariable_11 (by decide) ?_
      exact g_zret (b := true) C dX0_isVariable_15 (by rw [vI_ok h_1 h_7])
set_option maxHeartbeats 4000000 in
set_option maxRecDepth 100000 in
theorem find_loop {Γ : GC} (C : CG D (tyZ di dz) (xw a di dz) RX0 Γ cX0_find 4 (some .int)) {d R : Nat → Nat} {v : Nat} : ∀ (j : Nat) (up : Nat → Nat) (q step : Nat), FoD d up R → q < 12 → R q = R v → step + d q ≤ 11 → d q ≤ j → JG l D (xw a di dz) Γ (rmL 0 0) 4 0 0 (QGi D (xw a di dz) Γ (fun r u' => r = nI (R v) ∧ ∃ up1, Fo up1 R ∧ u' = (n, kn, rd, pr, kd, lf, rg, up1, pt, wf, qu, qd, pa, pb))) (n, kn, rd, pr, kd, lf, rg, up, pt, wf, qu, qd, pa, pb) 4 [.ref (a 0), .int (nI v), .int (nI q), .int (nI step)] [] := by
  intro j
  induction j with
  | zero =>
    intro up q step hF hq hr hs hj
    obtain ⟨f1, f2, f3, f4, f5, f6⟩ := hF q hq
    refine g_iload_n C dX0_find_4 rfl ?_
    refine g_bipush (v := nI 12) C dX0_find_5 (by decide +kernel) ?_
    refine gn_icmp_ge (tgt := 50) C (by omega) (by omega) dX0_find_7 (by decide) (fun h_7 => ?_) (fun h_7 => ?_)
    · exact absurd h_7 (by omega)
    · refine g_aload_n C dX0_find_10 rfl ?_
      refine x_get_up C dX0_find_11 ?_
      refine g_iload_n C dX0_find_14 rfl ?_
      refine x_ld_up C (by omega) rfl dX0_find_15 ?_
      refine g_iload_n C dX0_find_16 rfl ?_
      refine gn_icmp_eq (tgt := 50) C (by omega) (by omega) dX0_find_17 (by decide) (fun h_17 => ?_) (fun h_17 => ?_)
      · refine g_iload_n C dX0_find_50 rfl ?_
        exact g_iret C dX0_find_51 ⟨by rw [← hr, (f5 h_17).1], up, ⟨d, hF⟩, rfl⟩
      · have hlt := f6 h_17
        omega
  | succ j ih =>
    intro up q step hF hq hr hs hj
    obtain ⟨f1, f2, f3, f4, f5, f6⟩ := hF q hq
    refine g_iload_n C dX0_find_4 rfl ?_
    refine g_bipush (v := nI 12) C dX0_find_5 (by decide +kernel) ?_
    refine gn_icmp_ge (tgt := 50) C (by omega) (by omega) dX0_find_7 (by decide) (fun h_7 => ?_) (fun h_7 => ?_)
    · exact absurd h_7 (by omega)
    · refine g_aload_n C dX0_find_10 rfl ?_
      refine x_get_up C dX0_find_11 ?_
      refine g_iload_n C dX0_find_14 rfl ?_
      refine x_ld_up C (by omega) rfl dX0_find_15 ?_
      refine g_iload_n C dX0_find_16 rfl ?_
      refine gn_icmp_eq (tgt := 50) C (by omega) (by omega) dX0_find_17 (by decide) (fun h_17 => ?_) (fun h_17 => ?_)
      · refine g_iload_n C dX0_find_50 rfl ?_
        exact g_iret C dX0_find_51 ⟨by rw [← hr, (f5 h_17).1], up, ⟨d, hF⟩, rfl⟩
      · obtain ⟨g1, g2, g3, g4, g5, g6⟩ := hF (up q) f1
        have hlt := f6 h_17
        have hd2 : d (up (up q)) < d q := by
          by_cases e2 : up (up q) = up q
          · rw [e2]; exact hlt
          · have := g6 e2
            omega
        refine g_aload_n C dX0_find_20 rfl ?_
        refine x_get_up C dX0_find_21 ?_
        refine g_iload_n C dX0_find_24 rfl ?_
        refine g_aload_n C dX0_find_25 rfl ?_
        refine x_get_up C dX0_find_26 ?_
        refine g_aload_n C dX0_find_29 rfl ?_
        refine x_get_up C dX0_find_30 ?_
        refine g_iload_n C dX0_find_33 rfl ?_
        refine x_ld_up C (by omega) rfl dX0_find_34 ?_
        refine x_ld_up C (by omega) rfl dX0_find_35 ?_
        refine x_st_up C _ (by omega) dX0_find_36 ?_
        refine g_aload_n C dX0_find_37 rfl ?_
        refine x_get_up C dX0_find_38 ?_
        refine g_iload_n C dX0_find_41 rfl ?_
        refine x_ld_up C (by omega) (show va_up up q (up (up q)) q = up (up q) by simp [va_up]) dX0_find_42 ?_
        refine g_set2 C dX0_find_43 rfl (by decide) ?_
        refine g_inc3 C dX0_find_44 rfl (by decide) (inc_1 _) ?_
        refine g_goto (tgt := 4) C dX0_find_47 (by decide) ?_
        exact ih (va_up up q (up (up q))) (up (up q)) (step + 1) (hF.halve hq h_17) g1 (by rw [g3, f3, hr]) (by omega) (by omega)
set_option maxHeartbeats 4000000 in
set_option maxRecDepth 100000 in
/-- find(v): the root; the forest's roots stay -/
theorem met_find (hw : WD (xw a di dz)) {R : Nat → Nat} (hF : Fo up R) {v : Nat} (hv : v < 12) : MGi l D (tyZ di dz) (xw a di dz) yX0_find cX0_find 4 (some .int) (rmL 0 0) [.ref (a 0), .int (nI v)] (n, kn, rd, pr, kd, lf, rg, up, pt, wf, qu, qd, pa, pb) (fun r u' => r = nI (R v) ∧ ∃ up1, Fo up1 R ∧ u' = (n, kn, rd, pr, kd, lf, rg, up1, pt, wf, qu, qd, pa, pb)) := by
  refine MGi.of hw (by decide +kernel) (Nat.le_of_ble_eq_true rfl) rfl (fun Γ C => ?_)
  have C : CG D (tyZ di dz) (xw a di dz) RX0 Γ cX0_find 4 (some .int) := C
  have hc := cls_pos (R := R) (fun v hv => ⟨hF.lt hv, (hF.root hv).2⟩)
  obtain ⟨d, hF⟩ := hF
  refine g_iload_n C dX0_find_0 rfl ?_
  refine g_app2 C dX0_find_1 rfl (by decide) ?_
  refine g_iconst (v := nI 0) C dX0_find_2 (by decide +kernel) ?_
  refine g_app3 C dX0_find_3 rfl (by decide) ?_
  exact find_loop C 12 up v 0 hF hv rfl (by have := (hF v hv).2.2.2.1; omega) (by have := (hF v hv).2.2.2.1; omega)
set_option maxHeartbeats 4000000 in
set_option maxRecDepth 100000 in
theorem met_enqueue (hw : WD (xw a di dz)) {k : Nat} (hk : k < 24) (hr : rd < 24) (hq : qd k = false) : MGv l D (tyZ di dz) (xw a di dz) yX0_enqueue cX0_enqueue 2 (rmL 0 0) [.ref (a 0), .int (nI k)] (n, kn, rd, pr, kd, lf, rg, up, pt, wf, qu, qd, pa, pb) (fun u' => u' = (n, kn, rd + 1, pr, kd, lf, rg, up, pt, wf, va_up qu rd k, va_up qd k true, pa, pb)) := by
  refine MGv.of hw (by decide +kernel) (Nat.le_of_ble_eq_true rfl) rfl (fun Γ C => ?_)
  have C : CG D (tyZ di dz) (xw a di dz) RX0 Γ cX0_enqueue 2 none := C
  refine g_aload_n C dX0_enqueue_0 rfl ?_
  refine x_get_qd C dX0_enqueue_1 ?_
  refine g_iload_n C dX0_enqueue_4 rfl ?_
  refine x_ld_qd C (by omega) rfl dX0_enqueue_5 ?_
  refine gb_if_ne (tgt := 36) C dX0_enqueue_6 (by decide) (fun h_6 => ?_) (fun h_6 => ?_)
  · rw [hq] at h_6
    cases h_6
  · refine g_aload_n C dX0_enqueue_9 rfl ?_
    refine x_get_qd C dX0_enqueue_10 ?_
    refine g_iload_n C dX0_enqueue_13 rfl ?_
    refine g_iconst (v := nI 1) C dX0_enqueue_14 (by decide +kernel) ?_
    refine x_st_qd C true (by omega) dX0_enqueue_15 ?_
    refine g_aload_n C dX0_enqueue_16 rfl ?_
    refine x_get_qu C dX0_enqueue_17 ?_
    refine g_aload_n C dX0_enqueue_20 rfl ?_
    refine x_get_rd C dX0_enqueue_21 ?_
    refine g_iload_n C dX0_enqueue_24 rfl ?_
    refine x_st_qu C _ (by omega) dX0_enqueue_25 ?_
    refine g_aload_n C dX0_enqueue_26 rfl ?_
    refine g_dup C dX0_enqueue_27 rfl ?_
    refine x_get_rd C dX0_enqueue_28 ?_
    refine g_iconst (v := nI 1) C dX0_enqueue_31 (by decide +kernel) ?_
    refine g_iadd C dX0_enqueue_32 (nI_add _ _) ?_
    refine x_put_rd C dX0_enqueue_33 ?_
    exact g_vret C dX0_enqueue_36 rfl
set_option maxHeartbeats 4000000 in
set_option maxRecDepth 100000 in
theorem met_addPair (hw : WD (xw a di dz)) {c d : Nat} (hr : pr < 16) : MGv l D (tyZ di dz) (xw a di dz) yX0_addPair cX0_addPair 3 (rmL 0 0) [.ref (a 0), .int (nI c), .int (nI d)] (n, kn, rd, pr, kd, lf, rg, up, pt, wf, qu, qd, pa, pb) (fun u' => u' = (n, kn, rd, pr + 1, kd, lf, rg, up, pt, wf, qu, qd, va_up pa pr c, va_up pb pr d)) := by
  refine MGv.of hw (by decide +kernel) (Nat.le_of_ble_eq_true rfl) rfl (fun Γ C => ?_)
  have C : CG D (tyZ di dz) (xw a di dz) RX0 Γ cX0_addPair 3 none := C
  refine g_aload_n C dX0_addPair_0 rfl ?_
  refine x_get_pa C dX0_addPair_1 ?_
  refine g_aload_n C dX0_addPair_4 rfl ?_
  refine x_get_pr C dX0_addPair_5 ?_
  refine g_iload_n C dX0_addPair_8 rfl ?_
  refine x_st_pa C _ (by omega) dX0_addPair_9 ?_
  refine g_aload_n C dX0_addPair_10 rfl ?_
  refine x_get_pb C dX0_addPair_11 ?_
  refine g_aload_n C dX0_addPair_14 rfl ?_
  refine x_get_pr C dX0_addPair_15 ?_
  refine g_iload_n C dX0_addPair_18 rfl ?_
  refine x_st_pb C _ (by omega) dX0_addPair_19 ?_
  refine g_aload_n C dX0_addPair_20 rfl ?_
  refine g_dup C dX0_addPair_21 rfl ?_
  refine x_get_pr C dX0_addPair_22 ?_
  refine g_iconst (v := nI 1) C dX0_addPair_25 (by decide +kernel) ?_
  refine g_iadd C dX0_addPair_26 (nI_add _ _) ?_
  refine x_put_pr C dX0_addPair_27 ?_
  exact g_vret C dX0_addPair_30 rfl
set_option maxHeartbeats 4000000 in
set_option maxRecDepth 100000 in
theorem met_points (hw : WD (xw a di dz)) {R : Nat → Nat} (hF : Fo up R) (hV : Vd pt) {k v : Nat} (hk : k < 24) (hv : v < 12) : MGi l D (tyZ di dz) (xw a di dz) yX0_points cX0_points 4 (some .boolean) (rmL 1 23) [.ref (a 0), .int (nI k), .int (nI v)] (n, kn, rd, pr, kd, lf, rg, up, pt, wf, qu, qd, pa, pb) (fun r u' => r = bI (ps R pt v) ∧ ∃ up1, Fo up1 R ∧ u' = (n, kn, rd, pr, kd, lf, rg, up1, pt, va_up wf k (if ps R pt v = true then none else some v), qu, qd, pa, pb)) := by
  refine MGi.of hw (by decide +kernel) (Nat.le_of_ble_eq_true rfl) rfl (fun Γ C => ?_)
  have C : CG D (tyZ di dz) (xw a di dz) RX0 Γ cX0_points 4 (some .boolean) := C
  have hR := hF.lt hv
  refine g_aload_n C dX0_points_0 rfl ?_
  refine x_get_pt C dX0_points_1 ?_
  refine g_aload_n C dX0_points_4 rfl ?_
  refine g_iload_n C dX0_points_5 rfl ?_
  refine x_calli (n := 1) C (met_find hw hF hv) q105 q107 qs4 q108 (by decide +kernel) rfl ⟨rfl, rfl⟩ ⟨Nat.le_of_ble_eq_true rfl, Nat.le_of_ble_eq_true rfl⟩ ⟨Nat.le_of_ble_eq_true rfl, Nat.le_of_ble_eq_true rfl⟩ rfl (Nat.le_of_ble_eq_true rfl) dX0_points_6 (fun r u' hp => ?_)
  obtain ⟨rfl, up1, hF1, rfl⟩ := hp
  refine x_ld_pt C (by omega) rfl dX0_points_9 ?_
  refine go_if_lt (tgt := 17) C (fun t ht => by have := hV _ t hR ht; omega) dX0_points_10 (by decide) (fun h_10 => ?_) (fun t_10 h_10 => ?_)
  · have hp := ps_no.mpr h_10
    refine g_iconst (v := bI false) C dX0_points_17 (by decide +kernel) ?_
    refine g_app3 C dX0_points_18 rfl (by decide) ?_
    refine g_aload_n C dX0_points_19 rfl ?_
    refine x_get_wf C dX0_points_20 ?_
    refine g_iload_n C dX0_points_23 rfl ?_
    refine g_iload_n C dX0_points_24 rfl ?_
    refine gb_if_eq (tgt := 32) C dX0_points_25 (by decide) (fun h_25 => ?_) (fun h_25 => ?_)
    · refine g_iload_n C dX0_points_32 rfl ?_
      refine x_st_wf C (some _) (by omega) dX0_points_33 ?_
      refine g_iload_n C dX0_points_34 rfl ?_
      exact g_zret (b := false) C dX0_points_35 ⟨by rw [hp], up1, hF1, by rw [hp]; rfl⟩
    · cases h_25
  · have hp := ps_iff.mpr ⟨_, h_10⟩
    refine g_iconst (v := bI true) C dX0_points_13 (by decide +kernel) ?_
    refine g_goto (tgt := 18) C dX0_points_14 (by decide) ?_
    refine g_app3 C dX0_points_18 rfl (by decide) ?_
    refine g_aload_n C dX0_points_19 rfl ?_
    refine x_get_wf C dX0_points_20 ?_
    refine g_iload_n C dX0_points_23 rfl ?_
    refine g_iload_n C dX0_points_24 rfl ?_
    refine gb_if_eq (tgt := 32) C dX0_points_25 (by decide) (fun h_25 => ?_) (fun h_25 => ?_)
    · cases h_25
    · refine g_iconst (v := oI none) C dX0_points_28 (by decide +kernel) ?_
      refine g_goto (tgt := 33) C dX0_points_29 (by decide) ?_
      refine x_st_wf C none (by omega) dX0_points_33 ?_
      refine g_iload_n C dX0_points_34 rfl ?_
      exact g_zret (b := true) C dX0_points_35 ⟨by rw [hp], up1, hF1, by rw [hp]; rfl⟩
end X1W
end
section
/-! AliasClasses: wake, pointAt, followRight, carryOut -/
set_option maxRecDepth 100000
def WkC (R : Nat → Nat) (r : Nat) (wf : Nat → Option Nat) (qd : Nat → Bool) (wf1 : Nat → Option Nat) (qd1 : Nat → Bool) (j : Nat) : Prop := (∃ v, wf j = some v ∧ R v = r ∧ wf1 j = none ∧ qd1 j = true) ∨ ((∀ v, wf j = some v → R v ≠ r) ∧ wf1 j = wf j ∧ qd1 j = qd j)
def WkP (R : Nat → Nat) (r : Nat) (wf : Nat → Option Nat) (qd : Nat → Bool) (wf1 : Nat → Option Nat) (qd1 : Nat → Bool) (k : Nat) : Prop := (∀ j, j < k → WkC R r wf qd wf1 qd1 j) ∧ ∀ j, k ≤ j → wf1 j = wf j ∧ qd1 j = qd j
theorem WkP.skip {R : Nat → Nat} {r : Nat} {wf wf1 : Nat → Option Nat} {qd qd1 : Nat → Bool} {k : Nat} (h : WkP R r wf qd wf1 qd1 k) (hc : ∀ v, wf k = some v → R v ≠ r) : WkP R r wf qd wf1 qd1 (k + 1) := by
  refine ⟨fun j hj => ?_, fun j hj => h.2 j (by omega)⟩
  by_cases e : j = k
  · subst e
    exact Or.inr ⟨hc, h.2 j (Nat.le_refl j)⟩
  · exact h.1 j (by omega)
theorem WkP.take {R : Nat → Nat} {r : Nat} {wf wf1 : Nat → Option Nat} {qd qd1 : Nat → Bool} {k v : Nat} (h : WkP R r wf qd wf1 qd1 k) (h1 : wf k = some v) (h2 : R v = r) : WkP R r wf qd (va_up wf1 k none) (va_up qd1 k true) (k + 1) := by
  refine ⟨fun j hj => ?_, fun j hj => ?_⟩
  · by_cases e : j = k
    · subst e
      exact Or.inl ⟨v, h1, h2, by simp [va_up], by simp [va_up]⟩
    · have h3 := h.1 j (by omega)
      simp only [WkC, va_up, if_neg e] at h3 ⊢
      exact h3
  · have h3 := h.2 j (by omega)
    simp only [va_up, if_neg (show ¬ j = k by omega)]
    exact h3
/-- what pointAt leaves -/
def PAp (n : Nat) (kn : Bool) (kd lf rg R : Nat → Nat) (pt wf : Nat → Option Nat) (qd : Nat → Bool) (c e : Nat) (u' : XS) : Prop := ∃ (rd1 pr1 : Nat) (up1 : Nat → Nat) (pt1 wf1 : Nat → Option Nat) (qu1 : Nat → Nat) (qd1 : Nat → Bool) (pa1 pb1 : Nat → Nat), Iw n kd lf rg R rd1 pr1 up1 pt1 wf1 qu1 qd1 pa1 pb1 ∧ Ex R R pt R (Rb R pr1 pa1 pb1) pt1 ∧ Wk n wf qd wf1 qd1 R pt1 ∧ TB R (Rb R pr1 pa1 pb1) pt1 c e ∧ u' = (n, kn, rd1, pr1, kd, lf, rg, up1, pt1, wf1, qu1, qd1, pa1, pb1)
/-- what carryOut leaves -/
def COp (n : Nat) (kn : Bool) (kd lf rg R : Nat → Nat) (pt wf : Nat → Option Nat) (qd : Nat → Bool) (k : Nat) (u' : XS) : Prop := ∃ (rd1 pr1 : Nat) (up1 : Nat → Nat) (pt1 wf1 : Nat → Option Nat) (qu1 : Nat → Nat) (qd1 : Nat → Bool) (pa1 pb1 : Nat → Nat), Iw n kd lf rg R rd1 pr1 up1 pt1 wf1 qu1 qd1 pa1 pb1 ∧ Ex R R pt R (Rb R pr1 pa1 pb1) pt1 ∧ (∀ j, j < n → j ≠ k → W1 wf qd wf1 qd1 R pt1 j) ∧ qd1 k = false ∧ ((wf1 k = none ∧ St kd lf rg R (Rb R pr1 pa1 pb1) pt1 k) ∨ ∃ v, wf1 k = some v ∧ WS kd lf rg R pt k v ∧ v < 12 ∧ ps R pt v = false) ∧ u' = (n, kn, rd1, pr1, kd, lf, rg, up1, pt1, wf1, qu1, qd1, pa1, pb1)
theorem Iw.wf {n : Nat} {kd lf rg R : Nat → Nat} {rd pr : Nat} {up : Nat → Nat} {pt wf : Nat → Option Nat} {qu : Nat → Nat} {qd : Nat → Bool} {pa pb : Nat → Nat} (h : Iw n kd lf rg R rd pr up pt wf qu qd pa pb) {up1 : Nat → Nat} (hF : Fo up1 R) {wf1 : Nat → Option Nat} {k : Nat} (hq : qd k = false) (h1 : ∀ j, j ≠ k → wf1 j = wf j) (h2 : ∀ v, wf1 k = some v → v < 12 ∧ ps R pt v = false) : Iw n kd lf rg R rd pr up1 pt wf1 qu qd pa pb := by
  obtain ⟨a1, a2, a3, a4, a5, a6, a7⟩ := h
  refine ⟨hF, a2, a3, a4, fun j v hj e => ?_, a6, a7⟩
  by_cases ej : j = k
  · subst ej
    exact ⟨(h2 v e).1, (h2 v e).2, hq⟩
  · rw [h1 j ej] at e
    exact a5 j v hj e
theorem co_wait {n : Nat} {kn : Bool} {kd lf rg R : Nat → Nat} {rd : Nat} {up : Nat → Nat} {pt wf : Nat → Option Nat} {qu : Nat → Nat} {qd : Nat → Bool} {pa pb : Nat → Nat} (h : Iw n kd lf rg R rd 0 up pt wf qu qd pa pb) {up1 : Nat → Nat} (hF : Fo up1 R) {wf1 : Nat → Option Nat} {k v : Nat} (hq : qd k = false) (h1 : ∀ j, j ≠ k → wf1 j = wf j) (h2 : wf1 k = some v) (hv : v < 12) (hp : ps R pt v = false) (hw : WS kd lf rg R pt k v) : COp n kn kd lf rg R pt wf qd k (n, kn, rd, 0, kd, lf, rg, up1, pt, wf1, qu, qd, pa, pb) := by
  refine ⟨rd, 0, up1, pt, wf1, qu, qd, pa, pb, h.wf hF hq h1 (fun v' e => ?_), ?_, fun j hj e => Or.inl ⟨h1 j e, rfl⟩, hq, Or.inr ⟨v, h2, hw, hv, hp⟩, rfl⟩
  · rw [h2] at e
    cases e
    exact ⟨hv, hp⟩
  · rw [Rb_0]
    exact Ex.refl R R pt
theorem co_done {n : Nat} {kn : Bool} {kd lf rg R : Nat → Nat} {pt wf wf0 : Nat → Option Nat} {qd : Nat → Bool} {k c e : Nat} {u' : XS} (hk : k < n) (hq : qd k = false) (h1 : ∀ j, j ≠ k → wf0 j = wf j) (h2 : wf0 k = none) (h : PAp n kn kd lf rg R pt wf0 qd c e u') (hs : ∀ B1 pt1, Ex R R pt R B1 pt1 → TB R B1 pt1 c e → St kd lf rg R B1 pt1 k) : COp n kn kd lf rg R pt wf qd k u' := by
  obtain ⟨rd1, pr1, up1, pt1, wf1, qu1, qd1, pa1, pb1, a1, a2, a3, a4, a5⟩ := h
  have hk1 : wf1 k = none ∧ qd1 k = false := by
    rcases a3 k hk with ⟨b1, b2⟩ | ⟨v, b0, b1, b2, b3, b4⟩
    · exact ⟨b1.trans h2, b2.trans hq⟩
    · rw [h2] at b1; cases b1
  refine ⟨rd1, pr1, up1, pt1, wf1, qu1, qd1, pa1, pb1, a1, a2, fun j hj e => ?_, hk1.2, Or.inl ⟨hk1.1, hs _ _ a2 a4⟩, a5⟩
  have b := a3 j hj
  rw [W1, h1 j e] at b
  exact b
section X2W
variable {l : Launch} {D : va_G} {a : Nat → Nat} {di dz : ClassId} {n : Nat} {kn : Bool} {rd pr : Nat} {kd lf rg up : Nat → Nat} {pt wf : Nat → Option Nat} {qu : Nat → Nat} {qd : Nat → Bool} {pa pb : Nat → Nat}
set_option maxHeartbeats 4000000 in
set_option maxRecDepth 100000 in
theorem wake_loop (hw : WD (xw a di dz)) {Γ : GC} (C : CG D (tyZ di dz) (xw a di dz) RX0 Γ cX0_wake 4 none) {R : Nat → Nat} {r : Nat} (hn : n ≤ 24) (hr : r < 12) (h0 : ∀ j v, j < n → wf j = some v → v < 12 ∧ qd j = false) : ∀ (m k rd : Nat) (up : Nat → Nat) (wf1 : Nat → Option Nat) (qu : Nat → Nat) (qd1 : Nat → Bool), n < k + m → k ≤ n → Fo up R → Qi n rd qu qd1 → WkP R r wf qd wf1 qd1 k → JG l D (xw a di dz) Γ (rmL 1 23) 4 0 0 (QGv D (xw a di dz) Γ (fun u' => ∃ (rd2 : Nat) (up2 : Nat → Nat) (wf2 : Nat → Option Nat) (qu2 : Nat → Nat) (qd2 : Nat → Bool), Fo up2 R ∧ Qi n rd2 qu2 qd2 ∧ WkR n R r wf qd wf2 qd2 ∧ u' = (n, kn, rd2, pr, kd, lf, rg, up2, pt, wf2, qu2, qd2, pa, pb))) (n, kn, rd, pr, kd, lf, rg, up, pt, wf1, qu, qd1, pa, pb) 2 [.ref (a 0), .int (nI r), .int (nI k)] [] := by
  intro m
  induction m with
  | zero =>
    intro k rd up wf1 qu qd1 h1 h2
    omega
  | succ m ih =>
    intro k rd up wf1 qu qd1 hm hkn hF hQ hP
    refine g_iload_n C dX0_wake_2 rfl ?_
    refine g_aload_n C dX0_wake_3 rfl ?_
    refine x_get_n C dX0_wake_4 ?_
    refine gn_icmp_ge (tgt := 53) C (by omega) (by omega) dX0_wake_7 (by decide) (fun h_7 => ?_) (fun h_7 => ?_)
    · exact g_vret C dX0_wake_53 ⟨rd, up, wf1, qu, qd1, hF, hQ, fun j hj => hP.1 j (by omega), rfl⟩
    · refine g_aload_n C dX0_wake_10 rfl ?_
      refine x_get_wf C dX0_wake_11 ?_
      refine g_iload_n C dX0_wake_14 rfl ?_
      refine x_ld_wf C (by omega) ((hP.2 k (Nat.le_refl k)).1) dX0_wake_15 ?_
      refine go_if_lt (tgt := 47) C (fun t ht => by have := (h0 k t h_7 ht).1; omega) dX0_wake_16 (by decide) (fun h_16 => ?_) (fun t h_16 => ?_)
      · refine g_inc2 C dX0_wake_47 rfl (by decide) (inc_1 _) ?_
        refine g_goto (tgt := 2) C dX0_wake_50 (by decide) ?_
        exact ih (k + 1) rd up wf1 qu qd1 (by omega) (by omega) hF hQ (hP.skip (fun v e => by rw [h_16] at e; cases e))
      · have ht12 := (h0 k t h_7 h_16).1
        have hR := hF.lt ht12
        refine g_aload_n C dX0_wake_19 rfl ?_
        refine g_aload_n C dX0_wake_20 rfl ?_
        refine x_get_wf C dX0_wake_21 ?_
        refine g_iload_n C dX0_wake_24 rfl ?_
        refine x_ld_wf_s C (by omega) ((hP.2 k (Nat.le_refl k)).1.trans h_16) dX0_wake_25 ?_
        refine x_calli (n := 1) C (met_find hw hF ht12) q105 q107 qs4 q108 (by decide +kernel) rfl ⟨rfl, rfl⟩ ⟨Nat.le_of_ble_eq_true rfl, Nat.le_of_ble_eq_true rfl⟩ ⟨Nat.le_of_ble_eq_true rfl, Nat.le_of_ble_eq_true rfl⟩ rfl (Nat.le_of_ble_eq_true rfl) dX0_wake_26 (fun r u' hp => ?_)
        obtain ⟨rfl, up1, hF1, rfl⟩ := hp
        refine g_app3 C dX0_wake_29 rfl (by decide) ?_
        refine g_iload_n C dX0_wake_30 rfl ?_
        refine g_iload_n C dX0_wake_31 rfl ?_
        refine gn_icmp_ne (tgt := 47) C (by omega) (by omega) dX0_wake_32 (by decide) (fun h_32 => ?_) (fun h_32 => ?_)
        · refine g_inc2 C dX0_wake_47 rfl (by decide) (inc_1 _) ?_
          refine g_goto (tgt := 2) C dX0_wake_50 (by decide) ?_
          refine g_take 3 rfl ?_
          exact ih (k + 1) rd up1 wf1 qu qd1 (by omega) (by omega) hF1 hQ (hP.skip (fun v e => by rw [h_16] at e; cases e; exact h_32))
        · have hqk : qd1 k = false := (hP.2 k (Nat.le_refl k)).2.trans (h0 k t h_7 h_16).2
          have hrd := (hQ.push h_7 hqk).1
          refine g_aload_n C dX0_wake_35 rfl ?_
          refine x_get_wf C dX0_wake_36 ?_
          refine g_iload_n C dX0_wake_39 rfl ?_
          refine g_iconst (v := oI none) C dX0_wake_40 (by decide +kernel) ?_
          refine x_st_wf C none (by omega) dX0_wake_41 ?_
          refine g_aload_n C dX0_wake_42 rfl ?_
          refine g_iload_n C dX0_wake_43 rfl ?_
          refine x_callv (n := 1) C (met_enqueue hw (by omega) (by omega) hqk) q93 q95 qs1 q96 (by decide +kernel) rfl ⟨rfl, rfl⟩ ⟨Nat.le_of_ble_eq_true rfl, Nat.le_of_ble_eq_true rfl⟩ ⟨Nat.le_of_ble_eq_true rfl, Nat.le_of_ble_eq_true rfl⟩ rfl (Nat.le_of_ble_eq_true rfl) dX0_wake_44 (fun u' hp => ?_)
          obtain rfl := hp
          refine g_inc2 C dX0_wake_47 rfl (by decide) (inc_1 _) ?_
          refine g_goto (tgt := 2) C dX0_wake_50 (by decide) ?_
          refine g_take 3 rfl ?_
          exact ih (k + 1) (rd + 1) up1 (va_up wf1 k none) (va_up qu rd k) (va_up qd1 k true) (by omega) (by omega) hF1 (hQ.push h_7 hqk).2 (hP.take h_16 h_32)
set_option maxHeartbeats 4000000 in
set_option maxRecDepth 100000 in
/-- wake(r): all that wait for the class r are queued -/
theorem met_wake (hw : WD (xw a di dz)) {R : Nat → Nat} {r : Nat} (hF : Fo up R) (hn : n ≤ 24) (hr : r < 12) (h0 : ∀ j v, j < n → wf j = some v → v < 12 ∧ qd j = false) (hQ : Qi n rd qu qd) : MGv l D (tyZ di dz) (xw a di dz) yX0_wake cX0_wake 4 (rmL 1 23) [.ref (a 0), .int (nI r)] (n, kn, rd, pr, kd, lf, rg, up, pt, wf, qu, qd, pa, pb) (fun u' => ∃ (rd2 : Nat) (up2 : Nat → Nat) (wf2 : Nat → Option Nat) (qu2 : Nat → Nat) (qd2 : Nat → Bool), Fo up2 R ∧ Qi n rd2 qu2 qd2 ∧ WkR n R r wf qd wf2 qd2 ∧ u' = (n, kn, rd2, pr, kd, lf, rg, up2, pt, wf2, qu2, qd2, pa, pb)) := by
  refine MGv.of hw (by decide +kernel) (Nat.le_of_ble_eq_true rfl) rfl (fun Γ C => ?_)
  have C : CG D (tyZ di dz) (xw a di dz) RX0 Γ cX0_wake 4 none := C
  refine g_iconst (v := nI 0) C dX0_wake_0 (by decide +kernel) ?_
  refine g_app2 C dX0_wake_1 rfl (by decide) ?_
  exact wake_loop hw C hn hr h0 (n + 1) 0 rd up wf qu qd (by omega) (by omega) hF hQ ⟨fun j hj => by omega, fun j _ => ⟨rfl, rfl⟩⟩
set_option maxHeartbeats 4000000 in
set_option maxRecDepth 100000 in
theorem met_pointAt (hw : WD (xw a di dz)) (hn : n ≤ 24) {R : Nat → Nat} (hI : Iw n kd lf rg R rd 0 up pt wf qu qd pa pb) {c e : Nat} (hc : c < 12) (he : e < 12) (hT : ∀ E T, Clo n kd lf rg E T → T c e) : MGv l D (tyZ di dz) (xw a di dz) yX0_pointAt cX0_pointAt 4 (rmL 2 46) [.ref (a 0), .int (nI c), .int (nI e)] (n, kn, rd, 0, kd, lf, rg, up, pt, wf, qu, qd, pa, pb) (PAp n kn kd lf rg R pt wf qd c e) := by
  refine MGv.of hw (by decide +kernel) (Nat.le_of_ble_eq_true rfl) rfl (fun Γ C => ?_)
  have C : CG D (tyZ di dz) (xw a di dz) RX0 Γ cX0_pointAt 4 none := C
  refine g_aload_n C dX0_pointAt_0 rfl ?_
  refine g_iload_n C dX0_pointAt_1 rfl ?_
  refine x_calli (n := 1) C (met_find hw hI.1 hc) q105 q107 qs4 q108 (by decide +kernel) rfl ⟨rfl, rfl⟩ ⟨Nat.le_of_ble_eq_true rfl, Nat.le_of_ble_eq_true rfl⟩ ⟨Nat.le_of_ble_eq_true rfl, Nat.le_of_ble_eq_true rfl⟩ rfl (Nat.le_of_ble_eq_true rfl) dX0_pointAt_2 (fun r u' hp => ?_)
  obtain ⟨rfl, up1, hF1, rfl⟩ := hp
  have hR := hI.1.lt hc
  refine g_app3 C dX0_pointAt_5 rfl (by decide) ?_
  refine g_aload_n C dX0_pointAt_6 rfl ?_
  refine x_get_pt C dX0_pointAt_7 ?_
  refine g_iload_n C dX0_pointAt_10 rfl ?_
  refine x_ld_pt C (by omega) rfl dX0_pointAt_11 ?_
  refine go_if_ge (tgt := 30) C (fun t ht => by have := hI.2.1 _ t hR ht; omega) dX0_pointAt_12 (by decide) (fun t h_12 => ?_) (fun h_12 => ?_)
  · refine g_aload_n C dX0_pointAt_30 rfl ?_
    refine g_aload_n C dX0_pointAt_31 rfl ?_
    refine x_get_pt C dX0_pointAt_32 ?_
    refine g_iload_n C dX0_pointAt_35 rfl ?_
    refine x_ld_pt_s C (by omega) h_12 dX0_pointAt_36 ?_
    refine g_iload_n C dX0_pointAt_37 rfl ?_
    refine x_callv (n := 2) C (met_addPair hw (by decide)) q113 q115 qs6 q116 (by decide +kernel) rfl ⟨rfl, rfl⟩ ⟨Nat.le_of_ble_eq_true rfl, Nat.le_of_ble_eq_true rfl⟩ ⟨Nat.le_of_ble_eq_true rfl, Nat.le_of_ble_eq_true rfl⟩ rfl (Nat.le_of_ble_eq_true rfl) dX0_pointAt_38 (fun u' hp => ?_)
    obtain rfl := hp
    refine g_vret C dX0_pointAt_41 ?_
    obtain ⟨b1, b2, b3⟩ := p_pair (hI.ofFo hF1) hc he h_12 hT
    exact ⟨rd, 1, up1, pt, wf, qu, qd, va_up pa 0 t, va_up pb 0 e, b1, b2, fun j hj => Or.inl ⟨rfl, rfl⟩, b3, rfl⟩
  · refine g_aload_n C dX0_pointAt_15 rfl ?_
    refine x_get_pt C dX0_pointAt_16 ?_
    refine g_iload_n C dX0_pointAt_19 rfl ?_
    refine g_iload_n C dX0_pointAt_20 rfl ?_
    refine x_st_pt C (some _) (by omega) dX0_pointAt_21 ?_
    refine g_aload_n C dX0_pointAt_22 rfl ?_
    refine g_iload_n C dX0_pointAt_23 rfl ?_
    refine x_callv (n := 1) C (met_wake hw hF1 hn hR (fun j v hj e => ⟨(hI.2.2.2.2.1 j v hj e).1, (hI.2.2.2.2.1 j v hj e).2.2⟩) hI.2.2.2.2.2.1) q109 q111 qs5 q112 (by decide +kernel) rfl ⟨rfl, rfl⟩ ⟨Nat.le_of_ble_eq_true rfl, Nat.le_of_ble_eq_true rfl⟩ ⟨Nat.le_of_ble_eq_true rfl, Nat.le_of_ble_eq_true rfl⟩ rfl (Nat.le_of_ble_eq_true rfl) dX0_pointAt_24 (fun u' hp => ?_)
    obtain ⟨rd2, up2, wf2, qu2, qd2, hF2, hQ2, hW2, rfl⟩ := hp
    refine g_goto (tgt := 41) C dX0_pointAt_27 (by decide) ?_
    refine g_vret C dX0_pointAt_41 ?_
    obtain ⟨b1, b2, b3, b4⟩ := p_new hI hc he h_12 hT hF2 hQ2 hW2
    exact ⟨rd2, 0, up2, _, wf2, qu2, qd2, pa, pb, b1, by rw [Rb_0]; exact b2, b3, by rw [Rb_0]; exact b4, rfl⟩
theorem upn {α : Type} {f : Nat → α} {k : Nat} {x : α} : ∀ j, j ≠ k → va_up f k x j = f j := fun j h => by simp [va_up, h]
theorem ups {α : Type} {f : Nat → α} {k : Nat} {x : α} : va_up f k x k = x := by simp [va_up]
theorem upnn {α : Type} {f : Nat → α} {k : Nat} {x y : α} : ∀ j, j ≠ k → va_up (va_up f k x) k y j = f j := fun j h => by simp [va_up, h]
theorem tb_of {R : Nat → Nat} {pt : Nat → Option Nat} {v t : Nat} (ht : t < 12) (h : pt (R v) = some t) : TB R R pt v t := ⟨t, ht, h, rfl⟩
set_option maxHeartbeats 4000000 in
set_option maxRecDepth 100000 in
theorem met_followRight (hw : WD (xw a di dz)) (hn : n ≤ 24) {R : Nat → Nat} (hI : Iw n kd lf rg R rd 0 up pt wf qu qd pa pb) {k : Nat} (hk : k < n) (hq : qd k = false) (hk2 : kd k = 2) (hl : lf k < 12) (hr : rg k < 12) : MGv l D (tyZ di dz) (xw a di dz) yX0_followRight cX0_followRight 6 (rmL 3 69) [.ref (a 0), .int (nI k), .int (nI (lf k)), .int (nI (rg k))] (n, kn, rd, 0, kd, lf, rg, up, pt, wf, qu, qd, pa, pb) (COp n kn kd lf rg R pt wf qd k) := by
  refine MGv.of hw (by decide +kernel) (Nat.le_of_ble_eq_true rfl) rfl (fun Γ C => ?_)
  have C : CG D (tyZ di dz) (xw a di dz) RX0 Γ cX0_followRight 6 none := C
  refine g_aload_n C dX0_followRight_0 rfl ?_
  refine g_iload_n C dX0_followRight_1 rfl ?_
  refine g_iload_n C dX0_followRight_2 rfl ?_
  refine x_calli (n := 2) C (met_points hw hI.1 hI.2.1 (by omega) hr) q117 q119 qs7 q120 (by decide +kernel) rfl ⟨rfl, rfl⟩ ⟨Nat.le_of_ble_eq_true rfl, Nat.le_of_ble_eq_true rfl⟩ ⟨Nat.le_of_ble_eq_true rfl, Nat.le_of_ble_eq_true rfl⟩ rfl (Nat.le_of_ble_eq_true rfl) dX0_followRight_3 (fun r u' hp => ?_)
  obtain ⟨rfl, up1, hF1, rfl⟩ := hp
  refine gb_if_eq (tgt := 56) C dX0_followRight_6 (by decide) (fun h_6 => ?_) (fun h_6 => ?_)
  · rw [if_neg (by rw [h_6]; decide)]
    exact g_vret C dX0_followRight_56 (co_wait hI hF1 hq upn ups hr h_6 (Or.inr (Or.inl ⟨hk2, Or.inl rfl⟩)))
  · rw [if_pos h_6]
    obtain ⟨t, ht⟩ := ps_iff.mp h_6
    have hR := hI.1.lt hr
    have ht12 : t < 12 := hI.2.1 _ t hR ht
    refine g_aload_n C dX0_followRight_9 rfl ?_
    refine g_iload_n C dX0_followRight_10 rfl ?_
    refine x_calli (n := 1) C (met_find hw hF1 hr) q105 q107 qs4 q108 (by decide +kernel) rfl ⟨rfl, rfl⟩ ⟨Nat.le_of_ble_eq_true rfl, Nat.le_of_ble_eq_true rfl⟩ ⟨Nat.le_of_ble_eq_true rfl, Nat.le_of_ble_eq_true rfl⟩ rfl (Nat.le_of_ble_eq_true rfl) dX0_followRight_11 (fun r u' hp => ?_)
    obtain ⟨rfl, up2, hF2, rfl⟩ := hp
    refine g_app4 C dX0_followRight_14 rfl (by decide) ?_
    refine g_aload_n C dX0_followRight_16 rfl ?_
    refine g_iload_n C dX0_followRight_17 rfl ?_
    refine g_aload_n C dX0_followRight_18 rfl ?_
    refine x_get_pt C dX0_followRight_19 ?_
    refine g_iload C dX0_followRight_22 rfl ?_
    refine x_ld_pt_s C (by omega) ht dX0_followRight_24 ?_
    refine x_calli (n := 2) C (met_points hw hF2 hI.2.1 (by omega) ht12) q117 q119 qs7 q120 (by decide +kernel) rfl ⟨rfl, rfl⟩ ⟨Nat.le_of_ble_eq_true rfl, Nat.le_of_ble_eq_true rfl⟩ ⟨Nat.le_of_ble_eq_true rfl, Nat.le_of_ble_eq_true rfl⟩ rfl (Nat.le_of_ble_eq_true rfl) dX0_followRight_25 (fun r u' hp => ?_)
    obtain ⟨rfl, up3, hF3, rfl⟩ := hp
    refine gb_if_eq (tgt := 56) C dX0_followRight_28 (by decide) (fun h_28 => ?_) (fun h_28 => ?_)
    · rw [if_neg (by rw [h_28]; decide)]
      exact g_vret C dX0_followRight_56 (co_wait hI hF3 hq upnn ups ht12 h_28 (Or.inr (Or.inl ⟨hk2, Or.inr (tb_of ht12 ht)⟩)))
    · rw [if_pos h_28]
      obtain ⟨z, hz⟩ := ps_iff.mp h_28
      have hR2 := hI.1.lt ht12
      have hz12 : z < 12 := hI.2.1 _ z hR2 hz
      have tb1 : TB R R pt (rg k) t := tb_of ht12 ht
      have tb2 : TB R R pt t z := tb_of hz12 hz
      refine g_aload_n C dX0_followRight_31 rfl ?_
      refine g_aload_n C dX0_followRight_32 rfl ?_
      refine x_get_pt C dX0_followRight_33 ?_
      refine g_iload C dX0_followRight_36 rfl ?_
      refine x_ld_pt_s C (by omega) ht dX0_followRight_38 ?_
      refine x_calli (n := 1) C (met_find hw hF3 ht12) q105 q107 qs4 q108 (by decide +kernel) rfl ⟨rfl, rfl⟩ ⟨Nat.le_of_ble_eq_true rfl, Nat.le_of_ble_eq_true rfl⟩ ⟨Nat.le_of_ble_eq_true rfl, Nat.le_of_ble_eq_true rfl⟩ rfl (Nat.le_of_ble_eq_true rfl) dX0_followRight_39 (fun r u' hp => ?_)
      obtain ⟨rfl, up4, hF4, rfl⟩ := hp
      refine g_app5 C dX0_followRight_42 rfl (by decide) ?_
      refine g_aload_n C dX0_followRight_44 rfl ?_
      refine g_iload_n C dX0_followRight_45 rfl ?_
      refine g_aload_n C dX0_followRight_46 rfl ?_
      refine x_get_pt C dX0_followRight_47 ?_
      refine g_iload C dX0_followRight_50 rfl ?_
      refine x_ld_pt_s C (by omega) hz dX0_followRight_52 ?_
      refine x_callv (n := 2) C (met_pointAt hw hn (hI.wf hF4 hq upnn (fun v e => by rw [ups] at e; cases e)) hl hz12 (fun E T hC => (hC.2 k hk).2.2.1 hk2 t z ((hI.2.2.2.2.2.2 E T hC).1.2 (rg k) t hr ht) ((hI.2.2.2.2.2.2 E T hC).1.2 t z ht12 hz))) q101 q103 qs3 q104 (by decide +kernel) rfl ⟨rfl, rfl⟩ ⟨Nat.le_of_ble_eq_true rfl, Nat.le_of_ble_eq_true rfl⟩ ⟨Nat.le_of_ble_eq_true rfl, Nat.le_of_ble_eq_true rfl⟩ rfl (Nat.le_of_ble_eq_true rfl) dX0_followRight_53 (fun u' hp => ?_)
      exact g_vret C dX0_followRight_56 (co_done hk hq upnn ups hp (fun B1 pt1 hx hb => Or.inr (Or.inr (Or.inl ⟨hk2, t, z, ht12, hz12, hx.tb hr ht12 tb1, hx.tb ht12 hz12 tb2, hb⟩))))
set_option maxHeartbeats 4000000 in
set_option maxRecDepth 100000 in
theorem met_carryOut (hw : WD (xw a di dz)) (hn : n ≤ 24) (hB : B12 kd lf rg) {R : Nat → Nat} (hI : Iw n kd lf rg R rd 0 up pt wf qu qd pa pb) {k : Nat} (hk : k < n) (hq : qd k = false) (hwk : wf k = none) : MGv l D (tyZ di dz) (xw a di dz) yX0_carryOut cX0_carryOut 6 (rmL 4 94) [.ref (a 0), .int (nI k)] (n, kn, rd, 0, kd, lf, rg, up, pt, wf, qu, qd, pa, pb) (COp n kn kd lf rg R pt wf qd k) := by
  refine MGv.of hw (by decide +kernel) (Nat.le_of_ble_eq_true rfl) rfl (fun Γ C => ?_)
  have C : CG D (tyZ di dz) (xw a di dz) RX0 Γ cX0_carryOut 6 none := C
  obtain ⟨h3, hl, hr⟩ := hB k
  refine g_aload_n C dX0_carryOut_0 rfl ?_
  refine x_get_lf C dX0_carryOut_1 ?_
  refine g_iload_n C dX0_carryOut_4 rfl ?_
  refine x_ld_lf C (by omega) rfl dX0_carryOut_5 ?_
  refine g_app2 C dX0_carryOut_6 rfl (by decide) ?_
  refine g_aload_n C dX0_carryOut_7 rfl ?_
  refine x_get_rg C dX0_carryOut_8 ?_
  refine g_iload_n C dX0_carryOut_11 rfl ?_
  refine x_ld_rg C (by omega) rfl dX0_carryOut_12 ?_
  refine g_app3 C dX0_carryOut_13 rfl (by decide) ?_
  refine g_aload_n C dX0_carryOut_14 rfl ?_
  refine x_get_kd C dX0_carryOut_15 ?_
  refine g_iload_n C dX0_carryOut_18 rfl ?_
  refine x_ld_kd C (by omega) rfl dX0_carryOut_19 ?_
  refine gn_if_ne (tgt := 32) C (by omega) dX0_carryOut_20 (by decide) (fun h_20 => ?_) (fun h_20 => ?_)
  · refine g_aload_n C dX0_carryOut_32 rfl ?_
    refine x_get_kd C dX0_carryOut_33 ?_
    refine g_iload_n C dX0_carryOut_36 rfl ?_
    refine x_ld_kd C (by omega) rfl dX0_carryOut_37 ?_
    refine g_iconst (v := nI 1) C dX0_carryOut_38 (by decide +kernel) ?_
    refine gn_icmp_ne (tgt := 73) C (by omega) (by omega) dX0_carryOut_39 (by decide) (fun h_39 => ?_) (fun h_39 => ?_)
    · refine g_aload_n C dX0_carryOut_73 rfl ?_
      refine x_get_kd C dX0_carryOut_74 ?_
      refine g_iload_n C dX0_carryOut_77 rfl ?_
      refine x_ld_kd C (by omega) rfl dX0_carryOut_78 ?_
      refine g_iconst (v := nI 2) C dX0_carryOut_79 (by decide +kernel) ?_
      refine gn_icmp_ne (tgt := 93) C (by omega) (by omega) dX0_carryOut_80 (by decide) (fun h_80 => ?_) (fun h_80 => ?_)
      · have hk3 : kd k = 3 := by omega
        refine g_aload_n C dX0_carryOut_93 rfl ?_
        refine g_iload_n C dX0_carryOut_94 rfl ?_
        refine g_iload_n C dX0_carryOut_95 rfl ?_
        refine x_calli (n := 2) C (met_points hw hI.1 hI.2.1 (by omega) hl) q117 q119 qs7 q120 (by decide +kernel) rfl ⟨rfl, rfl⟩ ⟨Nat.le_of_ble_eq_true rfl, Nat.le_of_ble_eq_true rfl⟩ ⟨Nat.le_of_ble_eq_true rfl, Nat.le_of_ble_eq_true rfl⟩ rfl (Nat.le_of_ble_eq_true rfl) dX0_carryOut_96 (fun r u' hp => ?_)
        obtain ⟨rfl, up1, hF1, rfl⟩ := hp
        refine gb_if_eq (tgt := 143) C dX0_carryOut_99 (by decide) (fun h_99 => ?_) (fun h_99 => ?_)
        · rw [if_neg (by rw [h_99]; decide)]
          exact g_vret C dX0_carryOut_143 (co_wait hI hF1 hq upn ups hl h_99 (Or.inr (Or.inr ⟨hk3, Or.inl rfl⟩)))
        · rw [if_pos h_99]
          obtain ⟨x, hx⟩ := ps_iff.mp h_99
          have hR := hI.1.lt hl
          have hx12 : x < 12 := hI.2.1 _ x hR hx
          have tb1 : TB R R pt (lf k) x := tb_of hx12 hx
          refine g_aload_n C dX0_carryOut_102 rfl ?_
          refine g_iload_n C dX0_carryOut_103 rfl ?_
          refine g_iload_n C dX0_carryOut_104 rfl ?_
          refine x_calli (n := 2) C (met_points hw hF1 hI.2.1 (by omega) hr) q117 q119 qs7 q120 (by decide +kernel) rfl ⟨rfl, rfl⟩ ⟨Nat.le_of_ble_eq_true rfl, Nat.le_of_ble_eq_true rfl⟩ ⟨Nat.le_of_ble_eq_true rfl, Nat.le_of_ble_eq_true rfl⟩ rfl (Nat.le_of_ble_eq_true rfl) dX0_carryOut_105 (fun r u' hp => ?_)
          obtain ⟨rfl, up2, hF2, rfl⟩ := hp
          refine gb_if_eq (tgt := 143) C dX0_carryOut_108 (by decide) (fun h_108 => ?_) (fun h_108 => ?_)
          · rw [if_neg (by rw [h_108]; decide)]
            exact g_vret C dX0_carryOut_143 (co_wait hI hF2 hq upnn ups hr h_108 (Or.inr (Or.inr ⟨hk3, Or.inr rfl⟩)))
          · rw [if_pos h_108]
            obtain ⟨y, hy⟩ := ps_iff.mp h_108
            have hR2 := hI.1.lt hr
            have hy12 : y < 12 := hI.2.1 _ y hR2 hy
            have tb2 : TB R R pt (rg k) y := tb_of hy12 hy
            refine g_aload_n C dX0_carryOut_111 rfl ?_
            refine g_iload_n C dX0_carryOut_112 rfl ?_
            refine x_calli (n := 1) C (met_find hw hF2 hl) q105 q107 qs4 q108 (by decide +kernel) rfl ⟨rfl, rfl⟩ ⟨Nat.le_of_ble_eq_true rfl, Nat.le_of_ble_eq_true rfl⟩ ⟨Nat.le_of_ble_eq_true rfl, Nat.le_of_ble_eq_true rfl⟩ rfl (Nat.le_of_ble_eq_true rfl) dX0_carryOut_113 (fun r u' hp => ?_)
            obtain ⟨rfl, up3, hF3, rfl⟩ := hp
            refine g_app4 C dX0_carryOut_116 rfl (by decide) ?_
            refine g_aload_n C dX0_carryOut_118 rfl ?_
            refine g_iload_n C dX0_carryOut_119 rfl ?_
            refine x_calli (n := 1) C (met_find hw hF3 hr) q105 q107 qs4 q108 (by decide +kernel) rfl ⟨rfl, rfl⟩ ⟨Nat.le_of_ble_eq_true rfl, Nat.le_of_ble_eq_true rfl⟩ ⟨Nat.le_of_ble_eq_true rfl, Nat.le_of_ble_eq_true rfl⟩ rfl (Nat.le_of_ble_eq_true rfl) dX0_carryOut_120 (fun r u' hp => ?_)
            obtain ⟨rfl, up4, hF4, rfl⟩ := hp
            refine g_app5 C dX0_carryOut_123 rfl (by decide) ?_
            refine g_aload_n C dX0_carryOut_125 rfl ?_
            refine g_aload_n C dX0_carryOut_126 rfl ?_
            refine x_get_pt C dX0_carryOut_127 ?_
            refine g_iload C dX0_carryOut_130 rfl ?_
            refine x_ld_pt_s C (by omega) hx dX0_carryOut_132 ?_
            refine g_aload_n C dX0_carryOut_133 rfl ?_
            refine x_get_pt C dX0_carryOut_134 ?_
            refine g_iload C dX0_carryOut_137 rfl ?_
            refine x_ld_pt_s C (by omega) hy dX0_carryOut_139 ?_
            refine x_callv (n := 2) C (met_pointAt hw hn (hI.wf hF4 hq upnn (fun v e => by rw [ups] at e; cases e)) hx12 hy12 (fun E T hC => (hC.2 k hk).2.2.2 hk3 x y ((hI.2.2.2.2.2.2 E T hC).1.2 (lf k) x hl hx) ((hI.2.2.2.2.2.2 E T hC).1.2 (rg k) y hr hy))) q101 q103 qs3 q104 (by decide +kernel) rfl ⟨rfl, rfl⟩ ⟨Nat.le_of_ble_eq_true rfl, Nat.le_of_ble_eq_true rfl⟩ ⟨Nat.le_of_ble_eq_true rfl, Nat.le_of_ble_eq_true rfl⟩ rfl (Nat.le_of_ble_eq_true rfl) dX0_carryOut_140 (fun u' hp => ?_)
            exact g_vret C dX0_carryOut_143 (co_done hk hq upnn ups hp (fun B1 pt1 hx2 hb => Or.inr (Or.inr (Or.inr ⟨hk3, x, y, hx12, hy12, hx2.tb hl hx12 tb1, hx2.tb hr hy12 tb2, hb⟩))))
      · refine g_aload_n C dX0_carryOut_83 rfl ?_
        refine g_iload_n C dX0_carryOut_84 rfl ?_
        refine g_iload_n C dX0_carryOut_85 rfl ?_
        refine g_iload_n C dX0_carryOut_86 rfl ?_
        refine x_callv (n := 3) C (met_followRight hw hn hI hk hq h_80 hl hr) q121 q123 qs8 q124 (by decide +kernel) rfl ⟨rfl, rfl⟩ ⟨Nat.le_of_ble_eq_true rfl, Nat.le_of_ble_eq_true rfl⟩ ⟨Nat.le_of_ble_eq_true rfl, Nat.le_of_ble_eq_true rfl⟩ rfl (Nat.le_of_ble_eq_true rfl) dX0_carryOut_87 (fun u' hp => ?_)
        refine g_goto (tgt := 143) C dX0_carryOut_90 (by decide) ?_
        exact g_vret C dX0_carryOut_143 hp
    · refine g_aload_n C dX0_carryOut_42 rfl ?_
      refine g_iload_n C dX0_carryOut_43 rfl ?_
      refine g_iload_n C dX0_carryOut_44 rfl ?_
      refine x_calli (n := 2) C (met_points hw hI.1 hI.2.1 (by omega) hr) q117 q119 qs7 q120 (by decide +kernel) rfl ⟨rfl, rfl⟩ ⟨Nat.le_of_ble_eq_true rfl, Nat.le_of_ble_eq_true rfl⟩ ⟨Nat.le_of_ble_eq_true rfl, Nat.le_of_ble_eq_true rfl⟩ rfl (Nat.le_of_ble_eq_true rfl) dX0_carryOut_45 (fun r u' hp => ?_)
      obtain ⟨rfl, up1, hF1, rfl⟩ := hp
      refine gb_if_eq (tgt := 143) C dX0_carryOut_48 (by decide) (fun h_48 => ?_) (fun h_48 => ?_)
      · rw [if_neg (by rw [h_48]; decide)]
        exact g_vret C dX0_carryOut_143 (co_wait hI hF1 hq upn ups hr h_48 (Or.inl ⟨h_39, rfl⟩))
      · rw [if_pos h_48]
        obtain ⟨t, ht⟩ := ps_iff.mp h_48
        have hR := hI.1.lt hr
        have ht12 : t < 12 := hI.2.1 _ t hR ht
        have tb1 : TB R R pt (rg k) t := tb_of ht12 ht
        refine g_aload_n C dX0_carryOut_51 rfl ?_
        refine g_iload_n C dX0_carryOut_52 rfl ?_
        refine x_calli (n := 1) C (met_find hw hF1 hr) q105 q107 qs4 q108 (by decide +kernel) rfl ⟨rfl, rfl⟩ ⟨Nat.le_of_ble_eq_true rfl, Nat.le_of_ble_eq_true rfl⟩ ⟨Nat.le_of_ble_eq_true rfl, Nat.le_of_ble_eq_true rfl⟩ rfl (Nat.le_of_ble_eq_true rfl) dX0_carryOut_53 (fun r u' hp => ?_)
        obtain ⟨rfl, up2, hF2, rfl⟩ := hp
        refine g_app4 C dX0_carryOut_56 rfl (by decide) ?_
        refine g_aload_n C dX0_carryOut_58 rfl ?_
        refine g_iload_n C dX0_carryOut_59 rfl ?_
        refine g_aload_n C dX0_carryOut_60 rfl ?_
        refine x_get_pt C dX0_carryOut_61 ?_
        refine g_iload C dX0_carryOut_64 rfl ?_
        refine x_ld_pt_s C (by omega) ht dX0_carryOut_66 ?_
        refine x_callv (n := 2) C (met_pointAt hw hn (hI.wf hF2 hq upn (fun v e => by rw [ups] at e; cases e)) hl ht12 (fun E T hC => (hC.2 k hk).2.1 h_39 t ((hI.2.2.2.2.2.2 E T hC).1.2 (rg k) t hr ht))) q101 q103 qs3 q104 (by decide +kernel) rfl ⟨rfl, rfl⟩ ⟨Nat.le_of_ble_eq_true rfl, Nat.le_of_ble_eq_true rfl⟩ ⟨Nat.le_of_ble_eq_true rfl, Nat.le_of_ble_eq_true rfl⟩ rfl (Nat.le_of_ble_eq_true rfl) dX0_carryOut_67 (fun u' hp => ?_)
        refine g_goto (tgt := 143) C dX0_carryOut_70 (by decide) ?_
        exact g_vret C dX0_carryOut_143 (co_done hk hq upn ups hp (fun B1 pt1 hx hb => Or.inr (Or.inl ⟨h_39, t, ht12, hx.tb hr ht12 tb1, hb⟩)))
  · refine g_aload_n C dX0_carryOut_23 rfl ?_
    refine g_iload_n C dX0_carryOut_24 rfl ?_
    refine g_iload_n C dX0_carryOut_25 rfl ?_
    refine x_callv (n := 2) C (met_pointAt hw hn hI hl hr (fun E T hC => (hC.2 k hk).1 h_20)) q101 q103 qs3 q104 (by decide +kernel) rfl ⟨rfl, rfl⟩ ⟨Nat.le_of_ble_eq_true rfl, Nat.le_of_ble_eq_true rfl⟩ ⟨Nat.le_of_ble_eq_true rfl, Nat.le_of_ble_eq_true rfl⟩ rfl (Nat.le_of_ble_eq_true rfl) dX0_carryOut_26 (fun u' hp => ?_)
    refine g_goto (tgt := 143) C dX0_carryOut_29 (by decide) ?_
    exact g_vret C dX0_carryOut_143 (co_done hk hq (fun j _ => rfl) hwk hp (fun B1 pt1 hx hb => Or.inl ⟨h_20, hb⟩))
end X2W
end
section
/-! AliasClasses: joinClasses, joinAll, workOut -/
set_option maxRecDepth 100000
/-- what joinClasses leaves -/
def JCp (n : Nat) (kn : Bool) (kd lf rg R : Nat → Nat) (pt wf : Nat → Option Nat) (qd : Nat → Bool) (x y : Nat) (u' : XS) : Prop := ∃ (rd1 pr1 : Nat) (up1 : Nat → Nat) (pt1 wf1 : Nat → Option Nat) (qu1 : Nat → Nat) (qd1 : Nat → Bool) (pa1 pb1 : Nat → Nat), Iw n kd lf rg (mg R x y) rd1 pr1 up1 pt1 wf1 qu1 qd1 pa1 pb1 ∧ Ex R (mg R x y) pt (mg R x y) (Rb (mg R x y) pr1 pa1 pb1) pt1 ∧ Wk n wf qd wf1 qd1 (mg R x y) pt1 ∧ u' = (n, kn, rd1, pr1, kd, lf, rg, up1, pt1, wf1, qu1, qd1, pa1, pb1)
/-- what joinAll leaves -/
def MVp (n : Nat) (kn : Bool) (kd lf rg R B : Nat → Nat) (pt wf : Nat → Option Nat) (qd : Nat → Bool) (u' : XS) : Prop := ∃ (R1 : Nat → Nat) (rd1 : Nat) (up1 : Nat → Nat) (pt1 wf1 : Nat → Option Nat) (qu1 : Nat → Nat) (qd1 : Nat → Bool) (pa1 pb1 : Nat → Nat), Iw n kd lf rg R1 rd1 0 up1 pt1 wf1 qu1 qd1 pa1 pb1 ∧ Ex R B pt R1 R1 pt1 ∧ Wk n wf qd wf1 qd1 R1 pt1 ∧ u' = (n, kn, rd1, 0, kd, lf, rg, up1, pt1, wf1, qu1, qd1, pa1, pb1)
theorem Iw.drop {n : Nat} {kd lf rg R : Nat → Nat} {rd pr : Nat} {up : Nat → Nat} {pt wf : Nat → Option Nat} {qu : Nat → Nat} {qd : Nat → Bool} {pa pb : Nat → Nat} (h : Iw n kd lf rg R rd pr up pt wf qu qd pa pb) {up1 : Nat → Nat} (hF : Fo up1 R) : Iw n kd lf rg R rd 0 up1 pt wf qu qd pa pb := by
  obtain ⟨a1, a2, a3, a4, a5, a6, a7⟩ := h
  exact ⟨hF, a2, by omega, fun q => by omega, a5, a6, fun E T hC => ⟨(a7 E T hC).1, fun q => by omega⟩⟩
theorem Rb_1 (R pa pb : Nat → Nat) : Rb R 1 pa pb = mg R (R (pa 0)) (R (pb 0)) := by
  funext v
  simp [Rb]
theorem Rb_same {R pa pb : Nat → Nat} (h : R (pa 0) = R (pb 0)) : Rb R 1 pa pb = R := by
  funext v
  rw [Rb_1, h]
  unfold mg
  split
  · next e => exact e.symm
  · rfl
theorem Iw.pair_E {n : Nat} {kd lf rg R : Nat → Nat} {rd : Nat} {up : Nat → Nat} {pt wf : Nat → Option Nat} {qu : Nat → Nat} {qd : Nat → Bool} {pa pb : Nat → Nat} (h : Iw n kd lf rg R rd 1 up pt wf qu qd pa pb) : ∀ E T, Clo n kd lf rg E T → E (R (pa 0)) (R (pb 0)) := by
  intro E T hC
  obtain ⟨a1, a2, a3, a4, a5, a6, a7⟩ := h
  obtain ⟨b1, b2⟩ := a4 rfl
  obtain ⟨c1, c2⟩ := a7 E T hC
  have e1 := c1.1 (pa 0) (R (pa 0)) b1 (a1.lt b1) (a1.root b1).2.symm
  have e2 := c1.1 (pb 0) (R (pb 0)) b2 (a1.lt b2) (a1.root b2).2.symm
  exact hC.1.2.2.1 _ (pa 0) _ (hC.1.2.1 _ _ e1) (hC.1.2.2.1 (pa 0) (pb 0) _ (c2 rfl) e2)
theorem Wk.refl {n : Nat} {wf : Nat → Option Nat} {qd : Nat → Bool} {R : Nat → Nat} {pt : Nat → Option Nat} : Wk n wf qd wf qd R pt := fun _ _ => Or.inl ⟨rfl, rfl⟩
theorem Wk.trans {n : Nat} {wf wf1 wf2 : Nat → Option Nat} {qd qd1 qd2 : Nat → Bool} {R1 B1 R2 B2 : Nat → Nat} {pt1 pt2 : Nat → Option Nat} (h : Wk n wf qd wf1 qd1 R1 pt1) (g : Wk n wf1 qd1 wf2 qd2 R2 pt2) (hx : Ex R1 B1 pt1 R2 B2 pt2) (hV : Vd pt1) (hR : ∀ v, v < 12 → R1 v < 12) : Wk n wf qd wf2 qd2 R2 pt2 :=
  fun k hk => W1.trans (fun v hv => hx.pz hV hv (hR v hv)) (h k hk) (g k hk)
section X3W
variable {l : Launch} {D : va_G} {a : Nat → Nat} {di dz : ClassId} {n : Nat} {kn : Bool} {rd pr : Nat} {kd lf rg up : Nat → Nat} {pt wf : Nat → Option Nat} {qu : Nat → Nat} {qd : Nat → Bool} {pa pb : Nat → Nat}
set_option maxHeartbeats 4000000 in
set_option maxRecDepth 100000 in
theorem met_joinClasses (hw : WD (xw a di dz)) (hn : n ≤ 24) {R : Nat → Nat} (hI : Iw n kd lf rg R rd 0 up pt wf qu qd pa pb) {x y : Nat} (hx : x < 12) (hy : y < 12) (rx : R x = x) (ry : R y = y) (hne : x ≠ y) (hE : ∀ E T, Clo n kd lf rg E T → E x y) : MGv l D (tyZ di dz) (xw a di dz) yX0_joinClasses cX0_joinClasses 5 (rmL 2 46) [.ref (a 0), .int (nI x), .int (nI y)] (n, kn, rd, 0, kd, lf, rg, up, pt, wf, qu, qd, pa, pb) (JCp n kn kd lf rg R pt wf qd x y) := by
  refine MGv.of hw (by decide +kernel) (Nat.le_of_ble_eq_true rfl) rfl (fun Γ C => ?_)
  have C : CG D (tyZ di dz) (xw a di dz) RX0 Γ cX0_joinClasses 5 none := C
  have hF1 := hI.1.join hx hy rx ry hne
  refine g_aload_n C dX0_joinClasses_0 rfl ?_
  refine x_get_pt C dX0_joinClasses_1 ?_
  refine g_iload_n C dX0_joinClasses_4 rfl ?_
  refine x_ld_pt C (by omega) rfl dX0_joinClasses_5 ?_
  refine g_app3 C dX0_joinClasses_6 rfl (by decide) ?_
  refine g_aload_n C dX0_joinClasses_7 rfl ?_
  refine x_get_pt C dX0_joinClasses_8 ?_
  refine g_iload_n C dX0_joinClasses_11 rfl ?_
  refine x_ld_pt C (by omega) rfl dX0_joinClasses_12 ?_
  refine g_app4 C dX0_joinClasses_13 rfl (by decide) ?_
  refine g_aload_n C dX0_joinClasses_15 rfl ?_
  refine x_get_up C dX0_joinClasses_16 ?_
  refine g_iload_n C dX0_joinClasses_19 rfl ?_
  refine g_iload_n C dX0_joinClasses_20 rfl ?_
  refine x_st_up C _ (by omega) dX0_joinClasses_21 ?_
  refine g_iload_n C dX0_joinClasses_22 rfl ?_
  refine go_if_lt (tgt := 41) C (fun t ht => by have := hI.2.1 _ t (by omega) ht; omega) dX0_joinClasses_23 (by decide) (fun h_23 => ?_) (fun z h_23 => ?_)
  · refine g_iload_n C dX0_joinClasses_41 rfl ?_
    refine go_if_ge (tgt := 50) C (fun t ht => by have := hI.2.1 _ t (by omega) ht; omega) dX0_joinClasses_42 (by decide) (fun t9 h_42 => ?_) (fun h_42 => ?_)
    · rw [h_23] at h_42
      cases h_42
    · refine g_iload C dX0_joinClasses_45 rfl ?_
      refine go_if_lt (tgt := 71) C (fun t ht => by have := hI.2.1 _ t (by omega) ht; omega) dX0_joinClasses_47 (by decide) (fun h_47 => ?_) (fun w h_47 => ?_)
      · refine g_vret C dX0_joinClasses_71 ?_
        obtain ⟨b1, b2⟩ := j_none hI hx hy rx ry hne hE h_23 h_47
        exact ⟨rd, 0, _, pt, wf, qu, qd, pa, pb, b1, by rw [Rb_0]; exact b2, Wk.refl, rfl⟩
      · refine g_aload_n C dX0_joinClasses_50 rfl ?_
        refine x_get_pt C dX0_joinClasses_51 ?_
        refine g_iload_n C dX0_joinClasses_54 rfl ?_
        refine g_iload_n C dX0_joinClasses_55 rfl ?_
        refine go_if_lt (tgt := 63) C (fun t ht => by have := hI.2.1 _ t (by omega) ht; omega) dX0_joinClasses_56 (by decide) (fun h_56 => ?_) (fun t8 h_56 => ?_)
        · refine g_iload C dX0_joinClasses_63 rfl ?_
          refine x_st_pt C _ (by omega) dX0_joinClasses_65 ?_
          rw [h_47]
          refine g_aload_n C dX0_joinClasses_66 rfl ?_
          refine g_iload_n C dX0_joinClasses_67 rfl ?_
          refine x_callv (n := 1) C (met_wake hw hF1 hn hx (fun j v hj e => ⟨(hI.2.2.2.2.1 j v hj e).1, (hI.2.2.2.2.1 j v hj e).2.2⟩) hI.2.2.2.2.2.1) q109 q111 qs5 q112 (by decide +kernel) rfl ⟨rfl, rfl⟩ ⟨Nat.le_of_ble_eq_true rfl, Nat.le_of_ble_eq_true rfl⟩ ⟨Nat.le_of_ble_eq_true rfl, Nat.le_of_ble_eq_true rfl⟩ rfl (Nat.le_of_ble_eq_true rfl) dX0_joinClasses_68 (fun u' hp => ?_)
          obtain ⟨rd2, up2, wf2, qu2, qd2, hF2, hQ2, hW2, rfl⟩ := hp
          refine g_vret C dX0_joinClasses_71 ?_
          obtain ⟨b1, b2, b3⟩ := j_one hI hx hy rx ry hne hE (Or.inr ⟨h_23, h_47⟩) hF2 hQ2 hW2
          exact ⟨rd2, 0, up2, _, wf2, qu2, qd2, pa, pb, b1, by rw [Rb_0]; exact b2, b3, rfl⟩
        · rw [h_23] at h_56
          cases h_56
  · refine g_iload C dX0_joinClasses_26 rfl ?_
    refine go_if_lt (tgt := 41) C (fun t ht => by have := hI.2.1 _ t (by omega) ht; omega) dX0_joinClasses_28 (by decide) (fun h_28 => ?_) (fun w h_28 => ?_)
    · refine g_iload_n C dX0_joinClasses_41 rfl ?_
      refine go_if_ge (tgt := 50) C (fun t ht => by have := hI.2.1 _ t (by omega) ht; omega) dX0_joinClasses_42 (by decide) (fun t9 h_42 => ?_) (fun h_42 => ?_)
      · refine g_aload_n C dX0_joinClasses_50 rfl ?_
        refine x_get_pt C dX0_joinClasses_51 ?_
        refine g_iload_n C dX0_joinClasses_54 rfl ?_
        refine g_iload_n C dX0_joinClasses_55 rfl ?_
        refine go_if_lt (tgt := 63) C (fun t ht => by have := hI.2.1 _ t (by omega) ht; omega) dX0_joinClasses_56 (by decide) (fun h_56 => ?_) (fun t8 h_56 => ?_)
        · rw [h_23] at h_56
          cases h_56
        · refine g_iload_n C dX0_joinClasses_59 rfl ?_
          refine g_goto (tgt := 65) C dX0_joinClasses_60 (by decide) ?_
          refine x_st_pt C _ (by omega) dX0_joinClasses_65 ?_
          rw [h_23]
          refine g_aload_n C dX0_joinClasses_66 rfl ?_
          refine g_iload_n C dX0_joinClasses_67 rfl ?_
          refine x_callv (n := 1) C (met_wake hw hF1 hn hx (fun j v hj e => ⟨(hI.2.2.2.2.1 j v hj e).1, (hI.2.2.2.2.1 j v hj e).2.2⟩) hI.2.2.2.2.2.1) q109 q111 qs5 q112 (by decide +kernel) rfl ⟨rfl, rfl⟩ ⟨Nat.le_of_ble_eq_true rfl, Nat.le_of_ble_eq_true rfl⟩ ⟨Nat.le_of_ble_eq_true rfl, Nat.le_of_ble_eq_true rfl⟩ rfl (Nat.le_of_ble_eq_true rfl) dX0_joinClasses_68 (fun u' hp => ?_)
          obtain ⟨rd2, up2, wf2, qu2, qd2, hF2, hQ2, hW2, rfl⟩ := hp
          refine g_vret C dX0_joinClasses_71 ?_
          obtain ⟨b1, b2, b3⟩ := j_one hI hx hy rx ry hne hE (Or.inl ⟨h_23, h_28⟩) hF2 hQ2 hW2
          exact ⟨rd2, 0, up2, _, wf2, qu2, qd2, pa, pb, b1, by rw [Rb_0]; exact b2, b3, rfl⟩
      · rw [h_23] at h_42
        cases h_42
    · rw [h_23, h_28]
      refine g_aload_n C dX0_joinClasses_31 rfl ?_
      refine g_iload_n C dX0_joinClasses_32 rfl ?_
      refine g_iload C dX0_joinClasses_33 rfl ?_
      refine x_callv (n := 2) C (met_addPair hw (c := z) (d := w) (by decide)) q113 q115 qs6 q116 (by decide +kernel) rfl ⟨rfl, rfl⟩ ⟨Nat.le_of_ble_eq_true rfl, Nat.le_of_ble_eq_true rfl⟩ ⟨Nat.le_of_ble_eq_true rfl, Nat.le_of_ble_eq_true rfl⟩ rfl (Nat.le_of_ble_eq_true rfl) dX0_joinClasses_35 (fun u' hp => ?_)
      obtain rfl := hp
      refine g_goto (tgt := 71) C dX0_joinClasses_38 (by decide) ?_
      refine g_vret C dX0_joinClasses_71 ?_
      obtain ⟨b1, b2⟩ := j_both hI hx hy rx ry hne hE h_23 h_28
      exact ⟨rd, 1, _, pt, wf, qu, qd, _, _, b1, b2, Wk.refl, rfl⟩
set_option maxHeartbeats 4000000 in
set_option maxRecDepth 100000 in
theorem joinAll_loop (hw : WD (xw a di dz)) {Γ : GC} (C : CG D (tyZ di dz) (xw a di dz) RX0 Γ cX0_joinAll 4 none) {R B : Nat → Nat} (hn : n ≤ 24) : ∀ (m step : Nat) (R1 : Nat → Nat) (rd pr : Nat) (up : Nat → Nat) (pt1 wf1 : Nat → Option Nat) (qu : Nat → Nat) (qd1 : Nat → Bool) (pa pb : Nat → Nat), 24 < step + m → step ≤ 24 → Iw n kd lf rg R1 rd pr up pt1 wf1 qu qd1 pa pb → (pr = 1 → step + cls R1 ≤ 12) → Ex R B pt R1 (Rb R1 pr pa pb) pt1 → Wk n wf qd wf1 qd1 R1 pt1 → JG l D (xw a di dz) Γ (rmL 3 70) 4 0 0 (QGv D (xw a di dz) Γ (MVp n kn kd lf rg R B pt wf qd)) (n, kn, rd, pr, kd, lf, rg, up, pt1, wf1, qu, qd1, pa, pb) 2 [.ref (a 0), .int (nI step)] [] := by
  intro m
  induction m with
  | zero =>
    intro step R1 rd pr up pt1 wf1 qu qd1 pa pb h1 h2
    omega
  | succ m ih =>
    intro step R1 rd pr up pt1 wf1 qu qd1 pa pb hm hs hI hc hX hW
    refine g_iload_n C dX0_joinAll_2 rfl ?_
    refine g_bipush (v := nI 24) C dX0_joinAll_3 (by decide +kernel) ?_
    refine gn_icmp_ge (tgt := 70) C (by omega) (by omega) dX0_joinAll_5 (by decide) (fun h_5 => ?_) (fun h_5 => ?_)
    · obtain rfl : pr = 0 := by have := hI.2.2.1; rcases Nat.lt_or_ge pr 1 with q | q; omega; have := hc (by omega); omega
      exact g_vret C dX0_joinAll_70 ⟨R1, rd, up, pt1, wf1, qu, qd1, pa, pb, hI, by rw [Rb_0] at hX; exact hX, hW, rfl⟩
    · refine g_aload_n C dX0_joinAll_8 rfl ?_
      refine x_get_pr C dX0_joinAll_9 ?_
      refine gn_if_le (tgt := 70) C (by have := hI.2.2.1; omega) dX0_joinAll_12 (by decide) (fun h_12 => ?_) (fun h_12 => ?_)
      · subst h_12
        exact g_vret C dX0_joinAll_70 ⟨R1, rd, up, pt1, wf1, qu, qd1, pa, pb, hI, by rw [Rb_0] at hX; exact hX, hW, rfl⟩
      · obtain rfl : pr = 1 := by have := hI.2.2.1; omega
        obtain ⟨hpa, hpb⟩ := hI.2.2.2.1 rfl
        have r1 := hI.1.lt hpa
        have r2 := hI.1.lt hpb
        refine g_aload_n C dX0_joinAll_15 rfl ?_
        refine g_dup C dX0_joinAll_16 rfl ?_
        refine x_get_pr C dX0_joinAll_17 ?_
        refine g_iconst (v := nI 1) C dX0_joinAll_20 (by decide +kernel) ?_
        refine g_isub C dX0_joinAll_21 (sub_1 0) ?_
        refine x_put_pr C dX0_joinAll_22 ?_
        refine g_aload_n C dX0_joinAll_25 rfl ?_
        refine g_aload_n C dX0_joinAll_26 rfl ?_
        refine x_get_pa C dX0_joinAll_27 ?_
        refine g_aload_n C dX0_joinAll_30 rfl ?_
        refine x_get_pr C dX0_joinAll_31 ?_
        refine x_ld_pa C (by omega) rfl dX0_joinAll_34 ?_
        refine x_calli (n := 1) C (met_find hw hI.1 hpa) q105 q107 qs4 q108 (by decide +kernel) rfl ⟨rfl, rfl⟩ ⟨Nat.le_of_ble_eq_true rfl, Nat.le_of_ble_eq_true rfl⟩ ⟨Nat.le_of_ble_eq_true rfl, Nat.le_of_ble_eq_true rfl⟩ rfl (Nat.le_of_ble_eq_true rfl) dX0_joinAll_35 (fun r u' hp => ?_)
        obtain ⟨rfl, up1, hF1, rfl⟩ := hp
        refine g_app2 C dX0_joinAll_38 rfl (by decide) ?_
        refine g_aload_n C dX0_joinAll_39 rfl ?_
        refine g_aload_n C dX0_joinAll_40 rfl ?_
        refine x_get_pb C dX0_joinAll_41 ?_
        refine g_aload_n C dX0_joinAll_44 rfl ?_
        refine x_get_pr C dX0_joinAll_45 ?_
        refine x_ld_pb C (by omega) rfl dX0_joinAll_48 ?_
        refine x_calli (n := 1) C (met_find hw hF1 hpb) q105 q107 qs4 q108 (by decide +kernel) rfl ⟨rfl, rfl⟩ ⟨Nat.le_of_ble_eq_true rfl, Nat.le_of_ble_eq_true rfl⟩ ⟨Nat.le_of_ble_eq_true rfl, Nat.le_of_ble_eq_true rfl⟩ rfl (Nat.le_of_ble_eq_true rfl) dX0_joinAll_49 (fun r u' hp => ?_)
        obtain ⟨rfl, up2, hF2, rfl⟩ := hp
        refine g_app3 C dX0_joinAll_52 rfl (by decide) ?_
        refine g_iload_n C dX0_joinAll_53 rfl ?_
        refine g_iload_n C dX0_joinAll_54 rfl ?_
        refine gn_icmp_eq (tgt := 64) C (by omega) (by omega) dX0_joinAll_55 (by decide) (fun h_55 => ?_) (fun h_55 => ?_)
        · refine g_inc1 C dX0_joinAll_64 rfl (by decide) (inc_1 _) ?_
          refine g_goto (tgt := 2) C dX0_joinAll_67 (by decide) ?_
          refine g_take 2 rfl ?_
          exact ih (step + 1) R1 rd 0 up2 pt1 wf1 qu qd1 pa pb (by omega) (by omega) (hI.drop hF2) (fun q => by omega) (by rw [Rb_same h_55] at hX; rw [Rb_0]; exact hX) hW
        · refine g_aload_n C dX0_joinAll_58 rfl ?_
          refine g_iload_n C dX0_joinAll_59 rfl ?_
          refine g_iload_n C dX0_joinAll_60 rfl ?_
          refine x_callv (n := 2) C (met_joinClasses hw hn (hI.drop hF2) r1 r2 (hI.1.root hpa).2 (hI.1.root hpb).2 h_55 hI.pair_E) q129 q131 qs10 q132 (by decide +kernel) rfl ⟨rfl, rfl⟩ ⟨Nat.le_of_ble_eq_true rfl, Nat.le_of_ble_eq_true rfl⟩ ⟨Nat.le_of_ble_eq_true rfl, Nat.le_of_ble_eq_true rfl⟩ rfl (Nat.le_of_ble_eq_true rfl) dX0_joinAll_61 (fun u' hp => ?_)
          obtain ⟨rd3, pr3, up3, pt3, wf3, qu3, qd3, pa3, pb3, c1, c2, c3, rfl⟩ := hp
          refine g_inc1 C dX0_joinAll_64 rfl (by decide) (inc_1 _) ?_
          refine g_goto (tgt := 2) C dX0_joinAll_67 (by decide) ?_
          refine g_take 2 rfl ?_
          have hm := cls_mg r2 (hI.1.root hpa).2 (hI.1.root hpb).2 h_55
          exact ih (step + 1) _ rd3 pr3 up3 pt3 wf3 qu3 qd3 pa3 pb3 (by omega) (by omega) c1 (fun q => by have := hc rfl; omega) (by rw [Rb_1] at hX; exact hX.trans c2) (hW.trans c3 c2 hI.2.1 (fun v hv => hI.1.lt hv))
set_option maxHeartbeats 4000000 in
set_option maxRecDepth 100000 in
theorem met_joinAll (hw : WD (xw a di dz)) (hn : n ≤ 24) {R : Nat → Nat} (hI : Iw n kd lf rg R rd pr up pt wf qu qd pa pb) : MGv l D (tyZ di dz) (xw a di dz) yX0_joinAll cX0_joinAll 4 (rmL 3 70) [.ref (a 0)] (n, kn, rd, pr, kd, lf, rg, up, pt, wf, qu, qd, pa, pb) (MVp n kn kd lf rg R (Rb R pr pa pb) pt wf qd) := by
  refine MGv.of hw (by decide +kernel) (Nat.le_of_ble_eq_true rfl) rfl (fun Γ C => ?_)
  have C : CG D (tyZ di dz) (xw a di dz) RX0 Γ cX0_joinAll 4 none := C
  refine g_iconst (v := nI 0) C dX0_joinAll_0 (by decide +kernel) ?_
  refine g_app1 C dX0_joinAll_1 rfl (by decide) ?_
  exact joinAll_loop hw C hn 25 0 R rd pr up pt wf qu qd pa pb (by omega) (by omega) hI (fun _ => by have := cls_le R; omega) (Ex.refl _ _ _) Wk.refl
/-- what the class has worked out -/
def Wd (n : Nat) (kd lf rg up : Nat → Nat) (pt : Nat → Option Nat) : Prop := ∃ R, Fo up R ∧ Fnl n kd lf rg R pt
def WOp (n : Nat) (kd lf rg : Nat → Nat) (u' : XS) : Prop := ∃ (rd1 pr1 : Nat) (up1 : Nat → Nat) (pt1 wf1 : Nat → Option Nat) (qu1 : Nat → Nat) (qd1 : Nat → Bool) (pa1 pb1 : Nat → Nat), Wd n kd lf rg up1 pt1 ∧ u' = (n, true, rd1, pr1, kd, lf, rg, up1, pt1, wf1, qu1, qd1, pa1, pb1)
theorem iw_pop {n : Nat} {kd lf rg R : Nat → Nat} {rd pr : Nat} {up : Nat → Nat} {pt wf : Nat → Option Nat} {qu : Nat → Nat} {qd : Nat → Bool} {pa pb : Nat → Nat} (h : Iw n kd lf rg R (rd + 1) pr up pt wf qu qd pa pb) : Iw n kd lf rg R rd pr up pt wf qu (va_up qd (qu rd) false) pa pb := by
  obtain ⟨a1, a2, a3, a4, a5, a6, a7⟩ := h
  refine ⟨a1, a2, a3, a4, fun j v hj e => ?_, (Qi.pop a6).2.2, a7⟩
  obtain ⟨b1, b2, b3⟩ := a5 j v hj e
  refine ⟨b1, b2, ?_⟩
  simp only [va_up]
  split
  · rfl
  · exact b3
theorem pop_wf {n : Nat} {kd lf rg R : Nat → Nat} {rd pr : Nat} {up : Nat → Nat} {pt wf : Nat → Option Nat} {qu : Nat → Nat} {qd : Nat → Bool} {pa pb : Nat → Nat} (h : Iw n kd lf rg R rd pr up pt wf qu qd pa pb) {k : Nat} (hk : k < n) (hq : qd k = true) : wf k = none := by
  cases e : wf k with
  | none => rfl
  | some v =>
    have := (h.2.2.2.2.1 k v hk e).2.2
    rw [hq] at this
    cases this
set_option maxHeartbeats 4000000 in
set_option maxRecDepth 100000 in
theorem work_loop3 (hw : WD (xw a di dz)) {Γ : GC} (C : CG D (tyZ di dz) (xw a di dz) RX0 Γ cX0_workOut 3 none) (hn : n ≤ 24) (hB : B12 kd lf rg) : ∀ (m step : Nat) (R : Nat → Nat) (rd : Nat) (up : Nat → Nat) (pt wf : Nat → Option Nat) (qu : Nat → Nat) (qd : Nat → Bool) (pa pb : Nat → Nat), mu n kd lf rg R pt qd < m → Iw n kd lf rg R rd 0 up pt wf qu qd pa pb → (∀ j, j < n → Ik kd lf rg R pt wf qd j) → step + mu n kd lf rg R pt qd ≤ 72 → JG l D (xw a di dz) Γ (rmL 5 119) 3 0 0 (QGv D (xw a di dz) Γ (WOp n kd lf rg)) (n, true, rd, 0, kd, lf, rg, up, pt, wf, qu, qd, pa, pb) 89 [.ref (a 0), .int (nI step)] [] := by
  intro m
  induction m with
  | zero =>
    intro step R rd up pt wf qu qd pa pb h1
    omega
  | succ m ih =>
    intro step R rd up pt wf qu qd pa pb hm hI hK hs
    refine g_iload_n C dX0_workOut_89 rfl ?_
    refine g_sipush (v := nI 200) C dX0_workOut_90 (by decide +kernel) ?_
    refine gn_icmp_ge (tgt := 145) C (by omega) (by omega) dX0_workOut_93 (by decide) (fun h_93 => ?_) (fun h_93 => ?_)
    · omega
    · refine g_aload_n C dX0_workOut_96 rfl ?_
      refine x_get_rd C dX0_workOut_97 ?_
      refine gn_if_le (tgt := 145) C (by have := Qi.le hI.2.2.2.2.2.1; omega) dX0_workOut_100 (by decide) (fun h_100 => ?_) (fun h_100 => ?_)
      · subst h_100
        exact g_vret C dX0_workOut_145 ⟨0, 0, up, pt, wf, qu, qd, pa, pb, ⟨R, hI.1, w_end hB hI hK⟩, rfl⟩
      · obtain ⟨rd, rfl⟩ : ∃ r, rd = r + 1 := ⟨rd - 1, by omega⟩
        obtain ⟨q1, q2, q3⟩ := Qi.pop hI.2.2.2.2.2.1
        have hle := Qi.le hI.2.2.2.2.2.1
        refine g_aload_n C dX0_workOut_103 rfl ?_
        refine g_dup C dX0_workOut_104 rfl ?_
        refine x_get_rd C dX0_workOut_105 ?_
        refine g_iconst (v := nI 1) C dX0_workOut_108 (by decide +kernel) ?_
        refine g_isub C dX0_workOut_109 (sub_1 _) ?_
        refine x_put_rd C dX0_workOut_110 ?_
        refine g_aload_n C dX0_workOut_113 rfl ?_
        refine x_get_qu C dX0_workOut_114 ?_
        refine g_aload_n C dX0_workOut_117 rfl ?_
        refine x_get_rd C dX0_workOut_118 ?_
        refine x_ld_qu C (by omega) rfl dX0_workOut_121 ?_
        refine g_app2 C dX0_workOut_122 rfl (by decide) ?_
        refine g_aload_n C dX0_workOut_123 rfl ?_
        refine x_get_qd C dX0_workOut_124 ?_
        refine g_iload_n C dX0_workOut_127 rfl ?_
        refine g_iconst (v := nI 0) C dX0_workOut_128 (by decide +kernel) ?_
        refine x_st_qd C false (by omega) dX0_workOut_129 ?_
        refine g_aload_n C dX0_workOut_130 rfl ?_
        refine g_iload_n C dX0_workOut_131 rfl ?_
        refine x_callv (n := 1) C (met_carryOut hw hn hB (iw_pop hI) q1 ups (pop_wf hI q1 q2)) q97 q99 qs2 q100 (by decide +kernel) rfl ⟨rfl, rfl⟩ ⟨Nat.le_of_ble_eq_true rfl, Nat.le_of_ble_eq_true rfl⟩ ⟨Nat.le_of_ble_eq_true rfl, Nat.le_of_ble_eq_true rfl⟩ rfl (Nat.le_of_ble_eq_true rfl) dX0_workOut_132 (fun u' hp => ?_)
        obtain ⟨rd3, pr3, up3, pt3, wf3, qu3, qd3, pa3, pb3, c1, c2, c3, c4, c5, rfl⟩ := hp
        refine g_aload_n C dX0_workOut_135 rfl ?_
        refine x_callv (n := 0) C (met_joinAll hw hn c1) q125 q127 qs9 q128 (by decide +kernel) rfl ⟨rfl, rfl⟩ ⟨Nat.le_of_ble_eq_true rfl, Nat.le_of_ble_eq_true rfl⟩ ⟨Nat.le_of_ble_eq_true rfl, Nat.le_of_ble_eq_true rfl⟩ rfl (Nat.le_of_ble_eq_true rfl) dX0_workOut_136 (fun u' hp => ?_)
        obtain ⟨R4, rd4, up4, pt4, wf4, qu4, qd4, pa4, pb4, d1, d2, d3, rfl⟩ := hp
        refine g_inc1 C dX0_workOut_139 rfl (by decide) (inc_1 _) ?_
        refine g_goto (tgt := 89) C dX0_workOut_142 (by decide) ?_
        refine g_take 2 rfl ?_
        obtain ⟨e1, e2⟩ := w_step (R := R) hB q1 hI.2.1 (fun v hv => hI.1.lt hv) c1.2.1 q2 (fun j v hj e => ⟨(hI.2.2.2.2.1 j v hj e).1, (hI.2.2.2.2.1 j v hj e).2.1⟩) hK c2 (fun j hj e => by have := c3 j hj e; rw [W1, upn j e] at this; exact this) c4 c5 d2 d3
        exact ih (step + 1) R4 rd4 up4 pt4 wf4 qu4 qd4 pa4 pb4 (by omega) d1 e1 (by omega)
set_option maxHeartbeats 4000000 in
set_option maxRecDepth 100000 in
theorem work_loop2 (hw : WD (xw a di dz)) {Γ : GC} (C : CG D (tyZ di dz) (xw a di dz) RX0 Γ cX0_workOut 3 none) (hn : n ≤ 24) (hB : B12 kd lf rg) (hu : ∀ v, v < 12 → up v = v) (hp0 : ∀ v, v < 12 → pt v = none) : ∀ (j rd : Nat) (wf : Nat → Option Nat) (qu : Nat → Nat) (qd : Nat → Bool), j ≤ n → rd + j = n → (∀ i, i < rd → qu i + i + 1 = n) → (∀ k, j ≤ k → k < n → wf k = none ∧ qd k = true) → JG l D (xw a di dz) Γ (rmL 5 119) 3 0 0 (QGv D (xw a di dz) Γ (WOp n kd lf rg)) (n, true, rd, 0, kd, lf, rg, up, pt, wf, qu, qd, pa, pb) 58 [.ref (a 0), .int (pm j)] [] := by
  intro j
  induction j with
  | zero =>
    intro rd wf qu qd hj hr hqu hk
    obtain rfl : rd = n := by omega
    obtain ⟨s1, s2, s3⟩ := w_start (kd := kd) (lf := lf) (rg := rg) pa pb hu hp0 (fun k h => (hk k (by omega) h).1) (fun k h => (hk k (by omega) h).2) hqu
    refine g_iload_n C dX0_workOut_58 rfl ?_
    refine gr_if_lt (tgt := 87) C dX0_workOut_59 (by decide) (fun h_59 => ?_) (fun h_59 => ?_)
    · refine g_iconst (v := nI 0) C dX0_workOut_87 (by decide +kernel) ?_
      refine g_set1 C dX0_workOut_88 rfl (by decide) ?_
      exact work_loop3 hw C hn hB (3 * rd + 1) 0 _ rd up pt wf qu qd pa pb (by omega) s1 s2 (by omega)
    · exact absurd (by decide +kernel) h_59
  | succ j ih =>
    intro rd wf qu qd hj hr hqu hk
    refine g_iload_n C dX0_workOut_58 rfl ?_
    refine gn_if_lt (tgt := 87) C (by omega) dX0_workOut_59 (by decide) ?_
    refine g_aload_n C dX0_workOut_62 rfl ?_
    refine x_get_qd C dX0_workOut_63 ?_
    refine g_iload_n C dX0_workOut_66 rfl ?_
    refine g_iconst (v := nI 0) C dX0_workOut_67 (by decide +kernel) ?_
    refine x_st_qd C false (by omega) dX0_workOut_68 ?_
    refine g_aload_n C dX0_workOut_69 rfl ?_
    refine x_get_wf C dX0_workOut_70 ?_
    refine g_iload_n C dX0_workOut_73 rfl ?_
    refine g_iconst (v := oI none) C dX0_workOut_74 (by decide +kernel) ?_
    refine x_st_wf C none (by omega) dX0_workOut_75 ?_
    refine g_aload_n C dX0_workOut_76 rfl ?_
    refine g_iload_n C dX0_workOut_77 rfl ?_
    refine x_callv (n := 1) C (met_enqueue hw (by omega) (by omega) ups) q93 q95 qs1 q96 (by decide +kernel) rfl ⟨rfl, rfl⟩ ⟨Nat.le_of_ble_eq_true rfl, Nat.le_of_ble_eq_true rfl⟩ ⟨Nat.le_of_ble_eq_true rfl, Nat.le_of_ble_eq_true rfl⟩ rfl (Nat.le_of_ble_eq_true rfl) dX0_workOut_78 (fun u' hp => ?_)
    obtain rfl := hp
    refine g_inc1 C dX0_workOut_81 rfl (by decide) (pm_dec _) ?_
    refine g_goto (tgt := 58) C dX0_workOut_84 (by decide) ?_
    refine ih (rd + 1) _ _ _ (by omega) (by omega) (fun i hi => ?_) (fun k h1 h2 => ?_)
    · by_cases e : i = rd
      · subst e; rw [ups]; omega
      · rw [upn i e]; exact hqu i (by omega)
    · by_cases e : k = j
      · subst e; exact ⟨ups, ups⟩
      · rw [upn k e, upnn k e]; exact hk k (by omega) h2
set_option maxHeartbeats 4000000 in
set_option maxRecDepth 100000 in
theorem work_loop1 (hw : WD (xw a di dz)) {Γ : GC} (C : CG D (tyZ di dz) (xw a di dz) RX0 Γ cX0_workOut 3 none) (hn : n ≤ 24) (hB : B12 kd lf rg) : ∀ (m v : Nat) (up : Nat → Nat) (pt : Nat → Option Nat), 12 < v + m → v ≤ 12 → (∀ j, j < v → up j = j ∧ pt j = none) → JG l D (xw a di dz) Γ (rmL 5 119) 3 0 0 (QGv D (xw a di dz) Γ (WOp n kd lf rg)) (n, true, rd, pr, kd, lf, rg, up, pt, wf, qu, qd, pa, pb) 15 [.ref (a 0), .int (nI v)] [] := by
  intro m
  induction m with
  | zero =>
    intro v up pt h1 h2
    omega
  | succ m ih =>
    intro v up pt hm hv hd
    refine g_iload_n C dX0_workOut_15 rfl ?_
    refine g_bipush (v := nI 12) C dX0_workOut_16 (by decide +kernel) ?_
    refine gn_icmp_ge (tgt := 41) C (by omega) (by omega) dX0_workOut_18 (by decide) (fun h_18 => ?_) (fun h_18 => ?_)
    · refine g_aload_n C dX0_workOut_41 rfl ?_
      refine g_iconst (v := nI 0) C dX0_workOut_42 (by decide +kernel) ?_
      refine x_put_rd C dX0_workOut_43 ?_
      refine g_aload_n C dX0_workOut_46 rfl ?_
      refine g_iconst (v := nI 0) C dX0_workOut_47 (by decide +kernel) ?_
      refine x_put_pr C dX0_workOut_48 ?_
      refine g_aload_n C dX0_workOut_51 rfl ?_
      refine x_get_n C dX0_workOut_52 ?_
      refine g_iconst (v := nI 1) C dX0_workOut_55 (by decide +kernel) ?_
      refine g_isub C dX0_workOut_56 (show nI n - nI 1 = pm n by cases n with | zero => decide +kernel | succ n => exact sub_1 n) ?_
      refine g_set1 C dX0_workOut_57 rfl (by decide) ?_
      exact work_loop2 hw C hn hB (fun j hj => (hd j (by omega)).1) (fun j hj => (hd j (by omega)).2) n 0 wf qu qd (by omega) (by omega) (fun i hi => by omega) (fun k h1 h2 => by omega)
    · refine g_aload_n C dX0_workOut_21 rfl ?_
      refine x_get_up C dX0_workOut_22 ?_
      refine g_iload_n C dX0_workOut_25 rfl ?_
      refine g_iload_n C dX0_workOut_26 rfl ?_
      refine x_st_up C _ (by omega) dX0_workOut_27 ?_
      refine g_aload_n C dX0_workOut_28 rfl ?_
      refine x_get_pt C dX0_workOut_29 ?_
      refine g_iload_n C dX0_workOut_32 rfl ?_
      refine g_iconst (v := oI none) C dX0_workOut_33 (by decide +kernel) ?_
      refine x_st_pt C none (by omega) dX0_workOut_34 ?_
      refine g_inc1 C dX0_workOut_35 rfl (by decide) (inc_1 _) ?_
      refine g_goto (tgt := 15) C dX0_workOut_38 (by decide) ?_
      refine ih (v + 1) _ _ (by omega) (by omega) (fun j hj => ?_)
      by_cases e : j = v
      · subst e; exact ⟨ups, ups⟩
      · rw [upn j e, upn j e]; exact hd j (by omega)
set_option maxHeartbeats 4000000 in
set_option maxRecDepth 100000 in
/-- workOut(): afterwards it is known, and the state is what the assignments ask -/
theorem met_workOut (hw : WD (xw a di dz)) (hn : n ≤ 24) (hB : B12 kd lf rg) (hk : kn = true → Wd n kd lf rg up pt) : MGv l D (tyZ di dz) (xw a di dz) yX0_workOut cX0_workOut 3 (rmL 5 119) [.ref (a 0)] (n, kn, rd, pr, kd, lf, rg, up, pt, wf, qu, qd, pa, pb) (WOp n kd lf rg) := by
  refine MGv.of hw (by decide +kernel) (Nat.le_of_ble_eq_true rfl) rfl (fun Γ C => ?_)
  have C : CG D (tyZ di dz) (xw a di dz) RX0 Γ cX0_workOut 3 none := C
  refine g_aload_n C dX0_workOut_0 rfl ?_
  refine x_get_kn C dX0_workOut_1 ?_
  refine gb_if_eq (tgt := 8) C dX0_workOut_4 (by decide) (fun h_4 => ?_) (fun h_4 => ?_)
  · refine g_aload_n C dX0_workOut_8 rfl ?_
    refine g_iconst (v := nI 1) C dX0_workOut_9 (by decide +kernel) ?_
    refine x_put_kn C true dX0_workOut_10 ?_
    refine g_iconst (v := nI 0) C dX0_workOut_13 (by decide +kernel) ?_
    refine g_app1 C dX0_workOut_14 rfl (by decide) ?_
    exact work_loop1 hw C hn hB 13 0 up pt (by omega) (by omega) (fun j hj => by omega)
  · subst h_4
    exact g_vret C dX0_workOut_7 ⟨rd, pr, up, pt, wf, qu, qd, pa, pb, hk rfl, rfl⟩
end X3W
end
section
/-! BITS: rows of kit/laws/BITS.to-paste (family bt), then ours -/
set_option maxRecDepth 100000
def bt (x : Int32) (i : Nat) : Bool := x.toBitVec.getLsbD i
theorem b_ext {x y : Int32} (h : ∀ i, i < 32 → bt x i = bt y i) : x = y := Int32.toBitVec_inj.mp (BitVec.eq_of_getLsbD_eq (fun i hi => h i hi))
theorem b_or (x y : Int32) (i : Nat) : bt (x ||| y) i = (bt x i || bt y i) := by unfold bt; rw [Int32.toBitVec_or, BitVec.getLsbD_or]
theorem b_and (x y : Int32) (i : Nat) : bt (x &&& y) i = (bt x i && bt y i) := by unfold bt; rw [Int32.toBitVec_and, BitVec.getLsbD_and]
theorem b_xor (x y : Int32) (i : Nat) : bt (x ^^^ y) i = (bt x i ^^ bt y i) := by unfold bt; rw [Int32.toBitVec_xor, BitVec.getLsbD_xor]
theorem b_big {x : Int32} {i : Nat} (h : 32 ≤ i) : bt x i = false := BitVec.getLsbD_of_ge _ _ h
theorem b_0 (i : Nat) : bt 0 i = false := BitVec.getLsbD_zero
theorem s_l : ∀ n, n < 32 → ((nI n &&& 31).toBitVec.smod 32).toNat = n := by decide +kernel
theorem s_u : ∀ n, n < 32 → (((nI n).toUInt32 &&& Int32.toUInt32 31).toBitVec % 32).toNat = n := by decide +kernel
theorem b_shl (n : Nat) (hn : n < 32) (x : Int32) {i : Nat} (hi : i < 32) : bt (x <<< (nI n &&& 31)) i = (decide (n ≤ i) && bt x (i - n)) := by
  unfold bt
  rw [Int32.toBitVec_shiftLeft]
  show (x.toBitVec <<< ((nI n &&& 31).toBitVec.smod 32).toNat).getLsbD i = _
  rw [s_l n hn, BitVec.getLsbD_shiftLeft]
  rcases Nat.lt_or_ge i n with h | h
  · simp [h, Nat.not_le.mpr h]
  · simp [hi, h, Nat.not_lt.mpr h]
theorem b_ushr (n : Nat) (hn : n < 32) (x : Int32) (i : Nat) : bt ((x.toUInt32 >>> ((nI n).toUInt32 &&& Int32.toUInt32 31)).toInt32) i = bt x (n + i) := by
  show (x.toUInt32 >>> ((nI n).toUInt32 &&& Int32.toUInt32 31)).toBitVec.getLsbD i = x.toUInt32.toBitVec.getLsbD (n + i)
  rw [UInt32.toBitVec_shiftRight]
  show (x.toUInt32.toBitVec >>> (((nI n).toUInt32 &&& Int32.toUInt32 31).toBitVec % 32).toNat).getLsbD i = _
  rw [s_u n hn, BitVec.getLsbD_ushiftRight]
theorem b_sshr (n : Nat) (hn : n < 32) (x : Int32) {i : Nat} (hi : i < 32) : bt (x >>> (nI n &&& 31)) i = if n + i < 32 then bt x (n + i) else bt x 31 := by
  unfold bt
  rw [Int32.toBitVec_shiftRight]
  show (x.toBitVec.sshiftRight ((nI n &&& 31).toBitVec.smod 32).toNat).getLsbD i = _
  rw [s_l n hn, BitVec.getLsbD_sshiftRight, BitVec.msb_eq_getLsbD_last]
  simp [hi]
theorem b_one : ∀ i, i < 32 → bt (nI 1) i = decide (i = 0) := by decide +kernel
theorem b_pow {n i : Nat} (hn : n < 32) (hi : i < 32) : bt (nI 1 <<< (nI n &&& 31)) i = decide (i = n) := by
  rw [b_shl n hn _ hi]
  by_cases h : n ≤ i
  · rw [b_one (i - n) (by omega), decide_eq_true h, Bool.true_and]
    exact decide_eq_decide.mpr (by omega)
  · rw [decide_eq_false h, Bool.false_and, decide_eq_false (by omega)]
theorem b_mk (f : Nat → Bool) : ∀ k, k ≤ 32 → ∀ i, i < 32 → bt (mk f k) i = (decide (i < k) && f i) := by
  intro k
  induction k with
  | zero =>
    intro _ i _
    have e : mk f 0 = 0 := by simp only [mk]; exact nI_0
    rw [e, b_0]
    simp
  | succ k ih =>
    intro hk i hi
    have h1 := ih (by omega) i hi
    simp only [mk]
    by_cases hf : f k = true
    · rw [if_pos hf, b_or, h1, b_pow (by omega) hi]
      by_cases e : i = k
      · subst e; simp [hf]
      · rw [decide_eq_false e, Bool.or_false]
        congr 1
        exact decide_eq_decide.mpr (by omega)
    · rw [if_neg hf, h1]
      by_cases e : i = k
      · subst e; simp [hf]
      · congr 1
        exact decide_eq_decide.mpr (by omega)
theorem b_and1 (y : Int32) : y &&& nI 1 = 0 ↔ bt y 0 = false := by
  constructor
  · intro h
    have h1 := b_and y (nI 1) 0
    rw [h, b_0, b_one 0 (by omega)] at h1
    simpa using h1.symm
  · intro h
    refine b_ext (fun i hi => ?_)
    rw [b_and, b_0, b_one i hi]
    by_cases e : i = 0
    · subst e; simp [h]
    · simp [e]
theorem tst_u {x : Int32} {v : Nat} (hv : v < 32) : ((x.toUInt32 >>> ((nI v).toUInt32 &&& Int32.toUInt32 31)).toInt32 &&& nI 1) = 0 ↔ bt x v = false := by
  rw [b_and1, b_ushr v hv, Nat.add_zero]
theorem tst_s {x : Int32} {v : Nat} (hv : v < 32) : ((x >>> (nI v &&& 31)) &&& nI 1) = 0 ↔ bt x v = false := by
  rw [b_and1, b_sshr v hv x (by omega), Nat.add_zero, if_pos hv]
theorem or_z (x : Int32) : x ||| nI 0 = x := by
  refine b_ext (fun i hi => ?_)
  rw [b_or, nI_0, b_0, Bool.or_false]
theorem mk_no {f : Nat → Bool} {v : Nat} (h : f v = false) : mk f v ||| nI 0 = mk f (v + 1) := by
  rw [or_z]
  simp [mk, h]
theorem mk_yes {f : Nat → Bool} {v : Nat} (h : f v = true) : mk f v ||| (nI 1 <<< (nI v &&& 31)) = mk f (v + 1) := by
  simp [mk, h]
theorem cn_y {f : Nat → Bool} {v : Nat} (h : f v = true) : nI (cn f v) + nI 1 = nI (cn f (v + 1)) := by
  simp only [cn, if_pos h]
  exact nI_add _ _
theorem cn_n {f : Nat → Bool} {v : Nat} (h : f v = false) : nI (cn f v) + nI 0 = nI (cn f (v + 1)) := by
  simp only [cn, h]
  exact nI_add _ _
end
section
/-! AliasClasses: the questions, assign, drop -/
set_option maxRecDepth 100000
def kI (x : Int32) : Bool := decide (0 ≤ x.toInt ∧ x.toInt < 4)
theorem kI_neg {x : Int32} (h : x < 0) : kI x = false := by
  rw [Int32.lt_iff_toInt_lt, Int32.toInt_zero] at h
  simp only [kI, decide_eq_false_iff_not]
  omega
theorem kI_big {x : Int32} (h : nI 3 < x) : kI x = false := by
  rw [Int32.lt_iff_toInt_lt, nI_toInt (by decide)] at h
  simp only [kI, decide_eq_false_iff_not]
  omega
theorem kI_ok {x : Int32} (h : ¬ x < 0) (h2 : ¬ nI 3 < x) : kI x = true := by
  rw [Int32.lt_iff_toInt_lt, Int32.toInt_zero] at h
  rw [Int32.lt_iff_toInt_lt, nI_toInt (by decide)] at h2
  simp only [kI, decide_eq_true_eq]
  omega
theorem kI_some {x : Int32} (h : kI x = true) : ∃ v, v < 4 ∧ x = nI v := by
  simp only [kI, decide_eq_true_eq] at h
  exact vp_in_of (vp_in_iff.mpr h) (by decide)
def asOk (n : Nat) (k x y : Int32) : Bool := kI k && vI x && vI y && decide (n < 24)
def drOk (n : Nat) (x : Int32) : Bool := decide (0 ≤ x.toInt ∧ x.toInt < n)
theorem drOk_neg {n : Nat} {x : Int32} (h : x < 0) : drOk n x = false := by
  rw [Int32.lt_iff_toInt_lt, Int32.toInt_zero] at h
  simp only [drOk, decide_eq_false_iff_not]
  omega
theorem drOk_big {n : Nat} (hn : n ≤ 24) {x : Int32} (h : ¬ x < nI n) : drOk n x = false := by
  rw [Int32.lt_iff_toInt_lt, nI_toInt (by omega)] at h
  simp only [drOk, decide_eq_false_iff_not]
  omega
theorem drOk_ok {n : Nat} (hn : n ≤ 24) {x : Int32} (h : ¬ x < 0) (h2 : x < nI n) : drOk n x = true := by
  rw [Int32.lt_iff_toInt_lt, Int32.toInt_zero] at h
  rw [Int32.lt_iff_toInt_lt, nI_toInt (by omega)] at h2
  simp only [drOk, decide_eq_true_eq]
  omega
theorem drOk_some {n : Nat} (hn : n ≤ 24) {x : Int32} (h : drOk n x = true) : ∃ v, v < n ∧ x = nI v := by
  simp only [drOk, decide_eq_true_eq] at h
  exact vp_in_of (vp_in_iff.mpr h) (by omega)
/-- an array with the place j taken out of its first m + 1 -/
def dr (f : Nat → Nat) (j m : Nat) : Nat → Nat := fun i => if j ≤ i ∧ i < m then f (i + 1) else f i
theorem dr_0 (f : Nat → Nat) (j : Nat) : dr f j j = f := by
  funext i
  simp only [dr]
  rw [if_neg (by omega)]
theorem dr_step {f : Nat → Nat} {j k : Nat} (h : j ≤ k) : va_up (dr f j k) k (dr f j k (k + 1)) = dr f j (k + 1) := by
  funext i
  by_cases e : i = k
  · subst e
    simp only [va_up, if_true, dr]
    rw [if_neg (by omega), if_pos (by omega)]
  · simp only [va_up, if_neg e, dr]
    by_cases e2 : j ≤ i ∧ i < k
    · rw [if_pos e2, if_pos (by omega)]
    · rw [if_neg e2, if_neg (by omega)]
theorem dr_B {kd lf rg : Nat → Nat} (h : B12 kd lf rg) (j m : Nat) : B12 (dr kd j m) (dr lf j m) (dr rg j m) := by
  intro i
  simp only [dr]
  split
  · exact h (i + 1)
  · exact h i
theorem as_B {kd lf rg : Nat → Nat} (h : B12 kd lf rg) {n κ v w : Nat} (hκ : κ < 4) (hv : v < 12) (hw : w < 12) : B12 (va_up kd n κ) (va_up lf n v) (va_up rg n w) := by
  intro i
  simp only [va_up]
  split
  · exact ⟨by omega, hv, hw⟩
  · exact h i
theorem Fo.ult {up R : Nat → Nat} (h : Fo up R) {v : Nat} (hv : v < 12) : up v < 12 := by
  obtain ⟨d, h⟩ := h
  exact (h v hv).1
/-- a question's end -/
def XQp (n : Nat) (kd lf rg : Nat → Nat) (A : (Nat → Nat) → (Nat → Option Nat) → Prop) (u' : XS) : Prop := ∃ (R : Nat → Nat) (rd1 pr1 : Nat) (up1 : Nat → Nat) (pt1 wf1 : Nat → Option Nat) (qu1 : Nat → Nat) (qd1 : Nat → Bool) (pa1 pb1 : Nat → Nat), Fo up1 R ∧ Fnl n kd lf rg R pt1 ∧ A R pt1 ∧ u' = (n, true, rd1, pr1, kd, lf, rg, up1, pt1, wf1, qu1, qd1, pa1, pb1)
def Q1 (x : Int32) (P : Nat → Prop) (N : Prop) : Prop := (∃ v, v < 12 ∧ x = nI v ∧ P v) ∨ (vI x = false ∧ N)
def Q2 (x y : Int32) (P : Nat → Nat → Prop) (N : Prop) : Prop := (∃ v w, v < 12 ∧ w < 12 ∧ x = nI v ∧ y = nI w ∧ P v w) ∨ ((vI x && vI y) = false ∧ N)
/-- the least of a set, found from above -/
def Lp (f : Nat → Bool) (j b : Nat) : Prop := b < 12 ∧ ∀ u, j ≤ u → u < 12 → f u = true → f b = true ∧ b ≤ u ∧ j ≤ b
theorem Lp.yes {f : Nat → Bool} {j : Nat} (hj : j < 12) (hf : f j = true) : Lp f j j := ⟨hj, fun u h1 _ _ => ⟨hf, h1, Nat.le_refl j⟩⟩
theorem Lp.no {f : Nat → Bool} {j b : Nat} (h : Lp f (j + 1) b) (hf : f j = false) : Lp f j b := by
  refine ⟨h.1, fun u h1 h2 h3 => ?_⟩
  have hne : u ≠ j := fun e => by rw [e, hf] at h3; cases h3
  obtain ⟨a1, a2, a3⟩ := h.2 u (by omega) h2 h3
  exact ⟨a1, a2, by omega⟩
theorem or_N {x : Int32} {P : Nat → Prop} {N : Prop} (h : vI x = false) (hN : N) : Q1 x P N := Or.inr ⟨h, hN⟩
section X4W
variable {l : Launch} {D : va_G} {a : Nat → Nat} {di dz : ClassId} {n : Nat} {kn : Bool} {rd pr : Nat} {kd lf rg up : Nat → Nat} {pt wf : Nat → Option Nat} {qu : Nat → Nat} {qd : Nat → Bool} {pa pb : Nat → Nat}
set_option maxHeartbeats 4000000 in
set_option maxRecDepth 100000 in
theorem membersOf_loop (hw : WD (xw a di dz)) {Γ : GC} (C : CG D (tyZ di dz) (xw a di dz) RX0 Γ cX0_membersOf 6 (some .int)) {R : Nat → Nat} {c : Nat} (hc : c < 12) : ∀ (m v : Nat) (up : Nat → Nat), 12 < v + m → v ≤ 12 → Fo up R → JG l D (xw a di dz) Γ (rmL 1 23) 6 0 0 (QGi D (xw a di dz) Γ (fun r u' => r = aMem R c ∧ ∃ up1, Fo up1 R ∧ u' = (n, kn, rd, pr, kd, lf, rg, up1, pt, wf, qu, qd, pa, pb))) (n, kn, rd, pr, kd, lf, rg, up, pt, wf, qu, qd, pa, pb) 11 [.ref (a 0), .int (nI c), .int (nI (R c)), .int (mk (fun w => decide (R w = R c)) v), .int (nI v)] [] := by
  intro m
  induction m with
  | zero =>
    intro v up h1 h2
    omega
  | succ m ih =>
    intro v up hm hv hF
    refine g_iload C dX0_membersOf_11 rfl ?_
    refine g_bipush (v := nI 12) C dX0_membersOf_13 (by decide +kernel) ?_
    refine gn_icmp_ge (tgt := 49) C (by omega) (by omega) dX0_membersOf_15 (by decide) (fun h_15 => ?_) (fun h_15 => ?_)
    · obtain rfl : v = 12 := by omega
      refine g_iload_n C dX0_membersOf_49 rfl ?_
      exact g_iret C dX0_membersOf_50 ⟨rfl, up, hF, rfl⟩
    · refine g_aload_n C dX0_membersOf_18 rfl ?_
      refine g_iload C dX0_membersOf_19 rfl ?_
      refine x_calli (n := 1) C (met_find hw hF h_15) q105 q107 qs4 q108 (by decide +kernel) rfl ⟨rfl, rfl⟩ ⟨Nat.le_of_ble_eq_true rfl, Nat.le_of_ble_eq_true rfl⟩ ⟨Nat.le_of_ble_eq_true rfl, Nat.le_of_ble_eq_true rfl⟩ rfl (Nat.le_of_ble_eq_true rfl) dX0_membersOf_21 (fun r u' hp => ?_)
      obtain ⟨rfl, up1, hF1, rfl⟩ := hp
      have r1 := hF.lt h_15
      have r2 := hF.lt hc
      refine g_app5 C dX0_membersOf_24 rfl (by decide) ?_
      refine g_iload_n C dX0_membersOf_26 rfl ?_
      refine g_iload C dX0_membersOf_27 rfl ?_
      refine g_iload_n C dX0_membersOf_29 rfl ?_
      refine gn_icmp_ne (tgt := 40) C (by omega) (by omega) dX0_membersOf_30 (by decide) (fun h_30 => ?_) (fun h_30 => ?_)
      · refine g_iconst (v := nI 0) C dX0_membersOf_40 (by decide +kernel) ?_
        refine g_ior C dX0_membersOf_41 (mk_no (f := (fun w => decide (R w = R c))) (v := v) (by simp [h_30])) ?_
        refine g_set3 C dX0_membersOf_42 rfl (by decide) ?_
        refine g_inc4 C dX0_membersOf_43 rfl (by decide) (inc_1 _) ?_
        refine g_goto (tgt := 11) C dX0_membersOf_46 (by decide) ?_
        refine g_take 5 rfl ?_
        exact ih (v + 1) up1 (by omega) (by omega) hF1
      · refine g_iconst (v := nI 1) C dX0_membersOf_33 (by decide +kernel) ?_
        refine g_iload C dX0_membersOf_34 rfl ?_
        refine g_ishl C dX0_membersOf_36 rfl ?_
        refine g_goto (tgt := 41) C dX0_membersOf_37 (by decide) ?_
        refine g_ior C dX0_membersOf_41 (mk_yes (f := (fun w => decide (R w = R c))) (v := v) (by simp [h_30])) ?_
        refine g_set3 C dX0_membersOf_42 rfl (by decide) ?_
        refine g_inc4 C dX0_membersOf_43 rfl (by decide) (inc_1 _) ?_
        refine g_goto (tgt := 11) C dX0_membersOf_46 (by decide) ?_
        refine g_take 5 rfl ?_
        exact ih (v + 1) up1 (by omega) (by omega) hF1
set_option maxHeartbeats 4000000 in
set_option maxRecDepth 100000 in
theorem met_membersOf (hw : WD (xw a di dz)) {R : Nat → Nat} (hF : Fo up R) {c : Nat} (hc : c < 12) : MGi l D (tyZ di dz) (xw a di dz) yX0_membersOf cX0_membersOf 6 (some .int) (rmL 1 23) [.ref (a 0), .int (nI c)] (n, kn, rd, pr, kd, lf, rg, up, pt, wf, qu, qd, pa, pb) (fun r u' => r = aMem R c ∧ ∃ up1, Fo up1 R ∧ u' = (n, kn, rd, pr, kd, lf, rg, up1, pt, wf, qu, qd, pa, pb)) := by
  refine MGi.of hw (by decide +kernel) (Nat.le_of_ble_eq_true rfl) rfl (fun Γ C => ?_)
  have C : CG D (tyZ di dz) (xw a di dz) RX0 Γ cX0_membersOf 6 (some .int) := C
  refine g_aload_n C dX0_membersOf_0 rfl ?_
  refine g_iload_n C dX0_membersOf_1 rfl ?_
  refine x_calli (n := 1) C (met_find hw hF hc) q105 q107 qs4 q108 (by decide +kernel) rfl ⟨rfl, rfl⟩ ⟨Nat.le_of_ble_eq_true rfl, Nat.le_of_ble_eq_true rfl⟩ ⟨Nat.le_of_ble_eq_true rfl, Nat.le_of_ble_eq_true rfl⟩ rfl (Nat.le_of_ble_eq_true rfl) dX0_membersOf_2 (fun r u' hp => ?_)
  obtain ⟨rfl, up1, hF1, rfl⟩ := hp
  refine g_app2 C dX0_membersOf_5 rfl (by decide) ?_
  refine g_iconst (v := nI 0) C dX0_membersOf_6 (by decide +kernel) ?_
  refine g_app3 C dX0_membersOf_7 rfl (by decide) ?_
  refine g_iconst (v := nI 0) C dX0_membersOf_8 (by decide +kernel) ?_
  refine g_app4 C dX0_membersOf_9 rfl (by decide) ?_
  exact membersOf_loop hw C hc 13 0 up1 (by omega) (by omega) hF1
set_option maxHeartbeats 4000000 in
set_option maxRecDepth 100000 in
theorem met_same (hw : WD (xw a di dz)) (hn : n ≤ 24) (hB : B12 kd lf rg) (hk : kn = true → Wd n kd lf rg up pt) (x y : Int32) : MGi l D (tyZ di dz) (xw a di dz) yX0_same cX0_same 5 (some .int) (rmL 6 141) [.ref (a 0), .int x, .int y] (n, kn, rd, pr, kd, lf, rg, up, pt, wf, qu, qd, pa, pb) (fun r u' => Q2 x y (fun v w => XQp n kd lf rg (fun R _ => r = aSame R v w) u') (r = oI none ∧ u' = (n, kn, rd, pr, kd, lf, rg, up, pt, wf, qu, qd, pa, pb))) := by
  refine MGi.of hw (by decide +kernel) (Nat.le_of_ble_eq_true rfl) rfl (fun Γ C => ?_)
  have C : CG D (tyZ di dz) (xw a di dz) RX0 Γ cX0_same 5 (some .int) := C
  refine g_iload_n C dX0_same_0 rfl ?_
  refine g_calls (n := 1) C (met_isV x) (lw_S q78 q79 q19 q80) (by decide +kernel) rfl ⟨rfl, rfl⟩ ⟨Nat.le_of_ble_eq_true rfl, Nat.le_of_ble_eq_true rfl⟩ ⟨Nat.le_of_ble_eq_true rfl, Nat.le_of_ble_eq_true rfl⟩ rfl (Nat.le_of_ble_eq_true rfl) dX0_same_1 (fun r hp => ?_)
  obtain rfl := hp
  refine gb_if_eq (tgt := 14) C dX0_same_4 (by decide) (fun h_4 => ?_) (fun h_4 => ?_)
  · refine g_iconst (v := oI none) C dX0_same_14 (by decide +kernel) ?_
    exact g_iret C dX0_same_15 (Or.inr ⟨by simp [h_4], rfl, rfl⟩)
  · refine g_iload_n C dX0_same_7 rfl ?_
    refine g_calls (n := 1) C (met_isV y) (lw_S q78 q79 q19 q80) (by decide +kernel) rfl ⟨rfl, rfl⟩ ⟨Nat.le_of_ble_eq_true rfl, Nat.le_of_ble_eq_true rfl⟩ ⟨Nat.le_of_ble_eq_true rfl, Nat.le_of_ble_eq_true rfl⟩ rfl (Nat.le_of_ble_eq_true rfl) dX0_same_8 (fun r hp => ?_)
    obtain rfl := hp
    refine gb_if_ne (tgt := 16) C dX0_same_11 (by decide) (fun h_11 => ?_) (fun h_11 => ?_)
    · obtain ⟨v, hv, rfl⟩ := vI_some h_4
      obtain ⟨w, hw2, rfl⟩ := vI_some h_11
      refine g_aload_n C dX0_same_16 rfl ?_
      refine x_callv (n := 0) C (met_workOut hw hn hB hk) q89 q91 qs0 q92 (by decide +kernel) rfl ⟨rfl, rfl⟩ ⟨Nat.le_of_ble_eq_true rfl, Nat.le_of_ble_eq_true rfl⟩ ⟨Nat.le_of_ble_eq_true rfl, Nat.le_of_ble_eq_true rfl⟩ rfl (Nat.le_of_ble_eq_true rfl) dX0_same_17 (fun u' hp => ?_)
      obtain ⟨rd1, pr1, up1, pt1, wf1, qu1, qd1, pa1, pb1, ⟨R, hF, hL⟩, rfl⟩ := hp
      refine g_aload_n C dX0_same_20 rfl ?_
      refine g_iload_n C dX0_same_21 rfl ?_
      refine x_calli (n := 1) C (met_find hw hF hv) q105 q107 qs4 q108 (by decide +kernel) rfl ⟨rfl, rfl⟩ ⟨Nat.le_of_ble_eq_true rfl, Nat.le_of_ble_eq_true rfl⟩ ⟨Nat.le_of_ble_eq_true rfl, Nat.le_of_ble_eq_true rfl⟩ rfl (Nat.le_of_ble_eq_true rfl) dX0_same_22 (fun r u' hp => ?_)
      obtain ⟨rfl, up2, hF2, rfl⟩ := hp
      refine g_app3 C dX0_same_25 rfl (by decide) ?_
      refine g_aload_n C dX0_same_26 rfl ?_
      refine g_iload_n C dX0_same_27 rfl ?_
      refine x_calli (n := 1) C (met_find hw hF2 hw2) q105 q107 qs4 q108 (by decide +kernel) rfl ⟨rfl, rfl⟩ ⟨Nat.le_of_ble_eq_true rfl, Nat.le_of_ble_eq_true rfl⟩ ⟨Nat.le_of_ble_eq_true rfl, Nat.le_of_ble_eq_true rfl⟩ rfl (Nat.le_of_ble_eq_true rfl) dX0_same_28 (fun r u' hp => ?_)
      obtain ⟨rfl, up3, hF3, rfl⟩ := hp
      have r1 := hF.lt hv
      have r2 := hF.lt hw2
      refine g_app4 C dX0_same_31 rfl (by decide) ?_
      refine g_iload_n C dX0_same_33 rfl ?_
      refine g_iload C dX0_same_34 rfl ?_
      refine gn_icmp_ne (tgt := 43) C (by omega) (by omega) dX0_same_36 (by decide) (fun h_36 => ?_) (fun h_36 => ?_)
      · refine g_iconst (v := bI false) C dX0_same_43 (by decide +kernel) ?_
        exact g_iret C dX0_same_44 (Or.inl ⟨v, w, hv, hw2, rfl, rfl, R, rd1, pr1, up3, pt1, wf1, qu1, qd1, pa1, pb1, hF3, hL, by simp [aSame, h_36], rfl⟩)
      · refine g_iconst (v := bI true) C dX0_same_39 (by decide +kernel) ?_
        refine g_goto (tgt := 44) C dX0_same_40 (by decide) ?_
        exact g_iret C dX0_same_44 (Or.inl ⟨v, w, hv, hw2, rfl, rfl, R, rd1, pr1, up3, pt1, wf1, qu1, qd1, pa1, pb1, hF3, hL, by simp [aSame, h_36], rfl⟩)
    · refine g_iconst (v := oI none) C dX0_same_14 (by decide +kernel) ?_
      exact g_iret C dX0_same_15 (Or.inr ⟨by simp [h_11], rfl, rfl⟩)
set_option maxHeartbeats 4000000 in
set_option maxRecDepth 100000 in
theorem met_members (hw : WD (xw a di dz)) (hn : n ≤ 24) (hB : B12 kd lf rg) (hk : kn = true → Wd n kd lf rg up pt) (x : Int32) : MGi l D (tyZ di dz) (xw a di dz) yX0_members cX0_members 2 (some .int) (rmL 6 141) [.ref (a 0), .int x] (n, kn, rd, pr, kd, lf, rg, up, pt, wf, qu, qd, pa, pb) (fun r u' => Q1 x (fun v => XQp n kd lf rg (fun R _ => r = aMem R v) u') (r = oI none ∧ u' = (n, kn, rd, pr, kd, lf, rg, up, pt, wf, qu, qd, pa, pb))) := by
  refine MGi.of hw (by decide +kernel) (Nat.le_of_ble_eq_true rfl) rfl (fun Γ C => ?_)
  have C : CG D (tyZ di dz) (xw a di dz) RX0 Γ cX0_members 2 (some .int) := C
  refine g_iload_n C dX0_members_0 rfl ?_
  refine g_calls (n := 1) C (met_isV x) (lw_S q78 q79 q19 q80) (by decide +kernel) rfl ⟨rfl, rfl⟩ ⟨Nat.le_of_ble_eq_true rfl, Nat.le_of_ble_eq_true rfl⟩ ⟨Nat.le_of_ble_eq_true rfl, Nat.le_of_ble_eq_true rfl⟩ rfl (Nat.le_of_ble_eq_true rfl) dX0_members_1 (fun r hp => ?_)
  obtain rfl := hp
  refine gb_if_ne (tgt := 9) C dX0_members_4 (by decide) (fun h_4 => ?_) (fun h_4 => ?_)
  · obtain ⟨v, hv, rfl⟩ := vI_some h_4
    refine g_aload_n C dX0_members_9 rfl ?_
    refine x_callv (n := 0) C (met_workOut hw hn hB hk) q89 q91 qs0 q92 (by decide +kernel) rfl ⟨rfl, rfl⟩ ⟨Nat.le_of_ble_eq_true rfl, Nat.le_of_ble_eq_true rfl⟩ ⟨Nat.le_of_ble_eq_true rfl, Nat.le_of_ble_eq_true rfl⟩ rfl (Nat.le_of_ble_eq_true rfl) dX0_members_10 (fun u' hp => ?_)
    obtain ⟨rd1, pr1, up1, pt1, wf1, qu1, qd1, pa1, pb1, ⟨R, hF, hL⟩, rfl⟩ := hp
    refine g_aload_n C dX0_members_13 rfl ?_
    refine g_iload_n C dX0_members_14 rfl ?_
    refine x_calli (n := 1) C (met_membersOf hw hF hv) q137 q139 qs11 q140 (by decide +kernel) rfl ⟨rfl, rfl⟩ ⟨Nat.le_of_ble_eq_true rfl, Nat.le_of_ble_eq_true rfl⟩ ⟨Nat.le_of_ble_eq_true rfl, Nat.le_of_ble_eq_true rfl⟩ rfl (Nat.le_of_ble_eq_true rfl) dX0_members_15 (fun r u' hp => ?_)
    obtain ⟨rfl, up2, hF2, rfl⟩ := hp
    exact g_iret C dX0_members_18 (Or.inl ⟨v, hv, rfl, R, rd1, pr1, up2, pt1, wf1, qu1, qd1, pa1, pb1, hF2, hL, rfl, rfl⟩)
  · refine g_iconst (v := oI none) C dX0_members_7 (by decide +kernel) ?_
    exact g_iret C dX0_members_8 (Or.inr ⟨h_4, rfl, rfl⟩)
set_option maxHeartbeats 4000000 in
set_option maxRecDepth 100000 in
theorem target_loop {Γ : GC} (C : CG D (tyZ di dz) (xw a di dz) RX0 Γ cX0_target 7 (some .int)) {post : Int32 → XS → Prop} {i1 i2 i3 sv : Int32} {f : Nat → Bool} (hsv : ∀ v, v < 12 → bt sv v = f v) (hex : ∃ u, u < 12 ∧ f u = true) (hpost : ∀ b, b < 12 → f b = true → (∀ u, u < b → f u = false) → post (nI b) (n, kn, rd, pr, kd, lf, rg, up, pt, wf, qu, qd, pa, pb)) : ∀ (j b : Nat), j ≤ 12 → Lp f j b → JG l D (xw a di dz) Γ (rmL 6 141) 7 0 0 (QGi D (xw a di dz) Γ post) (n, kn, rd, pr, kd, lf, rg, up, pt, wf, qu, qd, pa, pb) 46 [.ref (a 0), .int i1, .int i2, .int i3, .int sv, .int (nI b), .int (pm j)] [] := by
  intro j
  induction j with
  | zero =>
    intro b hj hL
    refine g_iload C dX0_target_46 rfl ?_
    refine gr_if_lt (tgt := 76) C dX0_target_48 (by decide) (fun h_48 => ?_) (fun h_48 => ?_)
    · refine g_iload C dX0_target_76 rfl ?_
      refine g_iret C dX0_target_78 ?_
      obtain ⟨u, hu, hfu⟩ := hex
      obtain ⟨a1, a2, a3⟩ := hL.2 u (by omega) hu hfu
      refine hpost b hL.1 a1 (fun q hq => ?_)
      cases hfq : f q with
      | false => rfl
      | true =>
        have := (hL.2 q (by omega) (by have := hL.1; omega) hfq).2.1
        omega
    · exact absurd (by decide +kernel) h_48
  | succ j ih =>
    intro b hj hL
    refine g_iload C dX0_target_46 rfl ?_
    refine gn_if_lt (tgt := 76) C (by omega) dX0_target_48 (by decide) ?_
    refine g_iload C dX0_target_51 rfl ?_
    refine g_iload C dX0_target_53 rfl ?_
    refine g_iushr C dX0_target_55 rfl ?_
    refine g_iconst (v := nI 1) C dX0_target_56 (by decide +kernel) ?_
    refine g_iand C dX0_target_57 rfl ?_
    refine gr_if_eq (tgt := 66) C dX0_target_58 (by decide) (fun h_58 => ?_) (fun h_58 => ?_)
    · refine g_iload C dX0_target_66 rfl ?_
      refine g_set5 C dX0_target_68 rfl (by decide) ?_
      refine g_inc6 C dX0_target_70 rfl (by decide) (pm_dec _) ?_
      refine g_goto (tgt := 46) C dX0_target_73 (by decide) ?_
      exact ih b (by omega) (hL.no (by rw [← hsv j (by omega)]; exact (tst_u (by omega)).mp h_58))
    · refine g_iload C dX0_target_61 rfl ?_
      refine g_goto (tgt := 68) C dX0_target_63 (by decide) ?_
      refine g_set5 C dX0_target_68 rfl (by decide) ?_
      refine g_inc6 C dX0_target_70 rfl (by decide) (pm_dec _) ?_
      refine g_goto (tgt := 46) C dX0_target_73 (by decide) ?_
      exact ih j (by omega) (Lp.yes (by omega) (by rw [← hsv j (by omega)]; exact (Bool.not_eq_false _).mp (fun q => h_58 ((tst_u (by omega)).mpr q))))
set_option maxHeartbeats 4000000 in
set_option maxRecDepth 100000 in
theorem met_target (hw : WD (xw a di dz)) (hn : n ≤ 24) (hB : B12 kd lf rg) (hk : kn = true → Wd n kd lf rg up pt) (x : Int32) : MGi l D (tyZ di dz) (xw a di dz) yX0_target cX0_target 7 (some .int) (rmL 6 141) [.ref (a 0), .int x] (n, kn, rd, pr, kd, lf, rg, up, pt, wf, qu, qd, pa, pb) (fun r u' => Q1 x (fun v => XQp n kd lf rg (fun R pt => aTgt R pt v r) u') (r = oI none ∧ u' = (n, kn, rd, pr, kd, lf, rg, up, pt, wf, qu, qd, pa, pb))) := by
  refine MGi.of hw (by decide +kernel) (Nat.le_of_ble_eq_true rfl) rfl (fun Γ C => ?_)
  have C : CG D (tyZ di dz) (xw a di dz) RX0 Γ cX0_target 7 (some .int) := C
  refine g_iload_n C dX0_target_0 rfl ?_
  refine g_calls (n := 1) C (met_isV x) (lw_S q78 q79 q19 q80) (by decide +kernel) rfl ⟨rfl, rfl⟩ ⟨Nat.le_of_ble_eq_true rfl, Nat.le_of_ble_eq_true rfl⟩ ⟨Nat.le_of_ble_eq_true rfl, Nat.le_of_ble_eq_true rfl⟩ rfl (Nat.le_of_ble_eq_true rfl) dX0_target_1 (fun r hp => ?_)
  obtain rfl := hp
  refine gb_if_ne (tgt := 9) C dX0_target_4 (by decide) (fun h_4 => ?_) (fun h_4 => ?_)
  · obtain ⟨v, hv, rfl⟩ := vI_some h_4
    refine g_aload_n C dX0_target_9 rfl ?_
    refine x_callv (n := 0) C (met_workOut hw hn hB hk) q89 q91 qs0 q92 (by decide +kernel) rfl ⟨rfl, rfl⟩ ⟨Nat.le_of_ble_eq_true rfl, Nat.le_of_ble_eq_true rfl⟩ ⟨Nat.le_of_ble_eq_true rfl, Nat.le_of_ble_eq_true rfl⟩ rfl (Nat.le_of_ble_eq_true rfl) dX0_target_10 (fun u' hp => ?_)
    obtain ⟨rd1, pr1, up1, pt1, wf1, qu1, qd1, pa1, pb1, ⟨R, hF, hL⟩, rfl⟩ := hp
    refine g_aload_n C dX0_target_13 rfl ?_
    refine g_iload_n C dX0_target_14 rfl ?_
    refine x_calli (n := 1) C (met_find hw hF hv) q105 q107 qs4 q108 (by decide +kernel) rfl ⟨rfl, rfl⟩ ⟨Nat.le_of_ble_eq_true rfl, Nat.le_of_ble_eq_true rfl⟩ ⟨Nat.le_of_ble_eq_true rfl, Nat.le_of_ble_eq_true rfl⟩ rfl (Nat.le_of_ble_eq_true rfl) dX0_target_15 (fun r u' hp => ?_)
    obtain ⟨rfl, up2, hF2, rfl⟩ := hp
    have r1 := hF.lt hv
    refine g_app2 C dX0_target_18 rfl (by decide) ?_
    refine g_aload_n C dX0_target_19 rfl ?_
    refine x_get_pt C dX0_target_20 ?_
    refine g_iload_n C dX0_target_23 rfl ?_
    refine x_ld_pt C (by omega) rfl dX0_target_24 ?_
    refine g_app3 C dX0_target_25 rfl (by decide) ?_
    refine g_iload_n C dX0_target_26 rfl ?_
    refine go_if_ge (tgt := 32) C (fun t ht => by have := hL.2.1 _ t r1 ht; omega) dX0_target_27 (by decide) (fun t h_27 => ?_) (fun h_27 => ?_)
    · rw [h_27]
      have ht : t < 12 := hL.2.1 _ t r1 h_27
      refine g_aload_n C dX0_target_32 rfl ?_
      refine g_iload_n C dX0_target_33 rfl ?_
      refine x_calli (n := 1) C (met_membersOf hw hF2 (c := t) ht) q137 q139 qs11 q140 (by decide +kernel) rfl ⟨rfl, rfl⟩ ⟨Nat.le_of_ble_eq_true rfl, Nat.le_of_ble_eq_true rfl⟩ ⟨Nat.le_of_ble_eq_true rfl, Nat.le_of_ble_eq_true rfl⟩ rfl (Nat.le_of_ble_eq_true rfl) dX0_target_34 (fun r u' hp => ?_)
      obtain ⟨rfl, up3, hF3, rfl⟩ := hp
      refine g_app4 C dX0_target_37 rfl (by decide) ?_
      refine g_iconst (v := nI 0) C dX0_target_39 (by decide +kernel) ?_
      refine g_app5 C dX0_target_40 rfl (by decide) ?_
      refine g_bipush (v := nI 11) C dX0_target_42 (by decide +kernel) ?_
      refine g_app6 C dX0_target_44 rfl (by decide) ?_
      refine target_loop C (f := fun w => decide (R w = R t)) (fun v hv => ?_) ⟨t, ht, by simp⟩ (fun b hb h1 h2 => Or.inl ⟨v, hv, rfl, R, rd1, pr1, up3, pt1, wf1, qu1, qd1, pa1, pb1, hF3, hL, Or.inr ⟨t, b, h_27, rfl, hb, by simpa using h1, fun u hu => by simpa using h2 u hu⟩, rfl⟩) 12 0 (by omega) ⟨by omega, fun u h1 h2 => by omega⟩
      simp only [aMem]
      rw [b_mk _ 12 (by omega) v (by omega), decide_eq_true hv, Bool.true_and]
    · refine g_iconst (v := oI none) C dX0_target_30 (by decide +kernel) ?_
      exact g_iret C dX0_target_31 (Or.inl ⟨v, hv, rfl, R, rd1, pr1, up2, pt1, wf1, qu1, qd1, pa1, pb1, hF2, hL, Or.inl ⟨h_27, rfl⟩, rfl⟩)
  · refine g_iconst (v := oI none) C dX0_target_7 (by decide +kernel) ?_
    exact g_iret C dX0_target_8 (Or.inr ⟨h_4, rfl, rfl⟩)
set_option maxHeartbeats 4000000 in
set_option maxRecDepth 100000 in
theorem met_meet (hw : WD (xw a di dz)) (hn : n ≤ 24) (hB : B12 kd lf rg) (hk : kn = true → Wd n kd lf rg up pt) (x y : Int32) : MGi l D (tyZ di dz) (xw a di dz) yX0_meet cX0_meet 7 (some .int) (rmL 6 141) [.ref (a 0), .int x, .int y] (n, kn, rd, pr, kd, lf, rg, up, pt, wf, qu, qd, pa, pb) (fun r u' => Q2 x y (fun v w => XQp n kd lf rg (fun R pt => aMeet R pt v w r) u') (r = oI none ∧ u' = (n, kn, rd, pr, kd, lf, rg, up, pt, wf, qu, qd, pa, pb))) := by
  refine MGi.of hw (by decide +kernel) (Nat.le_of_ble_eq_true rfl) rfl (fun Γ C => ?_)
  have C : CG D (tyZ di dz) (xw a di dz) RX0 Γ cX0_meet 7 (some .int) := C
  refine g_iload_n C dX0_meet_0 rfl ?_
  refine g_calls (n := 1) C (met_isV x) (lw_S q78 q79 q19 q80) (by decide +kernel) rfl ⟨rfl, rfl⟩ ⟨Nat.le_of_ble_eq_true rfl, Nat.le_of_ble_eq_true rfl⟩ ⟨Nat.le_of_ble_eq_true rfl, Nat.le_of_ble_eq_true rfl⟩ rfl (Nat.le_of_ble_eq_true rfl) dX0_meet_1 (fun r hp => ?_)
  obtain rfl := hp
  refine gb_if_eq (tgt := 14) C dX0_meet_4 (by decide) (fun h_4 => ?_) (fun h_4 => ?_)
  · refine g_iconst (v := oI none) C dX0_meet_14 (by decide +kernel) ?_
    exact g_iret C dX0_meet_15 (Or.inr ⟨by simp [h_4], rfl, rfl⟩)
  · refine g_iload_n C dX0_meet_7 rfl ?_
    refine g_calls (n := 1) C (met_isV y) (lw_S q78 q79 q19 q80) (by decide +kernel) rfl ⟨rfl, rfl⟩ ⟨Nat.le_of_ble_eq_true rfl, Nat.le_of_ble_eq_true rfl⟩ ⟨Nat.le_of_ble_eq_true rfl, Nat.le_of_ble_eq_true rfl⟩ rfl (Nat.le_of_ble_eq_true rfl) dX0_meet_8 (fun r hp => ?_)
    obtain rfl := hp
    refine gb_if_ne (tgt := 16) C dX0_meet_11 (by decide) (fun h_11 => ?_) (fun h_11 => ?_)
    · obtain ⟨v, hv, rfl⟩ := vI_some h_4
      obtain ⟨w, hw2, rfl⟩ := vI_some h_11
      refine g_aload_n C dX0_meet_16 rfl ?_
      refine x_callv (n := 0) C (met_workOut hw hn hB hk) q89 q91 qs0 q92 (by decide +kernel) rfl ⟨rfl, rfl⟩ ⟨Nat.le_of_ble_eq_true rfl, Nat.le_of_ble_eq_true rfl⟩ ⟨Nat.le_of_ble_eq_true rfl, Nat.le_of_ble_eq_true rfl⟩ rfl (Nat.le_of_ble_eq_true rfl) dX0_meet_17 (fun u' hp => ?_)
      obtain ⟨rd1, pr1, up1, pt1, wf1, qu1, qd1, pa1, pb1, ⟨R, hF, hL⟩, rfl⟩ := hp
      refine g_aload_n C dX0_meet_20 rfl ?_
      refine x_get_pt C dX0_meet_21 ?_
      refine g_aload_n C dX0_meet_24 rfl ?_
      refine g_iload_n C dX0_meet_25 rfl ?_
      refine x_calli (n := 1) C (met_find hw hF hv) q105 q107 qs4 q108 (by decide +kernel) rfl ⟨rfl, rfl⟩ ⟨Nat.le_of_ble_eq_true rfl, Nat.le_of_ble_eq_true rfl⟩ ⟨Nat.le_of_ble_eq_true rfl, Nat.le_of_ble_eq_true rfl⟩ rfl (Nat.le_of_ble_eq_true rfl) dX0_meet_26 (fun r u' hp => ?_)
      obtain ⟨rfl, up2, hF2, rfl⟩ := hp
      have r1 := hF.lt hv
      refine x_ld_pt C (by omega) rfl dX0_meet_29 ?_
      refine g_app3 C dX0_meet_30 rfl (by decide) ?_
      refine g_aload_n C dX0_meet_31 rfl ?_
      refine x_get_pt C dX0_meet_32 ?_
      refine g_aload_n C dX0_meet_35 rfl ?_
      refine g_iload_n C dX0_meet_36 rfl ?_
      refine x_calli (n := 1) C (met_find hw hF2 hw2) q105 q107 qs4 q108 (by decide +kernel) rfl ⟨rfl, rfl⟩ ⟨Nat.le_of_ble_eq_true rfl, Nat.le_of_ble_eq_true rfl⟩ ⟨Nat.le_of_ble_eq_true rfl, Nat.le_of_ble_eq_true rfl⟩ rfl (Nat.le_of_ble_eq_true rfl) dX0_meet_37 (fun r u' hp => ?_)
      obtain ⟨rfl, up3, hF3, rfl⟩ := hp
      have r2 := hF.lt hw2
      refine x_ld_pt C (by omega) rfl dX0_meet_40 ?_
      refine g_app4 C dX0_meet_41 rfl (by decide) ?_
      refine g_iload_n C dX0_meet_43 rfl ?_
      refine go_if_lt (tgt := 52) C (fun t ht => by have := hL.2.1 _ t r1 ht; omega) dX0_meet_44 (by decide) (fun h_44 => ?_) (fun s h_44 => ?_)
      · refine g_iconst (v := bI false) C dX0_meet_52 (by decide +kernel) ?_
        exact g_iret C dX0_meet_53 (Or.inl ⟨v, w, hv, hw2, rfl, rfl, R, rd1, pr1, up3, pt1, wf1, qu1, qd1, pa1, pb1, hF3, hL, Or.inr ⟨rfl, fun ⟨p, q, h1, _⟩ => by rw [h_44] at h1; cases h1⟩, rfl⟩)
      · refine g_iload C dX0_meet_47 rfl ?_
        refine go_if_ge (tgt := 54) C (fun t ht => by have := hL.2.1 _ t r2 ht; omega) dX0_meet_49 (by decide) (fun t h_49 => ?_) (fun h_49 => ?_)
        · rw [h_44, h_49]
          have hs : s < 12 := hL.2.1 _ s r1 h_44
          have ht : t < 12 := hL.2.1 _ t r2 h_49
          refine g_aload_n C dX0_meet_54 rfl ?_
          refine g_iload_n C dX0_meet_55 rfl ?_
          refine x_calli (n := 1) C (met_find hw hF3 (v := s) hs) q105 q107 qs4 q108 (by decide +kernel) rfl ⟨rfl, rfl⟩ ⟨Nat.le_of_ble_eq_true rfl, Nat.le_of_ble_eq_true rfl⟩ ⟨Nat.le_of_ble_eq_true rfl, Nat.le_of_ble_eq_true rfl⟩ rfl (Nat.le_of_ble_eq_true rfl) dX0_meet_56 (fun r u' hp => ?_)
          obtain ⟨rfl, up4, hF4, rfl⟩ := hp
          refine g_app5 C dX0_meet_59 rfl (by decide) ?_
          refine g_aload_n C dX0_meet_61 rfl ?_
          refine g_iload C dX0_meet_62 rfl ?_
          refine x_calli (n := 1) C (met_find hw hF4 (v := t) ht) q105 q107 qs4 q108 (by decide +kernel) rfl ⟨rfl, rfl⟩ ⟨Nat.le_of_ble_eq_true rfl, Nat.le_of_ble_eq_true rfl⟩ ⟨Nat.le_of_ble_eq_true rfl, Nat.le_of_ble_eq_true rfl⟩ rfl (Nat.le_of_ble_eq_true rfl) dX0_meet_64 (fun r u' hp => ?_)
          obtain ⟨rfl, up5, hF5, rfl⟩ := hp
          have r3 := hF.lt hs
          have r4 := hF.lt ht
          refine g_app6 C dX0_meet_67 rfl (by decide) ?_
          refine g_iload C dX0_meet_69 rfl ?_
          refine g_iload C dX0_meet_71 rfl ?_
          refine gn_icmp_ne (tgt := 80) C (by omega) (by omega) dX0_meet_73 (by decide) (fun h_73 => ?_) (fun h_73 => ?_)
          · refine g_iconst (v := bI false) C dX0_meet_80 (by decide +kernel) ?_
            exact g_iret C dX0_meet_81 (Or.inl ⟨v, w, hv, hw2, rfl, rfl, R, rd1, pr1, up5, pt1, wf1, qu1, qd1, pa1, pb1, hF5, hL, Or.inr ⟨rfl, fun ⟨p, q, h1, h2, h3⟩ => by rw [h_44] at h1; rw [h_49] at h2; cases h1; cases h2; exact h_73 h3⟩, rfl⟩)
          · refine g_iconst (v := bI true) C dX0_meet_76 (by decide +kernel) ?_
            refine g_goto (tgt := 81) C dX0_meet_77 (by decide) ?_
            exact g_iret C dX0_meet_81 (Or.inl ⟨v, w, hv, hw2, rfl, rfl, R, rd1, pr1, up5, pt1, wf1, qu1, qd1, pa1, pb1, hF5, hL, Or.inl ⟨rfl, s, t, h_44, h_49, h_73⟩, rfl⟩)
        · refine g_iconst (v := bI false) C dX0_meet_52 (by decide +kernel) ?_
          exact g_iret C dX0_meet_53 (Or.inl ⟨v, w, hv, hw2, rfl, rfl, R, rd1, pr1, up3, pt1, wf1, qu1, qd1, pa1, pb1, hF3, hL, Or.inr ⟨rfl, fun ⟨p, q, _, h2, _⟩ => by rw [h_49] at h2; cases h2⟩, rfl⟩)
    · refine g_iconst (v := oI none) C dX0_meet_14 (by decide +kernel) ?_
      exact g_iret C dX0_meet_15 (Or.inr ⟨by simp [h_11], rfl, rfl⟩)
set_option maxHeartbeats 4000000 in
set_option maxRecDepth 100000 in
theorem classes_loop {Γ : GC} (C : CG D (tyZ di dz) (xw a di dz) RX0 Γ cX0_classes 3 (some .int)) {R : Nat → Nat} (hF : Fo up R) (hL : Fnl n kd lf rg R pt) : ∀ (m v : Nat), 12 < v + m → v ≤ 12 → JG l D (xw a di dz) Γ (rmL 6 141) 3 0 0 (QGi D (xw a di dz) Γ (fun r u' => XQp n kd lf rg (fun R _ => r = nI (cls R)) u')) (n, true, rd, pr, kd, lf, rg, up, pt, wf, qu, qd, pa, pb) 8 [.ref (a 0), .int (nI (cn (fun w => decide (R w = w)) v)), .int (nI v)] [] := by
  intro m
  induction m with
  | zero =>
    intro v h1 h2
    omega
  | succ m ih =>
    intro v hm hv
    have hcv := cn_le (fun w => decide (R w = w)) v
    refine g_iload_n C dX0_classes_8 rfl ?_
    refine g_bipush (v := nI 12) C dX0_classes_9 (by decide +kernel) ?_
    refine gn_icmp_ge (tgt := 38) C (by omega) (by omega) dX0_classes_11 (by decide) (fun h_11 => ?_) (fun h_11 => ?_)
    · obtain rfl : v = 12 := by omega
      refine g_iload_n C dX0_classes_38 rfl ?_
      exact g_iret C dX0_classes_39 ⟨R, rd, pr, up, pt, wf, qu, qd, pa, pb, hF, hL, rfl, rfl⟩
    · have u1 := hF.ult h_11
      refine g_iload_n C dX0_classes_14 rfl ?_
      refine g_aload_n C dX0_classes_15 rfl ?_
      refine x_get_up C dX0_classes_16 ?_
      refine g_iload_n C dX0_classes_19 rfl ?_
      refine x_ld_up C (by omega) rfl dX0_classes_20 ?_
      refine g_iload_n C dX0_classes_21 rfl ?_
      refine gn_icmp_ne (tgt := 29) C (by omega) (by omega) dX0_classes_22 (by decide) (fun h_22 => ?_) (fun h_22 => ?_)
      · refine g_iconst (v := nI 0) C dX0_classes_29 (by decide +kernel) ?_
        refine g_iadd C dX0_classes_30 (cn_n (f := (fun w => decide (R w = w))) (v := v) (by simpa using fun q => h_22 ((hF.up_iff h_11).mpr q))) ?_
        refine g_set1 C dX0_classes_31 rfl (by decide) ?_
        refine g_inc2 C dX0_classes_32 rfl (by decide) (inc_1 _) ?_
        refine g_goto (tgt := 8) C dX0_classes_35 (by decide) ?_
        exact ih (v + 1) (by omega) (by omega)
      · refine g_iconst (v := nI 1) C dX0_classes_25 (by decide +kernel) ?_
        refine g_goto (tgt := 30) C dX0_classes_26 (by decide) ?_
        refine g_iadd C dX0_classes_30 (cn_y (f := (fun w => decide (R w = w))) (v := v) (by simpa using (hF.up_iff h_11).mp h_22)) ?_
        refine g_set1 C dX0_classes_31 rfl (by decide) ?_
        refine g_inc2 C dX0_classes_32 rfl (by decide) (inc_1 _) ?_
        refine g_goto (tgt := 8) C dX0_classes_35 (by decide) ?_
        exact ih (v + 1) (by omega) (by omega)
set_option maxHeartbeats 4000000 in
set_option maxRecDepth 100000 in
theorem met_classes (hw : WD (xw a di dz)) (hn : n ≤ 24) (hB : B12 kd lf rg) (hk : kn = true → Wd n kd lf rg up pt) : MGi l D (tyZ di dz) (xw a di dz) yX0_classes cX0_classes 3 (some .int) (rmL 6 141) [.ref (a 0)] (n, kn, rd, pr, kd, lf, rg, up, pt, wf, qu, qd, pa, pb) (fun r u' => XQp n kd lf rg (fun R _ => r = nI (cls R)) u') := by
  refine MGi.of hw (by decide +kernel) (Nat.le_of_ble_eq_true rfl) rfl (fun Γ C => ?_)
  have C : CG D (tyZ di dz) (xw a di dz) RX0 Γ cX0_classes 3 (some .int) := C
  refine g_aload_n C dX0_classes_0 rfl ?_
  refine x_callv (n := 0) C (met_workOut hw hn hB hk) q89 q91 qs0 q92 (by decide +kernel) rfl ⟨rfl, rfl⟩ ⟨Nat.le_of_ble_eq_true rfl, Nat.le_of_ble_eq_true rfl⟩ ⟨Nat.le_of_ble_eq_true rfl, Nat.le_of_ble_eq_true rfl⟩ rfl (Nat.le_of_ble_eq_true rfl) dX0_classes_1 (fun u' hp => ?_)
  obtain ⟨rd1, pr1, up1, pt1, wf1, qu1, qd1, pa1, pb1, ⟨R, hF, hL⟩, rfl⟩ := hp
  refine g_iconst (v := nI 0) C dX0_classes_4 (by decide +kernel) ?_
  refine g_app1 C dX0_classes_5 rfl (by decide) ?_
  refine g_iconst (v := nI 0) C dX0_classes_6 (by decide +kernel) ?_
  refine g_app2 C dX0_classes_7 rfl (by decide) ?_
  exact classes_loop C hF hL 13 0 (by omega) (by omega)
set_option maxHeartbeats 4000000 in
set_option maxRecDepth 100000 in
theorem pointing_loop {Γ : GC} (C : CG D (tyZ di dz) (xw a di dz) RX0 Γ cX0_pointing 3 (some .int)) {R : Nat → Nat} (hF : Fo up R) (hL : Fnl n kd lf rg R pt) : ∀ (m v : Nat), 12 < v + m → v ≤ 12 → JG l D (xw a di dz) Γ (rmL 6 141) 3 0 0 (QGi D (xw a di dz) Γ (fun r u' => XQp n kd lf rg (fun R pt => r = nI (cn (fun w => decide (R w = w) && (pt w).isSome) 12)) u')) (n, true, rd, pr, kd, lf, rg, up, pt, wf, qu, qd, pa, pb) 8 [.ref (a 0), .int (nI (cn (fun w => decide (R w = w) && (pt w).isSome) v)), .int (nI v)] [] := by
  intro m
  induction m with
  | zero =>
    intro v h1 h2
    omega
  | succ m ih =>
    intro v hm hv
    have hcv := cn_le (fun w => decide (R w = w) && (pt w).isSome) v
    refine g_iload_n C dX0_pointing_8 rfl ?_
    refine g_bipush (v := nI 12) C dX0_pointing_9 (by decide +kernel) ?_
    refine gn_icmp_ge (tgt := 47) C (by omega) (by omega) dX0_pointing_11 (by decide) (fun h_11 => ?_) (fun h_11 => ?_)
    · obtain rfl : v = 12 := by omega
      refine g_iload_n C dX0_pointing_47 rfl ?_
      exact g_iret C dX0_pointing_48 ⟨R, rd, pr, up, pt, wf, qu, qd, pa, pb, hF, hL, rfl, rfl⟩
    · have u1 := hF.ult h_11
      refine g_iload_n C dX0_pointing_14 rfl ?_
      refine g_aload_n C dX0_pointing_15 rfl ?_
      refine x_get_up C dX0_pointing_16 ?_
      refine g_iload_n C dX0_pointing_19 rfl ?_
      refine x_ld_up C (by omega) rfl dX0_pointing_20 ?_
      refine g_iload_n C dX0_pointing_21 rfl ?_
      refine gn_icmp_ne (tgt := 38) C (by omega) (by omega) dX0_pointing_22 (by decide) (fun h_22 => ?_) (fun h_22 => ?_)
      · refine g_iconst (v := nI 0) C dX0_pointing_38 (by decide +kernel) ?_
        refine g_iadd C dX0_pointing_39 (cn_n (f := (fun w => decide (R w = w) && (pt w).isSome)) (v := v) (by have h9 : ¬ R v = v := fun q => h_22 ((hF.up_iff h_11).mpr q); simp [h9])) ?_
        refine g_set1 C dX0_pointing_40 rfl (by decide) ?_
        refine g_inc2 C dX0_pointing_41 rfl (by decide) (inc_1 _) ?_
        refine g_goto (tgt := 8) C dX0_pointing_44 (by decide) ?_
        exact ih (v + 1) (by omega) (by omega)
      · refine g_aload_n C dX0_pointing_25 rfl ?_
        refine x_get_pt C dX0_pointing_26 ?_
        refine g_iload_n C dX0_pointing_29 rfl ?_
        refine x_ld_pt C (by omega) rfl dX0_pointing_30 ?_
        refine go_if_lt (tgt := 38) C (fun t ht => by have := hL.2.1 _ t h_11 ht; omega) dX0_pointing_31 (by decide) (fun h_31 => ?_) (fun t h_31 => ?_)
        · refine g_iconst (v := nI 0) C dX0_pointing_38 (by decide +kernel) ?_
          refine g_iadd C dX0_pointing_39 (cn_n (f := (fun w => decide (R w = w) && (pt w).isSome)) (v := v) (by simp [h_31])) ?_
          refine g_set1 C dX0_pointing_40 rfl (by decide) ?_
          refine g_inc2 C dX0_pointing_41 rfl (by decide) (inc_1 _) ?_
          refine g_goto (tgt := 8) C dX0_pointing_44 (by decide) ?_
          exact ih (v + 1) (by omega) (by omega)
        · refine g_iconst (v := nI 1) C dX0_pointing_34 (by decide +kernel) ?_
          refine g_goto (tgt := 39) C dX0_pointing_35 (by decide) ?_
          refine g_iadd C dX0_pointing_39 (cn_y (f := (fun w => decide (R w = w) && (pt w).isSome)) (v := v) (by simp [h_31, (hF.up_iff h_11).mp h_22])) ?_
          refine g_set1 C dX0_pointing_40 rfl (by decide) ?_
          refine g_inc2 C dX0_pointing_41 rfl (by decide) (inc_1 _) ?_
          refine g_goto (tgt := 8) C dX0_pointing_44 (by decide) ?_
          exact ih (v + 1) (by omega) (by omega)
set_option maxHeartbeats 4000000 in
set_option maxRecDepth 100000 in
theorem met_pointing (hw : WD (xw a di dz)) (hn : n ≤ 24) (hB : B12 kd lf rg) (hk : kn = true → Wd n kd lf rg up pt) : MGi l D (tyZ di dz) (xw a di dz) yX0_pointing cX0_pointing 3 (some .int) (rmL 6 141) [.ref (a 0)] (n, kn, rd, pr, kd, lf, rg, up, pt, wf, qu, qd, pa, pb) (fun r u' => XQp n kd lf rg (fun R pt => r = nI (cn (fun w => decide (R w = w) && (pt w).isSome) 12)) u') := by
  refine MGi.of hw (by decide +kernel) (Nat.le_of_ble_eq_true rfl) rfl (fun Γ C => ?_)
  have C : CG D (tyZ di dz) (xw a di dz) RX0 Γ cX0_pointing 3 (some .int) := C
  refine g_aload_n C dX0_pointing_0 rfl ?_
  refine x_callv (n := 0) C (met_workOut hw hn hB hk) q89 q91 qs0 q92 (by decide +kernel) rfl ⟨rfl, rfl⟩ ⟨Nat.le_of_ble_eq_true rfl, Nat.le_of_ble_eq_true rfl⟩ ⟨Nat.le_of_ble_eq_true rfl, Nat.le_of_ble_eq_true rfl⟩ rfl (Nat.le_of_ble_eq_true rfl) dX0_pointing_1 (fun u' hp => ?_)
  obtain ⟨rd1, pr1, up1, pt1, wf1, qu1, qd1, pa1, pb1, ⟨R, hF, hL⟩, rfl⟩ := hp
  refine g_iconst (v := nI 0) C dX0_pointing_4 (by decide +kernel) ?_
  refine g_app1 C dX0_pointing_5 rfl (by decide) ?_
  refine g_iconst (v := nI 0) C dX0_pointing_6 (by decide +kernel) ?_
  refine g_app2 C dX0_pointing_7 rfl (by decide) ?_
  exact pointing_loop C hF hL 13 0 (by omega) (by omega)
set_option maxHeartbeats 4000000 in
set_option maxRecDepth 100000 in
theorem steps_loop (hw : WD (xw a di dz)) {Γ : GC} (C : CG D (tyZ di dz) (xw a di dz) RX0 Γ cX0_steps 5 (some .int)) {u0 : XS} {R : Nat → Nat} {v N : Nat} (hv : v < 12) (hL : Fnl n kd lf rg R pt) (hN : sf R pt 12 v = N) : ∀ (m step z : Nat) (up : Nat → Nat), step + m = 12 → z < 12 → step + sf R pt m z = N → Fo up R → JG l D (xw a di dz) Γ (rmL 6 141) 5 0 0 (QGi D (xw a di dz) Γ (fun r u' => Q1 (nI v) (fun v => XQp n kd lf rg (fun R pt => r = nI (sf R pt 12 v)) u') (r = oI none ∧ u' = u0))) (n, true, rd, pr, kd, lf, rg, up, pt, wf, qu, qd, pa, pb) 24 [.ref (a 0), .int (nI v), .int (nI step), .int (nI (R z)), .int (nI step)] [] := by
  intro m
  induction m with
  | zero =>
    intro step z up h1 hz h2 hF
    simp only [sf] at h2
    refine g_iload C dX0_steps_24 rfl ?_
    refine g_bipush (v := nI 12) C dX0_steps_26 (by decide +kernel) ?_
    refine gn_icmp_ge (tgt := 60) C (by omega) (by omega) dX0_steps_28 (by decide) (fun h_28 => ?_) (fun h_28 => ?_)
    · refine g_iload_n C dX0_steps_60 rfl ?_
      exact g_iret C dX0_steps_61 (Or.inl ⟨v, hv, rfl, R, rd, pr, up, pt, wf, qu, qd, pa, pb, hF, hL, by show nI step = nI (sf R pt 12 v); rw [hN, ← h2, Nat.add_zero], rfl⟩)
    · omega
  | succ m ih =>
    intro step z up h1 hz h2 hF
    simp only [sf] at h2
    have r1 := hF.lt hz
    refine g_iload C dX0_steps_24 rfl ?_
    refine g_bipush (v := nI 12) C dX0_steps_26 (by decide +kernel) ?_
    refine gn_icmp_ge (tgt := 60) C (by omega) (by omega) dX0_steps_28 (by decide) (fun h_28 => ?_) (fun h_28 => ?_)
    · omega
    · refine g_aload_n C dX0_steps_31 rfl ?_
      refine x_get_pt C dX0_steps_32 ?_
      refine g_iload_n C dX0_steps_35 rfl ?_
      refine x_ld_pt C (by omega) rfl dX0_steps_36 ?_
      refine go_if_lt (tgt := 60) C (fun t ht => by have := hL.2.1 _ t r1 ht; omega) dX0_steps_37 (by decide) (fun h_37 => ?_) (fun t h_37 => ?_)
      · rw [h_37] at h2
        refine g_iload_n C dX0_steps_60 rfl ?_
        exact g_iret C dX0_steps_61 (Or.inl ⟨v, hv, rfl, R, rd, pr, up, pt, wf, qu, qd, pa, pb, hF, hL, by show nI step = nI (sf R pt 12 v); rw [hN, ← h2, Nat.add_zero], rfl⟩)
      · rw [h_37] at h2
        have ht : t < 12 := hL.2.1 _ t r1 h_37
        refine g_aload_n C dX0_steps_40 rfl ?_
        refine g_aload_n C dX0_steps_41 rfl ?_
        refine x_get_pt C dX0_steps_42 ?_
        refine g_iload_n C dX0_steps_45 rfl ?_
        refine x_ld_pt_s C (by omega) h_37 dX0_steps_46 ?_
        refine x_calli (n := 1) C (met_find hw hF ht) q105 q107 qs4 q108 (by decide +kernel) rfl ⟨rfl, rfl⟩ ⟨Nat.le_of_ble_eq_true rfl, Nat.le_of_ble_eq_true rfl⟩ ⟨Nat.le_of_ble_eq_true rfl, Nat.le_of_ble_eq_true rfl⟩ rfl (Nat.le_of_ble_eq_true rfl) dX0_steps_47 (fun r u' hp => ?_)
        obtain ⟨rfl, up1, hF1, rfl⟩ := hp
        refine g_set3 C dX0_steps_50 rfl (by decide) ?_
        refine g_inc2 C dX0_steps_51 rfl (by decide) (inc_1 _) ?_
        refine g_inc4 C dX0_steps_54 rfl (by decide) (inc_1 _) ?_
        refine g_goto (tgt := 24) C dX0_steps_57 (by decide) ?_
        exact ih (step + 1) t up1 (by omega) ht (by simp only at h2; omega) hF1
set_option maxHeartbeats 4000000 in
set_option maxRecDepth 100000 in
theorem met_steps (hw : WD (xw a di dz)) (hn : n ≤ 24) (hB : B12 kd lf rg) (hk : kn = true → Wd n kd lf rg up pt) (x : Int32) : MGi l D (tyZ di dz) (xw a di dz) yX0_steps cX0_steps 5 (some .int) (rmL 6 141) [.ref (a 0), .int x] (n, kn, rd, pr, kd, lf, rg, up, pt, wf, qu, qd, pa, pb) (fun r u' => Q1 x (fun v => XQp n kd lf rg (fun R pt => r = nI (sf R pt 12 v)) u') (r = oI none ∧ u' = (n, kn, rd, pr, kd, lf, rg, up, pt, wf, qu, qd, pa, pb))) := by
  refine MGi.of hw (by decide +kernel) (Nat.le_of_ble_eq_true rfl) rfl (fun Γ C => ?_)
  have C : CG D (tyZ di dz) (xw a di dz) RX0 Γ cX0_steps 5 (some .int) := C
  refine g_iload_n C dX0_steps_0 rfl ?_
  refine g_calls (n := 1) C (met_isV x) (lw_S q78 q79 q19 q80) (by decide +kernel) rfl ⟨rfl, rfl⟩ ⟨Nat.le_of_ble_eq_true rfl, Nat.le_of_ble_eq_true rfl⟩ ⟨Nat.le_of_ble_eq_true rfl, Nat.le_of_ble_eq_true rfl⟩ rfl (Nat.le_of_ble_eq_true rfl) dX0_steps_1 (fun r hp => ?_)
  obtain rfl := hp
  refine gb_if_ne (tgt := 9) C dX0_steps_4 (by decide) (fun h_4 => ?_) (fun h_4 => ?_)
  · obtain ⟨v, hv, rfl⟩ := vI_some h_4
    refine g_aload_n C dX0_steps_9 rfl ?_
    refine x_callv (n := 0) C (met_workOut hw hn hB hk) q89 q91 qs0 q92 (by decide +kernel) rfl ⟨rfl, rfl⟩ ⟨Nat.le_of_ble_eq_true rfl, Nat.le_of_ble_eq_true rfl⟩ ⟨Nat.le_of_ble_eq_true rfl, Nat.le_of_ble_eq_true rfl⟩ rfl (Nat.le_of_ble_eq_true rfl) dX0_steps_10 (fun u' hp => ?_)
    obtain ⟨rd1, pr1, up1, pt1, wf1, qu1, qd1, pa1, pb1, ⟨R, hF, hL⟩, rfl⟩ := hp
    refine g_iconst (v := nI 0) C dX0_steps_13 (by decide +kernel) ?_
    refine g_app2 C dX0_steps_14 rfl (by decide) ?_
    refine g_aload_n C dX0_steps_15 rfl ?_
    refine g_iload_n C dX0_steps_16 rfl ?_
    refine x_calli (n := 1) C (met_find hw hF hv) q105 q107 qs4 q108 (by decide +kernel) rfl ⟨rfl, rfl⟩ ⟨Nat.le_of_ble_eq_true rfl, Nat.le_of_ble_eq_true rfl⟩ ⟨Nat.le_of_ble_eq_true rfl, Nat.le_of_ble_eq_true rfl⟩ rfl (Nat.le_of_ble_eq_true rfl) dX0_steps_17 (fun r u' hp => ?_)
    obtain ⟨rfl, up2, hF2, rfl⟩ := hp
    refine g_app3 C dX0_steps_20 rfl (by decide) ?_
    refine g_iconst (v := nI 0) C dX0_steps_21 (by decide +kernel) ?_
    refine g_app4 C dX0_steps_22 rfl (by decide) ?_
    exact steps_loop hw C hv hL rfl 12 0 v up2 (by omega) hv (by omega) hF2
  · refine g_iconst (v := oI none) C dX0_steps_7 (by decide +kernel) ?_
    exact g_iret C dX0_steps_8 (Or.inr ⟨h_4, rfl, rfl⟩)
set_option maxHeartbeats 4000000 in
set_option maxRecDepth 100000 in
theorem met_assign (hw : WD (xw a di dz)) (hn : n ≤ 24) (k x y : Int32) : MGi l D (tyZ di dz) (xw a di dz) yX0_assign cX0_assign 4 (some .int) (rmL 1 20) [.ref (a 0), .int k, .int x, .int y] (n, kn, rd, pr, kd, lf, rg, up, pt, wf, qu, qd, pa, pb) (fun r u' => (asOk n k x y = true ∧ r = nI (n + 1) ∧ u' = (n + 1, false, rd, pr, va_up kd n k.toNatClampNeg, va_up lf n x.toNatClampNeg, va_up rg n y.toNatClampNeg, up, pt, wf, qu, qd, pa, pb)) ∨ (asOk n k x y = false ∧ r = oI none ∧ u' = (n, kn, rd, pr, kd, lf, rg, up, pt, wf, qu, qd, pa, pb))) := by
  refine MGi.of hw (by decide +kernel) (Nat.le_of_ble_eq_true rfl) rfl (fun Γ C => ?_)
  have C : CG D (tyZ di dz) (xw a di dz) RX0 Γ cX0_assign 4 (some .int) := C
  refine g_iload_n C dX0_assign_0 rfl ?_
  refine gr_if_lt (tgt := 32) C dX0_assign_1 (by decide) (fun h_1 => ?_) (fun h_1 => ?_)
  · refine g_iconst (v := oI none) C dX0_assign_32 (by decide +kernel) ?_
    exact g_iret C dX0_assign_33 (Or.inr ⟨by simp [asOk, kI_neg h_1], rfl, rfl⟩)
  · refine g_iload_n C dX0_assign_4 rfl ?_
    refine g_iconst (v := nI 3) C dX0_assign_5 (by decide +kernel) ?_
    refine gr_icmp_gt (tgt := 32) C dX0_assign_6 (by decide) (fun h_6 => ?_) (fun h_6 => ?_)
    · refine g_iconst (v := oI none) C dX0_assign_32 (by decide +kernel) ?_
      exact g_iret C dX0_assign_33 (Or.inr ⟨by simp [asOk, kI_big h_6], rfl, rfl⟩)
    · refine g_iload_n C dX0_assign_9 rfl ?_
      refine g_calls (n := 1) C (met_isV x) (lw_S q78 q79 q19 q80) (by decide +kernel) rfl ⟨rfl, rfl⟩ ⟨Nat.le_of_ble_eq_true rfl, Nat.le_of_ble_eq_true rfl⟩ ⟨Nat.le_of_ble_eq_true rfl, Nat.le_of_ble_eq_true rfl⟩ rfl (Nat.le_of_ble_eq_true rfl) dX0_assign_10 (fun r hp => ?_)
      obtain rfl := hp
      refine gb_if_eq (tgt := 32) C dX0_assign_13 (by decide) (fun h_13 => ?_) (fun h_13 => ?_)
      · refine g_iconst (v := oI none) C dX0_assign_32 (by decide +kernel) ?_
        exact g_iret C dX0_assign_33 (Or.inr ⟨by simp [asOk, h_13], rfl, rfl⟩)
      · refine g_iload_n C dX0_assign_16 rfl ?_
        refine g_calls (n := 1) C (met_isV y) (lw_S q78 q79 q19 q80) (by decide +kernel) rfl ⟨rfl, rfl⟩ ⟨Nat.le_of_ble_eq_true rfl, Nat.le_of_ble_eq_true rfl⟩ ⟨Nat.le_of_ble_eq_true rfl, Nat.le_of_ble_eq_true rfl⟩ rfl (Nat.le_of_ble_eq_true rfl) dX0_assign_17 (fun r hp => ?_)
        obtain rfl := hp
        refine gb_if_eq (tgt := 32) C dX0_assign_20 (by decide) (fun h_20 => ?_) (fun h_20 => ?_)
        · refine g_iconst (v := oI none) C dX0_assign_32 (by decide +kernel) ?_
          exact g_iret C dX0_assign_33 (Or.inr ⟨by simp [asOk, h_20], rfl, rfl⟩)
        · refine g_aload_n C dX0_assign_23 rfl ?_
          refine x_get_n C dX0_assign_24 ?_
          refine g_bipush (v := nI 24) C dX0_assign_27 (by decide +kernel) ?_
          refine gn_icmp_lt (tgt := 34) C (by omega) (by omega) dX0_assign_29 (by decide) (fun h_29 => ?_) (fun h_29 => ?_)
          · have hok : asOk n k x y = true := by simp [asOk, kI_ok h_1 h_6, h_13, h_20, h_29]
            obtain ⟨κ, hκ, rfl⟩ := kI_some (kI_ok h_1 h_6)
            obtain ⟨v, hv, rfl⟩ := vI_some h_13
            obtain ⟨w, hw2, rfl⟩ := vI_some h_20
            refine g_aload_n C dX0_assign_34 rfl ?_
            refine x_get_kd C dX0_assign_35 ?_
            refine g_aload_n C dX0_assign_38 rfl ?_
            refine x_get_n C dX0_assign_39 ?_
            refine g_iload_n C dX0_assign_42 rfl ?_
            refine x_st_kd C _ (by omega) dX0_assign_43 ?_
            refine g_aload_n C dX0_assign_44 rfl ?_
            refine x_get_lf C dX0_assign_45 ?_
            refine g_aload_n C dX0_assign_48 rfl ?_
            refine x_get_n C dX0_assign_49 ?_
            refine g_iload_n C dX0_assign_52 rfl ?_
            refine x_st_lf C _ (by omega) dX0_assign_53 ?_
            refine g_aload_n C dX0_assign_54 rfl ?_
            refine x_get_rg C dX0_assign_55 ?_
            refine g_aload_n C dX0_assign_58 rfl ?_
            refine x_get_n C dX0_assign_59 ?_
            refine g_iload_n C dX0_assign_62 rfl ?_
            refine x_st_rg C _ (by omega) dX0_assign_63 ?_
            refine g_aload_n C dX0_assign_64 rfl ?_
            refine g_dup C dX0_assign_65 rfl ?_
            refine x_get_n C dX0_assign_66 ?_
            refine g_iconst (v := nI 1) C dX0_assign_69 (by decide +kernel) ?_
            refine g_iadd C dX0_assign_70 (nI_add _ _) ?_
            refine x_put_n C dX0_assign_71 ?_
            refine g_aload_n C dX0_assign_74 rfl ?_
            refine g_iconst (v := nI 0) C dX0_assign_75 (by decide +kernel) ?_
            refine x_put_kn C false dX0_assign_76 ?_
            refine g_aload_n C dX0_assign_79 rfl ?_
            refine x_get_n C dX0_assign_80 ?_
            exact g_iret C dX0_assign_83 (Or.inl ⟨hok, rfl, by rw [nI_clamp (show κ < 2 ^ 31 by omega), nI_clamp (show v < 2 ^ 31 by omega), nI_clamp (show w < 2 ^ 31 by omega)]⟩)
          · refine g_iconst (v := oI none) C dX0_assign_32 (by decide +kernel) ?_
            exact g_iret C dX0_assign_33 (Or.inr ⟨by simp [asOk]; omega, rfl, rfl⟩)
set_option maxHeartbeats 4000000 in
set_option maxRecDepth 100000 in
theorem drop_loop {Γ : GC} (C : CG D (tyZ di dz) (xw a di dz) RX0 Γ cX0_drop 3 (some .int)) {u0 : XS} {m j : Nat} (hm : m < 24) (hok : drOk (m + 1) (nI j) = true) : ∀ (f k : Nat), m < k + f → j ≤ k → k ≤ m → JG l D (xw a di dz) Γ (rmL 0 0) 3 0 0 (QGi D (xw a di dz) Γ (fun r u' => (drOk (m + 1) (nI j) = true ∧ r = nI m ∧ u' = (m, false, rd, pr, dr kd (nI j).toNatClampNeg m, dr lf (nI j).toNatClampNeg m, dr rg (nI j).toNatClampNeg m, up, pt, wf, qu, qd, pa, pb)) ∨ (drOk (m + 1) (nI j) = false ∧ r = oI none ∧ u' = u0))) (m, kn, rd, pr, dr kd j k, dr lf j k, dr rg j k, up, pt, wf, qu, qd, pa, pb) 26 [.ref (a 0), .int (nI j), .int (nI k)] [] := by
  intro f
  induction f with
  | zero =>
    intro k h1 h2 h3
    omega
  | succ f ih =>
    intro k hf hjk hkm
    refine g_iload_n C dX0_drop_26 rfl ?_
    refine g_aload_n C dX0_drop_27 rfl ?_
    refine x_get_n C dX0_drop_28 ?_
    refine gn_icmp_ge (tgt := 82) C (by omega) (by omega) dX0_drop_31 (by decide) (fun h_31 => ?_) (fun h_31 => ?_)
    · obtain rfl : k = m := by omega
      refine g_aload_n C dX0_drop_82 rfl ?_
      refine g_iconst (v := nI 0) C dX0_drop_83 (by decide +kernel) ?_
      refine x_put_kn C false dX0_drop_84 ?_
      refine g_aload_n C dX0_drop_87 rfl ?_
      refine x_get_n C dX0_drop_88 ?_
      exact g_iret C dX0_drop_91 (Or.inl ⟨hok, rfl, by rw [nI_clamp (show j < 2 ^ 31 by omega)]⟩)
    · refine g_aload_n C dX0_drop_34 rfl ?_
      refine x_get_kd C dX0_drop_35 ?_
      refine g_iload_n C dX0_drop_38 rfl ?_
      refine g_aload_n C dX0_drop_39 rfl ?_
      refine x_get_kd C dX0_drop_40 ?_
      refine g_iload_n C dX0_drop_43 rfl ?_
      refine g_iconst (v := nI 1) C dX0_drop_44 (by decide +kernel) ?_
      refine g_iadd C dX0_drop_45 (nI_add _ _) ?_
      refine x_ld_kd C (by omega) rfl dX0_drop_46 ?_
      refine x_st_kd C _ (by omega) dX0_drop_47 ?_
      refine g_aload_n C dX0_drop_48 rfl ?_
      refine x_get_lf C dX0_drop_49 ?_
      refine g_iload_n C dX0_drop_52 rfl ?_
      refine g_aload_n C dX0_drop_53 rfl ?_
      refine x_get_lf C dX0_drop_54 ?_
      refine g_iload_n C dX0_drop_57 rfl ?_
      refine g_iconst (v := nI 1) C dX0_drop_58 (by decide +kernel) ?_
      refine g_iadd C dX0_drop_59 (nI_add _ _) ?_
      refine x_ld_lf C (by omega) rfl dX0_drop_60 ?_
      refine x_st_lf C _ (by omega) dX0_drop_61 ?_
      refine g_aload_n C dX0_drop_62 rfl ?_
      refine x_get_rg C dX0_drop_63 ?_
      refine g_iload_n C dX0_drop_66 rfl ?_
      refine g_aload_n C dX0_drop_67 rfl ?_
      refine x_get_rg C dX0_drop_68 ?_
      refine g_iload_n C dX0_drop_71 rfl ?_
      refine g_iconst (v := nI 1) C dX0_drop_72 (by decide +kernel) ?_
      refine g_iadd C dX0_drop_73 (nI_add _ _) ?_
      refine x_ld_rg C (by omega) rfl dX0_drop_74 ?_
      refine x_st_rg C _ (by omega) dX0_drop_75 ?_
      refine g_inc2 C dX0_drop_76 rfl (by decide) (inc_1 _) ?_
      refine g_goto (tgt := 26) C dX0_drop_79 (by decide) ?_
      rw [dr_step hjk, dr_step hjk, dr_step hjk]
      exact ih (k + 1) (by omega) (by omega) (by omega)
set_option maxHeartbeats 4000000 in
set_option maxRecDepth 100000 in
theorem met_drop (hw : WD (xw a di dz)) (hn : n ≤ 24) (x : Int32) : MGi l D (tyZ di dz) (xw a di dz) yX0_drop cX0_drop 3 (some .int) (rmL 0 0) [.ref (a 0), .int x] (n, kn, rd, pr, kd, lf, rg, up, pt, wf, qu, qd, pa, pb) (fun r u' => (drOk n x = true ∧ r = nI (n - 1) ∧ u' = (n - 1, false, rd, pr, dr kd x.toNatClampNeg (n - 1), dr lf x.toNatClampNeg (n - 1), dr rg x.toNatClampNeg (n - 1), up, pt, wf, qu, qd, pa, pb)) ∨ (drOk n x = false ∧ r = oI none ∧ u' = (n, kn, rd, pr, kd, lf, rg, up, pt, wf, qu, qd, pa, pb))) := by
  refine MGi.of hw (by decide +kernel) (Nat.le_of_ble_eq_true rfl) rfl (fun Γ C => ?_)
  have C : CG D (tyZ di dz) (xw a di dz) RX0 Γ cX0_drop 3 (some .int) := C
  refine g_iload_n C dX0_drop_0 rfl ?_
  refine gr_if_lt (tgt := 12) C dX0_drop_1 (by decide) (fun h_1 => ?_) (fun h_1 => ?_)
  · refine g_iconst (v := oI none) C dX0_drop_12 (by decide +kernel) ?_
    exact g_iret C dX0_drop_13 (Or.inr ⟨drOk_neg h_1, rfl, rfl⟩)
  · refine g_iload_n C dX0_drop_4 rfl ?_
    refine g_aload_n C dX0_drop_5 rfl ?_
    refine x_get_n C dX0_drop_6 ?_
    refine gr_icmp_lt (tgt := 14) C dX0_drop_9 (by decide) (fun h_9 => ?_) (fun h_9 => ?_)
    · have hok := drOk_ok hn h_1 h_9
      obtain ⟨j, hj, rfl⟩ := drOk_some hn hok
      obtain ⟨m, rfl⟩ : ∃ m, n = m + 1 := ⟨n - 1, by omega⟩
      refine g_aload_n C dX0_drop_14 rfl ?_
      refine g_dup C dX0_drop_15 rfl ?_
      refine x_get_n C dX0_drop_16 ?_
      refine g_iconst (v := nI 1) C dX0_drop_19 (by decide +kernel) ?_
      refine g_isub C dX0_drop_20 (sub_1 _) ?_
      refine x_put_n C dX0_drop_21 ?_
      refine g_iload_n C dX0_drop_24 rfl ?_
      refine g_app2 C dX0_drop_25 rfl (by decide) ?_
      have h := drop_loop (l := l) (kn := kn) (rd := rd) (pr := pr) (kd := kd) (lf := lf) (rg := rg) (up := up) (pt := pt) (wf := wf) (qu := qu) (qd := qd) (pa := pa) (pb := pb) (u0 := (m + 1, kn, rd, pr, kd, lf, rg, up, pt, wf, qu, qd, pa, pb)) C (by omega) hok (m + 1) j (by omega) (by omega) (by omega)
      rw [dr_0, dr_0, dr_0] at h
      exact h
    · refine g_iconst (v := oI none) C dX0_drop_12 (by decide +kernel) ?_
      exact g_iret C dX0_drop_13 (Or.inr ⟨drOk_big hn h_9, rfl, rfl⟩)
end X4W
end
section
/-! AliasClassesModel: bad, join, point, apply, work -/
set_option maxRecDepth 100000
def RnP (p q : Nat) (co co1 : Nat → Nat) (v : Nat) : Prop := (∀ j, j < v → co1 j = rn p q (co j)) ∧ ∀ j, v ≤ j → co1 j = co j
def RoP (p q : Nat) (tt t1 : Nat → Option Nat) (v : Nat) : Prop := (∀ j, j < v → t1 j = rno p q (tt j)) ∧ ∀ j, v ≤ j → t1 j = tt j
theorem RnP.no {p q : Nat} {co co1 : Nat → Nat} {v : Nat} (h : RnP p q co co1 v) (e : co1 v ≠ q) : RnP p q co co1 (v + 1) := by
  refine ⟨fun j hj => ?_, fun j hj => h.2 j (by omega)⟩
  by_cases ej : j = v
  · subst ej
    have h1 := h.2 j (Nat.le_refl j)
    rw [h1] at e ⊢
    rw [rn, if_neg e]
  · exact h.1 j (by omega)
theorem RnP.yes {p q : Nat} {co co1 : Nat → Nat} {v : Nat} (h : RnP p q co co1 v) (e : co1 v = q) : RnP p q co (va_up co1 v p) (v + 1) := by
  refine ⟨fun j hj => ?_, fun j hj => by rw [upn j (by omega)]; exact h.2 j (by omega)⟩
  by_cases ej : j = v
  · subst ej
    have h1 := h.2 j (Nat.le_refl j)
    rw [h1] at e
    rw [ups, rn, if_pos e]
  · rw [upn j ej]
    exact h.1 j (by omega)
theorem RoP.no {p q : Nat} {tt t1 : Nat → Option Nat} {v : Nat} (h : RoP p q tt t1 v) (e : t1 v ≠ some q) : RoP p q tt t1 (v + 1) := by
  refine ⟨fun j hj => ?_, fun j hj => h.2 j (by omega)⟩
  by_cases ej : j = v
  · subst ej
    have h1 := h.2 j (Nat.le_refl j)
    rw [h1] at e ⊢
    rw [rno, if_neg e]
  · exact h.1 j (by omega)
theorem RoP.yes {p q : Nat} {tt t1 : Nat → Option Nat} {v : Nat} (h : RoP p q tt t1 v) (e : t1 v = some q) : RoP p q tt (va_up t1 v (some p)) (v + 1) := by
  refine ⟨fun j hj => ?_, fun j hj => by rw [upn j (by omega)]; exact h.2 j (by omega)⟩
  by_cases ej : j = v
  · subst ej
    have h1 := h.2 j (Nat.le_refl j)
    rw [h1] at e
    rw [ups, rno, if_pos e]
  · rw [upn j ej]
    exact h.1 j (by omega)
/-- how join, point, apply and a round end: nothing changed and P, or something did -/
def Mp (n : Nat) (ch : Bool) (kd lf rg co : Nat → Nat) (tt : Nat → Option Nat) (P : Prop) (u' : MS) : Prop := ∃ (ch1 : Bool) (co1 : Nat → Nat) (tt1 : Nat → Option Nat), Im co1 tt1 ∧ Sm n kd lf rg co1 tt1 ∧ ((P ∧ ch1 = ch ∧ co1 = co ∧ tt1 = tt) ∨ (ch1 = true ∧ ms co1 tt1 < ms co tt)) ∧ u' = (n, ch1, kd, lf, rg, co1, tt1)
def WMp (n : Nat) (kd lf rg : Nat → Nat) (u' : MS) : Prop := ∃ (ch1 : Bool) (co1 : Nat → Nat) (tt1 : Nat → Option Nat), Im co1 tt1 ∧ Fnl n kd lf rg co1 tt1 ∧ u' = (n, ch1, kd, lf, rg, co1, tt1)
section M1W
variable {l : Launch} {D : va_G} {a : Nat → Nat} {di dz : ClassId} {n : Nat} {ch : Bool} {kd lf rg co : Nat → Nat} {tt : Nat → Option Nat}
set_option maxHeartbeats 4000000 in
set_option maxRecDepth 100000 in
theorem met_bad (x : Int32) : MGi l D (tyZ di dz) w0 yX1_bad cX1_bad 1 (some .boolean) (rmL 0 0) [.int x] () (fun r _ => r = bI (!vI x)) := by
  refine MGi.of w0_D (by decide +kernel) (Nat.le_of_ble_eq_true rfl) rfl (fun Γ C => ?_)
  have C : CG D (tyZ di dz) w0 RX1 Γ cX1_bad 1 (some .boolean) := C
  refine g_iload_n C dX1_bad_0 rfl ?_
  refine gr_if_lt (tgt := 10) C dX1_bad_1 (by decide) (fun h_1 => ?_) (fun h_1 => ?_)
  · refine g_iconst (v := nI 1) C dX1_bad_10 (by decide +kernel) ?_
    refine g_goto (tgt := 15) C dX1_bad_11 (by decide) ?_
    exact g_zret (b := true) C dX1_bad_15 (by rw [vI_neg h_1]; rfl)
  · refine g_iload_n C dX1_bad_4 rfl ?_
    refine g_bipush (v := nI 11) C dX1_bad_5 (by decide +kernel) ?_
    refine gr_icmp_le (tgt := 14) C dX1_bad_7 (by decide) (fun h_7 => ?_) (fun h_7 => ?_)
    · refine g_iconst (v := nI 0) C dX1_bad_14 (by decide +kernel) ?_
      exact g_zret (b := false) C dX1_bad_15 (by rw [vI_ok h_1 (fun q => absurd h_7 (Int32.not_le.mpr q))]; rfl)
    · refine g_iconst (v := nI 1) C dX1_bad_10 (by decide +kernel) ?_
      refine g_goto (tgt := 15) C dX1_bad_11 (by decide) ?_
      exact g_zret (b := true) C dX1_bad_15 (by rw [vI_big (Int32.not_le.mp h_7)]; rfl)
set_option maxHeartbeats 4000000 in
set_option maxRecDepth 100000 in
theorem join_in {Γ : GC} (C : CG D (tyZ di dz) (mw a di dz) RX1 Γ cX1_join 8 none) {Q : State → Prop} {i1 i2 : Int32} {p q : Nat} {x y : Option Nat} (hp : p < 12) (hq : q < 12) (hI : Im co tt) (K : ∀ (co1 : Nat → Nat) (t1 : Nat → Option Nat), (∀ j, j < 12 → co1 j = rn p q (co j)) → (∀ j, j < 12 → t1 j = rno p q (tt j)) → JG l D (mw a di dz) Γ (rmL 0 0) 8 0 0 Q (n, true, kd, lf, rg, co1, t1) 129 [.ref (a 0), .int i1, .int i2, .int (nI p), .int (nI q), .int (oI x), .int (oI y)] []) : ∀ (m v : Nat) (co1 : Nat → Nat) (t1 : Nat → Option Nat), 12 < v + m → v ≤ 12 → RnP p q co co1 v → RoP p q tt t1 v → JG l D (mw a di dz) Γ (rmL 0 0) 8 0 0 Q (n, true, kd, lf, rg, co1, t1) 76 [.ref (a 0), .int i1, .int i2, .int (nI p), .int (nI q), .int (oI x), .int (oI y), .int (nI v)] [] := by
  intro m
  induction m with
  | zero =>
    intro v co1 t1 h1 h2
    omega
  | succ m ih =>
    intro v co1 t1 hm hv hC hT
    refine g_iload C dX1_join_76 rfl ?_
    refine g_bipush (v := nI 12) C dX1_join_78 (by decide +kernel) ?_
    refine gn_icmp_ge (tgt := 129) C (by omega) (by omega) dX1_join_80 (by decide) (fun h_80 => ?_) (fun h_80 => ?_)
    · obtain rfl : v = 12 := by omega
      refine g_take 7 rfl ?_
      exact K co1 t1 hC.1 hT.1
    · have c1 : co1 v < 12 := by rw [hC.2 v (Nat.le_refl v)]; exact (hI.1 v h_80).1
      have c2 : ∀ t, t1 v = some t → t < 2 ^ 31 := fun t e => by rw [hT.2 v (Nat.le_refl v)] at e; have := (hI.2 v t h_80 e).1; omega
      refine g_aload_n C dX1_join_83 rfl ?_
      refine m_get_co C dX1_join_84 ?_
      refine g_iload C dX1_join_87 rfl ?_
      refine m_ld_co C (by omega) rfl dX1_join_89 ?_
      refine g_iload C dX1_join_90 rfl ?_
      refine gn_icmp_ne (tgt := 103) C (by omega) (by omega) dX1_join_92 (by decide) (fun h_92 => ?_) (fun h_92 => ?_)
      · refine g_aload_n C dX1_join_103 rfl ?_
        refine m_get_tt C dX1_join_104 ?_
        refine g_iload C dX1_join_107 rfl ?_
        refine m_ld_tt C (by omega) rfl dX1_join_109 ?_
        refine g_iload C dX1_join_110 rfl ?_
        refine gon_icmp_ne (tgt := 123) C c2 (by omega) dX1_join_112 (by decide) (fun h_112 => ?_) (fun h_112 => ?_)
        · refine g_inc7 C dX1_join_123 rfl (by decide) (inc_1 _) ?_
          refine g_goto (tgt := 76) C dX1_join_126 (by decide) ?_
          exact ih (v + 1) _ _ (by omega) (by omega) (hC.no h_92) (hT.no h_112)
        · refine g_aload_n C dX1_join_115 rfl ?_
          refine m_get_tt C dX1_join_116 ?_
          refine g_iload C dX1_join_119 rfl ?_
          refine g_iload_n C dX1_join_121 rfl ?_
          refine m_st_tt C (some _) (by omega) dX1_join_122 ?_
          refine g_inc7 C dX1_join_123 rfl (by decide) (inc_1 _) ?_
          refine g_goto (tgt := 76) C dX1_join_126 (by decide) ?_
          exact ih (v + 1) _ _ (by omega) (by omega) (hC.no h_92) (hT.yes h_112)
      · refine g_aload_n C dX1_join_95 rfl ?_
        refine m_get_co C dX1_join_96 ?_
        refine g_iload C dX1_join_99 rfl ?_
        refine g_iload_n C dX1_join_101 rfl ?_
        refine m_st_co C _ (by omega) dX1_join_102 ?_
        refine g_aload_n C dX1_join_103 rfl ?_
        refine m_get_tt C dX1_join_104 ?_
        refine g_iload C dX1_join_107 rfl ?_
        refine m_ld_tt C (by omega) rfl dX1_join_109 ?_
        refine g_iload C dX1_join_110 rfl ?_
        refine gon_icmp_ne (tgt := 123) C c2 (by omega) dX1_join_112 (by decide) (fun h_112 => ?_) (fun h_112 => ?_)
        · refine g_inc7 C dX1_join_123 rfl (by decide) (inc_1 _) ?_
          refine g_goto (tgt := 76) C dX1_join_126 (by decide) ?_
          exact ih (v + 1) _ _ (by omega) (by omega) (hC.yes h_92) (hT.no h_112)
        · refine g_aload_n C dX1_join_115 rfl ?_
          refine m_get_tt C dX1_join_116 ?_
          refine g_iload C dX1_join_119 rfl ?_
          refine g_iload_n C dX1_join_121 rfl ?_
          refine m_st_tt C (some _) (by omega) dX1_join_122 ?_
          refine g_inc7 C dX1_join_123 rfl (by decide) (inc_1 _) ?_
          refine g_goto (tgt := 76) C dX1_join_126 (by decide) ?_
          exact ih (v + 1) _ _ (by omega) (by omega) (hC.yes h_92) (hT.yes h_112)
set_option maxHeartbeats 4000000 in
set_option maxRecDepth 100000 in
theorem join_tail {Γ : GC} (C : CG D (tyZ di dz) (mw a di dz) RX1 Γ cX1_join 8 none) {Q : State → Prop} {i1 i2 : Int32} {p q : Nat} {x y : Option Nat} (hp : p < 12) (hq : q < 12) (hx : ∀ t, x = some t → t < 2 ^ 31) (K : ∀ z : Option Nat, (z = if x = none then y else x) → JG l D (mw a di dz) Γ (rmL 0 0) 8 0 0 Q (n, true, kd, lf, rg, co, va_up (va_up tt p z) q none) 5 [.ref (a 0), .int i1, .int i2, .int (oI x), .int (oI y)] []) : JG l D (mw a di dz) Γ (rmL 0 0) 8 0 0 Q (n, true, kd, lf, rg, co, tt) 129 [.ref (a 0), .int i1, .int i2, .int (nI p), .int (nI q), .int (oI x), .int (oI y)] [] := by
  refine g_aload_n C dX1_join_129 rfl ?_
  refine m_get_tt C dX1_join_130 ?_
  refine g_iload_n C dX1_join_133 rfl ?_
  refine g_iload C dX1_join_134 rfl ?_
  refine go_if_lt (tgt := 144) C hx dX1_join_136 (by decide) (fun h_136 => ?_) (fun x0 h_136 => ?_)
  · refine g_iload C dX1_join_144 rfl ?_
    refine m_st_tt C _ (by omega) dX1_join_146 ?_
    refine g_aload_n C dX1_join_147 rfl ?_
    refine m_get_tt C dX1_join_148 ?_
    refine g_iload C dX1_join_151 rfl ?_
    refine g_iconst (v := oI none) C dX1_join_153 (by decide +kernel) ?_
    refine m_st_tt C none (by omega) dX1_join_154 ?_
    refine g_iload C dX1_join_155 rfl ?_
    refine g_set3 C dX1_join_157 rfl (by decide) ?_
    refine g_iload C dX1_join_158 rfl ?_
    refine g_set4 C dX1_join_160 rfl (by decide) ?_
    refine g_goto (tgt := 5) C dX1_join_162 (by decide) ?_
    refine g_take 5 rfl ?_
    exact K y (by rw [if_pos h_136])
  · refine g_iload C dX1_join_139 rfl ?_
    refine g_goto (tgt := 146) C dX1_join_141 (by decide) ?_
    refine m_st_tt C _ (by omega) dX1_join_146 ?_
    refine g_aload_n C dX1_join_147 rfl ?_
    refine m_get_tt C dX1_join_148 ?_
    refine g_iload C dX1_join_151 rfl ?_
    refine g_iconst (v := oI none) C dX1_join_153 (by decide +kernel) ?_
    refine m_st_tt C none (by omega) dX1_join_154 ?_
    refine g_iload C dX1_join_155 rfl ?_
    refine g_set3 C dX1_join_157 rfl (by decide) ?_
    refine g_iload C dX1_join_158 rfl ?_
    refine g_set4 C dX1_join_160 rfl (by decide) ?_
    refine g_goto (tgt := 5) C dX1_join_162 (by decide) ?_
    refine g_take 5 rfl ?_
    exact K x (by rw [if_neg (by rw [h_136]; simp)])
set_option maxHeartbeats 4000000 in
set_option maxRecDepth 100000 in
theorem join_turn {Γ : GC} (C : CG D (tyZ di dz) (mw a di dz) RX1 Γ cX1_join 8 none) {Q : State → Prop} {i1 i2 : Int32} {p q : Nat} (x y : Option Nat) (hp : p < 12) (hq : q < 12) (rp : co p = p) (rq : co q = q) (hne : p ≠ q) (hI : Im co tt) (hS : Sm n kd lf rg co tt) (hE : ∀ E T, Clo n kd lf rg E T → E p q) (hx : x = rno p q (tt p)) (hy : y = rno p q (tt q)) (K : ∀ (co1 : Nat → Nat) (tt1 : Nat → Option Nat), Im co1 tt1 → cls co1 + 1 = cls co → ms co1 tt1 < ms co tt → Sm n kd lf rg co1 tt1 → (∀ t, x = some t → t < 12 ∧ co1 t = t) → (∀ t, y = some t → t < 12 ∧ co1 t = t) → (∀ s t, x = some s → y = some t → ∀ E T, Clo n kd lf rg E T → E s t) → JG l D (mw a di dz) Γ (rmL 0 0) 8 0 0 Q (n, true, kd, lf, rg, co1, tt1) 5 [.ref (a 0), .int i1, .int i2, .int (oI x), .int (oI y)] []) : JG l D (mw a di dz) Γ (rmL 0 0) 8 0 0 Q (n, true, kd, lf, rg, co, tt) 73 [.ref (a 0), .int i1, .int i2, .int (nI p), .int (nI q), .int (oI x), .int (oI y)] [] := by
  have hx12 : ∀ t, x = some t → t < 2 ^ 31 := fun t e => by
    rw [hx] at e
    obtain ⟨t0, e1, e2⟩ := rno_some e
    have := (hI.2 p t0 hp e1).1
    rw [e2, rn]
    split <;> omega
  refine g_iconst (v := nI 0) C dX1_join_73 (by decide +kernel) ?_
  refine g_app7 C dX1_join_74 rfl (by decide) ?_
  refine join_in C hp hq hI (fun co1 t1 h1 h2 => ?_) 13 0 co tt (by omega) (by omega) ⟨fun j hj => by omega, fun j _ => rfl⟩ ⟨fun j hj => by omega, fun j _ => rfl⟩
  refine join_tail C hp hq hx12 (fun z hz => ?_)
  obtain ⟨b1, b2, b3, b4, b5, b6⟩ := mj_step (n := n) (kd := kd) (lf := lf) (rg := rg) hI hp hq rp rq hne h1 h2 x y z hx hy hz
  exact K co1 _ b1 b2 b3 (fun E T hC => (b6 E T hC (hS E T hC) (hE E T hC)).1) b4 b5 (fun s t e1 e2 E T hC => (b6 E T hC (hS E T hC) (hE E T hC)).2 s t e1 e2)
set_option maxHeartbeats 4000000 in
set_option maxRecDepth 100000 in
theorem join_loop {Γ : GC} (C : CG D (tyZ di dz) (mw a di dz) RX1 Γ cX1_join 8 none) {i1 i2 : Int32} {ch0 : Bool} {co0 : Nat → Nat} {tt0 : Nat → Option Nat} {p0 q0 : Nat} : ∀ (m : Nat) (pp qq : Option Nat) (ch : Bool) (co : Nat → Nat) (tt : Nat → Option Nat), cls co < m → Im co tt → Sm n kd lf rg co tt → (∀ t, pp = some t → t < 12 ∧ co t = t) → (∀ t, qq = some t → t < 12 ∧ co t = t) → (∀ s t, pp = some s → qq = some t → ∀ E T, Clo n kd lf rg E T → E s t) → ((pp = some p0 ∧ qq = some q0 ∧ ch = ch0 ∧ co = co0 ∧ tt = tt0) ∨ (ch = true ∧ ms co tt < ms co0 tt0)) → JG l D (mw a di dz) Γ (rmL 0 0) 8 0 0 (QGv D (mw a di dz) Γ (Mp n ch0 kd lf rg co0 tt0 (p0 = q0))) (n, ch, kd, lf, rg, co, tt) 5 [.ref (a 0), .int i1, .int i2, .int (oI pp), .int (oI qq)] [] := by
  intro m
  induction m with
  | zero =>
    intro pp qq ch co tt h
    omega
  | succ m ih =>
    intro pp qq ch co tt hm hI hS hp hq hE hR
    refine g_iload_n C dX1_join_5 rfl ?_
    refine g_iload C dX1_join_6 rfl ?_
    refine go_icmp_eq (tgt := 165) C (fun t e => by have := (hp t e).1; omega) (fun t e => by have := (hq t e).1; omega) dX1_join_8 (by decide) (fun h_8 => ?_) (fun h_8 => ?_)
    · exact g_vret C dX1_join_165 ⟨ch, co, tt, hI, hS, hR.imp (fun ⟨e1, e2, e3⟩ => ⟨by rw [e1, e2] at h_8; exact Option.some.inj h_8, e3⟩) id, rfl⟩
    · refine g_iload_n C dX1_join_11 rfl ?_
      refine go_if_lt (tgt := 165) C (fun t e => by have := (hp t e).1; omega) dX1_join_12 (by decide) (fun h_12 => ?_) (fun p h_12 => ?_)
      · exact g_vret C dX1_join_165 ⟨ch, co, tt, hI, hS, hR.imp (fun ⟨e1, e2, e3⟩ => by rw [e1] at h_12; cases h_12) id, rfl⟩
      · subst h_12
        refine g_iload C dX1_join_15 rfl ?_
        refine go_if_lt (tgt := 165) C (fun t e => by have := (hq t e).1; omega) dX1_join_17 (by decide) (fun h_17 => ?_) (fun q h_17 => ?_)
        · exact g_vret C dX1_join_165 ⟨ch, co, tt, hI, hS, hR.imp (fun ⟨e1, e2, e3⟩ => by rw [e2] at h_17; cases h_17) id, rfl⟩
        · subst h_17
          rw [oI_s, oI_s]
          have hp12 := (hp p rfl).1
          have hq12 := (hq q rfl).1
          have hne : p ≠ q := fun e => h_8 (by rw [e])
          have bd : ∀ c t, c < 12 → tt c = some t → t < 2 ^ 31 := fun c t hc e => by have := (hI.2 c t hc e).1; omega
          refine g_aload_n C dX1_join_20 rfl ?_
          refine g_iconst (v := nI 1) C dX1_join_21 (by decide +kernel) ?_
          refine m_put_ch C true dX1_join_22 ?_
          refine g_aload_n C dX1_join_25 rfl ?_
          refine m_get_tt C dX1_join_26 ?_
          refine g_iload_n C dX1_join_29 rfl ?_
          refine m_ld_tt C (by omega) rfl dX1_join_30 ?_
          refine g_iload C dX1_join_31 rfl ?_
          refine gon_icmp_ne (tgt := 40) C (fun t e => bd p t hp12 e) (by omega) dX1_join_33 (by decide) (fun h_33 => ?_) (fun h_33 => ?_)
          · refine g_aload_n C dX1_join_40 rfl ?_
            refine m_get_tt C dX1_join_41 ?_
            refine g_iload_n C dX1_join_44 rfl ?_
            refine m_ld_tt C (by omega) rfl dX1_join_45 ?_
            refine g_app5 C dX1_join_46 rfl (by decide) ?_
            refine g_aload_n C dX1_join_48 rfl ?_
            refine m_get_tt C dX1_join_49 ?_
            refine g_iload C dX1_join_52 rfl ?_
            refine m_ld_tt C (by omega) rfl dX1_join_54 ?_
            refine g_iload C dX1_join_55 rfl ?_
            refine gon_icmp_ne (tgt := 64) C (fun t e => bd q t hq12 e) (by omega) dX1_join_57 (by decide) (fun h_57 => ?_) (fun h_57 => ?_)
            · refine g_aload_n C dX1_join_64 rfl ?_
              refine m_get_tt C dX1_join_65 ?_
              refine g_iload C dX1_join_68 rfl ?_
              refine m_ld_tt C (by omega) rfl dX1_join_70 ?_
              refine g_app6 C dX1_join_71 rfl (by decide) ?_
              exact join_turn C (tt p) (tt q) hp12 hq12 (hp p rfl).2 (hq q rfl).2 hne hI hS (hE p q rfl rfl) (by rw [rno, if_neg h_33]) (by rw [rno, if_neg h_57]) (fun co1 tt1 d1 d2 d3 d4 d5 d6 d7 => ih _ _ true co1 tt1 (by omega) d1 d4 d5 d6 d7 (Or.inr ⟨rfl, by rcases hR with ⟨-, -, -, e1, e2⟩ | ⟨-, e1⟩; rw [e1, e2] at d3; exact d3; omega⟩))
            · refine g_iload_n C dX1_join_60 rfl ?_
              refine g_goto (tgt := 71) C dX1_join_61 (by decide) ?_
              refine g_app6 C dX1_join_71 rfl (by decide) ?_
              exact join_turn C (tt p) (some p) hp12 hq12 (hp p rfl).2 (hq q rfl).2 hne hI hS (hE p q rfl rfl) (by rw [rno, if_neg h_33]) (by rw [rno, if_pos h_57]) (fun co1 tt1 d1 d2 d3 d4 d5 d6 d7 => ih _ _ true co1 tt1 (by omega) d1 d4 d5 d6 d7 (Or.inr ⟨rfl, by rcases hR with ⟨-, -, -, e1, e2⟩ | ⟨-, e1⟩; rw [e1, e2] at d3; exact d3; omega⟩))
          · refine g_iload_n C dX1_join_36 rfl ?_
            refine g_goto (tgt := 46) C dX1_join_37 (by decide) ?_
            refine g_app5 C dX1_join_46 rfl (by decide) ?_
            refine g_aload_n C dX1_join_48 rfl ?_
            refine m_get_tt C dX1_join_49 ?_
            refine g_iload C dX1_join_52 rfl ?_
            refine m_ld_tt C (by omega) rfl dX1_join_54 ?_
            refine g_iload C dX1_join_55 rfl ?_
            refine gon_icmp_ne (tgt := 64) C (fun t e => bd q t hq12 e) (by omega) dX1_join_57 (by decide) (fun h_57 => ?_) (fun h_57 => ?_)
            · refine g_aload_n C dX1_join_64 rfl ?_
              refine m_get_tt C dX1_join_65 ?_
              refine g_iload C dX1_join_68 rfl ?_
              refine m_ld_tt C (by omega) rfl dX1_join_70 ?_
              refine g_app6 C dX1_join_71 rfl (by decide) ?_
              exact join_turn C (some p) (tt q) hp12 hq12 (hp p rfl).2 (hq q rfl).2 hne hI hS (hE p q rfl rfl) (by rw [rno, if_pos h_33]) (by rw [rno, if_neg h_57]) (fun co1 tt1 d1 d2 d3 d4 d5 d6 d7 => ih _ _ true co1 tt1 (by omega) d1 d4 d5 d6 d7 (Or.inr ⟨rfl, by rcases hR with ⟨-, -, -, e1, e2⟩ | ⟨-, e1⟩; rw [e1, e2] at d3; exact d3; omega⟩))
            · refine g_iload_n C dX1_join_60 rfl ?_
              refine g_goto (tgt := 71) C dX1_join_61 (by decide) ?_
              refine g_app6 C dX1_join_71 rfl (by decide) ?_
              exact join_turn C (some p) (some p) hp12 hq12 (hp p rfl).2 (hq q rfl).2 hne hI hS (hE p q rfl rfl) (by rw [rno, if_pos h_33]) (by rw [rno, if_pos h_57]) (fun co1 tt1 d1 d2 d3 d4 d5 d6 d7 => ih _ _ true co1 tt1 (by omega) d1 d4 d5 d6 d7 (Or.inr ⟨rfl, by rcases hR with ⟨-, -, -, e1, e2⟩ | ⟨-, e1⟩; rw [e1, e2] at d3; exact d3; omega⟩))
set_option maxHeartbeats 4000000 in
set_option maxRecDepth 100000 in
theorem met_join (hw : WD (mw a di dz)) (hI : Im co tt) (hS : Sm n kd lf rg co tt) {p q : Nat} (hp : p < 12) (hq : q < 12) (rp : co p = p) (rq : co q = q) (hE : ∀ E T, Clo n kd lf rg E T → E p q) : MGv l D (tyZ di dz) (mw a di dz) yX1_join cX1_join 8 (rmL 0 0) [.ref (a 0), .int (nI p), .int (nI q)] (n, ch, kd, lf, rg, co, tt) (Mp n ch kd lf rg co tt (p = q)) := by
  refine MGv.of hw (by decide +kernel) (Nat.le_of_ble_eq_true rfl) rfl (fun Γ C => ?_)
  have C : CG D (tyZ di dz) (mw a di dz) RX1 Γ cX1_join 8 none := C
  refine g_iload_n C dX1_join_0 rfl ?_
  refine g_app3 C dX1_join_1 rfl (by decide) ?_
  refine g_iload_n C dX1_join_2 rfl ?_
  refine g_app4 C dX1_join_3 rfl (by decide) ?_
  exact join_loop C 13 (some p) (some q) ch co tt (by have := cls_le co; omega) hI hS (fun t e => by cases e; exact ⟨hp, rp⟩) (fun t e => by cases e; exact ⟨hq, rq⟩) (fun s t e1 e2 => by cases e1; cases e2; exact hE) (Or.inl ⟨rfl, rfl, rfl, rfl, rfl⟩)
set_option maxHeartbeats 4000000 in
set_option maxRecDepth 100000 in
theorem met_point (hw : WD (mw a di dz)) (hI : Im co tt) (hS : Sm n kd lf rg co tt) {p q : Nat} (hp : p < 12) (hq : q < 12) (rp : co p = p) (rq : co q = q) (hT : ∀ E T, Clo n kd lf rg E T → T p q) : MGv l D (tyZ di dz) (mw a di dz) yX1_point cX1_point 3 (rmL 1 27) [.ref (a 0), .int (nI p), .int (nI q)] (n, ch, kd, lf, rg, co, tt) (Mp n ch kd lf rg co tt (tt p = some q)) := by
  refine MGv.of hw (by decide +kernel) (Nat.le_of_ble_eq_true rfl) rfl (fun Γ C => ?_)
  have C : CG D (tyZ di dz) (mw a di dz) RX1 Γ cX1_point 3 none := C
  refine g_aload_n C dX1_point_0 rfl ?_
  refine m_get_tt C dX1_point_1 ?_
  refine g_iload_n C dX1_point_4 rfl ?_
  refine m_ld_tt C (by omega) rfl dX1_point_5 ?_
  refine go_if_ge (tgt := 24) C (fun t e => by have := (hI.2 p t hp e).1; omega) dX1_point_6 (by decide) (fun t h_6 => ?_) (fun h_6 => ?_)
  · refine g_aload_n C dX1_point_24 rfl ?_
    refine g_aload_n C dX1_point_25 rfl ?_
    refine m_get_tt C dX1_point_26 ?_
    refine g_iload_n C dX1_point_29 rfl ?_
    refine m_ld_tt_s C (by omega) h_6 dX1_point_30 ?_
    refine g_iload_n C dX1_point_31 rfl ?_
    refine m_callv (n := 2) C (met_join hw hI hS (hI.2 p t hp h_6).1 hq (hI.2 p t hp h_6).2.1 rq (fun E T hC => hC.1.2.2.2.2 p t q ((hS E T hC).2 p t hp (by rw [rp]; exact h_6)) (hT E T hC))) q216 q218 qs15 q219 (by decide +kernel) rfl ⟨rfl, rfl⟩ ⟨Nat.le_of_ble_eq_true rfl, Nat.le_of_ble_eq_true rfl⟩ ⟨Nat.le_of_ble_eq_true rfl, Nat.le_of_ble_eq_true rfl⟩ rfl (Nat.le_of_ble_eq_true rfl) dX1_point_32 (fun u' hp => ?_)
    obtain ⟨ch1, co1, tt1, b1, b2, b3, rfl⟩ := hp
    exact g_vret C dX1_point_35 ⟨ch1, co1, tt1, b1, b2, b3.imp (fun ⟨e1, e2⟩ => ⟨by rw [h_6, e1], e2⟩) id, rfl⟩
  · refine g_aload_n C dX1_point_9 rfl ?_
    refine m_get_tt C dX1_point_10 ?_
    refine g_iload_n C dX1_point_13 rfl ?_
    refine g_iload_n C dX1_point_14 rfl ?_
    refine m_st_tt C (some _) (by omega) dX1_point_15 ?_
    refine g_aload_n C dX1_point_16 rfl ?_
    refine g_iconst (v := nI 1) C dX1_point_17 (by decide +kernel) ?_
    refine m_put_ch C true dX1_point_18 ?_
    refine g_goto (tgt := 35) C dX1_point_21 (by decide) ?_
    exact g_vret C dX1_point_35 (by obtain ⟨b1, b2, b3⟩ := mp_new hI hS hp hq rp rq h_6 hT; exact ⟨true, co, _, b1, b2, Or.inr ⟨rfl, b3⟩, rfl⟩)
set_option maxHeartbeats 4000000 in
set_option maxRecDepth 100000 in
theorem met_apply (hw : WD (mw a di dz)) (hn : n ≤ 24) (hB : B12 kd lf rg) (hI : Im co tt) (hS : Sm n kd lf rg co tt) {i : Nat} (hi : i < n) : MGv l D (tyZ di dz) (mw a di dz) yX1_apply cX1_apply 5 (rmL 2 49) [.ref (a 0), .int (nI i)] (n, ch, kd, lf, rg, co, tt) (Mp n ch kd lf rg co tt (Ck kd lf rg (TB co co tt) i)) := by
  refine MGv.of hw (by decide +kernel) (Nat.le_of_ble_eq_true rfl) rfl (fun Γ C => ?_)
  have C : CG D (tyZ di dz) (mw a di dz) RX1 Γ cX1_apply 5 none := C
  obtain ⟨h3, hl, hr⟩ := hB i
  obtain ⟨ca, ra⟩ := hI.1 (lf i) hl
  obtain ⟨cb, rb⟩ := hI.1 (rg i) hr
  refine g_aload_n C dX1_apply_0 rfl ?_
  refine m_get_co C dX1_apply_1 ?_
  refine g_aload_n C dX1_apply_4 rfl ?_
  refine m_get_lf C dX1_apply_5 ?_
  refine g_iload_n C dX1_apply_8 rfl ?_
  refine m_ld_lf C (by omega) rfl dX1_apply_9 ?_
  refine m_ld_co C (by omega) rfl dX1_apply_10 ?_
  refine g_app2 C dX1_apply_11 rfl (by decide) ?_
  refine g_aload_n C dX1_apply_12 rfl ?_
  refine m_get_co C dX1_apply_13 ?_
  refine g_aload_n C dX1_apply_16 rfl ?_
  refine m_get_rg C dX1_apply_17 ?_
  refine g_iload_n C dX1_apply_20 rfl ?_
  refine m_ld_rg C (by omega) rfl dX1_apply_21 ?_
  refine m_ld_co C (by omega) rfl dX1_apply_22 ?_
  refine g_app3 C dX1_apply_23 rfl (by decide) ?_
  refine g_aload_n C dX1_apply_24 rfl ?_
  refine m_get_tt C dX1_apply_25 ?_
  refine g_iload_n C dX1_apply_28 rfl ?_
  refine m_ld_tt C (by omega) rfl dX1_apply_29 ?_
  refine g_app4 C dX1_apply_30 rfl (by decide) ?_
  refine g_aload_n C dX1_apply_32 rfl ?_
  refine m_get_kd C dX1_apply_33 ?_
  refine g_iload_n C dX1_apply_36 rfl ?_
  refine m_ld_kd C (by omega) rfl dX1_apply_37 ?_
  refine gn_if_ne (tgt := 47) C (by omega) dX1_apply_38 (by decide) (fun h_38 => ?_) (fun h_38 => ?_)
  · refine g_aload_n C dX1_apply_47 rfl ?_
    refine m_get_kd C dX1_apply_48 ?_
    refine g_iload_n C dX1_apply_51 rfl ?_
    refine m_ld_kd C (by omega) rfl dX1_apply_52 ?_
    refine g_iconst (v := nI 1) C dX1_apply_53 (by decide +kernel) ?_
    refine gn_icmp_ne (tgt := 69) C (by omega) (by omega) dX1_apply_54 (by decide) (fun h_54 => ?_) (fun h_54 => ?_)
    · refine g_aload_n C dX1_apply_69 rfl ?_
      refine m_get_kd C dX1_apply_70 ?_
      refine g_iload_n C dX1_apply_73 rfl ?_
      refine m_ld_kd C (by omega) rfl dX1_apply_74 ?_
      refine g_iconst (v := nI 2) C dX1_apply_75 (by decide +kernel) ?_
      refine gn_icmp_ne (tgt := 106) C (by omega) (by omega) dX1_apply_76 (by decide) (fun h_76 => ?_) (fun h_76 => ?_)
      · refine g_aload_n C dX1_apply_106 rfl ?_
        refine m_get_kd C dX1_apply_107 ?_
        refine g_iload_n C dX1_apply_110 rfl ?_
        refine m_ld_kd C (by omega) rfl dX1_apply_111 ?_
        refine g_iconst (v := nI 3) C dX1_apply_112 (by decide +kernel) ?_
        refine gn_icmp_ne (tgt := 142) C (by omega) (by omega) dX1_apply_113 (by decide) (fun h_113 => ?_) (fun h_113 => ?_)
        · omega
        · refine g_aload_n C dX1_apply_116 rfl ?_
          refine m_get_tt C dX1_apply_117 ?_
          refine g_iload_n C dX1_apply_120 rfl ?_
          refine m_ld_tt C (by omega) rfl dX1_apply_121 ?_
          refine go_if_lt (tgt := 142) C (fun t e => by have := (hI.2 _ t (by assumption) e).1; omega) dX1_apply_122 (by decide) (fun h_122 => ?_) (fun x h_122 => ?_)
          · exact g_vret C dX1_apply_142 ⟨ch, co, tt, hI, hS, Or.inl ⟨mc_3n h_113 (Or.inl h_122), rfl, rfl, rfl⟩, rfl⟩
          · have x1 := hI.2 _ x ca h_122
            refine g_iload C dX1_apply_125 rfl ?_
            refine go_if_lt (tgt := 142) C (fun t e => by have := (hI.2 _ t (by assumption) e).1; omega) dX1_apply_127 (by decide) (fun h_127 => ?_) (fun y h_127 => ?_)
            · exact g_vret C dX1_apply_142 ⟨ch, co, tt, hI, hS, Or.inl ⟨mc_3n h_113 (Or.inr h_127), rfl, rfl, rfl⟩, rfl⟩
            · rw [h_127]
              have y1 := hI.2 _ y cb h_127
              refine g_aload_n C dX1_apply_130 rfl ?_
              refine g_aload_n C dX1_apply_131 rfl ?_
              refine m_get_tt C dX1_apply_132 ?_
              refine g_iload_n C dX1_apply_135 rfl ?_
              refine m_ld_tt_s C (by omega) h_122 dX1_apply_136 ?_
              refine g_iload C dX1_apply_137 rfl ?_
              refine m_callv (n := 2) C (met_point hw hI hS x1.1 y1.1 x1.2.1 y1.2.1 (p := x) (q := y) (fun E T hC => (hC.2 i hi).2.2.2 h_113 x y ((hS E T hC).2 (lf i) x hl h_122) ((hS E T hC).2 (rg i) y hr h_127))) q212 q214 qs14 q215 (by decide +kernel) rfl ⟨rfl, rfl⟩ ⟨Nat.le_of_ble_eq_true rfl, Nat.le_of_ble_eq_true rfl⟩ ⟨Nat.le_of_ble_eq_true rfl, Nat.le_of_ble_eq_true rfl⟩ rfl (Nat.le_of_ble_eq_true rfl) dX1_apply_139 (fun u' hp => ?_)
              obtain ⟨ch1, co1, tt1, b1, b2, b3, rfl⟩ := hp
              exact g_vret C dX1_apply_142 ⟨ch1, co1, tt1, b1, b2, b3.imp (fun ⟨e1, e2⟩ => ⟨mc_3 hI hl h_113 h_122 h_127 e1, e2⟩) id, rfl⟩
      · refine g_iload C dX1_apply_79 rfl ?_
        refine go_if_lt (tgt := 106) C (fun t e => by have := (hI.2 _ t (by assumption) e).1; omega) dX1_apply_81 (by decide) (fun h_81 => ?_) (fun t h_81 => ?_)
        · refine g_aload_n C dX1_apply_106 rfl ?_
          refine m_get_kd C dX1_apply_107 ?_
          refine g_iload_n C dX1_apply_110 rfl ?_
          refine m_ld_kd C (by omega) rfl dX1_apply_111 ?_
          refine g_iconst (v := nI 3) C dX1_apply_112 (by decide +kernel) ?_
          refine gn_icmp_ne (tgt := 142) C (by omega) (by omega) dX1_apply_113 (by decide) (fun h_113 => ?_) (fun h_113 => ?_)
          · exact g_vret C dX1_apply_142 ⟨ch, co, tt, hI, hS, Or.inl ⟨mc_2n h_76 h_81, rfl, rfl, rfl⟩, rfl⟩
          · omega
        · rw [h_81]
          have t1 := hI.2 _ t cb h_81
          have t1l := t1.1
          refine g_aload_n C dX1_apply_84 rfl ?_
          refine m_get_tt C dX1_apply_85 ?_
          refine g_iload C dX1_apply_88 rfl ?_
          refine m_ld_tt C (by omega) rfl dX1_apply_90 ?_
          refine go_if_lt (tgt := 106) C (fun t e => by have := (hI.2 _ t (by assumption) e).1; omega) dX1_apply_91 (by decide) (fun h_91 => ?_) (fun z h_91 => ?_)
          · refine g_aload_n C dX1_apply_106 rfl ?_
            refine m_get_kd C dX1_apply_107 ?_
            refine g_iload_n C dX1_apply_110 rfl ?_
            refine m_ld_kd C (by omega) rfl dX1_apply_111 ?_
            refine g_iconst (v := nI 3) C dX1_apply_112 (by decide +kernel) ?_
            refine gn_icmp_ne (tgt := 142) C (by omega) (by omega) dX1_apply_113 (by decide) (fun h_113 => ?_) (fun h_113 => ?_)
            · exact g_vret C dX1_apply_142 ⟨ch, co, tt, hI, hS, Or.inl ⟨mc_2m hI hr h_76 h_81 h_91, rfl, rfl, rfl⟩, rfl⟩
            · omega
          · have z1 := hI.2 _ z t1l h_91
            refine g_aload_n C dX1_apply_94 rfl ?_
            refine g_iload_n C dX1_apply_95 rfl ?_
            refine g_aload_n C dX1_apply_96 rfl ?_
            refine m_get_tt C dX1_apply_97 ?_
            refine g_iload C dX1_apply_100 rfl ?_
            refine m_ld_tt_s C (by omega) h_91 dX1_apply_102 ?_
            refine m_callv (n := 2) C (met_point hw hI hS ca z1.1 ra z1.2.1 (q := z) (fun E T hC => by have h1 := m_T hI hC hS hl z1.1 ((hC.2 i hi).2.2.1 h_76 t z ((hS E T hC).2 (rg i) t hr h_81) ((hS E T hC).2 t z t1.1 (by rw [t1.2.1]; exact h_91))); rw [z1.2.1] at h1; exact h1)) q212 q214 qs14 q215 (by decide +kernel) rfl ⟨rfl, rfl⟩ ⟨Nat.le_of_ble_eq_true rfl, Nat.le_of_ble_eq_true rfl⟩ ⟨Nat.le_of_ble_eq_true rfl, Nat.le_of_ble_eq_true rfl⟩ rfl (Nat.le_of_ble_eq_true rfl) dX1_apply_103 (fun u' hp => ?_)
            obtain ⟨ch1, co1, tt1, b1, b2, b3, rfl⟩ := hp
            refine g_aload_n C dX1_apply_106 rfl ?_
            refine m_get_kd C dX1_apply_107 ?_
            refine g_iload_n C dX1_apply_110 rfl ?_
            refine m_ld_kd C (by omega) rfl dX1_apply_111 ?_
            refine g_iconst (v := nI 3) C dX1_apply_112 (by decide +kernel) ?_
            refine gn_icmp_ne (tgt := 142) C (by omega) (by omega) dX1_apply_113 (by decide) (fun h_113 => ?_) (fun h_113 => ?_)
            · exact g_vret C dX1_apply_142 ⟨ch1, co1, tt1, b1, b2, b3.imp (fun ⟨e1, e2⟩ => ⟨mc_2 hI hr h_76 h_81 h_91 e1, e2⟩) id, rfl⟩
            · omega
    · refine g_iload C dX1_apply_57 rfl ?_
      refine go_if_lt (tgt := 69) C (fun t e => by have := (hI.2 _ t (by assumption) e).1; omega) dX1_apply_59 (by decide) (fun h_59 => ?_) (fun t h_59 => ?_)
      · refine g_aload_n C dX1_apply_69 rfl ?_
        refine m_get_kd C dX1_apply_70 ?_
        refine g_iload_n C dX1_apply_73 rfl ?_
        refine m_ld_kd C (by omega) rfl dX1_apply_74 ?_
        refine g_iconst (v := nI 2) C dX1_apply_75 (by decide +kernel) ?_
        refine gn_icmp_ne (tgt := 106) C (by omega) (by omega) dX1_apply_76 (by decide) (fun h_76 => ?_) (fun h_76 => ?_)
        · refine g_aload_n C dX1_apply_106 rfl ?_
          refine m_get_kd C dX1_apply_107 ?_
          refine g_iload_n C dX1_apply_110 rfl ?_
          refine m_ld_kd C (by omega) rfl dX1_apply_111 ?_
          refine g_iconst (v := nI 3) C dX1_apply_112 (by decide +kernel) ?_
          refine gn_icmp_ne (tgt := 142) C (by omega) (by omega) dX1_apply_113 (by decide) (fun h_113 => ?_) (fun h_113 => ?_)
          · exact g_vret C dX1_apply_142 ⟨ch, co, tt, hI, hS, Or.inl ⟨mc_1n h_54 h_59, rfl, rfl, rfl⟩, rfl⟩
          · omega
        · omega
      · rw [h_59]
        have t1 := hI.2 _ t cb h_59
        refine g_aload_n C dX1_apply_62 rfl ?_
        refine g_iload_n C dX1_apply_63 rfl ?_
        refine g_iload C dX1_apply_64 rfl ?_
        refine m_callv (n := 2) C (met_point hw hI hS ca t1.1 ra t1.2.1 (q := t) (fun E T hC => by have h1 := m_T hI hC hS hl t1.1 ((hC.2 i hi).2.1 h_54 t ((hS E T hC).2 (rg i) t hr h_59)); rw [t1.2.1] at h1; exact h1)) q212 q214 qs14 q215 (by decide +kernel) rfl ⟨rfl, rfl⟩ ⟨Nat.le_of_ble_eq_true rfl, Nat.le_of_ble_eq_true rfl⟩ ⟨Nat.le_of_ble_eq_true rfl, Nat.le_of_ble_eq_true rfl⟩ rfl (Nat.le_of_ble_eq_true rfl) dX1_apply_66 (fun u' hp => ?_)
        obtain ⟨ch1, co1, tt1, b1, b2, b3, rfl⟩ := hp
        refine g_aload_n C dX1_apply_69 rfl ?_
        refine m_get_kd C dX1_apply_70 ?_
        refine g_iload_n C dX1_apply_73 rfl ?_
        refine m_ld_kd C (by omega) rfl dX1_apply_74 ?_
        refine g_iconst (v := nI 2) C dX1_apply_75 (by decide +kernel) ?_
        refine gn_icmp_ne (tgt := 106) C (by omega) (by omega) dX1_apply_76 (by decide) (fun h_76 => ?_) (fun h_76 => ?_)
        · refine g_aload_n C dX1_apply_106 rfl ?_
          refine m_get_kd C dX1_apply_107 ?_
          refine g_iload_n C dX1_apply_110 rfl ?_
          refine m_ld_kd C (by omega) rfl dX1_apply_111 ?_
          refine g_iconst (v := nI 3) C dX1_apply_112 (by decide +kernel) ?_
          refine gn_icmp_ne (tgt := 142) C (by omega) (by omega) dX1_apply_113 (by decide) (fun h_113 => ?_) (fun h_113 => ?_)
          · exact g_vret C dX1_apply_142 ⟨ch1, co1, tt1, b1, b2, b3.imp (fun ⟨e1, e2⟩ => ⟨mc_1 h_54 h_59 e1, e2⟩) id, rfl⟩
          · omega
        · omega
  · refine g_aload_n C dX1_apply_41 rfl ?_
    refine g_iload_n C dX1_apply_42 rfl ?_
    refine g_iload_n C dX1_apply_43 rfl ?_
    refine m_callv (n := 2) C (met_point hw hI hS ca cb ra rb (fun E T hC => m_T hI hC hS hl hr ((hC.2 i hi).1 h_38))) q212 q214 qs14 q215 (by decide +kernel) rfl ⟨rfl, rfl⟩ ⟨Nat.le_of_ble_eq_true rfl, Nat.le_of_ble_eq_true rfl⟩ ⟨Nat.le_of_ble_eq_true rfl, Nat.le_of_ble_eq_true rfl⟩ rfl (Nat.le_of_ble_eq_true rfl) dX1_apply_44 (fun u' hp => ?_)
    obtain ⟨ch1, co1, tt1, b1, b2, b3, rfl⟩ := hp
    refine g_aload_n C dX1_apply_47 rfl ?_
    refine m_get_kd C dX1_apply_48 ?_
    refine g_iload_n C dX1_apply_51 rfl ?_
    refine m_ld_kd C (by omega) rfl dX1_apply_52 ?_
    refine g_iconst (v := nI 1) C dX1_apply_53 (by decide +kernel) ?_
    refine gn_icmp_ne (tgt := 69) C (by omega) (by omega) dX1_apply_54 (by decide) (fun h_54 => ?_) (fun h_54 => ?_)
    · refine g_aload_n C dX1_apply_69 rfl ?_
      refine m_get_kd C dX1_apply_70 ?_
      refine g_iload_n C dX1_apply_73 rfl ?_
      refine m_ld_kd C (by omega) rfl dX1_apply_74 ?_
      refine g_iconst (v := nI 2) C dX1_apply_75 (by decide +kernel) ?_
      refine gn_icmp_ne (tgt := 106) C (by omega) (by omega) dX1_apply_76 (by decide) (fun h_76 => ?_) (fun h_76 => ?_)
      · refine g_aload_n C dX1_apply_106 rfl ?_
        refine m_get_kd C dX1_apply_107 ?_
        refine g_iload_n C dX1_apply_110 rfl ?_
        refine m_ld_kd C (by omega) rfl dX1_apply_111 ?_
        refine g_iconst (v := nI 3) C dX1_apply_112 (by decide +kernel) ?_
        refine gn_icmp_ne (tgt := 142) C (by omega) (by omega) dX1_apply_113 (by decide) (fun h_113 => ?_) (fun h_113 => ?_)
        · exact g_vret C dX1_apply_142 ⟨ch1, co1, tt1, b1, b2, b3.imp (fun ⟨e1, e2⟩ => ⟨mc_0 hI hl hr h_38 e1, e2⟩) id, rfl⟩
        · omega
      · omega
    · omega
set_option maxHeartbeats 4000000 in
set_option maxRecDepth 100000 in
theorem mwork_in (hw : WD (mw a di dz)) {Γ : GC} (C : CG D (tyZ di dz) (mw a di dz) RX1 Γ cX1_work 3 none) {Q : State → Prop} {rn1 : Nat} (hn : n ≤ 24) (hB : B12 kd lf rg) (K : ∀ (ch1 : Bool) (co1 : Nat → Nat) (tt1 : Nat → Option Nat), Im co1 tt1 → Sm n kd lf rg co1 tt1 → (((∀ k, k < n → Ck kd lf rg (TB co co tt) k) ∧ ch1 = false ∧ co1 = co ∧ tt1 = tt) ∨ (ch1 = true ∧ ms co1 tt1 < ms co tt)) → JG l D (mw a di dz) Γ (rmL 3 73) 3 0 0 Q (n, ch1, kd, lf, rg, co1, tt1) 74 [.ref (a 0), .int (nI rn1)] []) : ∀ (m i : Nat) (ch1 : Bool) (co1 : Nat → Nat) (tt1 : Nat → Option Nat), n < i + m → i ≤ n → Im co1 tt1 → Sm n kd lf rg co1 tt1 → (((∀ k, k < i → Ck kd lf rg (TB co co tt) k) ∧ ch1 = false ∧ co1 = co ∧ tt1 = tt) ∨ (ch1 = true ∧ ms co1 tt1 < ms co tt)) → JG l D (mw a di dz) Γ (rmL 3 73) 3 0 0 Q (n, ch1, kd, lf, rg, co1, tt1) 55 [.ref (a 0), .int (nI rn1), .int (nI i)] [] := by
  intro m
  induction m with
  | zero =>
    intro i ch1 co1 tt1 h1 h2
    omega
  | succ m ih =>
    intro i ch1 co1 tt1 hm hin hI hS hR
    refine g_iload_n C dX1_work_55 rfl ?_
    refine g_aload_n C dX1_work_56 rfl ?_
    refine m_get_n C dX1_work_57 ?_
    refine gn_icmp_ge (tgt := 74) C (by omega) (by omega) dX1_work_60 (by decide) (fun h_60 => ?_) (fun h_60 => ?_)
    · obtain rfl : i = n := by omega
      refine g_take 2 rfl ?_
      exact K ch1 co1 tt1 hI hS hR
    · refine g_aload_n C dX1_work_63 rfl ?_
      refine g_iload_n C dX1_work_64 rfl ?_
      refine m_callv (n := 1) C (met_apply hw hn hB hI hS h_60) q208 q210 qs13 q211 (by decide +kernel) rfl ⟨rfl, rfl⟩ ⟨Nat.le_of_ble_eq_true rfl, Nat.le_of_ble_eq_true rfl⟩ ⟨Nat.le_of_ble_eq_true rfl, Nat.le_of_ble_eq_true rfl⟩ rfl (Nat.le_of_ble_eq_true rfl) dX1_work_65 (fun u' hp => ?_)
      obtain ⟨ch2, co2, tt2, b1, b2, b3, rfl⟩ := hp
      refine g_inc2 C dX1_work_68 rfl (by decide) (inc_1 _) ?_
      refine g_goto (tgt := 55) C dX1_work_71 (by decide) ?_
      refine ih (i + 1) ch2 co2 tt2 (by omega) (by omega) b1 b2 ?_
      rcases b3 with ⟨c1, c2, c3, c4⟩ | ⟨c1, c2⟩
      · subst c2; subst c3; subst c4
        rcases hR with ⟨d1, d2, d3, d4⟩ | ⟨d1, d2⟩
        · subst d3; subst d4
          refine Or.inl ⟨fun k hk => ?_, d2, rfl, rfl⟩
          by_cases e : k = i
          · subst e; exact c1
          · exact d1 k (by omega)
        · exact Or.inr ⟨d1, d2⟩
      · refine Or.inr ⟨c1, ?_⟩
        rcases hR with ⟨d1, d2, d3, d4⟩ | ⟨d1, d2⟩
        · subst d3; subst d4; exact c2
        · omega
set_option maxHeartbeats 4000000 in
set_option maxRecDepth 100000 in
theorem mwork_loop (hw : WD (mw a di dz)) {Γ : GC} (C : CG D (tyZ di dz) (mw a di dz) RX1 Γ cX1_work 3 none) (hn : n ≤ 24) (hB : B12 kd lf rg) : ∀ (m rn1 : Nat) (ch : Bool) (co : Nat → Nat) (tt : Nat → Option Nat), 30 < rn1 + m → rn1 ≤ 30 → Im co tt → Sm n kd lf rg co tt → (ch = false → ∀ k, k < n → Ck kd lf rg (TB co co tt) k) → (ch = true → rn1 + ms co tt ≤ 24) → JG l D (mw a di dz) Γ (rmL 3 73) 3 0 0 (QGv D (mw a di dz) Γ (WMp n kd lf rg)) (n, ch, kd, lf, rg, co, tt) 35 [.ref (a 0), .int (nI rn1)] [] := by
  intro m
  induction m with
  | zero =>
    intro rn1 ch co tt h1 h2
    omega
  | succ m ih =>
    intro rn1 ch co tt hm hle hI hS hF hT
    refine g_iload_n C dX1_work_35 rfl ?_
    refine g_bipush (v := nI 30) C dX1_work_36 (by decide +kernel) ?_
    refine gn_icmp_ge (tgt := 80) C (by omega) (by omega) dX1_work_38 (by decide) (fun h_38 => ?_) (fun h_38 => ?_)
    · obtain rfl : ch = false := by cases ch with | false => rfl | true => have := hT rfl; omega
      exact g_vret C dX1_work_80 ⟨false, co, tt, hI, m_end hI hS (hF rfl), rfl⟩
    · refine g_aload_n C dX1_work_41 rfl ?_
      refine m_get_ch C dX1_work_42 ?_
      refine gb_if_eq (tgt := 80) C dX1_work_45 (by decide) (fun h_45 => ?_) (fun h_45 => ?_)
      · subst h_45
        exact g_vret C dX1_work_80 ⟨false, co, tt, hI, m_end hI hS (hF rfl), rfl⟩
      · subst h_45
        have hms := hT rfl
        refine g_aload_n C dX1_work_48 rfl ?_
        refine g_iconst (v := nI 0) C dX1_work_49 (by decide +kernel) ?_
        refine m_put_ch C false dX1_work_50 ?_
        refine g_iconst (v := nI 0) C dX1_work_53 (by decide +kernel) ?_
        refine g_app2 C dX1_work_54 rfl (by decide) ?_
        refine mwork_in (co := co) (tt := tt) hw C hn hB (fun ch1 co1 tt1 b1 b2 b3 => ?_) (n + 1) 0 false co tt (by omega) (by omega) hI hS (Or.inl ⟨fun k hk => by omega, rfl, rfl, rfl⟩)
        refine g_inc1 C dX1_work_74 rfl (by decide) (inc_1 _) ?_
        refine g_goto (tgt := 35) C dX1_work_77 (by decide) ?_
        refine ih (rn1 + 1) ch1 co1 tt1 (by omega) (by omega) b1 b2 (fun e => ?_) (fun e => ?_)
        · rcases b3 with ⟨c1, c2, c3, c4⟩ | ⟨c1, c2⟩
          · subst c3; subst c4; exact c1
          · rw [e] at c1; cases c1
        · rcases b3 with ⟨c1, c2, c3, c4⟩ | ⟨c1, c2⟩
          · rw [e] at c2; cases c2
          · omega
set_option maxHeartbeats 4000000 in
set_option maxRecDepth 100000 in
theorem mwork_0 (hw : WD (mw a di dz)) {Γ : GC} (C : CG D (tyZ di dz) (mw a di dz) RX1 Γ cX1_work 3 none) (hn : n ≤ 24) (hB : B12 kd lf rg) : ∀ (m v : Nat) (co : Nat → Nat) (tt : Nat → Option Nat), 12 < v + m → v ≤ 12 → (∀ j, j < v → co j = j ∧ tt j = none) → JG l D (mw a di dz) Γ (rmL 3 73) 3 0 0 (QGv D (mw a di dz) Γ (WMp n kd lf rg)) (n, ch, kd, lf, rg, co, tt) 2 [.ref (a 0), .int (nI v)] [] := by
  intro m
  induction m with
  | zero =>
    intro v co tt h1 h2
    omega
  | succ m ih =>
    intro v co tt hm hv hd
    refine g_iload_n C dX1_work_2 rfl ?_
    refine g_bipush (v := nI 12) C dX1_work_3 (by decide +kernel) ?_
    refine gn_icmp_ge (tgt := 28) C (by omega) (by omega) dX1_work_5 (by decide) (fun h_5 => ?_) (fun h_5 => ?_)
    · obtain ⟨s1, s2, s3⟩ := m_start (n := n) (kd := kd) (lf := lf) (rg := rg) (co := co) (tt := tt) (fun v hv => (hd v (by omega)).1) (fun v hv => (hd v (by omega)).2)
      refine g_aload_n C dX1_work_28 rfl ?_
      refine g_iconst (v := nI 1) C dX1_work_29 (by decide +kernel) ?_
      refine m_put_ch C true dX1_work_30 ?_
      refine g_iconst (v := nI 0) C dX1_work_33 (by decide +kernel) ?_
      refine g_set1 C dX1_work_34 rfl (by decide) ?_
      exact mwork_loop hw C hn hB 31 0 true co tt (by omega) (by omega) s1 s2 (fun e => by cases e) (fun _ => by omega)
    · refine g_aload_n C dX1_work_8 rfl ?_
      refine m_get_co C dX1_work_9 ?_
      refine g_iload_n C dX1_work_12 rfl ?_
      refine g_iload_n C dX1_work_13 rfl ?_
      refine m_st_co C _ (by omega) dX1_work_14 ?_
      refine g_aload_n C dX1_work_15 rfl ?_
      refine m_get_tt C dX1_work_16 ?_
      refine g_iload_n C dX1_work_19 rfl ?_
      refine g_iconst (v := oI none) C dX1_work_20 (by decide +kernel) ?_
      refine m_st_tt C none (by omega) dX1_work_21 ?_
      refine g_inc1 C dX1_work_22 rfl (by decide) (inc_1 _) ?_
      refine g_goto (tgt := 2) C dX1_work_25 (by decide) ?_
      refine ih (v + 1) _ _ (by omega) (by omega) (fun j hj => ?_)
      by_cases e : j = v
      · subst e; exact ⟨ups, ups⟩
      · rw [upn j e, upn j e]; exact hd j (by omega)
set_option maxHeartbeats 4000000 in
set_option maxRecDepth 100000 in
theorem met_work (hw : WD (mw a di dz)) (hn : n ≤ 24) (hB : B12 kd lf rg) : MGv l D (tyZ di dz) (mw a di dz) yX1_work cX1_work 3 (rmL 3 73) [.ref (a 0)] (n, ch, kd, lf, rg, co, tt) (WMp n kd lf rg) := by
  refine MGv.of hw (by decide +kernel) (Nat.le_of_ble_eq_true rfl) rfl (fun Γ C => ?_)
  have C : CG D (tyZ di dz) (mw a di dz) RX1 Γ cX1_work 3 none := C
  refine g_iconst (v := nI 0) C dX1_work_0 (by decide +kernel) ?_
  refine g_app1 C dX1_work_1 rfl (by decide) ?_
  exact mwork_0 hw C hn hB 13 0 co tt (by omega) (by omega) (fun j hj => by omega)
end M1W
end
section
/-! AliasClassesModel: the questions, assign, drop -/
set_option maxRecDepth 100000
def MQp (n : Nat) (kd lf rg : Nat → Nat) (A : (Nat → Nat) → (Nat → Option Nat) → Prop) (u' : MS) : Prop := ∃ (ch1 : Bool) (co1 : Nat → Nat) (tt1 : Nat → Option Nat), Fnl n kd lf rg co1 tt1 ∧ A co1 tt1 ∧ u' = (n, ch1, kd, lf, rg, co1, tt1)
theorem sf_root {R : Nat → Nat} {pt : Nat → Option Nat} {v : Nat} (h : R (R v) = R v) (k : Nat) : sf R pt k (R v) = sf R pt k v := by
  cases k with
  | zero => rfl
  | succ k => simp only [sf, h]
theorem nv_f {x : Int32} (h : (!vI x) = false) : vI x = true := by
  cases e : vI x with
  | true => rfl
  | false => rw [e] at h; cases h
theorem nv_t {x : Int32} (h : (!vI x) = true) : vI x = false := by
  cases e : vI x with
  | false => rfl
  | true => rw [e] at h; cases h
theorem mn_bt {co : Nat → Nat} {sv : Int32} {v : Nat} (hs : ∀ i, i < 12 → (bt sv i = true ↔ ∃ u, u < v ∧ co u = i)) (hc : co v < 12) : bt sv (co v) = false ↔ mn co v = true := by
  have h1 := hs (co v) hc
  simp only [mn, decide_eq_true_eq]
  constructor
  · intro h u hu e
    rw [h1.mpr ⟨u, hu, e⟩] at h
    cases h
  · intro h
    cases e : bt sv (co v) with
    | false => rfl
    | true =>
      obtain ⟨u, hu, e2⟩ := h1.mp e
      exact absurd e2 (h u hu)
theorem bt_add {co : Nat → Nat} {sv : Int32} {v : Nat} (hs : ∀ i, i < 12 → (bt sv i = true ↔ ∃ u, u < v ∧ co u = i)) (hc : co v < 12) : ∀ i, i < 12 → (bt (sv ||| (nI 1 <<< (nI (co v) &&& 31))) i = true ↔ ∃ u, u < v + 1 ∧ co u = i) := by
  intro i hi
  rw [b_or, b_pow (by omega) (by omega), Bool.or_eq_true, decide_eq_true_eq, hs i hi]
  constructor
  · rintro (⟨u, hu, e⟩ | e)
    · exact ⟨u, by omega, e⟩
    · exact ⟨v, by omega, e.symm⟩
  · rintro ⟨u, hu, e⟩
    by_cases h : u = v
    · subst h; exact Or.inr e.symm
    · exact Or.inl ⟨u, by omega, e⟩
theorem cn_s {f : Nat → Bool} {v : Nat} (h : f v = true) : cn f (v + 1) = cn f v + 1 := by simp [cn, h]
theorem cn_k {f : Nat → Bool} {v : Nat} (h : f v = false) : cn f (v + 1) = cn f v := by simp [cn, h]
section M2W
variable {l : Launch} {D : va_G} {a : Nat → Nat} {di dz : ClassId} {n : Nat} {ch : Bool} {kd lf rg co : Nat → Nat} {tt : Nat → Option Nat}
set_option maxHeartbeats 4000000 in
set_option maxRecDepth 100000 in
theorem mmet_same (hw : WD (mw a di dz)) (hn : n ≤ 24) (hB : B12 kd lf rg) (x y : Int32) : MGi l D (tyZ di dz) (mw a di dz) yX1_same cX1_same 3 (some .int) (rmL 4 95) [.ref (a 0), .int x, .int y] (n, ch, kd, lf, rg, co, tt) (fun r u' => Q2 x y (fun v w => MQp n kd lf rg (fun R _ => r = aSame R v w) u') (r = oI none ∧ u' = (n, ch, kd, lf, rg, co, tt))) := by
  refine MGi.of hw (by decide +kernel) (Nat.le_of_ble_eq_true rfl) rfl (fun Γ C => ?_)
  have C : CG D (tyZ di dz) (mw a di dz) RX1 Γ cX1_same 3 (some .int) := C
  refine g_iload_n C dX1_same_0 rfl ?_
  refine g_calls (n := 1) C (met_bad x) (lw_S q193 q194 q20 q195) (by decide +kernel) rfl ⟨rfl, rfl⟩ ⟨Nat.le_of_ble_eq_true rfl, Nat.le_of_ble_eq_true rfl⟩ ⟨Nat.le_of_ble_eq_true rfl, Nat.le_of_ble_eq_true rfl⟩ rfl (Nat.le_of_ble_eq_true rfl) dX1_same_1 (fun r hp => ?_)
  obtain rfl := hp
  refine gb_if_ne (tgt := 14) C dX1_same_4 (by decide) (fun h_4 => ?_) (fun h_4 => ?_)
  · refine g_iconst (v := oI none) C dX1_same_14 (by decide +kernel) ?_
    exact g_iret C dX1_same_15 (Or.inr ⟨by simp [nv_t h_4], rfl, rfl⟩)
  · refine g_iload_n C dX1_same_7 rfl ?_
    refine g_calls (n := 1) C (met_bad y) (lw_S q193 q194 q20 q195) (by decide +kernel) rfl ⟨rfl, rfl⟩ ⟨Nat.le_of_ble_eq_true rfl, Nat.le_of_ble_eq_true rfl⟩ ⟨Nat.le_of_ble_eq_true rfl, Nat.le_of_ble_eq_true rfl⟩ rfl (Nat.le_of_ble_eq_true rfl) dX1_same_8 (fun r hp => ?_)
    obtain rfl := hp
    refine gb_if_eq (tgt := 16) C dX1_same_11 (by decide) (fun h_11 => ?_) (fun h_11 => ?_)
    · obtain ⟨v, hv, rfl⟩ := vI_some (nv_f h_4)
      obtain ⟨w, hw2, rfl⟩ := vI_some (nv_f h_11)
      refine g_aload_n C dX1_same_16 rfl ?_
      refine m_callv (n := 0) C (met_work hw hn hB) q204 q206 qs12 q207 (by decide +kernel) rfl ⟨rfl, rfl⟩ ⟨Nat.le_of_ble_eq_true rfl, Nat.le_of_ble_eq_true rfl⟩ ⟨Nat.le_of_ble_eq_true rfl, Nat.le_of_ble_eq_true rfl⟩ rfl (Nat.le_of_ble_eq_true rfl) dX1_same_17 (fun u' hp => ?_)
      obtain ⟨ch1, co1, tt1, hI, hL, rfl⟩ := hp
      have c1 := (hI.1 v hv).1
      have c2 := (hI.1 w hw2).1
      refine g_aload_n C dX1_same_20 rfl ?_
      refine m_get_co C dX1_same_21 ?_
      refine g_iload_n C dX1_same_24 rfl ?_
      refine m_ld_co C (by omega) rfl dX1_same_25 ?_
      refine g_aload_n C dX1_same_26 rfl ?_
      refine m_get_co C dX1_same_27 ?_
      refine g_iload_n C dX1_same_30 rfl ?_
      refine m_ld_co C (by omega) rfl dX1_same_31 ?_
      refine gn_icmp_ne (tgt := 39) C (by omega) (by omega) dX1_same_32 (by decide) (fun h_32 => ?_) (fun h_32 => ?_)
      · refine g_iconst (v := bI false) C dX1_same_39 (by decide +kernel) ?_
        exact g_iret C dX1_same_40 (Or.inl ⟨v, w, hv, hw2, rfl, rfl, ch1, co1, tt1, hL, by simp [aSame, h_32], rfl⟩)
      · refine g_iconst (v := bI true) C dX1_same_35 (by decide +kernel) ?_
        refine g_goto (tgt := 40) C dX1_same_36 (by decide) ?_
        exact g_iret C dX1_same_40 (Or.inl ⟨v, w, hv, hw2, rfl, rfl, ch1, co1, tt1, hL, by simp [aSame, h_32], rfl⟩)
    · refine g_iconst (v := oI none) C dX1_same_14 (by decide +kernel) ?_
      exact g_iret C dX1_same_15 (Or.inr ⟨by simp [nv_t h_11], rfl, rfl⟩)
set_option maxHeartbeats 4000000 in
set_option maxRecDepth 100000 in
theorem mmembersOf_loop {Γ : GC} (C : CG D (tyZ di dz) (mw a di dz) RX1 Γ cX1_membersOf 4 (some .int)) {c : Nat} (hc : c < 12) (hR : ∀ v, v < 12 → co v < 12) : ∀ (m v : Nat), 12 < v + m → v ≤ 12 → JG l D (mw a di dz) Γ (rmL 0 0) 4 0 0 (QGi D (mw a di dz) Γ (fun r u' => r = mk (fun w => decide (co w = c)) 12 ∧ u' = (n, ch, kd, lf, rg, co, tt))) (n, ch, kd, lf, rg, co, tt) 4 [.ref (a 0), .int (nI c), .int (mk (fun w => decide (co w = c)) v), .int (nI v)] [] := by
  intro m
  induction m with
  | zero =>
    intro v h1 h2
    omega
  | succ m ih =>
    intro v hm hv
    refine g_iload_n C dX1_membersOf_4 rfl ?_
    refine g_bipush (v := nI 12) C dX1_membersOf_5 (by decide +kernel) ?_
    refine gn_icmp_ge (tgt := 32) C (by omega) (by omega) dX1_membersOf_7 (by decide) (fun h_7 => ?_) (fun h_7 => ?_)
    · obtain rfl : v = 12 := by omega
      refine g_iload_n C dX1_membersOf_32 rfl ?_
      exact g_iret C dX1_membersOf_33 ⟨rfl, rfl⟩
    · have c1 := hR v h_7
      refine g_aload_n C dX1_membersOf_10 rfl ?_
      refine m_get_co C dX1_membersOf_11 ?_
      refine g_iload_n C dX1_membersOf_14 rfl ?_
      refine m_ld_co C (by omega) rfl dX1_membersOf_15 ?_
      refine g_iload_n C dX1_membersOf_16 rfl ?_
      refine gn_icmp_ne (tgt := 26) C (by omega) (by omega) dX1_membersOf_17 (by decide) (fun h_17 => ?_) (fun h_17 => ?_)
      · refine g_inc3 C dX1_membersOf_26 rfl (by decide) (inc_1 _) ?_
        refine g_goto (tgt := 4) C dX1_membersOf_29 (by decide) ?_
        have e : mk (fun w => decide (co w = c)) (v + 1) = mk (fun w => decide (co w = c)) v := by simp [mk, h_17]
        rw [← e]
        exact ih (v + 1) (by omega) (by omega)
      · refine g_iload_n C dX1_membersOf_20 rfl ?_
        refine g_iconst (v := nI 1) C dX1_membersOf_21 (by decide +kernel) ?_
        refine g_iload_n C dX1_membersOf_22 rfl ?_
        refine g_ishl C dX1_membersOf_23 rfl ?_
        refine g_ior C dX1_membersOf_24 (mk_yes (f := (fun w => decide (co w = c))) (v := v) (by simp [h_17])) ?_
        refine g_set2 C dX1_membersOf_25 rfl (by decide) ?_
        refine g_inc3 C dX1_membersOf_26 rfl (by decide) (inc_1 _) ?_
        refine g_goto (tgt := 4) C dX1_membersOf_29 (by decide) ?_
        exact ih (v + 1) (by omega) (by omega)
set_option maxHeartbeats 4000000 in
set_option maxRecDepth 100000 in
theorem mmet_membersOf (hw : WD (mw a di dz)) {c : Nat} (hc : c < 12) (hR : ∀ v, v < 12 → co v < 12) : MGi l D (tyZ di dz) (mw a di dz) yX1_membersOf cX1_membersOf 4 (some .int) (rmL 0 0) [.ref (a 0), .int (nI c)] (n, ch, kd, lf, rg, co, tt) (fun r u' => r = mk (fun w => decide (co w = c)) 12 ∧ u' = (n, ch, kd, lf, rg, co, tt)) := by
  refine MGi.of hw (by decide +kernel) (Nat.le_of_ble_eq_true rfl) rfl (fun Γ C => ?_)
  have C : CG D (tyZ di dz) (mw a di dz) RX1 Γ cX1_membersOf 4 (some .int) := C
  refine g_iconst (v := nI 0) C dX1_membersOf_0 (by decide +kernel) ?_
  refine g_app2 C dX1_membersOf_1 rfl (by decide) ?_
  refine g_iconst (v := nI 0) C dX1_membersOf_2 (by decide +kernel) ?_
  refine g_app3 C dX1_membersOf_3 rfl (by decide) ?_
  exact mmembersOf_loop C hc hR 13 0 (by omega) (by omega)
set_option maxHeartbeats 4000000 in
set_option maxRecDepth 100000 in
theorem mmet_members (hw : WD (mw a di dz)) (hn : n ≤ 24) (hB : B12 kd lf rg) (x : Int32) : MGi l D (tyZ di dz) (mw a di dz) yX1_members cX1_members 2 (some .int) (rmL 4 95) [.ref (a 0), .int x] (n, ch, kd, lf, rg, co, tt) (fun r u' => Q1 x (fun v => MQp n kd lf rg (fun R _ => r = aMem R v) u') (r = oI none ∧ u' = (n, ch, kd, lf, rg, co, tt))) := by
  refine MGi.of hw (by decide +kernel) (Nat.le_of_ble_eq_true rfl) rfl (fun Γ C => ?_)
  have C : CG D (tyZ di dz) (mw a di dz) RX1 Γ cX1_members 2 (some .int) := C
  refine g_iload_n C dX1_members_0 rfl ?_
  refine g_calls (n := 1) C (met_bad x) (lw_S q193 q194 q20 q195) (by decide +kernel) rfl ⟨rfl, rfl⟩ ⟨Nat.le_of_ble_eq_true rfl, Nat.le_of_ble_eq_true rfl⟩ ⟨Nat.le_of_ble_eq_true rfl, Nat.le_of_ble_eq_true rfl⟩ rfl (Nat.le_of_ble_eq_true rfl) dX1_members_1 (fun r hp => ?_)
  obtain rfl := hp
  refine gb_if_eq (tgt := 9) C dX1_members_4 (by decide) (fun h_4 => ?_) (fun h_4 => ?_)
  · obtain ⟨v, hv, rfl⟩ := vI_some (nv_f h_4)
    refine g_aload_n C dX1_members_9 rfl ?_
    refine m_callv (n := 0) C (met_work hw hn hB) q204 q206 qs12 q207 (by decide +kernel) rfl ⟨rfl, rfl⟩ ⟨Nat.le_of_ble_eq_true rfl, Nat.le_of_ble_eq_true rfl⟩ ⟨Nat.le_of_ble_eq_true rfl, Nat.le_of_ble_eq_true rfl⟩ rfl (Nat.le_of_ble_eq_true rfl) dX1_members_10 (fun u' hp => ?_)
    obtain ⟨ch1, co1, tt1, hI, hL, rfl⟩ := hp
    have c1 := (hI.1 v hv).1
    refine g_aload_n C dX1_members_13 rfl ?_
    refine g_aload_n C dX1_members_14 rfl ?_
    refine m_get_co C dX1_members_15 ?_
    refine g_iload_n C dX1_members_18 rfl ?_
    refine m_ld_co C (by omega) rfl dX1_members_19 ?_
    refine m_calli (n := 1) C (mmet_membersOf hw c1 (fun v hv => (hI.1 v hv).1)) q224 q226 qs16 q227 (by decide +kernel) rfl ⟨rfl, rfl⟩ ⟨Nat.le_of_ble_eq_true rfl, Nat.le_of_ble_eq_true rfl⟩ ⟨Nat.le_of_ble_eq_true rfl, Nat.le_of_ble_eq_true rfl⟩ rfl (Nat.le_of_ble_eq_true rfl) dX1_members_20 (fun r u' hp => ?_)
    obtain ⟨rfl, rfl⟩ := hp
    exact g_iret C dX1_members_23 (Or.inl ⟨v, hv, rfl, ch1, co1, tt1, hL, rfl, rfl⟩)
  · refine g_iconst (v := oI none) C dX1_members_7 (by decide +kernel) ?_
    exact g_iret C dX1_members_8 (Or.inr ⟨nv_t h_4, rfl, rfl⟩)
set_option maxHeartbeats 4000000 in
set_option maxRecDepth 100000 in
theorem mtarget_n {Γ : GC} (C : CG D (tyZ di dz) (mw a di dz) RX1 Γ cX1_target 4 (some .int)) {P : Int32 → MS → Prop} {i1 : Int32} (hP : P (oI none) (n, ch, kd, lf, rg, co, tt)) : ∀ (m w : Nat), 12 < w + m → w ≤ 12 → JG l D (mw a di dz) Γ (rmL 4 95) 4 0 0 (QGi D (mw a di dz) Γ P) (n, ch, kd, lf, rg, co, tt) 27 [.ref (a 0), .int i1, .int (oI none), .int (nI w)] [] := by
  intro m
  induction m with
  | zero =>
    intro w h1 h2
    omega
  | succ m ih =>
    intro w hm hw
    refine g_iload_n C dX1_target_27 rfl ?_
    refine g_bipush (v := nI 12) C dX1_target_28 (by decide +kernel) ?_
    refine gn_icmp_ge (tgt := 55) C (by omega) (by omega) dX1_target_30 (by decide) (fun h_30 => ?_) (fun h_30 => ?_)
    · refine g_iconst (v := oI none) C dX1_target_55 (by decide +kernel) ?_
      exact g_iret C dX1_target_56 hP
    · refine g_iload_n C dX1_target_33 rfl ?_
      refine go_if_lt (tgt := 49) C (fun t e => by cases e) dX1_target_34 (by decide) (fun h_34 => ?_) (fun t h_34 => ?_)
      · refine g_inc3 C dX1_target_49 rfl (by decide) (inc_1 _) ?_
        refine g_goto (tgt := 27) C dX1_target_52 (by decide) ?_
        exact ih (w + 1) (by omega) (by omega)
      · cases h_34
set_option maxHeartbeats 4000000 in
set_option maxRecDepth 100000 in
theorem mtarget_s {Γ : GC} (C : CG D (tyZ di dz) (mw a di dz) RX1 Γ cX1_target 4 (some .int)) {P : Int32 → MS → Prop} {i1 : Int32} {t : Nat} (ht : t < 12) (rt : co t = t) (hR : ∀ v, v < 12 → co v < 12) (hP : ∀ w, w < 12 → co w = t → (∀ u, u < w → co u ≠ t) → P (nI w) (n, ch, kd, lf, rg, co, tt)) : ∀ (m w : Nat), 12 < w + m → w ≤ 12 → (∀ u, u < w → co u ≠ t) → JG l D (mw a di dz) Γ (rmL 4 95) 4 0 0 (QGi D (mw a di dz) Γ P) (n, ch, kd, lf, rg, co, tt) 27 [.ref (a 0), .int i1, .int (nI t), .int (nI w)] [] := by
  intro m
  induction m with
  | zero =>
    intro w h1 h2
    omega
  | succ m ih =>
    intro w hm hw hu
    refine g_iload_n C dX1_target_27 rfl ?_
    refine g_bipush (v := nI 12) C dX1_target_28 (by decide +kernel) ?_
    refine gn_icmp_ge (tgt := 55) C (by omega) (by omega) dX1_target_30 (by decide) (fun h_30 => ?_) (fun h_30 => ?_)
    · exact absurd rt (hu t (by omega))
    · have c1 := hR w h_30
      refine g_iload_n C dX1_target_33 rfl ?_
      refine gn_if_lt (tgt := 49) C (by omega) dX1_target_34 (by decide) ?_
      refine g_aload_n C dX1_target_37 rfl ?_
      refine m_get_co C dX1_target_38 ?_
      refine g_iload_n C dX1_target_41 rfl ?_
      refine m_ld_co C (by omega) rfl dX1_target_42 ?_
      refine g_iload_n C dX1_target_43 rfl ?_
      refine gn_icmp_ne (tgt := 49) C (by omega) (by omega) dX1_target_44 (by decide) (fun h_44 => ?_) (fun h_44 => ?_)
      · refine g_inc3 C dX1_target_49 rfl (by decide) (inc_1 _) ?_
        refine g_goto (tgt := 27) C dX1_target_52 (by decide) ?_
        refine ih (w + 1) (by omega) (by omega) (fun u h1 => ?_)
        by_cases e : u = w
        · subst e; exact h_44
        · exact hu u (by omega)
      · refine g_iload_n C dX1_target_47 rfl ?_
        exact g_iret C dX1_target_48 (hP w h_30 h_44 hu)
set_option maxHeartbeats 4000000 in
set_option maxRecDepth 100000 in
theorem mmet_target (hw : WD (mw a di dz)) (hn : n ≤ 24) (hB : B12 kd lf rg) (x : Int32) : MGi l D (tyZ di dz) (mw a di dz) yX1_target cX1_target 4 (some .int) (rmL 4 95) [.ref (a 0), .int x] (n, ch, kd, lf, rg, co, tt) (fun r u' => Q1 x (fun v => MQp n kd lf rg (fun R pt => aTgt R pt v r) u') (r = oI none ∧ u' = (n, ch, kd, lf, rg, co, tt))) := by
  refine MGi.of hw (by decide +kernel) (Nat.le_of_ble_eq_true rfl) rfl (fun Γ C => ?_)
  have C : CG D (tyZ di dz) (mw a di dz) RX1 Γ cX1_target 4 (some .int) := C
  refine g_iload_n C dX1_target_0 rfl ?_
  refine g_calls (n := 1) C (met_bad x) (lw_S q193 q194 q20 q195) (by decide +kernel) rfl ⟨rfl, rfl⟩ ⟨Nat.le_of_ble_eq_true rfl, Nat.le_of_ble_eq_true rfl⟩ ⟨Nat.le_of_ble_eq_true rfl, Nat.le_of_ble_eq_true rfl⟩ rfl (Nat.le_of_ble_eq_true rfl) dX1_target_1 (fun r hp => ?_)
  obtain rfl := hp
  refine gb_if_eq (tgt := 9) C dX1_target_4 (by decide) (fun h_4 => ?_) (fun h_4 => ?_)
  · obtain ⟨v, hv, rfl⟩ := vI_some (nv_f h_4)
    refine g_aload_n C dX1_target_9 rfl ?_
    refine m_callv (n := 0) C (met_work hw hn hB) q204 q206 qs12 q207 (by decide +kernel) rfl ⟨rfl, rfl⟩ ⟨Nat.le_of_ble_eq_true rfl, Nat.le_of_ble_eq_true rfl⟩ ⟨Nat.le_of_ble_eq_true rfl, Nat.le_of_ble_eq_true rfl⟩ rfl (Nat.le_of_ble_eq_true rfl) dX1_target_10 (fun u' hp => ?_)
    obtain ⟨ch1, co1, tt1, hI, hL, rfl⟩ := hp
    have c1 := (hI.1 v hv).1
    refine g_aload_n C dX1_target_13 rfl ?_
    refine m_get_tt C dX1_target_14 ?_
    refine g_aload_n C dX1_target_17 rfl ?_
    refine m_get_co C dX1_target_18 ?_
    refine g_iload_n C dX1_target_21 rfl ?_
    refine m_ld_co C (by omega) rfl dX1_target_22 ?_
    refine m_ld_tt C (by omega) rfl dX1_target_23 ?_
    refine g_app2 C dX1_target_24 rfl (by decide) ?_
    refine g_iconst (v := nI 0) C dX1_target_25 (by decide +kernel) ?_
    refine g_app3 C dX1_target_26 rfl (by decide) ?_
    cases e : tt1 (co1 v) with
    | none => exact mtarget_n C (Or.inl ⟨v, hv, rfl, ch1, co1, tt1, hL, Or.inl ⟨e, rfl⟩, rfl⟩) 13 0 (by omega) (by omega)
    | some t =>
      have t1 := hI.2 _ t c1 e
      exact mtarget_s C t1.1 t1.2.1 (fun v hv => (hI.1 v hv).1) (fun w h1 h2 h3 => Or.inl ⟨v, hv, rfl, ch1, co1, tt1, hL, Or.inr ⟨t, w, e, rfl, h1, by rw [h2, t1.2.1], fun u hu => by rw [t1.2.1]; exact h3 u hu⟩, rfl⟩) 13 0 (by omega) (by omega) (fun u hu => by omega)
  · refine g_iconst (v := oI none) C dX1_target_7 (by decide +kernel) ?_
    exact g_iret C dX1_target_8 (Or.inr ⟨nv_t h_4, rfl, rfl⟩)
set_option maxHeartbeats 4000000 in
set_option maxRecDepth 100000 in
theorem mmet_meet (hw : WD (mw a di dz)) (hn : n ≤ 24) (hB : B12 kd lf rg) (x y : Int32) : MGi l D (tyZ di dz) (mw a di dz) yX1_meet cX1_meet 4 (some .int) (rmL 4 95) [.ref (a 0), .int x, .int y] (n, ch, kd, lf, rg, co, tt) (fun r u' => Q2 x y (fun v w => MQp n kd lf rg (fun R pt => aMeet R pt v w r) u') (r = oI none ∧ u' = (n, ch, kd, lf, rg, co, tt))) := by
  refine MGi.of hw (by decide +kernel) (Nat.le_of_ble_eq_true rfl) rfl (fun Γ C => ?_)
  have C : CG D (tyZ di dz) (mw a di dz) RX1 Γ cX1_meet 4 (some .int) := C
  refine g_iload_n C dX1_meet_0 rfl ?_
  refine g_calls (n := 1) C (met_bad x) (lw_S q193 q194 q20 q195) (by decide +kernel) rfl ⟨rfl, rfl⟩ ⟨Nat.le_of_ble_eq_true rfl, Nat.le_of_ble_eq_true rfl⟩ ⟨Nat.le_of_ble_eq_true rfl, Nat.le_of_ble_eq_true rfl⟩ rfl (Nat.le_of_ble_eq_true rfl) dX1_meet_1 (fun r hp => ?_)
  obtain rfl := hp
  refine gb_if_ne (tgt := 14) C dX1_meet_4 (by decide) (fun h_4 => ?_) (fun h_4 => ?_)
  · refine g_iconst (v := oI none) C dX1_meet_14 (by decide +kernel) ?_
    exact g_iret C dX1_meet_15 (Or.inr ⟨by simp [nv_t h_4], rfl, rfl⟩)
  · refine g_iload_n C dX1_meet_7 rfl ?_
    refine g_calls (n := 1) C (met_bad y) (lw_S q193 q194 q20 q195) (by decide +kernel) rfl ⟨rfl, rfl⟩ ⟨Nat.le_of_ble_eq_true rfl, Nat.le_of_ble_eq_true rfl⟩ ⟨Nat.le_of_ble_eq_true rfl, Nat.le_of_ble_eq_true rfl⟩ rfl (Nat.le_of_ble_eq_true rfl) dX1_meet_8 (fun r hp => ?_)
    obtain rfl := hp
    refine gb_if_eq (tgt := 16) C dX1_meet_11 (by decide) (fun h_11 => ?_) (fun h_11 => ?_)
    · obtain ⟨v, hv, rfl⟩ := vI_some (nv_f h_4)
      obtain ⟨w, hw2, rfl⟩ := vI_some (nv_f h_11)
      refine g_aload_n C dX1_meet_16 rfl ?_
      refine m_callv (n := 0) C (met_work hw hn hB) q204 q206 qs12 q207 (by decide +kernel) rfl ⟨rfl, rfl⟩ ⟨Nat.le_of_ble_eq_true rfl, Nat.le_of_ble_eq_true rfl⟩ ⟨Nat.le_of_ble_eq_true rfl, Nat.le_of_ble_eq_true rfl⟩ rfl (Nat.le_of_ble_eq_true rfl) dX1_meet_17 (fun u' hp => ?_)
      obtain ⟨ch1, co1, tt1, hI, hL, rfl⟩ := hp
      have c1 := (hI.1 v hv).1
      have c2 := (hI.1 w hw2).1
      refine g_aload_n C dX1_meet_20 rfl ?_
      refine m_get_tt C dX1_meet_21 ?_
      refine g_aload_n C dX1_meet_24 rfl ?_
      refine m_get_co C dX1_meet_25 ?_
      refine g_iload_n C dX1_meet_28 rfl ?_
      refine m_ld_co C (by omega) rfl dX1_meet_29 ?_
      refine m_ld_tt C (by omega) rfl dX1_meet_30 ?_
      refine g_app3 C dX1_meet_31 rfl (by decide) ?_
      refine g_iload_n C dX1_meet_32 rfl ?_
      refine go_if_lt (tgt := 55) C (fun t e => by have := (hI.2 _ t c1 e).1; omega) dX1_meet_33 (by decide) (fun h_33 => ?_) (fun s h_33 => ?_)
      · refine g_iconst (v := bI false) C dX1_meet_55 (by decide +kernel) ?_
        exact g_iret C dX1_meet_56 (Or.inl ⟨v, w, hv, hw2, rfl, rfl, ch1, co1, tt1, hL, Or.inr ⟨rfl, fun ⟨p, q, h1, _⟩ => by rw [h_33] at h1; cases h1⟩, rfl⟩)
      · refine g_iload_n C dX1_meet_36 rfl ?_
        refine g_aload_n C dX1_meet_37 rfl ?_
        refine m_get_tt C dX1_meet_38 ?_
        refine g_aload_n C dX1_meet_41 rfl ?_
        refine m_get_co C dX1_meet_42 ?_
        refine g_iload_n C dX1_meet_45 rfl ?_
        refine m_ld_co C (by omega) rfl dX1_meet_46 ?_
        refine m_ld_tt C (by omega) rfl dX1_meet_47 ?_
        refine go_icmp_ne (tgt := 55) C (fun t e => by have := (hI.2 _ t c1 e).1; omega) (fun t e => by have := (hI.2 _ t c2 e).1; omega) dX1_meet_48 (by decide) (fun h_48 => ?_) (fun h_48 => ?_)
        · refine g_iconst (v := bI false) C dX1_meet_55 (by decide +kernel) ?_
          exact g_iret C dX1_meet_56 (Or.inl ⟨v, w, hv, hw2, rfl, rfl, ch1, co1, tt1, hL, Or.inr ⟨rfl, fun ⟨p, q, h1, h2, h3⟩ => by rw [(hI.2 _ p c1 h1).2.1, (hI.2 _ q c2 h2).2.1] at h3; exact h_48 (by rw [h1, h2, h3])⟩, rfl⟩)
        · refine g_iconst (v := bI true) C dX1_meet_51 (by decide +kernel) ?_
          refine g_goto (tgt := 56) C dX1_meet_52 (by decide) ?_
          exact g_iret C dX1_meet_56 (Or.inl ⟨v, w, hv, hw2, rfl, rfl, ch1, co1, tt1, hL, Or.inl ⟨rfl, s, s, h_33, by rw [← h_48]; exact h_33, rfl⟩, rfl⟩)
    · refine g_iconst (v := oI none) C dX1_meet_14 (by decide +kernel) ?_
      exact g_iret C dX1_meet_15 (Or.inr ⟨by simp [nv_t h_11], rfl, rfl⟩)
set_option maxHeartbeats 4000000 in
set_option maxRecDepth 100000 in
theorem mcount_loop {Γ : GC} (C : CG D (tyZ di dz) (mw a di dz) RX1 Γ cX1_count 6 (some .int)) {b : Bool} (hI : Im co tt) (hL : Fnl n kd lf rg co tt) : ∀ (m v : Nat) (sv : Int32), 12 < v + m → v ≤ 12 → (∀ i, i < 12 → (bt sv i = true ↔ ∃ u, u < v ∧ co u = i)) → JG l D (mw a di dz) Γ (rmL 4 95) 6 0 0 (QGi D (mw a di dz) Γ (fun r u' => MQp n kd lf rg (fun co tt => r = nI (cn (fun w => mn co w && (!b || (tt (co w)).isSome)) 12)) u')) (n, ch, kd, lf, rg, co, tt) 11 [.ref (a 0), .int (bI b), .int sv, .int (nI (cn (fun w => mn co w && (!b || (tt (co w)).isSome)) v)), .int (nI v)] [] := by
  intro m
  induction m with
  | zero =>
    intro v sv h1 h2
    omega
  | succ m ih =>
    intro v sv hm hv hs
    refine g_iload C dX1_count_11 rfl ?_
    refine g_bipush (v := nI 12) C dX1_count_13 (by decide +kernel) ?_
    refine gn_icmp_ge (tgt := 66) C (by omega) (by omega) dX1_count_15 (by decide) (fun h_15 => ?_) (fun h_15 => ?_)
    · obtain rfl : v = 12 := by omega
      refine g_iload_n C dX1_count_66 rfl ?_
      exact g_iret C dX1_count_67 ⟨ch, co, tt, hL, rfl, rfl⟩
    · have c1 := (hI.1 v h_15).1
      refine g_aload_n C dX1_count_18 rfl ?_
      refine m_get_co C dX1_count_19 ?_
      refine g_iload C dX1_count_22 rfl ?_
      refine m_ld_co C (by omega) rfl dX1_count_24 ?_
      refine g_app5 C dX1_count_25 rfl (by decide) ?_
      refine g_iload_n C dX1_count_27 rfl ?_
      refine g_iload C dX1_count_28 rfl ?_
      refine g_ishr C dX1_count_30 rfl ?_
      refine g_iconst (v := nI 1) C dX1_count_31 (by decide +kernel) ?_
      refine g_iand C dX1_count_32 rfl ?_
      refine gr_if_ne (tgt := 53) C dX1_count_33 (by decide) (fun h_33 => ?_) (fun h_33 => ?_)
      · have hm0 : mn co v = false := by
          cases e : mn co v with
          | false => rfl
          | true => exact absurd ((tst_s (by omega)).mpr ((mn_bt hs c1).mpr e)) h_33
        refine g_iload_n C dX1_count_53 rfl ?_
        refine g_iconst (v := nI 1) C dX1_count_54 (by decide +kernel) ?_
        refine g_iload C dX1_count_55 rfl ?_
        refine g_ishl C dX1_count_57 rfl ?_
        refine g_ior C dX1_count_58 rfl ?_
        refine g_set2 C dX1_count_59 rfl (by decide) ?_
        refine g_inc4 C dX1_count_60 rfl (by decide) (inc_1 _) ?_
        refine g_goto (tgt := 11) C dX1_count_63 (by decide) ?_
        have e : cn (fun w => mn co w && (!b || (tt (co w)).isSome)) v = cn (fun w => mn co w && (!b || (tt (co w)).isSome)) (v + 1) := (cn_k (by simp [hm0])).symm
        rw [e]
        refine g_take 5 rfl ?_
        exact ih (v + 1) _ (by omega) (by omega) (bt_add hs c1)
      · have hm0 : mn co v = true := (mn_bt hs c1).mp ((tst_s (by omega)).mp h_33)
        refine g_iload_n C dX1_count_36 rfl ?_
        refine gb_if_eq (tgt := 50) C dX1_count_37 (by decide) (fun h_37 => ?_) (fun h_37 => ?_)
        · refine g_inc3 C dX1_count_50 rfl (by decide) (inc_1 _) ?_
          refine g_iload_n C dX1_count_53 rfl ?_
          refine g_iconst (v := nI 1) C dX1_count_54 (by decide +kernel) ?_
          refine g_iload C dX1_count_55 rfl ?_
          refine g_ishl C dX1_count_57 rfl ?_
          refine g_ior C dX1_count_58 rfl ?_
          refine g_set2 C dX1_count_59 rfl (by decide) ?_
          refine g_inc4 C dX1_count_60 rfl (by decide) (inc_1 _) ?_
          refine g_goto (tgt := 11) C dX1_count_63 (by decide) ?_
          have e : cn (fun w => mn co w && (!b || (tt (co w)).isSome)) v + 1 = cn (fun w => mn co w && (!b || (tt (co w)).isSome)) (v + 1) := (cn_s (by simp [hm0, h_37])).symm
          rw [e]
          refine g_take 5 rfl ?_
          exact ih (v + 1) _ (by omega) (by omega) (bt_add hs c1)
        · refine g_aload_n C dX1_count_40 rfl ?_
          refine m_get_tt C dX1_count_41 ?_
          refine g_iload C dX1_count_44 rfl ?_
          refine m_ld_tt C (by omega) rfl dX1_count_46 ?_
          refine go_if_lt (tgt := 53) C (fun t e => by have := (hI.2 _ t c1 e).1; omega) dX1_count_47 (by decide) (fun h_47 => ?_) (fun t h_47 => ?_)
          · refine g_iload_n C dX1_count_53 rfl ?_
            refine g_iconst (v := nI 1) C dX1_count_54 (by decide +kernel) ?_
            refine g_iload C dX1_count_55 rfl ?_
            refine g_ishl C dX1_count_57 rfl ?_
            refine g_ior C dX1_count_58 rfl ?_
            refine g_set2 C dX1_count_59 rfl (by decide) ?_
            refine g_inc4 C dX1_count_60 rfl (by decide) (inc_1 _) ?_
            refine g_goto (tgt := 11) C dX1_count_63 (by decide) ?_
            have e : cn (fun w => mn co w && (!b || (tt (co w)).isSome)) v = cn (fun w => mn co w && (!b || (tt (co w)).isSome)) (v + 1) := (cn_k (by simp [hm0, h_37, h_47])).symm
            rw [e]
            refine g_take 5 rfl ?_
            exact ih (v + 1) _ (by omega) (by omega) (bt_add hs c1)
          · refine g_inc3 C dX1_count_50 rfl (by decide) (inc_1 _) ?_
            refine g_iload_n C dX1_count_53 rfl ?_
            refine g_iconst (v := nI 1) C dX1_count_54 (by decide +kernel) ?_
            refine g_iload C dX1_count_55 rfl ?_
            refine g_ishl C dX1_count_57 rfl ?_
            refine g_ior C dX1_count_58 rfl ?_
            refine g_set2 C dX1_count_59 rfl (by decide) ?_
            refine g_inc4 C dX1_count_60 rfl (by decide) (inc_1 _) ?_
            refine g_goto (tgt := 11) C dX1_count_63 (by decide) ?_
            have e : cn (fun w => mn co w && (!b || (tt (co w)).isSome)) v + 1 = cn (fun w => mn co w && (!b || (tt (co w)).isSome)) (v + 1) := (cn_s (by simp [hm0, h_37, h_47])).symm
            rw [e]
            refine g_take 5 rfl ?_
            exact ih (v + 1) _ (by omega) (by omega) (bt_add hs c1)
set_option maxHeartbeats 4000000 in
set_option maxRecDepth 100000 in
theorem mmet_count (hw : WD (mw a di dz)) (hn : n ≤ 24) (hB : B12 kd lf rg) (b : Bool) : MGi l D (tyZ di dz) (mw a di dz) yX1_count cX1_count 6 (some .int) (rmL 4 95) [.ref (a 0), .int (bI b)] (n, ch, kd, lf, rg, co, tt) (fun r u' => MQp n kd lf rg (fun co tt => r = nI (cn (fun w => mn co w && (!b || (tt (co w)).isSome)) 12)) u') := by
  refine MGi.of hw (by decide +kernel) (Nat.le_of_ble_eq_true rfl) rfl (fun Γ C => ?_)
  have C : CG D (tyZ di dz) (mw a di dz) RX1 Γ cX1_count 6 (some .int) := C
  refine g_aload_n C dX1_count_0 rfl ?_
  refine m_callv (n := 0) C (met_work hw hn hB) q204 q206 qs12 q207 (by decide +kernel) rfl ⟨rfl, rfl⟩ ⟨Nat.le_of_ble_eq_true rfl, Nat.le_of_ble_eq_true rfl⟩ ⟨Nat.le_of_ble_eq_true rfl, Nat.le_of_ble_eq_true rfl⟩ rfl (Nat.le_of_ble_eq_true rfl) dX1_count_1 (fun u' hp => ?_)
  obtain ⟨ch1, co1, tt1, hI, hL, rfl⟩ := hp
  refine g_iconst (v := nI 0) C dX1_count_4 (by decide +kernel) ?_
  refine g_app2 C dX1_count_5 rfl (by decide) ?_
  refine g_iconst (v := nI 0) C dX1_count_6 (by decide +kernel) ?_
  refine g_app3 C dX1_count_7 rfl (by decide) ?_
  refine g_iconst (v := nI 0) C dX1_count_8 (by decide +kernel) ?_
  refine g_app4 C dX1_count_9 rfl (by decide) ?_
  exact mcount_loop C hI hL 13 0 (nI 0) (by omega) (by omega) (fun i hi => by rw [nI_0, b_0]; simp)
set_option maxHeartbeats 4000000 in
set_option maxRecDepth 100000 in
theorem mmet_classes (hw : WD (mw a di dz)) (hn : n ≤ 24) (hB : B12 kd lf rg) : MGi l D (tyZ di dz) (mw a di dz) yX1_classes cX1_classes 1 (some .int) (rmL 5 120) [.ref (a 0)] (n, ch, kd, lf, rg, co, tt) (fun r u' => MQp n kd lf rg (fun R _ => r = nI (cn (mn R) 12)) u') := by
  refine MGi.of hw (by decide +kernel) (Nat.le_of_ble_eq_true rfl) rfl (fun Γ C => ?_)
  have C : CG D (tyZ di dz) (mw a di dz) RX1 Γ cX1_classes 1 (some .int) := C
  refine g_aload_n C dX1_classes_0 rfl ?_
  refine g_iconst (v := nI 0) C dX1_classes_1 (by decide +kernel) ?_
  refine m_calli (n := 1) C (mmet_count hw hn hB false) q240 q242 qs17 q243 (by decide +kernel) rfl ⟨rfl, rfl⟩ ⟨Nat.le_of_ble_eq_true rfl, Nat.le_of_ble_eq_true rfl⟩ ⟨Nat.le_of_ble_eq_true rfl, Nat.le_of_ble_eq_true rfl⟩ rfl (Nat.le_of_ble_eq_true rfl) dX1_classes_2 (fun r u' hp => ?_)
  obtain ⟨ch1, co1, tt1, hL, rfl, rfl⟩ := hp
  exact g_iret C dX1_classes_5 ⟨ch1, co1, tt1, hL, by simp, rfl⟩
set_option maxHeartbeats 4000000 in
set_option maxRecDepth 100000 in
theorem mmet_pointing (hw : WD (mw a di dz)) (hn : n ≤ 24) (hB : B12 kd lf rg) : MGi l D (tyZ di dz) (mw a di dz) yX1_pointing cX1_pointing 1 (some .int) (rmL 5 120) [.ref (a 0)] (n, ch, kd, lf, rg, co, tt) (fun r u' => MQp n kd lf rg (fun R pt => r = nI (cn (fun w => mn R w && (pt (R w)).isSome) 12)) u') := by
  refine MGi.of hw (by decide +kernel) (Nat.le_of_ble_eq_true rfl) rfl (fun Γ C => ?_)
  have C : CG D (tyZ di dz) (mw a di dz) RX1 Γ cX1_pointing 1 (some .int) := C
  refine g_aload_n C dX1_pointing_0 rfl ?_
  refine g_iconst (v := nI 1) C dX1_pointing_1 (by decide +kernel) ?_
  refine m_calli (n := 1) C (mmet_count hw hn hB true) q240 q242 qs17 q243 (by decide +kernel) rfl ⟨rfl, rfl⟩ ⟨Nat.le_of_ble_eq_true rfl, Nat.le_of_ble_eq_true rfl⟩ ⟨Nat.le_of_ble_eq_true rfl, Nat.le_of_ble_eq_true rfl⟩ rfl (Nat.le_of_ble_eq_true rfl) dX1_pointing_2 (fun r u' hp => ?_)
  obtain ⟨ch1, co1, tt1, hL, rfl, rfl⟩ := hp
  exact g_iret C dX1_pointing_5 ⟨ch1, co1, tt1, hL, by simp, rfl⟩
set_option maxHeartbeats 4000000 in
set_option maxRecDepth 100000 in
theorem msteps_loop {Γ : GC} (C : CG D (tyZ di dz) (mw a di dz) RX1 Γ cX1_steps 4 (some .int)) {u0 : MS} {v N : Nat} (hv : v < 12) (hI : Im co tt) (hL : Fnl n kd lf rg co tt) (hN : sf co tt 12 v = N) : ∀ (m step c : Nat), step + m = 12 → c < 12 → co c = c → step + sf co tt m c = N → JG l D (mw a di dz) Γ (rmL 4 95) 4 0 0 (QGi D (mw a di dz) Γ (fun r u' => Q1 (nI v) (fun v => MQp n kd lf rg (fun R pt => r = nI (sf R pt 12 v)) u') (r = oI none ∧ u' = u0))) (n, ch, kd, lf, rg, co, tt) 22 [.ref (a 0), .int (nI v), .int (nI c), .int (nI step)] [] := by
  intro m
  induction m with
  | zero =>
    intro step c h1 hc rc h2
    simp only [sf] at h2
    refine g_iload_n C dX1_steps_22 rfl ?_
    refine g_bipush (v := nI 12) C dX1_steps_23 (by decide +kernel) ?_
    refine gn_icmp_ge (tgt := 50) C (by omega) (by omega) dX1_steps_25 (by decide) (fun h_25 => ?_) (fun h_25 => ?_)
    · refine g_iload_n C dX1_steps_50 rfl ?_
      exact g_iret C dX1_steps_51 (Or.inl ⟨v, hv, rfl, ch, co, tt, hL, by show nI step = nI (sf co tt 12 v); rw [hN, ← h2, Nat.add_zero], rfl⟩)
    · omega
  | succ m ih =>
    intro step c h1 hc rc h2
    simp only [sf] at h2
    rw [rc] at h2
    refine g_iload_n C dX1_steps_22 rfl ?_
    refine g_bipush (v := nI 12) C dX1_steps_23 (by decide +kernel) ?_
    refine gn_icmp_ge (tgt := 50) C (by omega) (by omega) dX1_steps_25 (by decide) (fun h_25 => ?_) (fun h_25 => ?_)
    · omega
    · refine g_aload_n C dX1_steps_28 rfl ?_
      refine m_get_tt C dX1_steps_29 ?_
      refine g_iload_n C dX1_steps_32 rfl ?_
      refine m_ld_tt C (by omega) rfl dX1_steps_33 ?_
      refine go_if_lt (tgt := 50) C (fun t e => by have := (hI.2 _ t hc e).1; omega) dX1_steps_34 (by decide) (fun h_34 => ?_) (fun t h_34 => ?_)
      · rw [h_34] at h2
        refine g_iload_n C dX1_steps_50 rfl ?_
        exact g_iret C dX1_steps_51 (Or.inl ⟨v, hv, rfl, ch, co, tt, hL, by show nI step = nI (sf co tt 12 v); rw [hN, ← h2, Nat.add_zero], rfl⟩)
      · rw [h_34] at h2
        have t1 := hI.2 _ t hc h_34
        refine g_aload_n C dX1_steps_37 rfl ?_
        refine m_get_tt C dX1_steps_38 ?_
        refine g_iload_n C dX1_steps_41 rfl ?_
        refine m_ld_tt_s C (by omega) h_34 dX1_steps_42 ?_
        refine g_set2 C dX1_steps_43 rfl (by decide) ?_
        refine g_inc3 C dX1_steps_44 rfl (by decide) (inc_1 _) ?_
        refine g_goto (tgt := 22) C dX1_steps_47 (by decide) ?_
        exact ih (step + 1) t (by omega) t1.1 t1.2.1 (by simp only at h2; omega)
set_option maxHeartbeats 4000000 in
set_option maxRecDepth 100000 in
theorem mmet_steps (hw : WD (mw a di dz)) (hn : n ≤ 24) (hB : B12 kd lf rg) (x : Int32) : MGi l D (tyZ di dz) (mw a di dz) yX1_steps cX1_steps 4 (some .int) (rmL 4 95) [.ref (a 0), .int x] (n, ch, kd, lf, rg, co, tt) (fun r u' => Q1 x (fun v => MQp n kd lf rg (fun R pt => r = nI (sf R pt 12 v)) u') (r = oI none ∧ u' = (n, ch, kd, lf, rg, co, tt))) := by
  refine MGi.of hw (by decide +kernel) (Nat.le_of_ble_eq_true rfl) rfl (fun Γ C => ?_)
  have C : CG D (tyZ di dz) (mw a di dz) RX1 Γ cX1_steps 4 (some .int) := C
  refine g_iload_n C dX1_steps_0 rfl ?_
  refine g_calls (n := 1) C (met_bad x) (lw_S q193 q194 q20 q195) (by decide +kernel) rfl ⟨rfl, rfl⟩ ⟨Nat.le_of_ble_eq_true rfl, Nat.le_of_ble_eq_true rfl⟩ ⟨Nat.le_of_ble_eq_true rfl, Nat.le_of_ble_eq_true rfl⟩ rfl (Nat.le_of_ble_eq_true rfl) dX1_steps_1 (fun r hp => ?_)
  obtain rfl := hp
  refine gb_if_eq (tgt := 9) C dX1_steps_4 (by decide) (fun h_4 => ?_) (fun h_4 => ?_)
  · obtain ⟨v, hv, rfl⟩ := vI_some (nv_f h_4)
    refine g_aload_n C dX1_steps_9 rfl ?_
    refine m_callv (n := 0) C (met_work hw hn hB) q204 q206 qs12 q207 (by decide +kernel) rfl ⟨rfl, rfl⟩ ⟨Nat.le_of_ble_eq_true rfl, Nat.le_of_ble_eq_true rfl⟩ ⟨Nat.le_of_ble_eq_true rfl, Nat.le_of_ble_eq_true rfl⟩ rfl (Nat.le_of_ble_eq_true rfl) dX1_steps_10 (fun u' hp => ?_)
    obtain ⟨ch1, co1, tt1, hI, hL, rfl⟩ := hp
    have c1 := (hI.1 v hv).1
    refine g_aload_n C dX1_steps_13 rfl ?_
    refine m_get_co C dX1_steps_14 ?_
    refine g_iload_n C dX1_steps_17 rfl ?_
    refine m_ld_co C (by omega) rfl dX1_steps_18 ?_
    refine g_app2 C dX1_steps_19 rfl (by decide) ?_
    refine g_iconst (v := nI 0) C dX1_steps_20 (by decide +kernel) ?_
    refine g_app3 C dX1_steps_21 rfl (by decide) ?_
    exact msteps_loop C hv hI hL rfl 12 0 (co1 v) (by omega) c1 (hI.1 v hv).2 (by rw [sf_root (hI.1 v hv).2]; omega)
  · refine g_iconst (v := oI none) C dX1_steps_7 (by decide +kernel) ?_
    exact g_iret C dX1_steps_8 (Or.inr ⟨nv_t h_4, rfl, rfl⟩)
set_option maxHeartbeats 4000000 in
set_option maxRecDepth 100000 in
theorem mmet_assign (hw : WD (mw a di dz)) (hn : n ≤ 24) (k x y : Int32) : MGi l D (tyZ di dz) (mw a di dz) yX1_assign cX1_assign 4 (some .int) (rmL 1 20) [.ref (a 0), .int k, .int x, .int y] (n, ch, kd, lf, rg, co, tt) (fun r u' => (asOk n k x y = true ∧ r = nI (n + 1) ∧ u' = (n + 1, ch, va_up kd n k.toNatClampNeg, va_up lf n x.toNatClampNeg, va_up rg n y.toNatClampNeg, co, tt)) ∨ (asOk n k x y = false ∧ r = oI none ∧ u' = (n, ch, kd, lf, rg, co, tt))) := by
  refine MGi.of hw (by decide +kernel) (Nat.le_of_ble_eq_true rfl) rfl (fun Γ C => ?_)
  have C : CG D (tyZ di dz) (mw a di dz) RX1 Γ cX1_assign 4 (some .int) := C
  refine g_iload_n C dX1_assign_0 rfl ?_
  refine g_calls (n := 1) C (met_bad x) (lw_S q193 q194 q20 q195) (by decide +kernel) rfl ⟨rfl, rfl⟩ ⟨Nat.le_of_ble_eq_true rfl, Nat.le_of_ble_eq_true rfl⟩ ⟨Nat.le_of_ble_eq_true rfl, Nat.le_of_ble_eq_true rfl⟩ rfl (Nat.le_of_ble_eq_true rfl) dX1_assign_1 (fun r hp => ?_)
  obtain rfl := hp
  refine gb_if_ne (tgt := 32) C dX1_assign_4 (by decide) (fun h_4 => ?_) (fun h_4 => ?_)
  · refine g_iconst (v := oI none) C dX1_assign_32 (by decide +kernel) ?_
    exact g_iret C dX1_assign_33 (Or.inr ⟨by simp [asOk, nv_t h_4], rfl, rfl⟩)
  · refine g_iload_n C dX1_assign_7 rfl ?_
    refine g_calls (n := 1) C (met_bad y) (lw_S q193 q194 q20 q195) (by decide +kernel) rfl ⟨rfl, rfl⟩ ⟨Nat.le_of_ble_eq_true rfl, Nat.le_of_ble_eq_true rfl⟩ ⟨Nat.le_of_ble_eq_true rfl, Nat.le_of_ble_eq_true rfl⟩ rfl (Nat.le_of_ble_eq_true rfl) dX1_assign_8 (fun r hp => ?_)
    obtain rfl := hp
    refine gb_if_ne (tgt := 32) C dX1_assign_11 (by decide) (fun h_11 => ?_) (fun h_11 => ?_)
    · refine g_iconst (v := oI none) C dX1_assign_32 (by decide +kernel) ?_
      exact g_iret C dX1_assign_33 (Or.inr ⟨by simp [asOk, nv_t h_11], rfl, rfl⟩)
    · refine g_iload_n C dX1_assign_14 rfl ?_
      refine gr_if_lt (tgt := 32) C dX1_assign_15 (by decide) (fun h_15 => ?_) (fun h_15 => ?_)
      · refine g_iconst (v := oI none) C dX1_assign_32 (by decide +kernel) ?_
        exact g_iret C dX1_assign_33 (Or.inr ⟨by simp [asOk, kI_neg h_15], rfl, rfl⟩)
      · refine g_iload_n C dX1_assign_18 rfl ?_
        refine g_iconst (v := nI 3) C dX1_assign_19 (by decide +kernel) ?_
        refine gr_icmp_gt (tgt := 32) C dX1_assign_20 (by decide) (fun h_20 => ?_) (fun h_20 => ?_)
        · refine g_iconst (v := oI none) C dX1_assign_32 (by decide +kernel) ?_
          exact g_iret C dX1_assign_33 (Or.inr ⟨by simp [asOk, kI_big h_20], rfl, rfl⟩)
        · refine g_aload_n C dX1_assign_23 rfl ?_
          refine m_get_n C dX1_assign_24 ?_
          refine g_bipush (v := nI 24) C dX1_assign_27 (by decide +kernel) ?_
          refine gn_icmp_ne (tgt := 34) C (by omega) (by omega) dX1_assign_29 (by decide) (fun h_29 => ?_) (fun h_29 => ?_)
          · have hlt : n < 24 := by omega
            have hok : asOk n k x y = true := by simp [asOk, kI_ok h_15 h_20, nv_f h_4, nv_f h_11, hlt]
            obtain ⟨κ, hκ, rfl⟩ := kI_some (kI_ok h_15 h_20)
            obtain ⟨v, hv, rfl⟩ := vI_some (nv_f h_4)
            obtain ⟨w, hw2, rfl⟩ := vI_some (nv_f h_11)
            refine g_aload_n C dX1_assign_34 rfl ?_
            refine m_get_kd C dX1_assign_35 ?_
            refine g_aload_n C dX1_assign_38 rfl ?_
            refine m_get_n C dX1_assign_39 ?_
            refine g_iload_n C dX1_assign_42 rfl ?_
            refine m_st_kd C _ (by omega) dX1_assign_43 ?_
            refine g_aload_n C dX1_assign_44 rfl ?_
            refine m_get_lf C dX1_assign_45 ?_
            refine g_aload_n C dX1_assign_48 rfl ?_
            refine m_get_n C dX1_assign_49 ?_
            refine g_iload_n C dX1_assign_52 rfl ?_
            refine m_st_lf C _ (by omega) dX1_assign_53 ?_
            refine g_aload_n C dX1_assign_54 rfl ?_
            refine m_get_rg C dX1_assign_55 ?_
            refine g_aload_n C dX1_assign_58 rfl ?_
            refine m_get_n C dX1_assign_59 ?_
            refine g_iload_n C dX1_assign_62 rfl ?_
            refine m_st_rg C _ (by omega) dX1_assign_63 ?_
            refine g_aload_n C dX1_assign_64 rfl ?_
            refine g_dup C dX1_assign_65 rfl ?_
            refine m_get_n C dX1_assign_66 ?_
            refine g_iconst (v := nI 1) C dX1_assign_69 (by decide +kernel) ?_
            refine g_iadd C dX1_assign_70 (nI_add _ _) ?_
            refine m_put_n C dX1_assign_71 ?_
            refine g_aload_n C dX1_assign_74 rfl ?_
            refine m_get_n C dX1_assign_75 ?_
            exact g_iret C dX1_assign_78 (Or.inl ⟨hok, rfl, by rw [nI_clamp (show κ < 2 ^ 31 by omega), nI_clamp (show v < 2 ^ 31 by omega), nI_clamp (show w < 2 ^ 31 by omega)]⟩)
          · refine g_iconst (v := oI none) C dX1_assign_32 (by decide +kernel) ?_
            exact g_iret C dX1_assign_33 (Or.inr ⟨by simp [asOk]; omega, rfl, rfl⟩)
set_option maxHeartbeats 4000000 in
set_option maxRecDepth 100000 in
theorem mdrop_loop {Γ : GC} (C : CG D (tyZ di dz) (mw a di dz) RX1 Γ cX1_drop 3 (some .int)) {u0 : MS} {m j : Nat} (hm : m < 24) (hok : drOk (m + 1) (nI j) = true) : ∀ (f k : Nat), m < k + f → j ≤ k → k ≤ m → JG l D (mw a di dz) Γ (rmL 0 0) 3 0 0 (QGi D (mw a di dz) Γ (fun r u' => (drOk (m + 1) (nI j) = true ∧ r = nI m ∧ u' = (m, ch, dr kd (nI j).toNatClampNeg m, dr lf (nI j).toNatClampNeg m, dr rg (nI j).toNatClampNeg m, co, tt)) ∨ (drOk (m + 1) (nI j) = false ∧ r = oI none ∧ u' = u0))) (m, ch, dr kd j k, dr lf j k, dr rg j k, co, tt) 26 [.ref (a 0), .int (nI j), .int (nI k)] [] := by
  intro f
  induction f with
  | zero =>
    intro k h1 h2 h3
    omega
  | succ f ih =>
    intro k hf hjk hkm
    refine g_iload_n C dX1_drop_26 rfl ?_
    refine g_aload_n C dX1_drop_27 rfl ?_
    refine m_get_n C dX1_drop_28 ?_
    refine gn_icmp_ge (tgt := 82) C (by omega) (by omega) dX1_drop_31 (by decide) (fun h_31 => ?_) (fun h_31 => ?_)
    · obtain rfl : k = m := by omega
      refine g_aload_n C dX1_drop_82 rfl ?_
      refine m_get_n C dX1_drop_83 ?_
      exact g_iret C dX1_drop_86 (Or.inl ⟨hok, rfl, by rw [nI_clamp (show j < 2 ^ 31 by omega)]⟩)
    · refine g_aload_n C dX1_drop_34 rfl ?_
      refine m_get_kd C dX1_drop_35 ?_
      refine g_iload_n C dX1_drop_38 rfl ?_
      refine g_aload_n C dX1_drop_39 rfl ?_
      refine m_get_kd C dX1_drop_40 ?_
      refine g_iload_n C dX1_drop_43 rfl ?_
      refine g_iconst (v := nI 1) C dX1_drop_44 (by decide +kernel) ?_
      refine g_iadd C dX1_drop_45 (nI_add _ _) ?_
      refine m_ld_kd C (by omega) rfl dX1_drop_46 ?_
      refine m_st_kd C _ (by omega) dX1_drop_47 ?_
      refine g_aload_n C dX1_drop_48 rfl ?_
      refine m_get_lf C dX1_drop_49 ?_
      refine g_iload_n C dX1_drop_52 rfl ?_
      refine g_aload_n C dX1_drop_53 rfl ?_
      refine m_get_lf C dX1_drop_54 ?_
      refine g_iload_n C dX1_drop_57 rfl ?_
      refine g_iconst (v := nI 1) C dX1_drop_58 (by decide +kernel) ?_
      refine g_iadd C dX1_drop_59 (nI_add _ _) ?_
      refine m_ld_lf C (by omega) rfl dX1_drop_60 ?_
      refine m_st_lf C _ (by omega) dX1_drop_61 ?_
      refine g_aload_n C dX1_drop_62 rfl ?_
      refine m_get_rg C dX1_drop_63 ?_
      refine g_iload_n C dX1_drop_66 rfl ?_
      refine g_aload_n C dX1_drop_67 rfl ?_
      refine m_get_rg C dX1_drop_68 ?_
      refine g_iload_n C dX1_drop_71 rfl ?_
      refine g_iconst (v := nI 1) C dX1_drop_72 (by decide +kernel) ?_
      refine g_iadd C dX1_drop_73 (nI_add _ _) ?_
      refine m_ld_rg C (by omega) rfl dX1_drop_74 ?_
      refine m_st_rg C _ (by omega) dX1_drop_75 ?_
      refine g_inc2 C dX1_drop_76 rfl (by decide) (inc_1 _) ?_
      refine g_goto (tgt := 26) C dX1_drop_79 (by decide) ?_
      rw [dr_step hjk, dr_step hjk, dr_step hjk]
      exact ih (k + 1) (by omega) (by omega) (by omega)
set_option maxHeartbeats 4000000 in
set_option maxRecDepth 100000 in
theorem mmet_drop (hw : WD (mw a di dz)) (hn : n ≤ 24) (x : Int32) : MGi l D (tyZ di dz) (mw a di dz) yX1_drop cX1_drop 3 (some .int) (rmL 0 0) [.ref (a 0), .int x] (n, ch, kd, lf, rg, co, tt) (fun r u' => (drOk n x = true ∧ r = nI (n - 1) ∧ u' = (n - 1, ch, dr kd x.toNatClampNeg (n - 1), dr lf x.toNatClampNeg (n - 1), dr rg x.toNatClampNeg (n - 1), co, tt)) ∨ (drOk n x = false ∧ r = oI none ∧ u' = (n, ch, kd, lf, rg, co, tt))) := by
  refine MGi.of hw (by decide +kernel) (Nat.le_of_ble_eq_true rfl) rfl (fun Γ C => ?_)
  have C : CG D (tyZ di dz) (mw a di dz) RX1 Γ cX1_drop 3 (some .int) := C
  refine g_iload_n C dX1_drop_0 rfl ?_
  refine gr_if_lt (tgt := 12) C dX1_drop_1 (by decide) (fun h_1 => ?_) (fun h_1 => ?_)
  · refine g_iconst (v := oI none) C dX1_drop_12 (by decide +kernel) ?_
    exact g_iret C dX1_drop_13 (Or.inr ⟨drOk_neg h_1, rfl, rfl⟩)
  · refine g_iload_n C dX1_drop_4 rfl ?_
    refine g_aload_n C dX1_drop_5 rfl ?_
    refine m_get_n C dX1_drop_6 ?_
    refine gr_icmp_lt (tgt := 14) C dX1_drop_9 (by decide) (fun h_9 => ?_) (fun h_9 => ?_)
    · have hok := drOk_ok hn h_1 h_9
      obtain ⟨j, hj, rfl⟩ := drOk_some hn hok
      obtain ⟨m, rfl⟩ : ∃ m, n = m + 1 := ⟨n - 1, by omega⟩
      refine g_aload_n C dX1_drop_14 rfl ?_
      refine g_dup C dX1_drop_15 rfl ?_
      refine m_get_n C dX1_drop_16 ?_
      refine g_iconst (v := nI 1) C dX1_drop_19 (by decide +kernel) ?_
      refine g_isub C dX1_drop_20 (sub_1 _) ?_
      refine m_put_n C dX1_drop_21 ?_
      refine g_iload_n C dX1_drop_24 rfl ?_
      refine g_app2 C dX1_drop_25 rfl (by decide) ?_
      have h := mdrop_loop (l := l) (ch := ch) (kd := kd) (lf := lf) (rg := rg) (co := co) (tt := tt) (u0 := (m + 1, ch, kd, lf, rg, co, tt)) C (by omega) hok (m + 1) j (by omega) (by omega) (by omega)
      rw [dr_0, dr_0, dr_0] at h
      exact h
    · refine g_iconst (v := oI none) C dX1_drop_12 (by decide +kernel) ?_
      exact g_iret C dX1_drop_13 (Or.inr ⟨drOk_big hn h_9, rfl, rfl⟩)
end M2W
end
section
/-! the constructors -/
set_option maxRecDepth 100000
section NW
variable {p : Program} {l : Launch} {e : Env} {R : Room} {s : State} {m : MethodId} {args : Array Value} {below : List Frame} {meth : Method} {c : Code} {H : Heap} {locs : List Loc} {cells slots : Nat} {Q : State → Prop}
variable {cc : ByteArray} {pc : Nat} {ls : Array Slot} {rest : List Value} {D : va_G} {A : Nat → Prop} {ws : va_W} {H0 : Heap} {di dz : ClassId}
theorem zero_i (N : Nat) (cA : ClassId) : vp_cell cA (N, .inl (eN (fun _ => 0))) = arrV cA N (fun _ => defaultValue .int) := by
  rw [vp_cell_i]
  have e : (fun j => Value.int (eN (fun _ => 0) j)) = (fun _ => defaultValue FieldType.int) := by
    funext j
    show Value.int (nI 0) = _
    rw [nI_0]
    rfl
  rw [e]
theorem zero_z (N : Nat) (cA : ClassId) : vp_cell cA (N, .inl (eB (fun _ => false))) = arrV cA N (fun _ => defaultValue .boolean) := by
  rw [vp_cell_i]
  have e : (fun j => Value.int (eB (fun _ => false) j)) = (fun _ => defaultValue FieldType.boolean) := by
    funext j
    show Value.int (nI 0) = _
    rw [nI_0]
    rfl
  rw [e]
theorem v_newi (hexec : p.tables.exec = Jvm.exec) (hb : c.code = cc) (harr : (Cond.arrayClass .int).before args s = true) (hK : va_K D vwCl (tyZ di dz) s) (hP : va_P D vwCl ws H) (hD : va_D A ws) (hS : va_S A H0 H locs) (hA : ∀ q, H0.size ≤ q → A q) {N : Nat} (hN : N < 1000) (hcells : cells + 1 ≤ R.cells) (hslots : slots + N ≤ R.slots) (hdg : decode cc pc = .ok (.newarray .int, 2))
    (kk : ∀ (q : Nat) (H1 : Heap), va_P D vwCl (ws ++ [(q, .inl (di, N, .inl (eN (fun _ => 0))))]) H1 → va_D A (ws ++ [(q, .inl (di, N, .inl (eN (fun _ => 0))))]) → va_S A H0 H1 locs → W p l e R s m args below meth c H1 locs (cells + 1) (slots + N) Q (F0 m (pc + 2) ls (.ref q :: rest))) : W p l e R s m args below meth c H locs cells slots Q (F0 m pc ls (.int (nI N) :: rest)) := by
  refine va_newa (atype := .int) (ty := .int) (a0 := (N, .inl (eN (fun _ => 0)))) hexec hb harr rfl hK hP hD hS hA (zero_i N) (nI_pos (by omega)) (nI_clamp (by omega)) (by show N * 4 ≤ _; omega) hcells hslots hdg (fun q cA H1 hK1 hP1 hD1 hS1 => ?_)
  have e1 := (hK1.2 2 (cA, .int) rfl).2
  have e2 := (hK1.2 0 (di, .int) rfl).2
  have e3 : cA = di := Option.some.inj (Eq.trans (Eq.symm e1) e2)
  subst e3
  exact kk q H1 hP1 hD1 hS1
theorem v_newz (hexec : p.tables.exec = Jvm.exec) (hb : c.code = cc) (harr : (Cond.arrayClass .boolean).before args s = true) (hK : va_K D vwCl (tyZ di dz) s) (hP : va_P D vwCl ws H) (hD : va_D A ws) (hS : va_S A H0 H locs) (hA : ∀ q, H0.size ≤ q → A q) {N : Nat} (hN : N < 1000) (hcells : cells + 1 ≤ R.cells) (hslots : slots + N ≤ R.slots) (hdg : decode cc pc = .ok (.newarray .boolean, 2))
    (kk : ∀ (q : Nat) (H1 : Heap), va_P D vwCl (ws ++ [(q, .inl (dz, N, .inl (eB (fun _ => false))))]) H1 → va_D A (ws ++ [(q, .inl (dz, N, .inl (eB (fun _ => false))))]) → va_S A H0 H1 locs → W p l e R s m args below meth c H1 locs (cells + 1) (slots + N) Q (F0 m (pc + 2) ls (.ref q :: rest))) : W p l e R s m args below meth c H locs cells slots Q (F0 m pc ls (.int (nI N) :: rest)) := by
  refine va_newa (atype := .boolean) (ty := .boolean) (a0 := (N, .inl (eB (fun _ => false)))) hexec hb harr rfl hK hP hD hS hA (zero_z N) (nI_pos (by omega)) (nI_clamp (by omega)) (by show N * 1 ≤ _; omega) hcells hslots hdg (fun q cA H1 hK1 hP1 hD1 hS1 => ?_)
  have e1 := (hK1.2 2 (cA, .boolean) rfl).2
  have e2 := (hK1.2 1 (dz, .boolean) rfl).2
  have e3 : cA = dz := Option.some.inj (Eq.trans (Eq.symm e1) e2)
  subst e3
  exact kk q H1 hP1 hD1 hS1
end NW
theorem one_D {A : Nat → Prop} {h0 : Nat} {e : va_E} (h : A h0) : va_D A [(h0, e)] := by
  refine ⟨fun i j p q hi hj _ => ?_, fun k q hk => ?_⟩
  · have h1 := (List.getElem?_eq_some_iff.mp hi).1
    have h2 := (List.getElem?_eq_some_iff.mp hj).1
    simp at h1 h2
    omega
  · have h1 := (List.getElem?_eq_some_iff.mp hk).1
    simp at h1
    subst h1
    cases hk
    exact h
def x0 : XS := (0, false, 0, 0, fun _ => 0, fun _ => 0, fun _ => 0, fun _ => 0, fun _ => some 0, fun _ => some 0, fun _ => 0, fun _ => false, fun _ => 0, fun _ => 0)
def xf0 : List Value := [.int (nI 0), .null, .null, .null, .int (bI false), .null, .null, .null, .int (nI 0), .null, .null, .int (nI 0), .null, .null]
abbrev xrm : Room := { frames := 1, cells := 10, slots := 200, locals := 12 }
set_option maxHeartbeats 4000000 in
set_option maxRecDepth 100000 in
theorem xmet_init (l : Launch) (D : va_G) (di dz : ClassId) (h0 sz : Nat) : Met l yX0_init (ws_ yX0_init cX0_init 1 none) xrm (va_Pc [.ref h0] (fun U => U.heap.size = sz ∧ va_P D vwCl [(h0, .inr (0, xf0))] U.heap ∧ va_K D vwCl (tyZ di dz) U)) (va_Qv (fun _ : Nat → Nat => True) (fun a t => a 0 = h0 ∧ va_P D vwCl (xw a di dz x0) t.heap ∧ va_D (va_A [(h0, .inr (0, xf0))] sz) (xw a di dz x0)) (va_A [(h0, .inr (0, xf0))] sz)) 10 200 (va_A [(h0, .inr (0, xf0))] sz) := by
  refine Met.ofW (cc := cX0_init) (maxL := 1) (ret := none) (by decide +kernel) rfl ?_
  intro p e s m args below meth c s₁ B hml hv
  obtain ⟨rfl, hsz, hP, hK⟩ := hv
  have hx := B.exec
  have hb := B.bytes
  have hr := B.returns
  have hts := atoms_spec (ws := ws_ yX0_init cX0_init 1 none) B.pre
  have hts : ∀ w ∈ lw_all, w.before _ s = true := fun w h => hts w (List.mem_cons_of_mem _ h)
  have hown : s.vm.findClass RX0 = some m.cls := findClass_of_methodNamed B.named
  have hlocks := B.notSynchronized
  have hin : meth.name = "<init>" := (name_of_methodNamed B.named B.method).1
  subst hsz
  have hD : va_D (va_A [(h0, .inr (0, xf0))] s.heap.size) [(h0, .inr (0, xf0))] := one_D (Or.inl ⟨0, _, rfl⟩)
  generalize hAe : va_A [(h0, .inr (0, xf0))] s.heap.size = A at hD ⊢
  have hA : ∀ q : Nat, s.heap.size ≤ q → A q := fun q h => by rw [← hAe]; exact Or.inr h
  have hS : va_S A s.heap s.heap [] := va_S.rf
  have hP : va_P D vwCl [(h0, .inr (0, [.int (nI 0), .null, .null, .null, .int (bI false), .null, .null, .null, .int (nI 0), .null, .null, .int (nI 0), .null, .null]))] s.heap := hP
  have hD : va_D A [(h0, .inr (0, [.int (nI 0), .null, .null, .null, .int (bI false), .null, .null, .null, .int (nI 0), .null, .null, .int (nI 0), .null, .null]))] := hD
  have hl := lv_entry ([.ref h0]) (n := 1) (Nat.le_of_ble_eq_true rfl)
  rw [lg_entry_eq]
  generalize (lg_sl ([.ref h0]) ++ List.replicate (1 - (lg_sl ([.ref h0])).length) Slot.unset).toArray = ls at hl ⊢
  have hl : lv_has ls 1 [(0, .ref h0)] := hl
  refine lv_aload_n hx hb dX0_init_0 rfl (lv_at hl 0 rfl) ?_
  refine W.objInit hx hb hown (hts _ q26) (hts _ q27) (hts _ q28) rfl (by rw [hml]; exact hl.1) rfl dX0_init_1 (Nat.le_of_ble_eq_true rfl) (Nat.le_of_ble_eq_true rfl) ?_
  refine W.eq (g2 := F0 m 4 ls []) rfl ?_
  refine lv_aload_n hx hb dX0_init_4 rfl (lv_at hl 0 rfl) ?_
  refine lv_bipush (v := nI 24) hx hb dX0_init_5 (by decide +kernel) ?_
  refine v_newi (di := di) (dz := dz) hx hb (hts _ q72) hK hP hD hS hA (by decide) (Nat.le_of_ble_eq_true rfl) (Nat.le_of_ble_eq_true rfl) dX0_init_7 (fun q1 H hP hD hS => ?_)
  have hP : va_P D vwCl [(h0, .inr (0, [.int (nI 0), .null, .null, .null, .int (bI false), .null, .null, .null, .int (nI 0), .null, .null, .int (nI 0), .null, .null])), (q1, .inl (di, 24, .inl (eN (fun _ => 0))))] H := hP
  have hD : va_D A [(h0, .inr (0, [.int (nI 0), .null, .null, .null, .int (bI false), .null, .null, .null, .int (nI 0), .null, .null, .int (nI 0), .null, .null])), (q1, .inl (di, 24, .inl (eN (fun _ => 0))))] := hD
  refine va_putF (D := D) (ci := 0) (v := .ref q1) (ty := .array .int) (C := RX0) (T := TX0) (N := 14) hx hb hts in_X0 tyX0 tyX0_ok nmX0 hown hK hP hD hS 0 rfl rfl 1 (by decide) (hts _ q30) (fun _ h9 => h9) rfl hin rfl (by decide +kernel) rfl rfl (Nat.le_of_ble_eq_true rfl) dX0_init_9 (fun H locs hP hD hS => ?_)
  have hP : va_P D vwCl [(h0, .inr (0, [.int (nI 0), .ref q1, .null, .null, .int (bI false), .null, .null, .null, .int (nI 0), .null, .null, .int (nI 0), .null, .null])), (q1, .inl (di, 24, .inl (eN (fun _ => 0))))] H := hP
  have hD : va_D A [(h0, .inr (0, [.int (nI 0), .ref q1, .null, .null, .int (bI false), .null, .null, .null, .int (nI 0), .null, .null, .int (nI 0), .null, .null])), (q1, .inl (di, 24, .inl (eN (fun _ => 0))))] := hD
  refine lv_aload_n hx hb dX0_init_12 rfl (lv_at hl 0 rfl) ?_
  refine lv_bipush (v := nI 24) hx hb dX0_init_13 (by decide +kernel) ?_
  refine v_newi (di := di) (dz := dz) hx hb (hts _ q72) hK hP hD hS hA (by decide) (Nat.le_of_ble_eq_true rfl) (Nat.le_of_ble_eq_true rfl) dX0_init_15 (fun q2 H hP hD hS => ?_)
  have hP : va_P D vwCl [(h0, .inr (0, [.int (nI 0), .ref q1, .null, .null, .int (bI false), .null, .null, .null, .int (nI 0), .null, .null, .int (nI 0), .null, .null])), (q1, .inl (di, 24, .inl (eN (fun _ => 0)))), (q2, .inl (di, 24, .inl (eN (fun _ => 0))))] H := hP
  have hD : va_D A [(h0, .inr (0, [.int (nI 0), .ref q1, .null, .null, .int (bI false), .null, .null, .null, .int (nI 0), .null, .null, .int (nI 0), .null, .null])), (q1, .inl (di, 24, .inl (eN (fun _ => 0)))), (q2, .inl (di, 24, .inl (eN (fun _ => 0))))] := hD
  refine va_putF (D := D) (ci := 0) (v := .ref q2) (ty := .array .int) (C := RX0) (T := TX0) (N := 14) hx hb hts in_X0 tyX0 tyX0_ok nmX0 hown hK hP hD hS 0 rfl rfl 2 (by decide) (hts _ q31) (fun _ h9 => h9) rfl hin rfl (by decide +kernel) rfl rfl (Nat.le_of_ble_eq_true rfl) dX0_init_17 (fun H locs hP hD hS => ?_)
  have hP : va_P D vwCl [(h0, .inr (0, [.int (nI 0), .ref q1, .ref q2, .null, .int (bI false), .null, .null, .null, .int (nI 0), .null, .null, .int (nI 0), .null, .null])), (q1, .inl (di, 24, .inl (eN (fun _ => 0)))), (q2, .inl (di, 24, .inl (eN (fun _ => 0))))] H := hP
  have hD : va_D A [(h0, .inr (0, [.int (nI 0), .ref q1, .ref q2, .null, .int (bI false), .null, .null, .null, .int (nI 0), .null, .null, .int (nI 0), .null, .null])), (q1, .inl (di, 24, .inl (eN (fun _ => 0)))), (q2, .inl (di, 24, .inl (eN (fun _ => 0))))] := hD
  refine lv_aload_n hx hb dX0_init_20 rfl (lv_at hl 0 rfl) ?_
  refine lv_bipush (v := nI 24) hx hb dX0_init_21 (by decide +kernel) ?_
  refine v_newi (di := di) (dz := dz) hx hb (hts _ q72) hK hP hD hS hA (by decide) (Nat.le_of_ble_eq_true rfl) (Nat.le_of_ble_eq_true rfl) dX0_init_23 (fun q3 H hP hD hS => ?_)
  have hP : va_P D vwCl [(h0, .inr (0, [.int (nI 0), .ref q1, .ref q2, .null, .int (bI false), .null, .null, .null, .int (nI 0), .null, .null, .int (nI 0), .null, .null])), (q1, .inl (di, 24, .inl (eN (fun _ => 0)))), (q2, .inl (di, 24, .inl (eN (fun _ => 0)))), (q3, .inl (di, 24, .inl (eN (fun _ => 0))))] H := hP
  have hD : va_D A [(h0, .inr (0, [.int (nI 0), .ref q1, .ref q2, .null, .int (bI false), .null, .null, .null, .int (nI 0), .null, .null, .int (nI 0), .null, .null])), (q1, .inl (di, 24, .inl (eN (fun _ => 0)))), (q2, .inl (di, 24, .inl (eN (fun _ => 0)))), (q3, .inl (di, 24, .inl (eN (fun _ => 0))))] := hD
  refine va_putF (D := D) (ci := 0) (v := .ref q3) (ty := .array .int) (C := RX0) (T := TX0) (N := 14) hx hb hts in_X0 tyX0 tyX0_ok nmX0 hown hK hP hD hS 0 rfl rfl 3 (by decide) (hts _ q32) (fun _ h9 => h9) rfl hin rfl (by decide +kernel) rfl rfl (Nat.le_of_ble_eq_true rfl) dX0_init_25 (fun H locs hP hD hS => ?_)
  have hP : va_P D vwCl [(h0, .inr (0, [.int (nI 0), .ref q1, .ref q2, .ref q3, .int (bI false), .null, .null, .null, .int (nI 0), .null, .null, .int (nI 0), .null, .null])), (q1, .inl (di, 24, .inl (eN (fun _ => 0)))), (q2, .inl (di, 24, .inl (eN (fun _ => 0)))), (q3, .inl (di, 24, .inl (eN (fun _ => 0))))] H := hP
  have hD : va_D A [(h0, .inr (0, [.int (nI 0), .ref q1, .ref q2, .ref q3, .int (bI false), .null, .null, .null, .int (nI 0), .null, .null, .int (nI 0), .null, .null])), (q1, .inl (di, 24, .inl (eN (fun _ => 0)))), (q2, .inl (di, 24, .inl (eN (fun _ => 0)))), (q3, .inl (di, 24, .inl (eN (fun _ => 0))))] := hD
  refine lv_aload_n hx hb dX0_init_28 rfl (lv_at hl 0 rfl) ?_
  refine lv_bipush (v := nI 12) hx hb dX0_init_29 (by decide +kernel) ?_
  refine v_newi (di := di) (dz := dz) hx hb (hts _ q72) hK hP hD hS hA (by decide) (Nat.le_of_ble_eq_true rfl) (Nat.le_of_ble_eq_true rfl) dX0_init_31 (fun q4 H hP hD hS => ?_)
  have hP : va_P D vwCl [(h0, .inr (0, [.int (nI 0), .ref q1, .ref q2, .ref q3, .int (bI false), .null, .null, .null, .int (nI 0), .null, .null, .int (nI 0), .null, .null])), (q1, .inl (di, 24, .inl (eN (fun _ => 0)))), (q2, .inl (di, 24, .inl (eN (fun _ => 0)))), (q3, .inl (di, 24, .inl (eN (fun _ => 0)))), (q4, .inl (di, 12, .inl (eN (fun _ => 0))))] H := hP
  have hD : va_D A [(h0, .inr (0, [.int (nI 0), .ref q1, .ref q2, .ref q3, .int (bI false), .null, .null, .null, .int (nI 0), .null, .null, .int (nI 0), .null, .null])), (q1, .inl (di, 24, .inl (eN (fun _ => 0)))), (q2, .inl (di, 24, .inl (eN (fun _ => 0)))), (q3, .inl (di, 24, .inl (eN (fun _ => 0)))), (q4, .inl (di, 12, .inl (eN (fun _ => 0))))] := hD
  refine va_putF (D := D) (ci := 0) (v := .ref q4) (ty := .array .int) (C := RX0) (T := TX0) (N := 14) hx hb hts in_X0 tyX0 tyX0_ok nmX0 hown hK hP hD hS 0 rfl rfl 5 (by decide) (hts _ q34) (fun _ h9 => h9) rfl hin rfl (by decide +kernel) rfl rfl (Nat.le_of_ble_eq_true rfl) dX0_init_33 (fun H locs hP hD hS => ?_)
  have hP : va_P D vwCl [(h0, .inr (0, [.int (nI 0), .ref q1, .ref q2, .ref q3, .int (bI false), .ref q4, .null, .null, .int (nI 0), .null, .null, .int (nI 0), .null, .null])), (q1, .inl (di, 24, .inl (eN (fun _ => 0)))), (q2, .inl (di, 24, .inl (eN (fun _ => 0)))), (q3, .inl (di, 24, .inl (eN (fun _ => 0)))), (q4, .inl (di, 12, .inl (eN (fun _ => 0))))] H := hP
  have hD : va_D A [(h0, .inr (0, [.int (nI 0), .ref q1, .ref q2, .ref q3, .int (bI false), .ref q4, .null, .null, .int (nI 0), .null, .null, .int (nI 0), .null, .null])), (q1, .inl (di, 24, .inl (eN (fun _ => 0)))), (q2, .inl (di, 24, .inl (eN (fun _ => 0)))), (q3, .inl (di, 24, .inl (eN (fun _ => 0)))), (q4, .inl (di, 12, .inl (eN (fun _ => 0))))] := hD
  refine lv_aload_n hx hb dX0_init_36 rfl (lv_at hl 0 rfl) ?_
  refine lv_bipush (v := nI 12) hx hb dX0_init_37 (by decide +kernel) ?_
  refine v_newi (di := di) (dz := dz) hx hb (hts _ q72) hK hP hD hS hA (by decide) (Nat.le_of_ble_eq_true rfl) (Nat.le_of_ble_eq_true rfl) dX0_init_39 (fun q5 H hP hD hS => ?_)
  have hP : va_P D vwCl [(h0, .inr (0, [.int (nI 0), .ref q1, .ref q2, .ref q3, .int (bI false), .ref q4, .null, .null, .int (nI 0), .null, .null, .int (nI 0), .null, .null])), (q1, .inl (di, 24, .inl (eN (fun _ => 0)))), (q2, .inl (di, 24, .inl (eN (fun _ => 0)))), (q3, .inl (di, 24, .inl (eN (fun _ => 0)))), (q4, .inl (di, 12, .inl (eN (fun _ => 0)))), (q5, .inl (di, 12, .inl (eN (fun _ => 0))))] H := hP
  have hD : va_D A [(h0, .inr (0, [.int (nI 0), .ref q1, .ref q2, .ref q3, .int (bI false), .ref q4, .null, .null, .int (nI 0), .null, .null, .int (nI 0), .null, .null])), (q1, .inl (di, 24, .inl (eN (fun _ => 0)))), (q2, .inl (di, 24, .inl (eN (fun _ => 0)))), (q3, .inl (di, 24, .inl (eN (fun _ => 0)))), (q4, .inl (di, 12, .inl (eN (fun _ => 0)))), (q5, .inl (di, 12, .inl (eN (fun _ => 0))))] := hD
  refine va_putF (D := D) (ci := 0) (v := .ref q5) (ty := .array .int) (C := RX0) (T := TX0) (N := 14) hx hb hts in_X0 tyX0 tyX0_ok nmX0 hown hK hP hD hS 0 rfl rfl 6 (by decide) (hts _ q35) (fun _ h9 => h9) rfl hin rfl (by decide +kernel) rfl rfl (Nat.le_of_ble_eq_true rfl) dX0_init_41 (fun H locs hP hD hS => ?_)
  have hP : va_P D vwCl [(h0, .inr (0, [.int (nI 0), .ref q1, .ref q2, .ref q3, .int (bI false), .ref q4, .ref q5, .null, .int (nI 0), .null, .null, .int (nI 0), .null, .null])), (q1, .inl (di, 24, .inl (eN (fun _ => 0)))), (q2, .inl (di, 24, .inl (eN (fun _ => 0)))), (q3, .inl (di, 24, .inl (eN (fun _ => 0)))), (q4, .inl (di, 12, .inl (eN (fun _ => 0)))), (q5, .inl (di, 12, .inl (eN (fun _ => 0))))] H := hP
  have hD : va_D A [(h0, .inr (0, [.int (nI 0), .ref q1, .ref q2, .ref q3, .int (bI false), .ref q4, .ref q5, .null, .int (nI 0), .null, .null, .int (nI 0), .null, .null])), (q1, .inl (di, 24, .inl (eN (fun _ => 0)))), (q2, .inl (di, 24, .inl (eN (fun _ => 0)))), (q3, .inl (di, 24, .inl (eN (fun _ => 0)))), (q4, .inl (di, 12, .inl (eN (fun _ => 0)))), (q5, .inl (di, 12, .inl (eN (fun _ => 0))))] := hD
  refine lv_aload_n hx hb dX0_init_44 rfl (lv_at hl 0 rfl) ?_
  refine lv_bipush (v := nI 24) hx hb dX0_init_45 (by decide +kernel) ?_
  refine v_newi (di := di) (dz := dz) hx hb (hts _ q72) hK hP hD hS hA (by decide) (Nat.le_of_ble_eq_true rfl) (Nat.le_of_ble_eq_true rfl) dX0_init_47 (fun q6 H hP hD hS => ?_)
  have hP : va_P D vwCl [(h0, .inr (0, [.int (nI 0), .ref q1, .ref q2, .ref q3, .int (bI false), .ref q4, .ref q5, .null, .int (nI 0), .null, .null, .int (nI 0), .null, .null])), (q1, .inl (di, 24, .inl (eN (fun _ => 0)))), (q2, .inl (di, 24, .inl (eN (fun _ => 0)))), (q3, .inl (di, 24, .inl (eN (fun _ => 0)))), (q4, .inl (di, 12, .inl (eN (fun _ => 0)))), (q5, .inl (di, 12, .inl (eN (fun _ => 0)))), (q6, .inl (di, 24, .inl (eN (fun _ => 0))))] H := hP
  have hD : va_D A [(h0, .inr (0, [.int (nI 0), .ref q1, .ref q2, .ref q3, .int (bI false), .ref q4, .ref q5, .null, .int (nI 0), .null, .null, .int (nI 0), .null, .null])), (q1, .inl (di, 24, .inl (eN (fun _ => 0)))), (q2, .inl (di, 24, .inl (eN (fun _ => 0)))), (q3, .inl (di, 24, .inl (eN (fun _ => 0)))), (q4, .inl (di, 12, .inl (eN (fun _ => 0)))), (q5, .inl (di, 12, .inl (eN (fun _ => 0)))), (q6, .inl (di, 24, .inl (eN (fun _ => 0))))] := hD
  refine va_putF (D := D) (ci := 0) (v := .ref q6) (ty := .array .int) (C := RX0) (T := TX0) (N := 14) hx hb hts in_X0 tyX0 tyX0_ok nmX0 hown hK hP hD hS 0 rfl rfl 7 (by decide) (hts _ q36) (fun _ h9 => h9) rfl hin rfl (by decide +kernel) rfl rfl (Nat.le_of_ble_eq_true rfl) dX0_init_49 (fun H locs hP hD hS => ?_)
  have hP : va_P D vwCl [(h0, .inr (0, [.int (nI 0), .ref q1, .ref q2, .ref q3, .int (bI false), .ref q4, .ref q5, .ref q6, .int (nI 0), .null, .null, .int (nI 0), .null, .null])), (q1, .inl (di, 24, .inl (eN (fun _ => 0)))), (q2, .inl (di, 24, .inl (eN (fun _ => 0)))), (q3, .inl (di, 24, .inl (eN (fun _ => 0)))), (q4, .inl (di, 12, .inl (eN (fun _ => 0)))), (q5, .inl (di, 12, .inl (eN (fun _ => 0)))), (q6, .inl (di, 24, .inl (eN (fun _ => 0))))] H := hP
  have hD : va_D A [(h0, .inr (0, [.int (nI 0), .ref q1, .ref q2, .ref q3, .int (bI false), .ref q4, .ref q5, .ref q6, .int (nI 0), .null, .null, .int (nI 0), .null, .null])), (q1, .inl (di, 24, .inl (eN (fun _ => 0)))), (q2, .inl (di, 24, .inl (eN (fun _ => 0)))), (q3, .inl (di, 24, .inl (eN (fun _ => 0)))), (q4, .inl (di, 12, .inl (eN (fun _ => 0)))), (q5, .inl (di, 12, .inl (eN (fun _ => 0)))), (q6, .inl (di, 24, .inl (eN (fun _ => 0))))] := hD
  refine lv_aload_n hx hb dX0_init_52 rfl (lv_at hl 0 rfl) ?_
  refine lv_bipush (v := nI 24) hx hb dX0_init_53 (by decide +kernel) ?_
  refine v_newi (di := di) (dz := dz) hx hb (hts _ q72) hK hP hD hS hA (by decide) (Nat.le_of_ble_eq_true rfl) (Nat.le_of_ble_eq_true rfl) dX0_init_55 (fun q7 H hP hD hS => ?_)
  have hP : va_P D vwCl [(h0, .inr (0, [.int (nI 0), .ref q1, .ref q2, .ref q3, .int (bI false), .ref q4, .ref q5, .ref q6, .int (nI 0), .null, .null, .int (nI 0), .null, .null])), (q1, .inl (di, 24, .inl (eN (fun _ => 0)))), (q2, .inl (di, 24, .inl (eN (fun _ => 0)))), (q3, .inl (di, 24, .inl (eN (fun _ => 0)))), (q4, .inl (di, 12, .inl (eN (fun _ => 0)))), (q5, .inl (di, 12, .inl (eN (fun _ => 0)))), (q6, .inl (di, 24, .inl (eN (fun _ => 0)))), (q7, .inl (di, 24, .inl (eN (fun _ => 0))))] H := hP
  have hD : va_D A [(h0, .inr (0, [.int (nI 0), .ref q1, .ref q2, .ref q3, .int (bI false), .ref q4, .ref q5, .ref q6, .int (nI 0), .null, .null, .int (nI 0), .null, .null])), (q1, .inl (di, 24, .inl (eN (fun _ => 0)))), (q2, .inl (di, 24, .inl (eN (fun _ => 0)))), (q3, .inl (di, 24, .inl (eN (fun _ => 0)))), (q4, .inl (di, 12, .inl (eN (fun _ => 0)))), (q5, .inl (di, 12, .inl (eN (fun _ => 0)))), (q6, .inl (di, 24, .inl (eN (fun _ => 0)))), (q7, .inl (di, 24, .inl (eN (fun _ => 0))))] := hD
  refine va_putF (D := D) (ci := 0) (v := .ref q7) (ty := .array .int) (C := RX0) (T := TX0) (N := 14) hx hb hts in_X0 tyX0 tyX0_ok nmX0 hown hK hP hD hS 0 rfl rfl 9 (by decide) (hts _ q38) (fun _ h9 => h9) rfl hin rfl (by decide +kernel) rfl rfl (Nat.le_of_ble_eq_true rfl) dX0_init_57 (fun H locs hP hD hS => ?_)
  have hP : va_P D vwCl [(h0, .inr (0, [.int (nI 0), .ref q1, .ref q2, .ref q3, .int (bI false), .ref q4, .ref q5, .ref q6, .int (nI 0), .ref q7, .null, .int (nI 0), .null, .null])), (q1, .inl (di, 24, .inl (eN (fun _ => 0)))), (q2, .inl (di, 24, .inl (eN (fun _ => 0)))), (q3, .inl (di, 24, .inl (eN (fun _ => 0)))), (q4, .inl (di, 12, .inl (eN (fun _ => 0)))), (q5, .inl (di, 12, .inl (eN (fun _ => 0)))), (q6, .inl (di, 24, .inl (eN (fun _ => 0)))), (q7, .inl (di, 24, .inl (eN (fun _ => 0))))] H := hP
  have hD : va_D A [(h0, .inr (0, [.int (nI 0), .ref q1, .ref q2, .ref q3, .int (bI false), .ref q4, .ref q5, .ref q6, .int (nI 0), .ref q7, .null, .int (nI 0), .null, .null])), (q1, .inl (di, 24, .inl (eN (fun _ => 0)))), (q2, .inl (di, 24, .inl (eN (fun _ => 0)))), (q3, .inl (di, 24, .inl (eN (fun _ => 0)))), (q4, .inl (di, 12, .inl (eN (fun _ => 0)))), (q5, .inl (di, 12, .inl (eN (fun _ => 0)))), (q6, .inl (di, 24, .inl (eN (fun _ => 0)))), (q7, .inl (di, 24, .inl (eN (fun _ => 0))))] := hD
  refine lv_aload_n hx hb dX0_init_60 rfl (lv_at hl 0 rfl) ?_
  refine lv_bipush (v := nI 24) hx hb dX0_init_61 (by decide +kernel) ?_
  refine v_newz (di := di) (dz := dz) hx hb (hts _ q73) hK hP hD hS hA (by decide) (Nat.le_of_ble_eq_true rfl) (Nat.le_of_ble_eq_true rfl) dX0_init_63 (fun q8 H hP hD hS => ?_)
  have hP : va_P D vwCl [(h0, .inr (0, [.int (nI 0), .ref q1, .ref q2, .ref q3, .int (bI false), .ref q4, .ref q5, .ref q6, .int (nI 0), .ref q7, .null, .int (nI 0), .null, .null])), (q1, .inl (di, 24, .inl (eN (fun _ => 0)))), (q2, .inl (di, 24, .inl (eN (fun _ => 0)))), (q3, .inl (di, 24, .inl (eN (fun _ => 0)))), (q4, .inl (di, 12, .inl (eN (fun _ => 0)))), (q5, .inl (di, 12, .inl (eN (fun _ => 0)))), (q6, .inl (di, 24, .inl (eN (fun _ => 0)))), (q7, .inl (di, 24, .inl (eN (fun _ => 0)))), (q8, .inl (dz, 24, .inl (eB (fun _ => false))))] H := hP
  have hD : va_D A [(h0, .inr (0, [.int (nI 0), .ref q1, .ref q2, .ref q3, .int (bI false), .ref q4, .ref q5, .ref q6, .int (nI 0), .ref q7, .null, .int (nI 0), .null, .null])), (q1, .inl (di, 24, .inl (eN (fun _ => 0)))), (q2, .inl (di, 24, .inl (eN (fun _ => 0)))), (q3, .inl (di, 24, .inl (eN (fun _ => 0)))), (q4, .inl (di, 12, .inl (eN (fun _ => 0)))), (q5, .inl (di, 12, .inl (eN (fun _ => 0)))), (q6, .inl (di, 24, .inl (eN (fun _ => 0)))), (q7, .inl (di, 24, .inl (eN (fun _ => 0)))), (q8, .inl (dz, 24, .inl (eB (fun _ => false))))] := hD
  refine va_putF (D := D) (ci := 0) (v := .ref q8) (ty := .array .boolean) (C := RX0) (T := TX0) (N := 14) hx hb hts in_X0 tyX0 tyX0_ok nmX0 hown hK hP hD hS 0 rfl rfl 10 (by decide) (hts _ q39) (fun _ h9 => h9) rfl hin rfl (by decide +kernel) rfl rfl (Nat.le_of_ble_eq_true rfl) dX0_init_65 (fun H locs hP hD hS => ?_)
  have hP : va_P D vwCl [(h0, .inr (0, [.int (nI 0), .ref q1, .ref q2, .ref q3, .int (bI false), .ref q4, .ref q5, .ref q6, .int (nI 0), .ref q7, .ref q8, .int (nI 0), .null, .null])), (q1, .inl (di, 24, .inl (eN (fun _ => 0)))), (q2, .inl (di, 24, .inl (eN (fun _ => 0)))), (q3, .inl (di, 24, .inl (eN (fun _ => 0)))), (q4, .inl (di, 12, .inl (eN (fun _ => 0)))), (q5, .inl (di, 12, .inl (eN (fun _ => 0)))), (q6, .inl (di, 24, .inl (eN (fun _ => 0)))), (q7, .inl (di, 24, .inl (eN (fun _ => 0)))), (q8, .inl (dz, 24, .inl (eB (fun _ => false))))] H := hP
  have hD : va_D A [(h0, .inr (0, [.int (nI 0), .ref q1, .ref q2, .ref q3, .int (bI false), .ref q4, .ref q5, .ref q6, .int (nI 0), .ref q7, .ref q8, .int (nI 0), .null, .null])), (q1, .inl (di, 24, .inl (eN (fun _ => 0)))), (q2, .inl (di, 24, .inl (eN (fun _ => 0)))), (q3, .inl (di, 24, .inl (eN (fun _ => 0)))), (q4, .inl (di, 12, .inl (eN (fun _ => 0)))), (q5, .inl (di, 12, .inl (eN (fun _ => 0)))), (q6, .inl (di, 24, .inl (eN (fun _ => 0)))), (q7, .inl (di, 24, .inl (eN (fun _ => 0)))), (q8, .inl (dz, 24, .inl (eB (fun _ => false))))] := hD
  refine lv_aload_n hx hb dX0_init_68 rfl (lv_at hl 0 rfl) ?_
  refine lv_bipush (v := nI 16) hx hb dX0_init_69 (by decide +kernel) ?_
  refine v_newi (di := di) (dz := dz) hx hb (hts _ q72) hK hP hD hS hA (by decide) (Nat.le_of_ble_eq_true rfl) (Nat.le_of_ble_eq_true rfl) dX0_init_71 (fun q9 H hP hD hS => ?_)
  have hP : va_P D vwCl [(h0, .inr (0, [.int (nI 0), .ref q1, .ref q2, .ref q3, .int (bI false), .ref q4, .ref q5, .ref q6, .int (nI 0), .ref q7, .ref q8, .int (nI 0), .null, .null])), (q1, .inl (di, 24, .inl (eN (fun _ => 0)))), (q2, .inl (di, 24, .inl (eN (fun _ => 0)))), (q3, .inl (di, 24, .inl (eN (fun _ => 0)))), (q4, .inl (di, 12, .inl (eN (fun _ => 0)))), (q5, .inl (di, 12, .inl (eN (fun _ => 0)))), (q6, .inl (di, 24, .inl (eN (fun _ => 0)))), (q7, .inl (di, 24, .inl (eN (fun _ => 0)))), (q8, .inl (dz, 24, .inl (eB (fun _ => false)))), (q9, .inl (di, 16, .inl (eN (fun _ => 0))))] H := hP
  have hD : va_D A [(h0, .inr (0, [.int (nI 0), .ref q1, .ref q2, .ref q3, .int (bI false), .ref q4, .ref q5, .ref q6, .int (nI 0), .ref q7, .ref q8, .int (nI 0), .null, .null])), (q1, .inl (di, 24, .inl (eN (fun _ => 0)))), (q2, .inl (di, 24, .inl (eN (fun _ => 0)))), (q3, .inl (di, 24, .inl (eN (fun _ => 0)))), (q4, .inl (di, 12, .inl (eN (fun _ => 0)))), (q5, .inl (di, 12, .inl (eN (fun _ => 0)))), (q6, .inl (di, 24, .inl (eN (fun _ => 0)))), (q7, .inl (di, 24, .inl (eN (fun _ => 0)))), (q8, .inl (dz, 24, .inl (eB (fun _ => false)))), (q9, .inl (di, 16, .inl (eN (fun _ => 0))))] := hD
  refine va_putF (D := D) (ci := 0) (v := .ref q9) (ty := .array .int) (C := RX0) (T := TX0) (N := 14) hx hb hts in_X0 tyX0 tyX0_ok nmX0 hown hK hP hD hS 0 rfl rfl 12 (by decide) (hts _ q41) (fun _ h9 => h9) rfl hin rfl (by decide +kernel) rfl rfl (Nat.le_of_ble_eq_true rfl) dX0_init_73 (fun H locs hP hD hS => ?_)
  have hP : va_P D vwCl [(h0, .inr (0, [.int (nI 0), .ref q1, .ref q2, .ref q3, .int (bI false), .ref q4, .ref q5, .ref q6, .int (nI 0), .ref q7, .ref q8, .int (nI 0), .ref q9, .null])), (q1, .inl (di, 24, .inl (eN (fun _ => 0)))), (q2, .inl (di, 24, .inl (eN (fun _ => 0)))), (q3, .inl (di, 24, .inl (eN (fun _ => 0)))), (q4, .inl (di, 12, .inl (eN (fun _ => 0)))), (q5, .inl (di, 12, .inl (eN (fun _ => 0)))), (q6, .inl (di, 24, .inl (eN (fun _ => 0)))), (q7, .inl (di, 24, .inl (eN (fun _ => 0)))), (q8, .inl (dz, 24, .inl (eB (fun _ => false)))), (q9, .inl (di, 16, .inl (eN (fun _ => 0))))] H := hP
  have hD : va_D A [(h0, .inr (0, [.int (nI 0), .ref q1, .ref q2, .ref q3, .int (bI false), .ref q4, .ref q5, .ref q6, .int (nI 0), .ref q7, .ref q8, .int (nI 0), .ref q9, .null])), (q1, .inl (di, 24, .inl (eN (fun _ => 0)))), (q2, .inl (di, 24, .inl (eN (fun _ => 0)))), (q3, .inl (di, 24, .inl (eN (fun _ => 0)))), (q4, .inl (di, 12, .inl (eN (fun _ => 0)))), (q5, .inl (di, 12, .inl (eN (fun _ => 0)))), (q6, .inl (di, 24, .inl (eN (fun _ => 0)))), (q7, .inl (di, 24, .inl (eN (fun _ => 0)))), (q8, .inl (dz, 24, .inl (eB (fun _ => false)))), (q9, .inl (di, 16, .inl (eN (fun _ => 0))))] := hD
  refine lv_aload_n hx hb dX0_init_76 rfl (lv_at hl 0 rfl) ?_
  refine lv_bipush (v := nI 16) hx hb dX0_init_77 (by decide +kernel) ?_
  refine v_newi (di := di) (dz := dz) hx hb (hts _ q72) hK hP hD hS hA (by decide) (Nat.le_of_ble_eq_true rfl) (Nat.le_of_ble_eq_true rfl) dX0_init_79 (fun q10 H hP hD hS => ?_)
  have hP : va_P D vwCl [(h0, .inr (0, [.int (nI 0), .ref q1, .ref q2, .ref q3, .int (bI false), .ref q4, .ref q5, .ref q6, .int (nI 0), .ref q7, .ref q8, .int (nI 0), .ref q9, .null])), (q1, .inl (di, 24, .inl (eN (fun _ => 0)))), (q2, .inl (di, 24, .inl (eN (fun _ => 0)))), (q3, .inl (di, 24, .inl (eN (fun _ => 0)))), (q4, .inl (di, 12, .inl (eN (fun _ => 0)))), (q5, .inl (di, 12, .inl (eN (fun _ => 0)))), (q6, .inl (di, 24, .inl (eN (fun _ => 0)))), (q7, .inl (di, 24, .inl (eN (fun _ => 0)))), (q8, .inl (dz, 24, .inl (eB (fun _ => false)))), (q9, .inl (di, 16, .inl (eN (fun _ => 0)))), (q10, .inl (di, 16, .inl (eN (fun _ => 0))))] H := hP
  have hD : va_D A [(h0, .inr (0, [.int (nI 0), .ref q1, .ref q2, .ref q3, .int (bI false), .ref q4, .ref q5, .ref q6, .int (nI 0), .ref q7, .ref q8, .int (nI 0), .ref q9, .null])), (q1, .inl (di, 24, .inl (eN (fun _ => 0)))), (q2, .inl (di, 24, .inl (eN (fun _ => 0)))), (q3, .inl (di, 24, .inl (eN (fun _ => 0)))), (q4, .inl (di, 12, .inl (eN (fun _ => 0)))), (q5, .inl (di, 12, .inl (eN (fun _ => 0)))), (q6, .inl (di, 24, .inl (eN (fun _ => 0)))), (q7, .inl (di, 24, .inl (eN (fun _ => 0)))), (q8, .inl (dz, 24, .inl (eB (fun _ => false)))), (q9, .inl (di, 16, .inl (eN (fun _ => 0)))), (q10, .inl (di, 16, .inl (eN (fun _ => 0))))] := hD
  refine va_putF (D := D) (ci := 0) (v := .ref q10) (ty := .array .int) (C := RX0) (T := TX0) (N := 14) hx hb hts in_X0 tyX0 tyX0_ok nmX0 hown hK hP hD hS 0 rfl rfl 13 (by decide) (hts _ q42) (fun _ h9 => h9) rfl hin rfl (by decide +kernel) rfl rfl (Nat.le_of_ble_eq_true rfl) dX0_init_81 (fun H locs hP hD hS => ?_)
  have hP : va_P D vwCl [(h0, .inr (0, [.int (nI 0), .ref q1, .ref q2, .ref q3, .int (bI false), .ref q4, .ref q5, .ref q6, .int (nI 0), .ref q7, .ref q8, .int (nI 0), .ref q9, .ref q10])), (q1, .inl (di, 24, .inl (eN (fun _ => 0)))), (q2, .inl (di, 24, .inl (eN (fun _ => 0)))), (q3, .inl (di, 24, .inl (eN (fun _ => 0)))), (q4, .inl (di, 12, .inl (eN (fun _ => 0)))), (q5, .inl (di, 12, .inl (eN (fun _ => 0)))), (q6, .inl (di, 24, .inl (eN (fun _ => 0)))), (q7, .inl (di, 24, .inl (eN (fun _ => 0)))), (q8, .inl (dz, 24, .inl (eB (fun _ => false)))), (q9, .inl (di, 16, .inl (eN (fun _ => 0)))), (q10, .inl (di, 16, .inl (eN (fun _ => 0))))] H := hP
  have hD : va_D A [(h0, .inr (0, [.int (nI 0), .ref q1, .ref q2, .ref q3, .int (bI false), .ref q4, .ref q5, .ref q6, .int (nI 0), .ref q7, .ref q8, .int (nI 0), .ref q9, .ref q10])), (q1, .inl (di, 24, .inl (eN (fun _ => 0)))), (q2, .inl (di, 24, .inl (eN (fun _ => 0)))), (q3, .inl (di, 24, .inl (eN (fun _ => 0)))), (q4, .inl (di, 12, .inl (eN (fun _ => 0)))), (q5, .inl (di, 12, .inl (eN (fun _ => 0)))), (q6, .inl (di, 24, .inl (eN (fun _ => 0)))), (q7, .inl (di, 24, .inl (eN (fun _ => 0)))), (q8, .inl (dz, 24, .inl (eB (fun _ => false)))), (q9, .inl (di, 16, .inl (eN (fun _ => 0)))), (q10, .inl (di, 16, .inl (eN (fun _ => 0))))] := hD
  exact W.vret hx hb hr (fun t ht hW => ⟨⟨fun i => [h0, q1, q2, q3, q4, q5, q6, q7, q8, q9, q10].getD i 0, rfl, trivial, rfl, by rw [ht]; exact hP, hD⟩, hS.F ht⟩) hS.2.2 dX0_init_84
def m0 : MS := (0, false, fun _ => 0, fun _ => 0, fun _ => 0, fun _ => 0, fun _ => some 0)
def mf0 : List Value := [.int (nI 0), .null, .null, .null, .null, .null, .int (bI false)]
abbrev mrm : Room := { frames := 1, cells := 5, slots := 96, locals := 12 }
set_option maxHeartbeats 4000000 in
set_option maxRecDepth 100000 in
theorem mmet_init (l : Launch) (D : va_G) (di dz : ClassId) (h0 sz : Nat) : Met l yX1_init (ws_ yX1_init cX1_init 1 none) mrm (va_Pc [.ref h0] (fun U => U.heap.size = sz ∧ va_P D vwCl [(h0, .inr (1, mf0))] U.heap ∧ va_K D vwCl (tyZ di dz) U)) (va_Qv (fun _ : Nat → Nat => True) (fun a t => a 0 = h0 ∧ va_P D vwCl (mw a di dz m0) t.heap ∧ va_D (va_A [(h0, .inr (1, mf0))] sz) (mw a di dz m0)) (va_A [(h0, .inr (1, mf0))] sz)) 5 96 (va_A [(h0, .inr (1, mf0))] sz) := by
  refine Met.ofW (cc := cX1_init) (maxL := 1) (ret := none) (by decide +kernel) rfl ?_
  intro p e s m args below meth c s₁ B hml hv
  obtain ⟨rfl, hsz, hP, hK⟩ := hv
  have hx := B.exec
  have hb := B.bytes
  have hr := B.returns
  have hts := atoms_spec (ws := ws_ yX1_init cX1_init 1 none) B.pre
  have hts : ∀ w ∈ lw_all, w.before _ s = true := fun w h => hts w (List.mem_cons_of_mem _ h)
  have hown : s.vm.findClass RX1 = some m.cls := findClass_of_methodNamed B.named
  have hlocks := B.notSynchronized
  have hin : meth.name = "<init>" := (name_of_methodNamed B.named B.method).1
  subst hsz
  have hD : va_D (va_A [(h0, .inr (1, mf0))] s.heap.size) [(h0, .inr (1, mf0))] := one_D (Or.inl ⟨0, _, rfl⟩)
  generalize hAe : va_A [(h0, .inr (1, mf0))] s.heap.size = A at hD ⊢
  have hA : ∀ q : Nat, s.heap.size ≤ q → A q := fun q h => by rw [← hAe]; exact Or.inr h
  have hS : va_S A s.heap s.heap [] := va_S.rf
  have hP : va_P D vwCl [(h0, .inr (1, [.int (nI 0), .null, .null, .null, .null, .null, .int (bI false)]))] s.heap := hP
  have hD : va_D A [(h0, .inr (1, [.int (nI 0), .null, .null, .null, .null, .null, .int (bI false)]))] := hD
  have hl := lv_entry ([.ref h0]) (n := 1) (Nat.le_of_ble_eq_true rfl)
  rw [lg_entry_eq]
  generalize (lg_sl ([.ref h0]) ++ List.replicate (1 - (lg_sl ([.ref h0])).length) Slot.unset).toArray = ls at hl ⊢
  have hl : lv_has ls 1 [(0, .ref h0)] := hl
  refine lv_aload_n hx hb dX1_init_0 rfl (lv_at hl 0 rfl) ?_
  refine W.objInit hx hb hown (hts _ q166) (hts _ q27) (hts _ q28) rfl (by rw [hml]; exact hl.1) rfl dX1_init_1 (Nat.le_of_ble_eq_true rfl) (Nat.le_of_ble_eq_true rfl) ?_
  refine W.eq (g2 := F0 m 4 ls []) rfl ?_
  refine lv_aload_n hx hb dX1_init_4 rfl (lv_at hl 0 rfl) ?_
  refine lv_bipush (v := nI 24) hx hb dX1_init_5 (by decide +kernel) ?_
  refine v_newi (di := di) (dz := dz) hx hb (hts _ q72) hK hP hD hS hA (by decide) (Nat.le_of_ble_eq_true rfl) (Nat.le_of_ble_eq_true rfl) dX1_init_7 (fun q1 H hP hD hS => ?_)
  have hP : va_P D vwCl [(h0, .inr (1, [.int (nI 0), .null, .null, .null, .null, .null, .int (bI false)])), (q1, .inl (di, 24, .inl (eN (fun _ => 0))))] H := hP
  have hD : va_D A [(h0, .inr (1, [.int (nI 0), .null, .null, .null, .null, .null, .int (bI false)])), (q1, .inl (di, 24, .inl (eN (fun _ => 0))))] := hD
  refine va_putF (D := D) (ci := 1) (v := .ref q1) (ty := .array .int) (C := RX1) (T := TX1) (N := 7) hx hb hts in_X1 tyX1 tyX1_ok nmX1 hown hK hP hD hS 0 rfl rfl 1 (by decide) (hts _ q168) (fun _ h9 => h9) rfl hin rfl (by decide +kernel) rfl rfl (Nat.le_of_ble_eq_true rfl) dX1_init_9 (fun H locs hP hD hS => ?_)
  have hP : va_P D vwCl [(h0, .inr (1, [.int (nI 0), .ref q1, .null, .null, .null, .null, .int (bI false)])), (q1, .inl (di, 24, .inl (eN (fun _ => 0))))] H := hP
  have hD : va_D A [(h0, .inr (1, [.int (nI 0), .ref q1, .null, .null, .null, .null, .int (bI false)])), (q1, .inl (di, 24, .inl (eN (fun _ => 0))))] := hD
  refine lv_aload_n hx hb dX1_init_12 rfl (lv_at hl 0 rfl) ?_
  refine lv_bipush (v := nI 24) hx hb dX1_init_13 (by decide +kernel) ?_
  refine v_newi (di := di) (dz := dz) hx hb (hts _ q72) hK hP hD hS hA (by decide) (Nat.le_of_ble_eq_true rfl) (Nat.le_of_ble_eq_true rfl) dX1_init_15 (fun q2 H hP hD hS => ?_)
  have hP : va_P D vwCl [(h0, .inr (1, [.int (nI 0), .ref q1, .null, .null, .null, .null, .int (bI false)])), (q1, .inl (di, 24, .inl (eN (fun _ => 0)))), (q2, .inl (di, 24, .inl (eN (fun _ => 0))))] H := hP
  have hD : va_D A [(h0, .inr (1, [.int (nI 0), .ref q1, .null, .null, .null, .null, .int (bI false)])), (q1, .inl (di, 24, .inl (eN (fun _ => 0)))), (q2, .inl (di, 24, .inl (eN (fun _ => 0))))] := hD
  refine va_putF (D := D) (ci := 1) (v := .ref q2) (ty := .array .int) (C := RX1) (T := TX1) (N := 7) hx hb hts in_X1 tyX1 tyX1_ok nmX1 hown hK hP hD hS 0 rfl rfl 2 (by decide) (hts _ q169) (fun _ h9 => h9) rfl hin rfl (by decide +kernel) rfl rfl (Nat.le_of_ble_eq_true rfl) dX1_init_17 (fun H locs hP hD hS => ?_)
  have hP : va_P D vwCl [(h0, .inr (1, [.int (nI 0), .ref q1, .ref q2, .null, .null, .null, .int (bI false)])), (q1, .inl (di, 24, .inl (eN (fun _ => 0)))), (q2, .inl (di, 24, .inl (eN (fun _ => 0))))] H := hP
  have hD : va_D A [(h0, .inr (1, [.int (nI 0), .ref q1, .ref q2, .null, .null, .null, .int (bI false)])), (q1, .inl (di, 24, .inl (eN (fun _ => 0)))), (q2, .inl (di, 24, .inl (eN (fun _ => 0))))] := hD
  refine lv_aload_n hx hb dX1_init_20 rfl (lv_at hl 0 rfl) ?_
  refine lv_bipush (v := nI 24) hx hb dX1_init_21 (by decide +kernel) ?_
  refine v_newi (di := di) (dz := dz) hx hb (hts _ q72) hK hP hD hS hA (by decide) (Nat.le_of_ble_eq_true rfl) (Nat.le_of_ble_eq_true rfl) dX1_init_23 (fun q3 H hP hD hS => ?_)
  have hP : va_P D vwCl [(h0, .inr (1, [.int (nI 0), .ref q1, .ref q2, .null, .null, .null, .int (bI false)])), (q1, .inl (di, 24, .inl (eN (fun _ => 0)))), (q2, .inl (di, 24, .inl (eN (fun _ => 0)))), (q3, .inl (di, 24, .inl (eN (fun _ => 0))))] H := hP
  have hD : va_D A [(h0, .inr (1, [.int (nI 0), .ref q1, .ref q2, .null, .null, .null, .int (bI false)])), (q1, .inl (di, 24, .inl (eN (fun _ => 0)))), (q2, .inl (di, 24, .inl (eN (fun _ => 0)))), (q3, .inl (di, 24, .inl (eN (fun _ => 0))))] := hD
  refine va_putF (D := D) (ci := 1) (v := .ref q3) (ty := .array .int) (C := RX1) (T := TX1) (N := 7) hx hb hts in_X1 tyX1 tyX1_ok nmX1 hown hK hP hD hS 0 rfl rfl 3 (by decide) (hts _ q170) (fun _ h9 => h9) rfl hin rfl (by decide +kernel) rfl rfl (Nat.le_of_ble_eq_true rfl) dX1_init_25 (fun H locs hP hD hS => ?_)
  have hP : va_P D vwCl [(h0, .inr (1, [.int (nI 0), .ref q1, .ref q2, .ref q3, .null, .null, .int (bI false)])), (q1, .inl (di, 24, .inl (eN (fun _ => 0)))), (q2, .inl (di, 24, .inl (eN (fun _ => 0)))), (q3, .inl (di, 24, .inl (eN (fun _ => 0))))] H := hP
  have hD : va_D A [(h0, .inr (1, [.int (nI 0), .ref q1, .ref q2, .ref q3, .null, .null, .int (bI false)])), (q1, .inl (di, 24, .inl (eN (fun _ => 0)))), (q2, .inl (di, 24, .inl (eN (fun _ => 0)))), (q3, .inl (di, 24, .inl (eN (fun _ => 0))))] := hD
  refine lv_aload_n hx hb dX1_init_28 rfl (lv_at hl 0 rfl) ?_
  refine lv_bipush (v := nI 12) hx hb dX1_init_29 (by decide +kernel) ?_
  refine v_newi (di := di) (dz := dz) hx hb (hts _ q72) hK hP hD hS hA (by decide) (Nat.le_of_ble_eq_true rfl) (Nat.le_of_ble_eq_true rfl) dX1_init_31 (fun q4 H hP hD hS => ?_)
  have hP : va_P D vwCl [(h0, .inr (1, [.int (nI 0), .ref q1, .ref q2, .ref q3, .null, .null, .int (bI false)])), (q1, .inl (di, 24, .inl (eN (fun _ => 0)))), (q2, .inl (di, 24, .inl (eN (fun _ => 0)))), (q3, .inl (di, 24, .inl (eN (fun _ => 0)))), (q4, .inl (di, 12, .inl (eN (fun _ => 0))))] H := hP
  have hD : va_D A [(h0, .inr (1, [.int (nI 0), .ref q1, .ref q2, .ref q3, .null, .null, .int (bI false)])), (q1, .inl (di, 24, .inl (eN (fun _ => 0)))), (q2, .inl (di, 24, .inl (eN (fun _ => 0)))), (q3, .inl (di, 24, .inl (eN (fun _ => 0)))), (q4, .inl (di, 12, .inl (eN (fun _ => 0))))] := hD
  refine va_putF (D := D) (ci := 1) (v := .ref q4) (ty := .array .int) (C := RX1) (T := TX1) (N := 7) hx hb hts in_X1 tyX1 tyX1_ok nmX1 hown hK hP hD hS 0 rfl rfl 4 (by decide) (hts _ q171) (fun _ h9 => h9) rfl hin rfl (by decide +kernel) rfl rfl (Nat.le_of_ble_eq_true rfl) dX1_init_33 (fun H locs hP hD hS => ?_)
  have hP : va_P D vwCl [(h0, .inr (1, [.int (nI 0), .ref q1, .ref q2, .ref q3, .ref q4, .null, .int (bI false)])), (q1, .inl (di, 24, .inl (eN (fun _ => 0)))), (q2, .inl (di, 24, .inl (eN (fun _ => 0)))), (q3, .inl (di, 24, .inl (eN (fun _ => 0)))), (q4, .inl (di, 12, .inl (eN (fun _ => 0))))] H := hP
  have hD : va_D A [(h0, .inr (1, [.int (nI 0), .ref q1, .ref q2, .ref q3, .ref q4, .null, .int (bI false)])), (q1, .inl (di, 24, .inl (eN (fun _ => 0)))), (q2, .inl (di, 24, .inl (eN (fun _ => 0)))), (q3, .inl (di, 24, .inl (eN (fun _ => 0)))), (q4, .inl (di, 12, .inl (eN (fun _ => 0))))] := hD
  refine lv_aload_n hx hb dX1_init_36 rfl (lv_at hl 0 rfl) ?_
  refine lv_bipush (v := nI 12) hx hb dX1_init_37 (by decide +kernel) ?_
  refine v_newi (di := di) (dz := dz) hx hb (hts _ q72) hK hP hD hS hA (by decide) (Nat.le_of_ble_eq_true rfl) (Nat.le_of_ble_eq_true rfl) dX1_init_39 (fun q5 H hP hD hS => ?_)
  have hP : va_P D vwCl [(h0, .inr (1, [.int (nI 0), .ref q1, .ref q2, .ref q3, .ref q4, .null, .int (bI false)])), (q1, .inl (di, 24, .inl (eN (fun _ => 0)))), (q2, .inl (di, 24, .inl (eN (fun _ => 0)))), (q3, .inl (di, 24, .inl (eN (fun _ => 0)))), (q4, .inl (di, 12, .inl (eN (fun _ => 0)))), (q5, .inl (di, 12, .inl (eN (fun _ => 0))))] H := hP
  have hD : va_D A [(h0, .inr (1, [.int (nI 0), .ref q1, .ref q2, .ref q3, .ref q4, .null, .int (bI false)])), (q1, .inl (di, 24, .inl (eN (fun _ => 0)))), (q2, .inl (di, 24, .inl (eN (fun _ => 0)))), (q3, .inl (di, 24, .inl (eN (fun _ => 0)))), (q4, .inl (di, 12, .inl (eN (fun _ => 0)))), (q5, .inl (di, 12, .inl (eN (fun _ => 0))))] := hD
  refine va_putF (D := D) (ci := 1) (v := .ref q5) (ty := .array .int) (C := RX1) (T := TX1) (N := 7) hx hb hts in_X1 tyX1 tyX1_ok nmX1 hown hK hP hD hS 0 rfl rfl 5 (by decide) (hts _ q172) (fun _ h9 => h9) rfl hin rfl (by decide +kernel) rfl rfl (Nat.le_of_ble_eq_true rfl) dX1_init_41 (fun H locs hP hD hS => ?_)
  have hP : va_P D vwCl [(h0, .inr (1, [.int (nI 0), .ref q1, .ref q2, .ref q3, .ref q4, .ref q5, .int (bI false)])), (q1, .inl (di, 24, .inl (eN (fun _ => 0)))), (q2, .inl (di, 24, .inl (eN (fun _ => 0)))), (q3, .inl (di, 24, .inl (eN (fun _ => 0)))), (q4, .inl (di, 12, .inl (eN (fun _ => 0)))), (q5, .inl (di, 12, .inl (eN (fun _ => 0))))] H := hP
  have hD : va_D A [(h0, .inr (1, [.int (nI 0), .ref q1, .ref q2, .ref q3, .ref q4, .ref q5, .int (bI false)])), (q1, .inl (di, 24, .inl (eN (fun _ => 0)))), (q2, .inl (di, 24, .inl (eN (fun _ => 0)))), (q3, .inl (di, 24, .inl (eN (fun _ => 0)))), (q4, .inl (di, 12, .inl (eN (fun _ => 0)))), (q5, .inl (di, 12, .inl (eN (fun _ => 0))))] := hD
  exact W.vret hx hb hr (fun t ht hW => ⟨⟨fun i => [h0, q1, q2, q3, q4, q5].getD i 0, rfl, trivial, rfl, by rw [ht]; exact hP, hD⟩, hS.F ht⟩) hS.2.2 dX1_init_44
end
section
set_option maxRecDepth 100000
/-! THE CLAIM OUT OF ONE WALK OF THE LAW'S BODY. Your part is whole_start (and what it stands on); all else here is the same for every law, but numbers. -/
def R_law : String := "AliasClassesLaw"
def lw_P (b : Addr) (xs : List Int32) (args : Array Value) (s : State) : Prop := args = #[.ref b] ∧ s.IntsAt b xs ∧ xs.length ≤ 256 ∧ (Jvm.Cond.and given_1 narrow_1).before args s = true
def lw_Q (_ : Array Value) (s : State) (o : Outcome) (t : State) : Prop := o = .returned (some (.int 1)) ∧ Framed s o t [] 600000 7290000
def lw_Z (below : List Frame) (a : Array Value) (s : State) : State → Prop := fun t => ∃ o, t.status = .running ∧ Ended t below o ∧ lw_Q a s o t
/-- the law's own end, with 1 on the stack, nothing written that was there before, its room as the claim has it -/
theorem lw_ret {p : Program} {l : Launch} {e : Env} {s : State} {m : MethodId} {below : List Frame} {meth : Method} {c : Code} {b : Nat} (hx : p.tables.exec = Jvm.exec) (hb : c.code = code) (hr : meth.sig.returnType = ret) (hlocks : meth.locks = false) {pc : Nat} {H : Heap} {ls : Array Slot} (hdg : decode code pc = .ok (.ireturn, 1)) : W p l e room_1 s m #[Value.ref b] below meth c H [] 600000 7290000 (lw_Z below #[Value.ref b] s) (F0 m pc ls [.int 1]) := by
  intro T hT X
  obtain ⟨fs, hret, hrun, hended, hW, hframe⟩ := X.leave (v := some (.int 1)) (hlocks := hlocks) (fun h => by rw [hr] at h; cases h)
  have hmeth' : T.vm.method? m = some meth := X.method'
  refine ⟨T.setFrames fs, ?_, .returned (some (.int 1)), hrun, hended, rfl, ⟨_, rfl⟩, hW, hframe⟩
  jvm_step X.here [X.here.top, hx, hb, hdg, hmeth', hr, ret, narrow_b1]
  (try refine ⟨rfl, ?_⟩); (try refine ⟨rfl, ?_⟩)
  first | (intro acts; rw [hret _ acts rfl rfl rfl]) | rw [hret _ _ rfl rfl rfl]
  exact Steps.refl _
/-- what holds at the law's entry: the machine, the code, the tables' words (any of lw_tbl by 'hts w (by decide +kernel)'), the script of L ints xs at the cell b, what the Statement gives of the start (any of its parts by flat_of_before) -/
def lw_At (p : Program) (s : State) (m : MethodId) (meth : Method) (c : Code) (b L : Nat) (xs : Nat → Int32) : Prop :=
  p.tables.exec = Jvm.exec ∧ c.code = code ∧ meth.sig.returnType = ret ∧ c.maxLocals = 4 ∧ s.vm.findClass R_law = some m.cls ∧ (∀ w ∈ lw_tbl, w.before #[Value.ref b] s = true) ∧ va_X b L xs s s.heap ∧ b < s.heap.size ∧ meth.locks = false ∧ (Jvm.Cond.and given_1 narrow_1).before #[Value.ref b] s = true
end
section
/-! THE LAW: its loop over both objects -/
set_option maxRecDepth 100000
def lwW (a b : Nat → Nat) (di dz : ClassId) (u : XS × MS) : va_W := xw a di dz u.1 ++ mw b di dz u.2
theorem xw_len (a : Nat → Nat) (di dz : ClassId) (u : XS) : (xw a di dz u).length = 11 := by
  obtain ⟨n, kn, rd, pr, kd, lf, rg, up, pt, wf, qu, qd, pa, pb⟩ := u
  rfl
theorem xw_0 (a : Nat → Nat) (di dz : ClassId) (u : XS) : ∃ fs, (xw a di dz u)[0]? = some (a 0, .inr (0, fs)) := by
  obtain ⟨n, kn, rd, pr, kd, lf, rg, up, pt, wf, qu, qd, pa, pb⟩ := u
  exact ⟨_, rfl⟩
theorem mw_0 (a : Nat → Nat) (di dz : ClassId) (u : MS) : ∃ fs, (mw a di dz u)[0]? = some (a 0, .inr (1, fs)) := by
  obtain ⟨n, ch, kd, lf, rg, co, tt⟩ := u
  exact ⟨_, rfl⟩
theorem lwW_l {a b : Nat → Nat} {di dz : ClassId} {σ : XS} {τ : MS} {k : Nat} {q : Nat × va_E} (h : (xw a di dz σ)[k]? = some q) : (lwW a b di dz (σ, τ))[k]? = some q := by
  have hk := (List.getElem?_eq_some_iff.mp h).1
  show (xw a di dz σ ++ mw b di dz τ)[k]? = some q
  rw [List.getElem?_append_left hk]
  exact h
theorem lwW_r {a b : Nat → Nat} {di dz : ClassId} {σ : XS} {τ : MS} {k : Nat} {q : Nat × va_E} (h : (mw b di dz τ)[k]? = some q) : (lwW a b di dz (σ, τ))[k + 11]? = some q := by
  show (xw a di dz σ ++ mw b di dz τ)[k + 11]? = some q
  rw [List.getElem?_append_right (by rw [xw_len]; omega), xw_len, Nat.add_sub_cancel]
  exact h
theorem lwW_at {a b : Nat → Nat} {di dz : ClassId} {σ : XS} {τ : MS} {k : Nat} {q : Nat × va_E} (h : (lwW a b di dz (σ, τ))[k]? = some q) : (xw a di dz σ)[k]? = some q ∨ ∃ j, k = j + 11 ∧ (mw b di dz τ)[j]? = some q := by
  have h : (xw a di dz σ ++ mw b di dz τ)[k]? = some q := h
  by_cases hk : k < 11
  · rw [List.getElem?_append_left (by rw [xw_len]; exact hk)] at h
    exact Or.inl h
  · rw [List.getElem?_append_right (by rw [xw_len]; omega), xw_len] at h
    exact Or.inr ⟨k - 11, by omega, h⟩
theorem lwW_key {a b : Nat → Nat} {di dz : ClassId} {σ σ' : XS} {τ τ' : MS} {k : Nat} {q : Nat × va_E} (h : (lwW a b di dz (σ, τ))[k]? = some q) : ∃ q0, (lwW a b di dz (σ', τ'))[k]? = some q0 ∧ q0.1 = q.1 := by
  rcases lwW_at h with h | ⟨j, rfl, h⟩
  · obtain ⟨h1, h2⟩ := xw_at a di dz σ k q h
    obtain ⟨e, h3⟩ := xw_in a di dz σ' k h1
    exact ⟨_, lwW_l h3, h2.symm⟩
  · obtain ⟨h1, h2⟩ := mw_at b di dz τ j q h
    obtain ⟨e, h3⟩ := mw_in b di dz τ' j h1
    exact ⟨_, lwW_r h3, h2.symm⟩
theorem lwW_D {a b : Nat → Nat} {di dz : ClassId} {A : Nat → Prop} {σ0 : XS} {τ0 : MS} (h : va_D A (lwW a b di dz (σ0, τ0))) : ∀ u, va_D A (lwW a b di dz u) := by
  rintro ⟨σ, τ⟩
  refine ⟨fun i j x y hi hj hxy => ?_, fun k q hk => ?_⟩
  · obtain ⟨x0, h1, h2⟩ := lwW_key (σ' := σ0) (τ' := τ0) hi
    obtain ⟨y0, h3, h4⟩ := lwW_key (σ' := σ0) (τ' := τ0) hj
    exact h.1 i j x0 y0 h1 h3 (by rw [h2, h4]; exact hxy)
  · obtain ⟨q0, h1, h2⟩ := lwW_key (σ' := σ0) (τ' := τ0) hk
    rw [← h2]
    exact h.2 k q0 h1
theorem lwW_x {a b : Nat → Nat} {di dz : ClassId} {A : Nat → Prop} {σ0 : XS} {τ0 : MS} (h : va_D A (lwW a b di dz (σ0, τ0))) : WD (xw a di dz) := by
  refine xw_D (fun i hi j hj e => ?_)
  obtain ⟨e1, h1⟩ := xw_in a di dz σ0 i hi
  obtain ⟨e2, h2⟩ := xw_in a di dz σ0 j hj
  exact h.1 i j _ _ (lwW_l h1) (lwW_l h2) e
theorem lwW_m {a b : Nat → Nat} {di dz : ClassId} {A : Nat → Prop} {σ0 : XS} {τ0 : MS} (h : va_D A (lwW a b di dz (σ0, τ0))) : WD (mw b di dz) := by
  refine mw_D (fun i hi j hj e => ?_)
  obtain ⟨e1, h1⟩ := mw_in b di dz τ0 i hi
  obtain ⟨e2, h2⟩ := mw_in b di dz τ0 j hj
  have := h.1 (i + 11) (j + 11) _ _ (lwW_r h1) (lwW_r h2) e
  omega
section LR
variable {l : Launch} {D : va_G} {a b : Nat → Nat} {di dz : ClassId} {Γ : GC} {R : Room} {nL ce sl : Nat} {Q : State → Prop} {pc : Nat} {xs st : List Value} {cc : ByteArray} {rt : Option FieldType}
theorem l_callx (C : CG D (tyZ di dz) (lwW a b di dz) R_law Γ cc nL rt) {σ : XS} {τ : MS} {y : MethodName} {bytes : ByteArray} {maxL : Nat} {rt' : Option FieldType} {rm : Room} {As stk : List Value} {post : Int32 → XS → Prop} {index n : Nat}
    (hM : MGi l D (tyZ di dz) (xw a di dz) y bytes maxL rt' rm (.ref (a 0) :: As) σ post) (h1 : Cond.methodLink R_law index y ∈ lw_all) (h2 : Cond.instanceMethod y ∈ lw_all) (h3 : Cond.selects RX0 y y ∈ lw_all) (h5 : Cond.code y bytes maxL rt' ∈ lw_all)
    (hdd : y.cls = RX0 ∧ y.cls ≠ "java/lang/invoke/MethodHandle" ∧ y.cls ≠ "java/lang/invoke/VarHandle" ∧ (parseMethodDescriptor y.desc).map (fun d => d.parameters.length) = some n) (hn : As.length = n) (hz : rm.cells = 0 ∧ rm.slots = 0) (hR : rm.frames + 1 ≤ R.frames ∧ 8 + (maxL + 11) + rm.locals ≤ R.locals) (hce : ce + 0 ≤ R.cells ∧ sl + 0 ≤ R.slots)
    (hst : stk = As.reverse ++ .ref (a 0) :: st) (hcat : (st.map fun v => v.category).sum ≤ 8) (hd : decode cc pc = .ok (.invokevirtual index, 3)) (kk : ∀ (r : Int32) (u' : XS), post r u' → JG l D (lwW a b di dz) Γ R nL ce sl Q (u', τ) (pc + 3) xs (.int r :: st)) : JG l D (lwW a b di dz) Γ R nL ce sl Q (σ, τ) pc xs stk := by
  subst hst
  intro H locs ls hP hS hl
  obtain ⟨hx, hb, hr, hml, hown, hlk, hts, hK, hA, hD⟩ := C
  have hDu := hD (σ, τ)
  have hPx : va_P D vwCl (xw a di dz σ) H := fun k q hk => hP k q (lwW_l hk)
  have hPm : va_P D vwCl (mw b di dz τ) H := fun k q hk => hP (k + 11) q (lwW_r hk)
  have hF : ∀ q, va_A (xw a di dz σ) H.size q → gA Γ q := by
    intro q h
    rcases h with ⟨k, e, h⟩ | h
    · exact hDu.2 k (q, e) (lwW_l h)
    · exact hA q (Nat.le_trans hS.1 h)
  obtain ⟨fs, he⟩ := xw_0 a di dz σ
  refine va_calli (va_runV (As := As) (rest := st) ⟨hx, hb, hml, hown, hts⟩ (hM H.size) (cwV n hts (lw_V h1 h2 h3 q19 h5) rfl hz.1 hz.2 hdd hR) ⟨fun a U g mk q => by obtain ⟨q0, q1, qP, qK⟩ := q; exact ⟨q0, q1, qP, va_K.moved (u := U) (U := U.calling g mk a) (Vm.Alike.refl U.vm) qK⟩, va_recv hK hPx (ci := 0) rfl he, fun U hU hW => ⟨rfl, by rw [hU], by rw [hU]; exact hPx, va_K.moved hW.alike hK⟩⟩ rfl hn hl.1 rfl (lv_room hcat) hd hce) hS (fun q _ h => hF q h) hF (fun r u' t H1 locs1 ht hvm hpost hB hz1 hk1 hS1 => ?_)
  have hB : va_P D vwCl (xw a di dz u') t.heap := hB
  rw [ht] at hB
  have hkp : va_P D vwCl (mw b di dz τ) H1 := by
    refine hPm.kept (fun k q hq => hk1 q.1 ((hPm k q hq).lt) (fun h => ?_))
    rcases h with ⟨k2, e2, h⟩ | h
    · have e3 := hDu.1 k2 (k + 11) (q.1, e2) q (lwW_l h) (lwW_r hq) rfl
      have e4 := (xw_at a di dz σ k2 _ h).1
      omega
    · exact absurd ((hPm k q hq).lt) (Nat.not_lt.mpr h)
  exact kk r u' hpost H1 locs1 ls (va_P.app hB hkp) hS1 hl
theorem l_callm (C : CG D (tyZ di dz) (lwW a b di dz) R_law Γ cc nL rt) {σ : XS} {τ : MS} {y : MethodName} {bytes : ByteArray} {maxL : Nat} {rt' : Option FieldType} {rm : Room} {As stk : List Value} {post : Int32 → MS → Prop} {index n : Nat}
    (hM : MGi l D (tyZ di dz) (mw b di dz) y bytes maxL rt' rm (.ref (b 0) :: As) τ post) (h1 : Cond.methodLink R_law index y ∈ lw_all) (h2 : Cond.instanceMethod y ∈ lw_all) (h3 : Cond.selects RX1 y y ∈ lw_all) (h5 : Cond.code y bytes maxL rt' ∈ lw_all)
    (hdd : y.cls = RX1 ∧ y.cls ≠ "java/lang/invoke/MethodHandle" ∧ y.cls ≠ "java/lang/invoke/VarHandle" ∧ (parseMethodDescriptor y.desc).map (fun d => d.parameters.length) = some n) (hn : As.length = n) (hz : rm.cells = 0 ∧ rm.slots = 0) (hR : rm.frames + 1 ≤ R.frames ∧ 8 + (maxL + 11) + rm.locals ≤ R.locals) (hce : ce + 0 ≤ R.cells ∧ sl + 0 ≤ R.slots)
    (hst : stk = As.reverse ++ .ref (b 0) :: st) (hcat : (st.map fun v => v.category).sum ≤ 8) (hd : decode cc pc = .ok (.invokevirtual index, 3)) (kk : ∀ (r : Int32) (u' : MS), post r u' → JG l D (lwW a b di dz) Γ R nL ce sl Q (σ, u') (pc + 3) xs (.int r :: st)) : JG l D (lwW a b di dz) Γ R nL ce sl Q (σ, τ) pc xs stk := by
  subst hst
  intro H locs ls hP hS hl
  obtain ⟨hx, hb, hr, hml, hown, hlk, hts, hK, hA, hD⟩ := C
  have hDu := hD (σ, τ)
  have hPx : va_P D vwCl (mw b di dz τ) H := fun k q hk => hP (k + 11) q (lwW_r hk)
  have hPm : va_P D vwCl (xw a di dz σ) H := fun k q hk => hP k q (lwW_l hk)
  have hF : ∀ q, va_A (mw b di dz τ) H.size q → gA Γ q := by
    intro q h
    rcases h with ⟨k, e, h⟩ | h
    · exact hDu.2 (k + 11) (q, e) (lwW_r h)
    · exact hA q (Nat.le_trans hS.1 h)
  obtain ⟨fs, he⟩ := mw_0 b di dz τ
  refine va_calli (va_runV (As := As) (rest := st) ⟨hx, hb, hml, hown, hts⟩ (hM H.size) (cwV n hts (lw_V h1 h2 h3 q20 h5) rfl hz.1 hz.2 hdd hR) ⟨fun a U g mk q => by obtain ⟨q0, q1, qP, qK⟩ := q; exact ⟨q0, q1, qP, va_K.moved (u := U) (U := U.calling g mk a) (Vm.Alike.refl U.vm) qK⟩, va_recv hK hPx (ci := 1) rfl he, fun U hU hW => ⟨rfl, by rw [hU], by rw [hU]; exact hPx, va_K.moved hW.alike hK⟩⟩ rfl hn hl.1 rfl (lv_room hcat) hd hce) hS (fun q _ h => hF q h) hF (fun r u' t H1 locs1 ht hvm hpost hB hz1 hk1 hS1 => ?_)
  have hB : va_P D vwCl (mw b di dz u') t.heap := hB
  rw [ht] at hB
  have hkp : va_P D vwCl (xw a di dz σ) H1 := by
    refine hPm.kept (fun k q hq => hk1 q.1 ((hPm k q hq).lt) (fun h => ?_))
    rcases h with ⟨k2, e2, h⟩ | h
    · have e3 := hDu.1 (k2 + 11) k (q.1, e2) q (lwW_r h) (lwW_l hq) rfl
      have e4 := (xw_at a di dz σ k _ hq).1
      omega
    · exact absurd ((hPm k q hq).lt) (Nat.not_lt.mpr h)
  exact kk r u' hpost H1 locs1 ls (va_P.app hkp hB) hS1 hl
variable {S : Type} {w : S → va_W} {tys : List (ClassId × FieldType)} {own : String} {u : S}
theorem l_sld (C : CG D tys w own Γ cc nL rt) {b0 L : Nat} {sc : Nat → Int32} (hX : va_X b0 L sc (gs Γ) (gs Γ).heap) (hbl : b0 < (gs Γ).heap.size) (hbA : ¬ gA Γ b0) {i : Nat} (hi : i < L) (hL : L < 2 ^ 31) (hd : decode cc pc = .ok (.iaload, 1)) (kk : JG l D w Γ R nL ce sl Q u (pc + 1) xs (.int (sc i) :: st)) : JG l D w Γ R nL ce sl Q u pc xs (.int (nI i) :: .ref b0 :: st) :=
  fun H locs ls hP hS hl => va_sld C.1 C.2.1 hX hbl hbA hS (vp_in_nI hi hL) hd (by rw [nI_clamp (by omega)]; exact kk H locs ls hP hS hl)
theorem l_slen (C : CG D tys w own Γ cc nL rt) {b0 L : Nat} {sc : Nat → Int32} (hX : va_X b0 L sc (gs Γ) (gs Γ).heap) (hbl : b0 < (gs Γ).heap.size) (hbA : ¬ gA Γ b0) (hd : decode cc pc = .ok (.arraylength, 1)) (kk : JG l D w Γ R nL ce sl Q u (pc + 1) xs (.int (nI L) :: st)) : JG l D w Γ R nL ce sl Q u pc xs (.ref b0 :: st) :=
  fun H locs ls hP hS hl => va_slen C.1 C.2.1 hX hbl hbA hS hd (kk H locs ls hP hS hl)
theorem l_tin (C : CG D tys w own Γ cc nL rt) {dflt lo hi : Int} {offs : Array Int} {len : Nat} {x : Int32} {off : Int} {tgt : Nat} (hd : decode cc pc = .ok (.tableswitch dflt lo hi offs, len)) (h1 : ¬ x.toInt < lo) (h2 : ¬ hi < x.toInt) (ho : offs[(x.toInt - lo).toNat]? = some off) (ht : (pc : Int) + off = (tgt : Int)) (kk : JG l D w Γ R nL ce sl Q u tgt xs st) : JG l D w Γ R nL ce sl Q u pc xs (.int x :: st) :=
  fun H locs ls hP hS hl => lv_tableIn C.1 C.2.1 hd h1 h2 ho ht (kk H locs ls hP hS hl)
theorem l_tout (C : CG D tys w own Γ cc nL rt) {dflt lo hi : Int} {offs : Array Int} {len : Nat} {x : Int32} {tgt : Nat} (hd : decode cc pc = .ok (.tableswitch dflt lo hi offs, len)) (h : x.toInt < lo ∨ hi < x.toInt) (ht : (pc : Int) + dflt = (tgt : Int)) (kk : JG l D w Γ R nL ce sl Q u tgt xs st) : JG l D w Γ R nL ce sl Q u pc xs (.int x :: st) :=
  fun H locs ls hP hS hl => lv_tableOut C.1 C.2.1 hd h ht (kk H locs ls hP hS hl)
end LR
/-- what holds between two calls of the law: both hold the same assignments -/
def LI (σ : XS) (τ : MS) : Prop := ∃ (n : Nat) (kn : Bool) (rd : Nat) (pr : Nat) (kd : Nat → Nat) (lf : Nat → Nat) (rg : Nat → Nat) (up : Nat → Nat) (pt : Nat → Option Nat) (wf : Nat → Option Nat) (qu : Nat → Nat) (qd : Nat → Bool) (pa : Nat → Nat) (pb : Nat → Nat) (ch : Bool) (co : Nat → Nat) (tt : Nat → Option Nat), n ≤ 24 ∧ B12 kd lf rg ∧ (kn = true → Wd n kd lf rg up pt) ∧ σ = (n, kn, rd, pr, kd, lf, rg, up, pt, wf, qu, qd, pa, pb) ∧ τ = (n, ch, kd, lf, rg, co, tt)
theorem vI_nI {v : Nat} (h : v < 12) : vI (nI v) = true := by
  simp only [vI, decide_eq_true_eq]
  rw [nI_toInt (by omega)]
  omega
theorem nI_i {v w : Nat} (hv : v < 12) (hw : w < 12) (e : nI v = nI w) : v = w := (nI_eq (by omega) (by omega)).mp e
section LA
variable {n : Nat} {kd lf rg : Nat → Nat} {σ u1 : XS} {τ u2 : MS} {r r2 x y : Int32}
theorem li_q {R : Nat → Nat} {rd1 pr1 : Nat} {up1 : Nat → Nat} {pt1 wf1 : Nat → Option Nat} {qu1 : Nat → Nat} {qd1 : Nat → Bool} {pa1 pb1 : Nat → Nat} {ch : Bool} {co : Nat → Nat} {tt : Nat → Option Nat} (hn : n ≤ 24) (hB : B12 kd lf rg) (hF : Fo up1 R) (hL : Fnl n kd lf rg R pt1) : LI (n, true, rd1, pr1, kd, lf, rg, up1, pt1, wf1, qu1, qd1, pa1, pb1) (n, ch, kd, lf, rg, co, tt) :=
  ⟨n, true, rd1, pr1, kd, lf, rg, up1, pt1, wf1, qu1, qd1, pa1, pb1, ch, co, tt, hn, hB, fun _ => ⟨R, hF, hL⟩, rfl, rfl⟩
theorem law_Q2 {A1 A2 : Nat → Nat → (Nat → Nat) → (Nat → Option Nat) → Prop} (hn : n ≤ 24) (hB : B12 kd lf rg) (hLI : LI σ τ) (hA : ∀ v w R pt C tt, v < 12 → w < 12 → Fnl n kd lf rg R pt → Fnl n kd lf rg C tt → A1 v w R pt → A2 v w C tt → r = r2) (h1 : Q2 x y (fun v w => XQp n kd lf rg (A1 v w) u1) (r = oI none ∧ u1 = σ)) (h2 : Q2 x y (fun v w => MQp n kd lf rg (A2 v w) u2) (r2 = oI none ∧ u2 = τ)) : r = r2 ∧ LI u1 u2 := by
  rcases h1 with ⟨v, w, hv, hw, e1, e2, R, rd1, pr1, up1, pt1, wf1, qu1, qd1, pa1, pb1, hF, hL, hA1, rfl⟩ | ⟨hb, hr, hu⟩
  · rcases h2 with ⟨v', w', hv', hw', e1', e2', ch, co, tt, hL2, hA2, rfl⟩ | ⟨hb, -⟩
    · have e3 := nI_i hv hv' (e1.symm.trans e1')
      have e4 := nI_i hw hw' (e2.symm.trans e2')
      subst e3
      subst e4
      exact ⟨hA v w R pt1 co tt hv hw hL hL2 hA1 hA2, li_q hn hB hF hL⟩
    · rw [e1, e2, vI_nI hv, vI_nI hw] at hb
      cases hb
  · rcases h2 with ⟨v', w', hv', hw', e1', e2', -⟩ | ⟨-, hr2, hu2⟩
    · rw [e1', e2', vI_nI hv', vI_nI hw'] at hb
      cases hb
    · rw [hr, hr2, hu, hu2]
      exact ⟨rfl, hLI⟩
theorem law_Q1 {A1 A2 : Nat → (Nat → Nat) → (Nat → Option Nat) → Prop} (hn : n ≤ 24) (hB : B12 kd lf rg) (hLI : LI σ τ) (hA : ∀ v R pt C tt, v < 12 → Fnl n kd lf rg R pt → Fnl n kd lf rg C tt → A1 v R pt → A2 v C tt → r = r2) (h1 : Q1 x (fun v => XQp n kd lf rg (A1 v) u1) (r = oI none ∧ u1 = σ)) (h2 : Q1 x (fun v => MQp n kd lf rg (A2 v) u2) (r2 = oI none ∧ u2 = τ)) : r = r2 ∧ LI u1 u2 := by
  rcases h1 with ⟨v, hv, e1, R, rd1, pr1, up1, pt1, wf1, qu1, qd1, pa1, pb1, hF, hL, hA1, rfl⟩ | ⟨hb, hr, hu⟩
  · rcases h2 with ⟨v', hv', e1', ch, co, tt, hL2, hA2, rfl⟩ | ⟨hb, -⟩
    · have e3 := nI_i hv hv' (e1.symm.trans e1')
      subst e3
      exact ⟨hA v R pt1 co tt hv hL hL2 hA1 hA2, li_q hn hB hF hL⟩
    · rw [e1, vI_nI hv] at hb
      cases hb
  · rcases h2 with ⟨v', hv', e1', -⟩ | ⟨-, hr2, hu2⟩
    · rw [e1', vI_nI hv'] at hb
      cases hb
    · rw [hr, hr2, hu, hu2]
      exact ⟨rfl, hLI⟩
theorem law_Q0 {A1 A2 : (Nat → Nat) → (Nat → Option Nat) → Prop} (hn : n ≤ 24) (hB : B12 kd lf rg) (hA : ∀ R pt C tt, Fnl n kd lf rg R pt → Fnl n kd lf rg C tt → A1 R pt → A2 C tt → r = r2) (h1 : XQp n kd lf rg A1 u1) (h2 : MQp n kd lf rg A2 u2) : r = r2 ∧ LI u1 u2 := by
  obtain ⟨R, rd1, pr1, up1, pt1, wf1, qu1, qd1, pa1, pb1, hF, hL, hA1, rfl⟩ := h1
  obtain ⟨ch, co, tt, hL2, hA2, rfl⟩ := h2
  exact ⟨hA R pt1 co tt hL hL2 hA1 hA2, li_q hn hB hF hL⟩
end LA
theorem law_as {n : Nat} {kn : Bool} {rd : Nat} {pr : Nat} {kd : Nat → Nat} {lf : Nat → Nat} {rg : Nat → Nat} {up : Nat → Nat} {pt : Nat → Option Nat} {wf : Nat → Option Nat} {qu : Nat → Nat} {qd : Nat → Bool} {pa : Nat → Nat} {pb : Nat → Nat} {ch : Bool} {co : Nat → Nat} {tt : Nat → Option Nat} {k x y r r2 : Int32} {u1 : XS} {u2 : MS} (hn : n ≤ 24) (hB : B12 kd lf rg) (hLI : LI (n, kn, rd, pr, kd, lf, rg, up, pt, wf, qu, qd, pa, pb) (n, ch, kd, lf, rg, co, tt)) (h1 : (fun r u' => (asOk n k x y = true ∧ r = nI (n + 1) ∧ u' = (n + 1, false, rd, pr, va_up kd n k.toNatClampNeg, va_up lf n x.toNatClampNeg, va_up rg n y.toNatClampNeg, up, pt, wf, qu, qd, pa, pb)) ∨ (asOk n k x y = false ∧ r = oI none ∧ u' = (n, kn, rd, pr, kd, lf, rg, up, pt, wf, qu, qd, pa, pb))) r u1) (h2 : (fun r u' => (asOk n k x y = true ∧ r = nI (n + 1) ∧ u' = (n + 1, ch, va_up kd n k.toNatClampNeg, va_up lf n x.toNatClampNeg, va_up rg n y.toNatClampNeg, co, tt)) ∨ (asOk n k x y = false ∧ r = oI none ∧ u' = (n, ch, kd, lf, rg, co, tt))) r2 u2) : r = r2 ∧ LI u1 u2 := by
  rcases h1 with ⟨o1, rfl, rfl⟩ | ⟨o1, rfl, rfl⟩
  · rcases h2 with ⟨o2, rfl, rfl⟩ | ⟨o2, -⟩
    · simp only [asOk, Bool.and_eq_true, decide_eq_true_eq] at o1
      obtain ⟨⟨⟨c1, c2⟩, c3⟩, c4⟩ := o1
      obtain ⟨κ, hκ, rfl⟩ := kI_some c1
      obtain ⟨v, hv, rfl⟩ := vI_some c2
      obtain ⟨w, hw, rfl⟩ := vI_some c3
      rw [nI_clamp (show κ < 2 ^ 31 by omega), nI_clamp (show v < 2 ^ 31 by omega), nI_clamp (show w < 2 ^ 31 by omega)]
      exact ⟨rfl, n + 1, false, rd, pr, _, _, _, up, pt, wf, qu, qd, pa, pb, ch, co, tt, by omega, as_B hB hκ hv hw, fun q => (by cases q), rfl, rfl⟩
    · rw [o1] at o2; cases o2
  · rcases h2 with ⟨o2, -⟩ | ⟨o2, rfl, rfl⟩
    · rw [o1] at o2; cases o2
    · exact ⟨rfl, hLI⟩
theorem law_dr {n : Nat} {kn : Bool} {rd : Nat} {pr : Nat} {kd : Nat → Nat} {lf : Nat → Nat} {rg : Nat → Nat} {up : Nat → Nat} {pt : Nat → Option Nat} {wf : Nat → Option Nat} {qu : Nat → Nat} {qd : Nat → Bool} {pa : Nat → Nat} {pb : Nat → Nat} {ch : Bool} {co : Nat → Nat} {tt : Nat → Option Nat} {x r r2 : Int32} {u1 : XS} {u2 : MS} (hn : n ≤ 24) (hB : B12 kd lf rg) (hLI : LI (n, kn, rd, pr, kd, lf, rg, up, pt, wf, qu, qd, pa, pb) (n, ch, kd, lf, rg, co, tt)) (h1 : (fun r u' => (drOk n x = true ∧ r = nI (n - 1) ∧ u' = (n - 1, false, rd, pr, dr kd x.toNatClampNeg (n - 1), dr lf x.toNatClampNeg (n - 1), dr rg x.toNatClampNeg (n - 1), up, pt, wf, qu, qd, pa, pb)) ∨ (drOk n x = false ∧ r = oI none ∧ u' = (n, kn, rd, pr, kd, lf, rg, up, pt, wf, qu, qd, pa, pb))) r u1) (h2 : (fun r u' => (drOk n x = true ∧ r = nI (n - 1) ∧ u' = (n - 1, ch, dr kd x.toNatClampNeg (n - 1), dr lf x.toNatClampNeg (n - 1), dr rg x.toNatClampNeg (n - 1), co, tt)) ∨ (drOk n x = false ∧ r = oI none ∧ u' = (n, ch, kd, lf, rg, co, tt))) r2 u2) : r = r2 ∧ LI u1 u2 := by
  rcases h1 with ⟨o1, rfl, rfl⟩ | ⟨o1, rfl, rfl⟩
  · rcases h2 with ⟨o2, rfl, rfl⟩ | ⟨o2, -⟩
    · exact ⟨rfl, n - 1, false, rd, pr, _, _, _, up, pt, wf, qu, qd, pa, pb, ch, co, tt, by omega, dr_B hB _ _, fun q => (by cases q), rfl, rfl⟩
    · rw [o1] at o2; cases o2
  · rcases h2 with ⟨o2, -⟩ | ⟨o2, rfl, rfl⟩
    · rw [o1] at o2; cases o2
    · exact ⟨rfl, hLI⟩
section LC
variable {l : Launch} {D : va_G} {a b : Nat → Nat} {di dz : ClassId} {Γ : GC} {Q : State → Prop}
set_option maxHeartbeats 4000000 in
set_option maxRecDepth 100000 in
theorem law_case0 (C : CG D (tyZ di dz) (lwW a b di dz) R_law Γ cL_law 4 ret) (wx : WD (xw a di dz)) (wm : WD (mw b di dz)) {b0 L : Nat} {sc : Nat → Int32} (hX : va_X b0 L sc (gs Γ) (gs Γ).heap) (hbl : b0 < (gs Γ).heap.size) (hbA : ¬ gA Γ b0) (hL : L ≤ 256) {i : Nat} (hi : i + 4 ≤ L) {σ : XS} {τ : MS} (hLI : LI σ τ) (K : ∀ (σ' : XS) (τ' : MS), LI σ' τ' → JG l D (lwW a b di dz) Γ room_1 4 17 317 Q (σ', τ') 311 [.ref b0, .ref (a 0), .ref (b 0), .int (nI i)] []) : JG l D (lwW a b di dz) Γ room_1 4 17 317 Q (σ, τ) 84 [.ref b0, .ref (a 0), .ref (b 0), .int (nI i)] [] := by
  obtain ⟨n, kn, rd, pr, kd, lf, rg, up, pt, wf, qu, qd, pa, pb, ch, co, tt, hn, hB, hk, rfl, rfl⟩ := id hLI
  refine g_aload_n C dL_law_84 rfl ?_
  refine g_aload_n C dL_law_85 rfl ?_
  refine g_iload_n C dL_law_86 rfl ?_
  refine g_iconst (v := nI 1) C dL_law_87 (by decide +kernel) ?_
  refine g_iadd C dL_law_88 (nI_add _ _) ?_
  refine l_sld C hX hbl hbA (by omega) (by omega) dL_law_89 ?_
  refine g_aload_n C dL_law_90 rfl ?_
  refine g_iload_n C dL_law_91 rfl ?_
  refine g_iconst (v := nI 2) C dL_law_92 (by decide +kernel) ?_
  refine g_iadd C dL_law_93 (nI_add _ _) ?_
  refine l_sld C hX hbl hbA (by omega) (by omega) dL_law_94 ?_
  refine g_aload_n C dL_law_95 rfl ?_
  refine g_iload_n C dL_law_96 rfl ?_
  refine g_iconst (v := nI 3) C dL_law_97 (by decide +kernel) ?_
  refine g_iadd C dL_law_98 (nI_add _ _) ?_
  refine l_sld C hX hbl hbA (by omega) (by omega) dL_law_99 ?_
  refine l_callx (n := 3) C (met_assign wx hn _ _ _) q74 q75 q76 q77 (by decide +kernel) rfl ⟨rfl, rfl⟩ ⟨Nat.le_of_ble_eq_true rfl, Nat.le_of_ble_eq_true rfl⟩ ⟨Nat.le_of_ble_eq_true rfl, Nat.le_of_ble_eq_true rfl⟩ rfl (Nat.le_of_ble_eq_true rfl) dL_law_100 (fun r1 u1 hp1 => ?_)
  refine g_aload_n C dL_law_103 rfl ?_
  refine g_aload_n C dL_law_104 rfl ?_
  refine g_iload_n C dL_law_105 rfl ?_
  refine g_iconst (v := nI 1) C dL_law_106 (by decide +kernel) ?_
  refine g_iadd C dL_law_107 (nI_add _ _) ?_
  refine l_sld C hX hbl hbA (by omega) (by omega) dL_law_108 ?_
  refine g_aload_n C dL_law_109 rfl ?_
  refine g_iload_n C dL_law_110 rfl ?_
  refine g_iconst (v := nI 2) C dL_law_111 (by decide +kernel) ?_
  refine g_iadd C dL_law_112 (nI_add _ _) ?_
  refine l_sld C hX hbl hbA (by omega) (by omega) dL_law_113 ?_
  refine g_aload_n C dL_law_114 rfl ?_
  refine g_iload_n C dL_law_115 rfl ?_
  refine g_iconst (v := nI 3) C dL_law_116 (by decide +kernel) ?_
  refine g_iadd C dL_law_117 (nI_add _ _) ?_
  refine l_sld C hX hbl hbA (by omega) (by omega) dL_law_118 ?_
  refine l_callm (n := 3) C (mmet_assign wm hn _ _ _) q189 q190 q191 q192 (by decide +kernel) rfl ⟨rfl, rfl⟩ ⟨Nat.le_of_ble_eq_true rfl, Nat.le_of_ble_eq_true rfl⟩ ⟨Nat.le_of_ble_eq_true rfl, Nat.le_of_ble_eq_true rfl⟩ rfl (Nat.le_of_ble_eq_true rfl) dL_law_119 (fun r u' hp => ?_)
  obtain ⟨er, hLI2⟩ : r1 = r ∧ LI u1 u' := law_as hn hB hLI hp1 hp
  refine gr_icmp_eq (tgt := 311) C dL_law_122 (by decide) (fun h_q => ?_) (fun h_q => ?_)
  · exact K _ _ hLI2
  · exact absurd er h_q
set_option maxHeartbeats 4000000 in
set_option maxRecDepth 100000 in
theorem law_case1 (C : CG D (tyZ di dz) (lwW a b di dz) R_law Γ cL_law 4 ret) (wx : WD (xw a di dz)) (wm : WD (mw b di dz)) {b0 L : Nat} {sc : Nat → Int32} (hX : va_X b0 L sc (gs Γ) (gs Γ).heap) (hbl : b0 < (gs Γ).heap.size) (hbA : ¬ gA Γ b0) (hL : L ≤ 256) {i : Nat} (hi : i + 4 ≤ L) {σ : XS} {τ : MS} (hLI : LI σ τ) (K : ∀ (σ' : XS) (τ' : MS), LI σ' τ' → JG l D (lwW a b di dz) Γ room_1 4 17 317 Q (σ', τ') 311 [.ref b0, .ref (a 0), .ref (b 0), .int (nI i)] []) : JG l D (lwW a b di dz) Γ room_1 4 17 317 Q (σ, τ) 127 [.ref b0, .ref (a 0), .ref (b 0), .int (nI i)] [] := by
  obtain ⟨n, kn, rd, pr, kd, lf, rg, up, pt, wf, qu, qd, pa, pb, ch, co, tt, hn, hB, hk, rfl, rfl⟩ := id hLI
  refine g_aload_n C dL_law_127 rfl ?_
  refine g_aload_n C dL_law_128 rfl ?_
  refine g_iload_n C dL_law_129 rfl ?_
  refine g_iconst (v := nI 1) C dL_law_130 (by decide +kernel) ?_
  refine g_iadd C dL_law_131 (nI_add _ _) ?_
  refine l_sld C hX hbl hbA (by omega) (by omega) dL_law_132 ?_
  refine l_callx (n := 1) C (met_drop wx hn _) q81 q82 q83 q84 (by decide +kernel) rfl ⟨rfl, rfl⟩ ⟨Nat.le_of_ble_eq_true rfl, Nat.le_of_ble_eq_true rfl⟩ ⟨Nat.le_of_ble_eq_true rfl, Nat.le_of_ble_eq_true rfl⟩ rfl (Nat.le_of_ble_eq_true rfl) dL_law_133 (fun r1 u1 hp1 => ?_)
  refine g_aload_n C dL_law_136 rfl ?_
  refine g_aload_n C dL_law_137 rfl ?_
  refine g_iload_n C dL_law_138 rfl ?_
  refine g_iconst (v := nI 1) C dL_law_139 (by decide +kernel) ?_
  refine g_iadd C dL_law_140 (nI_add _ _) ?_
  refine l_sld C hX hbl hbA (by omega) (by omega) dL_law_141 ?_
  refine l_callm (n := 1) C (mmet_drop wm hn _) q196 q197 q198 q199 (by decide +kernel) rfl ⟨rfl, rfl⟩ ⟨Nat.le_of_ble_eq_true rfl, Nat.le_of_ble_eq_true rfl⟩ ⟨Nat.le_of_ble_eq_true rfl, Nat.le_of_ble_eq_true rfl⟩ rfl (Nat.le_of_ble_eq_true rfl) dL_law_142 (fun r u' hp => ?_)
  obtain ⟨er, hLI2⟩ : r1 = r ∧ LI u1 u' := law_dr hn hB hLI hp1 hp
  refine gr_icmp_eq (tgt := 311) C dL_law_145 (by decide) (fun h_q => ?_) (fun h_q => ?_)
  · exact K _ _ hLI2
  · exact absurd er h_q
set_option maxHeartbeats 4000000 in
set_option maxRecDepth 100000 in
theorem law_case2 (C : CG D (tyZ di dz) (lwW a b di dz) R_law Γ cL_law 4 ret) (wx : WD (xw a di dz)) (wm : WD (mw b di dz)) {b0 L : Nat} {sc : Nat → Int32} (hX : va_X b0 L sc (gs Γ) (gs Γ).heap) (hbl : b0 < (gs Γ).heap.size) (hbA : ¬ gA Γ b0) (hL : L ≤ 256) {i : Nat} (hi : i + 4 ≤ L) {σ : XS} {τ : MS} (hLI : LI σ τ) (K : ∀ (σ' : XS) (τ' : MS), LI σ' τ' → JG l D (lwW a b di dz) Γ room_1 4 17 317 Q (σ', τ') 311 [.ref b0, .ref (a 0), .ref (b 0), .int (nI i)] []) : JG l D (lwW a b di dz) Γ room_1 4 17 317 Q (σ, τ) 150 [.ref b0, .ref (a 0), .ref (b 0), .int (nI i)] [] := by
  obtain ⟨n, kn, rd, pr, kd, lf, rg, up, pt, wf, qu, qd, pa, pb, ch, co, tt, hn, hB, hk, rfl, rfl⟩ := id hLI
  refine g_aload_n C dL_law_150 rfl ?_
  refine g_aload_n C dL_law_151 rfl ?_
  refine g_iload_n C dL_law_152 rfl ?_
  refine g_iconst (v := nI 1) C dL_law_153 (by decide +kernel) ?_
  refine g_iadd C dL_law_154 (nI_add _ _) ?_
  refine l_sld C hX hbl hbA (by omega) (by omega) dL_law_155 ?_
  refine g_aload_n C dL_law_156 rfl ?_
  refine g_iload_n C dL_law_157 rfl ?_
  refine g_iconst (v := nI 2) C dL_law_158 (by decide +kernel) ?_
  refine g_iadd C dL_law_159 (nI_add _ _) ?_
  refine l_sld C hX hbl hbA (by omega) (by omega) dL_law_160 ?_
  refine l_callx (n := 2) C (met_same wx hn hB hk _ _) q85 q86 q87 q88 (by decide +kernel) rfl ⟨rfl, rfl⟩ ⟨Nat.le_of_ble_eq_true rfl, Nat.le_of_ble_eq_true rfl⟩ ⟨Nat.le_of_ble_eq_true rfl, Nat.le_of_ble_eq_true rfl⟩ rfl (Nat.le_of_ble_eq_true rfl) dL_law_161 (fun r1 u1 hp1 => ?_)
  refine g_aload_n C dL_law_164 rfl ?_
  refine g_aload_n C dL_law_165 rfl ?_
  refine g_iload_n C dL_law_166 rfl ?_
  refine g_iconst (v := nI 1) C dL_law_167 (by decide +kernel) ?_
  refine g_iadd C dL_law_168 (nI_add _ _) ?_
  refine l_sld C hX hbl hbA (by omega) (by omega) dL_law_169 ?_
  refine g_aload_n C dL_law_170 rfl ?_
  refine g_iload_n C dL_law_171 rfl ?_
  refine g_iconst (v := nI 2) C dL_law_172 (by decide +kernel) ?_
  refine g_iadd C dL_law_173 (nI_add _ _) ?_
  refine l_sld C hX hbl hbA (by omega) (by omega) dL_law_174 ?_
  refine l_callm (n := 2) C (mmet_same wm hn hB _ _) q200 q201 q202 q203 (by decide +kernel) rfl ⟨rfl, rfl⟩ ⟨Nat.le_of_ble_eq_true rfl, Nat.le_of_ble_eq_true rfl⟩ ⟨Nat.le_of_ble_eq_true rfl, Nat.le_of_ble_eq_true rfl⟩ rfl (Nat.le_of_ble_eq_true rfl) dL_law_175 (fun r u' hp => ?_)
  obtain ⟨er, hLI2⟩ : r1 = r ∧ LI u1 u' := law_Q2 (A1 := fun v w R _ => r1 = aSame R v w) (A2 := fun v w R _ => r = aSame R v w) hn hB hLI (fun v w R pt C tt hv hw g1 g2 e1 e2 => by rw [e1, e2]; exact same_eq g1 g2 hv hw) hp1 hp
  refine gr_icmp_eq (tgt := 311) C dL_law_178 (by decide) (fun h_q => ?_) (fun h_q => ?_)
  · exact K _ _ hLI2
  · exact absurd er h_q
set_option maxHeartbeats 4000000 in
set_option maxRecDepth 100000 in
theorem law_case3 (C : CG D (tyZ di dz) (lwW a b di dz) R_law Γ cL_law 4 ret) (wx : WD (xw a di dz)) (wm : WD (mw b di dz)) {b0 L : Nat} {sc : Nat → Int32} (hX : va_X b0 L sc (gs Γ) (gs Γ).heap) (hbl : b0 < (gs Γ).heap.size) (hbA : ¬ gA Γ b0) (hL : L ≤ 256) {i : Nat} (hi : i + 4 ≤ L) {σ : XS} {τ : MS} (hLI : LI σ τ) (K : ∀ (σ' : XS) (τ' : MS), LI σ' τ' → JG l D (lwW a b di dz) Γ room_1 4 17 317 Q (σ', τ') 311 [.ref b0, .ref (a 0), .ref (b 0), .int (nI i)] []) : JG l D (lwW a b di dz) Γ room_1 4 17 317 Q (σ, τ) 183 [.ref b0, .ref (a 0), .ref (b 0), .int (nI i)] [] := by
  obtain ⟨n, kn, rd, pr, kd, lf, rg, up, pt, wf, qu, qd, pa, pb, ch, co, tt, hn, hB, hk, rfl, rfl⟩ := id hLI
  refine g_aload_n C dL_law_183 rfl ?_
  refine g_aload_n C dL_law_184 rfl ?_
  refine g_iload_n C dL_law_185 rfl ?_
  refine g_iconst (v := nI 1) C dL_law_186 (by decide +kernel) ?_
  refine g_iadd C dL_law_187 (nI_add _ _) ?_
  refine l_sld C hX hbl hbA (by omega) (by omega) dL_law_188 ?_
  refine l_callx (n := 1) C (met_members wx hn hB hk _) q133 q134 q135 q136 (by decide +kernel) rfl ⟨rfl, rfl⟩ ⟨Nat.le_of_ble_eq_true rfl, Nat.le_of_ble_eq_true rfl⟩ ⟨Nat.le_of_ble_eq_true rfl, Nat.le_of_ble_eq_true rfl⟩ rfl (Nat.le_of_ble_eq_true rfl) dL_law_189 (fun r1 u1 hp1 => ?_)
  refine g_aload_n C dL_law_192 rfl ?_
  refine g_aload_n C dL_law_193 rfl ?_
  refine g_iload_n C dL_law_194 rfl ?_
  refine g_iconst (v := nI 1) C dL_law_195 (by decide +kernel) ?_
  refine g_iadd C dL_law_196 (nI_add _ _) ?_
  refine l_sld C hX hbl hbA (by omega) (by omega) dL_law_197 ?_
  refine l_callm (n := 1) C (mmet_members wm hn hB _) q220 q221 q222 q223 (by decide +kernel) rfl ⟨rfl, rfl⟩ ⟨Nat.le_of_ble_eq_true rfl, Nat.le_of_ble_eq_true rfl⟩ ⟨Nat.le_of_ble_eq_true rfl, Nat.le_of_ble_eq_true rfl⟩ rfl (Nat.le_of_ble_eq_true rfl) dL_law_198 (fun r u' hp => ?_)
  obtain ⟨er, hLI2⟩ : r1 = r ∧ LI u1 u' := law_Q1 (A1 := fun v R _ => r1 = aMem R v) (A2 := fun v R _ => r = aMem R v) hn hB hLI (fun v R pt C tt hv g1 g2 e1 e2 => by rw [e1, e2]; exact mem_eq g1 g2 hv) hp1 hp
  refine gr_icmp_eq (tgt := 311) C dL_law_201 (by decide) (fun h_q => ?_) (fun h_q => ?_)
  · exact K _ _ hLI2
  · exact absurd er h_q
set_option maxHeartbeats 4000000 in
set_option maxRecDepth 100000 in
theorem law_case4 (C : CG D (tyZ di dz) (lwW a b di dz) R_law Γ cL_law 4 ret) (wx : WD (xw a di dz)) (wm : WD (mw b di dz)) {b0 L : Nat} {sc : Nat → Int32} (hX : va_X b0 L sc (gs Γ) (gs Γ).heap) (hbl : b0 < (gs Γ).heap.size) (hbA : ¬ gA Γ b0) (hL : L ≤ 256) {i : Nat} (hi : i + 4 ≤ L) {σ : XS} {τ : MS} (hLI : LI σ τ) (K : ∀ (σ' : XS) (τ' : MS), LI σ' τ' → JG l D (lwW a b di dz) Γ room_1 4 17 317 Q (σ', τ') 311 [.ref b0, .ref (a 0), .ref (b 0), .int (nI i)] []) : JG l D (lwW a b di dz) Γ room_1 4 17 317 Q (σ, τ) 206 [.ref b0, .ref (a 0), .ref (b 0), .int (nI i)] [] := by
  obtain ⟨n, kn, rd, pr, kd, lf, rg, up, pt, wf, qu, qd, pa, pb, ch, co, tt, hn, hB, hk, rfl, rfl⟩ := id hLI
  refine g_aload_n C dL_law_206 rfl ?_
  refine g_aload_n C dL_law_207 rfl ?_
  refine g_iload_n C dL_law_208 rfl ?_
  refine g_iconst (v := nI 1) C dL_law_209 (by decide +kernel) ?_
  refine g_iadd C dL_law_210 (nI_add _ _) ?_
  refine l_sld C hX hbl hbA (by omega) (by omega) dL_law_211 ?_
  refine l_callx (n := 1) C (met_target wx hn hB hk _) q141 q142 q143 q144 (by decide +kernel) rfl ⟨rfl, rfl⟩ ⟨Nat.le_of_ble_eq_true rfl, Nat.le_of_ble_eq_true rfl⟩ ⟨Nat.le_of_ble_eq_true rfl, Nat.le_of_ble_eq_true rfl⟩ rfl (Nat.le_of_ble_eq_true rfl) dL_law_212 (fun r1 u1 hp1 => ?_)
  refine g_aload_n C dL_law_215 rfl ?_
  refine g_aload_n C dL_law_216 rfl ?_
  refine g_iload_n C dL_law_217 rfl ?_
  refine g_iconst (v := nI 1) C dL_law_218 (by decide +kernel) ?_
  refine g_iadd C dL_law_219 (nI_add _ _) ?_
  refine l_sld C hX hbl hbA (by omega) (by omega) dL_law_220 ?_
  refine l_callm (n := 1) C (mmet_target wm hn hB _) q228 q229 q230 q231 (by decide +kernel) rfl ⟨rfl, rfl⟩ ⟨Nat.le_of_ble_eq_true rfl, Nat.le_of_ble_eq_true rfl⟩ ⟨Nat.le_of_ble_eq_true rfl, Nat.le_of_ble_eq_true rfl⟩ rfl (Nat.le_of_ble_eq_true rfl) dL_law_221 (fun r u' hp => ?_)
  obtain ⟨er, hLI2⟩ : r1 = r ∧ LI u1 u' := law_Q1 (A1 := fun v R pt => aTgt R pt v r1) (A2 := fun v R pt => aTgt R pt v r) hn hB hLI (fun v R pt C tt hv g1 g2 e1 e2 => tgt_eq g1 g2 hv e1 e2) hp1 hp
  refine gr_icmp_eq (tgt := 311) C dL_law_224 (by decide) (fun h_q => ?_) (fun h_q => ?_)
  · exact K _ _ hLI2
  · exact absurd er h_q
set_option maxHeartbeats 4000000 in
set_option maxRecDepth 100000 in
theorem law_case5 (C : CG D (tyZ di dz) (lwW a b di dz) R_law Γ cL_law 4 ret) (wx : WD (xw a di dz)) (wm : WD (mw b di dz)) {b0 L : Nat} {sc : Nat → Int32} (hX : va_X b0 L sc (gs Γ) (gs Γ).heap) (hbl : b0 < (gs Γ).heap.size) (hbA : ¬ gA Γ b0) (hL : L ≤ 256) {i : Nat} (hi : i + 4 ≤ L) {σ : XS} {τ : MS} (hLI : LI σ τ) (K : ∀ (σ' : XS) (τ' : MS), LI σ' τ' → JG l D (lwW a b di dz) Γ room_1 4 17 317 Q (σ', τ') 311 [.ref b0, .ref (a 0), .ref (b 0), .int (nI i)] []) : JG l D (lwW a b di dz) Γ room_1 4 17 317 Q (σ, τ) 229 [.ref b0, .ref (a 0), .ref (b 0), .int (nI i)] [] := by
  obtain ⟨n, kn, rd, pr, kd, lf, rg, up, pt, wf, qu, qd, pa, pb, ch, co, tt, hn, hB, hk, rfl, rfl⟩ := id hLI
  refine g_aload_n C dL_law_229 rfl ?_
  refine g_aload_n C dL_law_230 rfl ?_
  refine g_iload_n C dL_law_231 rfl ?_
  refine g_iconst (v := nI 1) C dL_law_232 (by decide +kernel) ?_
  refine g_iadd C dL_law_233 (nI_add _ _) ?_
  refine l_sld C hX hbl hbA (by omega) (by omega) dL_law_234 ?_
  refine g_aload_n C dL_law_235 rfl ?_
  refine g_iload_n C dL_law_236 rfl ?_
  refine g_iconst (v := nI 2) C dL_law_237 (by decide +kernel) ?_
  refine g_iadd C dL_law_238 (nI_add _ _) ?_
  refine l_sld C hX hbl hbA (by omega) (by omega) dL_law_239 ?_
  refine l_callx (n := 2) C (met_meet wx hn hB hk _ _) q145 q146 q147 q148 (by decide +kernel) rfl ⟨rfl, rfl⟩ ⟨Nat.le_of_ble_eq_true rfl, Nat.le_of_ble_eq_true rfl⟩ ⟨Nat.le_of_ble_eq_true rfl, Nat.le_of_ble_eq_true rfl⟩ rfl (Nat.le_of_ble_eq_true rfl) dL_law_240 (fun r1 u1 hp1 => ?_)
  refine g_aload_n C dL_law_243 rfl ?_
  refine g_aload_n C dL_law_244 rfl ?_
  refine g_iload_n C dL_law_245 rfl ?_
  refine g_iconst (v := nI 1) C dL_law_246 (by decide +kernel) ?_
  refine g_iadd C dL_law_247 (nI_add _ _) ?_
  refine l_sld C hX hbl hbA (by omega) (by omega) dL_law_248 ?_
  refine g_aload_n C dL_law_249 rfl ?_
  refine g_iload_n C dL_law_250 rfl ?_
  refine g_iconst (v := nI 2) C dL_law_251 (by decide +kernel) ?_
  refine g_iadd C dL_law_252 (nI_add _ _) ?_
  refine l_sld C hX hbl hbA (by omega) (by omega) dL_law_253 ?_
  refine l_callm (n := 2) C (mmet_meet wm hn hB _ _) q232 q233 q234 q235 (by decide +kernel) rfl ⟨rfl, rfl⟩ ⟨Nat.le_of_ble_eq_true rfl, Nat.le_of_ble_eq_true rfl⟩ ⟨Nat.le_of_ble_eq_true rfl, Nat.le_of_ble_eq_true rfl⟩ rfl (Nat.le_of_ble_eq_true rfl) dL_law_254 (fun r u' hp => ?_)
  obtain ⟨er, hLI2⟩ : r1 = r ∧ LI u1 u' := law_Q2 (A1 := fun v w R pt => aMeet R pt v w r1) (A2 := fun v w R pt => aMeet R pt v w r) hn hB hLI (fun v w R pt C tt hv hw g1 g2 e1 e2 => meet_eq g1 g2 hv hw e1 e2) hp1 hp
  refine gr_icmp_eq (tgt := 311) C dL_law_257 (by decide) (fun h_q => ?_) (fun h_q => ?_)
  · exact K _ _ hLI2
  · exact absurd er h_q
set_option maxHeartbeats 4000000 in
set_option maxRecDepth 100000 in
theorem law_case6 (C : CG D (tyZ di dz) (lwW a b di dz) R_law Γ cL_law 4 ret) (wx : WD (xw a di dz)) (wm : WD (mw b di dz)) {b0 L : Nat} {sc : Nat → Int32} (hX : va_X b0 L sc (gs Γ) (gs Γ).heap) (hbl : b0 < (gs Γ).heap.size) (hbA : ¬ gA Γ b0) (hL : L ≤ 256) {i : Nat} (hi : i + 4 ≤ L) {σ : XS} {τ : MS} (hLI : LI σ τ) (K : ∀ (σ' : XS) (τ' : MS), LI σ' τ' → JG l D (lwW a b di dz) Γ room_1 4 17 317 Q (σ', τ') 311 [.ref b0, .ref (a 0), .ref (b 0), .int (nI i)] []) : JG l D (lwW a b di dz) Γ room_1 4 17 317 Q (σ, τ) 262 [.ref b0, .ref (a 0), .ref (b 0), .int (nI i)] [] := by
  obtain ⟨n, kn, rd, pr, kd, lf, rg, up, pt, wf, qu, qd, pa, pb, ch, co, tt, hn, hB, hk, rfl, rfl⟩ := id hLI
  refine g_aload_n C dL_law_262 rfl ?_
  refine l_callx (n := 0) C (met_classes wx hn hB hk) q149 q150 q151 q152 (by decide +kernel) rfl ⟨rfl, rfl⟩ ⟨Nat.le_of_ble_eq_true rfl, Nat.le_of_ble_eq_true rfl⟩ ⟨Nat.le_of_ble_eq_true rfl, Nat.le_of_ble_eq_true rfl⟩ rfl (Nat.le_of_ble_eq_true rfl) dL_law_263 (fun r1 u1 hp1 => ?_)
  refine g_aload_n C dL_law_266 rfl ?_
  refine l_callm (n := 0) C (mmet_classes wm hn hB) q236 q237 q238 q239 (by decide +kernel) rfl ⟨rfl, rfl⟩ ⟨Nat.le_of_ble_eq_true rfl, Nat.le_of_ble_eq_true rfl⟩ ⟨Nat.le_of_ble_eq_true rfl, Nat.le_of_ble_eq_true rfl⟩ rfl (Nat.le_of_ble_eq_true rfl) dL_law_267 (fun r u' hp => ?_)
  obtain ⟨er, hLI2⟩ : r1 = r ∧ LI u1 u' := law_Q0 (A1 := fun R _ => r1 = nI (cls R)) (A2 := fun R _ => r = nI (cn (mn R) 12)) hn hB (fun R pt C tt g1 g2 e1 e2 => by rw [e1, e2, cls_eq g1 g2]) hp1 hp
  refine gr_icmp_eq (tgt := 311) C dL_law_270 (by decide) (fun h_q => ?_) (fun h_q => ?_)
  · exact K _ _ hLI2
  · exact absurd er h_q
set_option maxHeartbeats 4000000 in
set_option maxRecDepth 100000 in
theorem law_case7 (C : CG D (tyZ di dz) (lwW a b di dz) R_law Γ cL_law 4 ret) (wx : WD (xw a di dz)) (wm : WD (mw b di dz)) {b0 L : Nat} {sc : Nat → Int32} (hX : va_X b0 L sc (gs Γ) (gs Γ).heap) (hbl : b0 < (gs Γ).heap.size) (hbA : ¬ gA Γ b0) (hL : L ≤ 256) {i : Nat} (hi : i + 4 ≤ L) {σ : XS} {τ : MS} (hLI : LI σ τ) (K : ∀ (σ' : XS) (τ' : MS), LI σ' τ' → JG l D (lwW a b di dz) Γ room_1 4 17 317 Q (σ', τ') 311 [.ref b0, .ref (a 0), .ref (b 0), .int (nI i)] []) : JG l D (lwW a b di dz) Γ room_1 4 17 317 Q (σ, τ) 275 [.ref b0, .ref (a 0), .ref (b 0), .int (nI i)] [] := by
  obtain ⟨n, kn, rd, pr, kd, lf, rg, up, pt, wf, qu, qd, pa, pb, ch, co, tt, hn, hB, hk, rfl, rfl⟩ := id hLI
  refine g_aload_n C dL_law_275 rfl ?_
  refine l_callx (n := 0) C (met_pointing wx hn hB hk) q153 q154 q155 q156 (by decide +kernel) rfl ⟨rfl, rfl⟩ ⟨Nat.le_of_ble_eq_true rfl, Nat.le_of_ble_eq_true rfl⟩ ⟨Nat.le_of_ble_eq_true rfl, Nat.le_of_ble_eq_true rfl⟩ rfl (Nat.le_of_ble_eq_true rfl) dL_law_276 (fun r1 u1 hp1 => ?_)
  refine g_aload_n C dL_law_279 rfl ?_
  refine l_callm (n := 0) C (mmet_pointing wm hn hB) q244 q245 q246 q247 (by decide +kernel) rfl ⟨rfl, rfl⟩ ⟨Nat.le_of_ble_eq_true rfl, Nat.le_of_ble_eq_true rfl⟩ ⟨Nat.le_of_ble_eq_true rfl, Nat.le_of_ble_eq_true rfl⟩ rfl (Nat.le_of_ble_eq_true rfl) dL_law_280 (fun r u' hp => ?_)
  obtain ⟨er, hLI2⟩ : r1 = r ∧ LI u1 u' := law_Q0 (A1 := fun R pt => r1 = nI (cn (fun w => decide (R w = w) && (pt w).isSome) 12)) (A2 := fun R pt => r = nI (cn (fun w => mn R w && (pt (R w)).isSome) 12)) hn hB (fun R pt C tt g1 g2 e1 e2 => by rw [e1, e2, pting_eq g1 g2]) hp1 hp
  refine gr_icmp_eq (tgt := 311) C dL_law_283 (by decide) (fun h_q => ?_) (fun h_q => ?_)
  · exact K _ _ hLI2
  · exact absurd er h_q
set_option maxHeartbeats 4000000 in
set_option maxRecDepth 100000 in
theorem law_case8 (C : CG D (tyZ di dz) (lwW a b di dz) R_law Γ cL_law 4 ret) (wx : WD (xw a di dz)) (wm : WD (mw b di dz)) {b0 L : Nat} {sc : Nat → Int32} (hX : va_X b0 L sc (gs Γ) (gs Γ).heap) (hbl : b0 < (gs Γ).heap.size) (hbA : ¬ gA Γ b0) (hL : L ≤ 256) {i : Nat} (hi : i + 4 ≤ L) {σ : XS} {τ : MS} (hLI : LI σ τ) (K : ∀ (σ' : XS) (τ' : MS), LI σ' τ' → JG l D (lwW a b di dz) Γ room_1 4 17 317 Q (σ', τ') 311 [.ref b0, .ref (a 0), .ref (b 0), .int (nI i)] []) : JG l D (lwW a b di dz) Γ room_1 4 17 317 Q (σ, τ) 288 [.ref b0, .ref (a 0), .ref (b 0), .int (nI i)] [] := by
  obtain ⟨n, kn, rd, pr, kd, lf, rg, up, pt, wf, qu, qd, pa, pb, ch, co, tt, hn, hB, hk, rfl, rfl⟩ := id hLI
  refine g_aload_n C dL_law_288 rfl ?_
  refine g_aload_n C dL_law_289 rfl ?_
  refine g_iload_n C dL_law_290 rfl ?_
  refine g_iconst (v := nI 1) C dL_law_291 (by decide +kernel) ?_
  refine g_iadd C dL_law_292 (nI_add _ _) ?_
  refine l_sld C hX hbl hbA (by omega) (by omega) dL_law_293 ?_
  refine l_callx (n := 1) C (met_steps wx hn hB hk _) q157 q158 q159 q160 (by decide +kernel) rfl ⟨rfl, rfl⟩ ⟨Nat.le_of_ble_eq_true rfl, Nat.le_of_ble_eq_true rfl⟩ ⟨Nat.le_of_ble_eq_true rfl, Nat.le_of_ble_eq_true rfl⟩ rfl (Nat.le_of_ble_eq_true rfl) dL_law_294 (fun r1 u1 hp1 => ?_)
  refine g_aload_n C dL_law_297 rfl ?_
  refine g_aload_n C dL_law_298 rfl ?_
  refine g_iload_n C dL_law_299 rfl ?_
  refine g_iconst (v := nI 1) C dL_law_300 (by decide +kernel) ?_
  refine g_iadd C dL_law_301 (nI_add _ _) ?_
  refine l_sld C hX hbl hbA (by omega) (by omega) dL_law_302 ?_
  refine l_callm (n := 1) C (mmet_steps wm hn hB _) q248 q249 q250 q251 (by decide +kernel) rfl ⟨rfl, rfl⟩ ⟨Nat.le_of_ble_eq_true rfl, Nat.le_of_ble_eq_true rfl⟩ ⟨Nat.le_of_ble_eq_true rfl, Nat.le_of_ble_eq_true rfl⟩ rfl (Nat.le_of_ble_eq_true rfl) dL_law_303 (fun r u' hp => ?_)
  obtain ⟨er, hLI2⟩ : r1 = r ∧ LI u1 u' := law_Q1 (A1 := fun v R pt => r1 = nI (sf R pt 12 v)) (A2 := fun v R pt => r = nI (sf R pt 12 v)) hn hB hLI (fun v R pt C tt hv g1 g2 e1 e2 => by rw [e1, e2, sf_eq g1 g2 12 v v hv hv rfl]) hp1 hp
  refine gr_icmp_eq (tgt := 311) C dL_law_306 (by decide) (fun h_q => ?_) (fun h_q => ?_)
  · exact K _ _ hLI2
  · exact absurd er h_q
theorem sub_4 {L i : Nat} (hL : L ≤ 256) (hi : i ≤ 256) (h : ¬ nI L - nI 4 < nI i) : i + 4 ≤ L := by
  rw [Int32.lt_iff_toInt_lt, pk_sub_toInt (by omega) (by omega), nI_toInt (by omega)] at h
  omega
set_option maxHeartbeats 4000000 in
set_option maxRecDepth 100000 in
theorem law_loop (C : CG D (tyZ di dz) (lwW a b di dz) R_law Γ cL_law 4 ret) (wx : WD (xw a di dz)) (wm : WD (mw b di dz)) {b0 L : Nat} {sc : Nat → Int32} (hX : va_X b0 L sc (gs Γ) (gs Γ).heap) (hbl : b0 < (gs Γ).heap.size) (hbA : ¬ gA Γ b0) (hL : L ≤ 256) (K : ∀ (u : XS × MS) (i : Nat), JG l D (lwW a b di dz) Γ room_1 4 17 317 Q u 317 [.ref b0, .ref (a 0), .ref (b 0), .int (nI i)] []) : ∀ (m i : Nat) (σ : XS) (τ : MS), L < i + m → i ≤ L → LI σ τ → JG l D (lwW a b di dz) Γ room_1 4 17 317 Q (σ, τ) 18 [.ref b0, .ref (a 0), .ref (b 0), .int (nI i)] [] := by
  intro m
  induction m with
  | zero =>
    intro i σ τ h1 h2
    omega
  | succ m ih =>
    intro i σ τ hm hi hLI
    refine g_iload_n C dL_law_18 rfl ?_
    refine g_aload_n C dL_law_19 rfl ?_
    refine l_slen C hX hbl hbA dL_law_20 ?_
    refine g_iconst (v := nI 4) C dL_law_21 (by decide +kernel) ?_
    refine g_isub C dL_law_22 rfl ?_
    refine gr_icmp_gt (tgt := 317) C dL_law_23 (by decide) (fun h_23 => ?_) (fun h_23 => ?_)
    · exact K _ i
    · have h4 := sub_4 hL (by omega) h_23
      have back : ∀ (σ' : XS) (τ' : MS), LI σ' τ' → JG l D (lwW a b di dz) Γ room_1 4 17 317 Q (σ', τ') 311 [.ref b0, .ref (a 0), .ref (b 0), .int (nI i)] [] := fun σ' τ' h => by
        refine g_inc3 C dL_law_311 rfl (by decide) (inc_4 _) ?_
        refine g_goto (tgt := 18) C dL_law_314 (by decide) ?_
        exact ih (i + 4) σ' τ' (by omega) (by omega) h
      refine g_aload_n C dL_law_26 rfl ?_
      refine g_iload_n C dL_law_27 rfl ?_
      refine l_sld C hX hbl hbA (by omega) (by omega) dL_law_28 ?_
      refine g_bipush (v := nI 15) C dL_law_29 (by decide +kernel) ?_
      refine g_iand C dL_law_31 rfl ?_
      obtain ⟨j, hj, ej⟩ := pk_andE (sc i) (m := nI 15) 4 (by decide +kernel)
      rw [ej]
      match j, hj with
      | 0, _ => exact l_tin (tgt := 84) C dL_law_32 (by decide +kernel) (by decide +kernel) rfl (by decide) (law_case0 C wx wm hX hbl hbA hL h4 hLI back)
      | 1, _ => exact l_tin (tgt := 127) C dL_law_32 (by decide +kernel) (by decide +kernel) rfl (by decide) (law_case1 C wx wm hX hbl hbA hL h4 hLI back)
      | 2, _ => exact l_tin (tgt := 150) C dL_law_32 (by decide +kernel) (by decide +kernel) rfl (by decide) (law_case2 C wx wm hX hbl hbA hL h4 hLI back)
      | 3, _ => exact l_tin (tgt := 183) C dL_law_32 (by decide +kernel) (by decide +kernel) rfl (by decide) (law_case3 C wx wm hX hbl hbA hL h4 hLI back)
      | 4, _ => exact l_tin (tgt := 206) C dL_law_32 (by decide +kernel) (by decide +kernel) rfl (by decide) (law_case4 C wx wm hX hbl hbA hL h4 hLI back)
      | 5, _ => exact l_tin (tgt := 229) C dL_law_32 (by decide +kernel) (by decide +kernel) rfl (by decide) (law_case5 C wx wm hX hbl hbA hL h4 hLI back)
      | 6, _ => exact l_tin (tgt := 262) C dL_law_32 (by decide +kernel) (by decide +kernel) rfl (by decide) (law_case6 C wx wm hX hbl hbA hL h4 hLI back)
      | 7, _ => exact l_tin (tgt := 275) C dL_law_32 (by decide +kernel) (by decide +kernel) rfl (by decide) (law_case7 C wx wm hX hbl hbA hL h4 hLI back)
      | 8, _ => exact l_tin (tgt := 288) C dL_law_32 (by decide +kernel) (by decide +kernel) rfl (by decide) (law_case8 C wx wm hX hbl hbA hL h4 hLI back)
      | 9, _ => exact l_tout (tgt := 311) C dL_law_32 (by decide +kernel) (by decide) (back _ _ hLI)
      | 10, _ => exact l_tout (tgt := 311) C dL_law_32 (by decide +kernel) (by decide) (back _ _ hLI)
      | 11, _ => exact l_tout (tgt := 311) C dL_law_32 (by decide +kernel) (by decide) (back _ _ hLI)
      | 12, _ => exact l_tout (tgt := 311) C dL_law_32 (by decide +kernel) (by decide) (back _ _ hLI)
      | 13, _ => exact l_tout (tgt := 311) C dL_law_32 (by decide +kernel) (by decide) (back _ _ hLI)
      | 14, _ => exact l_tout (tgt := 311) C dL_law_32 (by decide +kernel) (by decide) (back _ _ hLI)
      | 15, _ => exact l_tout (tgt := 311) C dL_law_32 (by decide +kernel) (by decide) (back _ _ hLI)
      | j + 16, hj => omega
end LC
end
section
/-! THE CLAIM -/
set_option maxRecDepth 100000
theorem xf0_ok : ∀ j, j < 14 → defaultValue (tyX0 j) = vp_V xf0 j := by
  intro j hj
  match j, hj with
  | 0, _ => show Value.int 0 = Value.int (nI 0); rw [nI_0]
  | 1, _ => rfl
  | 2, _ => rfl
  | 3, _ => rfl
  | 4, _ => show Value.int 0 = Value.int (nI 0); rw [nI_0]
  | 5, _ => rfl
  | 6, _ => rfl
  | 7, _ => rfl
  | 8, _ => show Value.int 0 = Value.int (nI 0); rw [nI_0]
  | 9, _ => rfl
  | 10, _ => rfl
  | 11, _ => show Value.int 0 = Value.int (nI 0); rw [nI_0]
  | 12, _ => rfl
  | 13, _ => rfl
  | j + 14, hj => omega
theorem mf0_ok : ∀ j, j < 7 → defaultValue (tyX1 j) = vp_V mf0 j := by
  intro j hj
  match j, hj with
  | 0, _ => show Value.int 0 = Value.int (nI 0); rw [nI_0]
  | 1, _ => rfl
  | 2, _ => rfl
  | 3, _ => rfl
  | 4, _ => rfl
  | 5, _ => rfl
  | 6, _ => show Value.int 0 = Value.int (nI 0); rw [nI_0]
  | j + 7, hj => omega
set_option maxHeartbeats 4000000 in
set_option maxRecDepth 100000 in
theorem whole_start {p : Program} {e : Env} {s : State} {m : MethodId} {below : List Frame} {meth : Method} {c : Code} (l : Launch) {b L : Nat} {xs : Nat → Int32} (hL : L ≤ 256) (C0 : lw_At p s m meth c b L xs) : W p l e room_1 s m #[Value.ref b] below meth c s.heap [] 0 0 (lw_Z below #[Value.ref b] s) (entryFrame m ([Value.ref b] : List Value).toArray 4) := by
  obtain ⟨hx, hb, hr, hml, hown, hts0, hX, hbl, hlocks, hgv⟩ := id C0
  have hts : ∀ w ∈ lw_all, w.before #[Value.ref b] s = true := fun w h => hts0 w (lw_all_tbl h)
  have hA : ∀ q : Nat, s.heap.size ≤ q → (fun q : Nat => s.heap.size ≤ q) q := fun _ h => h
  have hbA : ¬ (fun q : Nat => s.heap.size ≤ q) b := Nat.not_le.mpr hbl
  obtain ⟨c0, iS0, hKn0⟩ := u_known (C := RX0) (T := TX0) (N := 14) (n := 14) hts0 (fun w h => lw_all_tbl (in_X0 w h)) (hts _ q22)
  obtain ⟨c1, iS1, hKn1⟩ := u_known (C := RX1) (T := TX1) (N := 7) (n := 7) hts0 (fun w h => lw_all_tbl (in_X1 w h)) (hts _ q162)
  obtain ⟨D, hKc⟩ : ∃ D : va_G, ∀ (k : Nat) (q : vw_C), vwCl[k]? = some q → u_Kn s q.1 q.2.1 q.2.2 (D.1 k) (D.2 k) := by
    refine ⟨(fun k => if k = 0 then c0 else c1, fun k => if k = 0 then iS0 else iS1), ?_⟩
    intro k q hq
    match k, hq with
    | 0, hq => cases hq; exact hKn0
    | 1, hq => cases hq; exact hKn1
    | k + 2, hq => simp [vwCl] at hq
  obtain ⟨di, hd1, hd2⟩ := arr_known (hts _ q72)
  obtain ⟨dz, hz1, hz2⟩ := arr_known (hts _ q73)
  have hK : va_K D vwCl (tyZ di dz) s := by
    refine ⟨hKc, fun k q h => ?_⟩
    match k, h with
    | 0, h => cases h; exact ⟨hd1, hd2⟩
    | 1, h => cases h; exact ⟨hz1, hz2⟩
    | k + 2, h => simp [tyZ] at h
  have hS : va_S (fun q : Nat => s.heap.size ≤ q) s.heap s.heap [] := va_S.rf
  have hP : va_P D vwCl [] s.heap := fun k q h => by simp at h
  have hD : va_D (fun q : Nat => s.heap.size ≤ q) [] := ⟨fun i j p q h => by simp at h, fun k q h => by simp at h⟩
  have hl := lv_entry ([.ref b]) (n := 4) (Nat.le_of_ble_eq_true rfl)
  rw [lg_entry_eq]
  generalize (lg_sl ([.ref b]) ++ List.replicate (4 - (lg_sl ([.ref b])).length) Slot.unset).toArray = ls at hl ⊢
  have hl : lv_has ls 4 [(0, .ref b)] := hl
  refine va_new (ci := 0) (fs := xf0) (C := RX0) (T := TX0) (N := 14) hx hb hts in_X0 tyX0 tyX0_ok hown (hts _ q21) (hts _ q22) (hts _ q19) hK hP hD hS hA rfl xf0_ok (Nat.le_of_ble_eq_true rfl) (Nat.le_of_ble_eq_true rfl) dL_law_0 (fun q0 H hP hD hS => ?_)
  have hP : va_P D vwCl [(q0, .inr (0, xf0))] H := hP
  have hD : va_D (fun q : Nat => s.heap.size ≤ q) [(q0, .inr (0, xf0))] := hD
  refine W.widen (k := 1) (n := 14) (by omega) (by omega) ?_
  refine lv_dup hx hb dL_law_3 rfl ?_
  have hFc := va_free (wc := [(q0, .inr (0, xf0))]) hD hS hA [0] rfl
  refine va_callv (va_runI (As := []) (rest := [.ref q0]) ⟨hx, hb, hml, hown, hts⟩ (xmet_init l D di dz q0 H.size) (cwI 0 hts (lw_meth q25) rfl rfl rfl (hts _ q19) (hts _ q23) (hts _ q24) rfl (by decide +kernel) ⟨Nat.le_of_ble_eq_true rfl, Nat.le_of_ble_eq_true rfl⟩) ⟨fun a U g mk q => by obtain ⟨q0, q1, qP, qK⟩ := q; exact ⟨q0, q1, qP, va_K.moved (u := U) (U := U.calling g mk a) (Vm.Alike.refl U.vm) qK⟩, fun U hU hW => ⟨rfl, by rw [hU], by rw [hU]; exact hP, va_K.moved hW.alike hK⟩⟩ rfl rfl hl.1 rfl (lv_room (Nat.le_of_ble_eq_true rfl)) dL_law_4 ⟨Nat.le_of_ble_eq_true rfl, Nat.le_of_ble_eq_true rfl⟩) hS (fun q _ h => hFc q h) hFc (fun a t H1 locs ht hvm _ hB hz1 hk1 hS => ?_)
  obtain ⟨ha0, hP1, hD1⟩ := hB
  rw [ht] at hP1
  subst ha0
  have hD : va_D (fun q : Nat => s.heap.size ≤ q) (xw a di dz x0) := hD1.weaken (fun k q _ h => hFc q.1 h)
  clear hk1 hFc hD1 hP
  have hP := hP1
  generalize H1 = H at hP hS ⊢
  refine W.widen (k := 11) (n := 214) (by omega) (by omega) ?_
  refine lv_astore_n (lv' := [(1, .ref (a 0)), (0, .ref b)]) hx hb dL_law_7 rfl hl (by decide) rfl (fun ls hl => ?_)
  refine va_new (ci := 1) (fs := mf0) (C := RX1) (T := TX1) (N := 7) hx hb hts in_X1 tyX1 tyX1_ok hown (hts _ q161) (hts _ q162) (hts _ q20) hK hP hD hS hA rfl mf0_ok (Nat.le_of_ble_eq_true rfl) (Nat.le_of_ble_eq_true rfl) dL_law_8 (fun q1 H hP hD hS => ?_)
  refine W.widen (k := 12) (n := 221) (by omega) (by omega) ?_
  refine lv_dup hx hb dL_law_11 rfl ?_
  have hPc : va_P D vwCl [(q1, .inr (1, mf0))] H := hP.sub (ws' := [(q1, .inr (1, mf0))]) [11] rfl
  have hFc := va_free (wc := [(q1, .inr (1, mf0))]) hD hS hA [11] rfl
  refine va_callv (va_runI (As := []) (rest := [.ref q1]) ⟨hx, hb, hml, hown, hts⟩ (mmet_init l D di dz q1 H.size) (cwI 0 hts (lw_meth q165) rfl rfl rfl (hts _ q20) (hts _ q163) (hts _ q164) rfl (by decide +kernel) ⟨Nat.le_of_ble_eq_true rfl, Nat.le_of_ble_eq_true rfl⟩) ⟨fun a U g mk q => by obtain ⟨q0, q1, qP, qK⟩ := q; exact ⟨q0, q1, qP, va_K.moved (u := U) (U := U.calling g mk a) (Vm.Alike.refl U.vm) qK⟩, fun U hU hW => ⟨rfl, by rw [hU], by rw [hU]; exact hPc, va_K.moved hW.alike hK⟩⟩ rfl rfl hl.1 rfl (lv_room (Nat.le_of_ble_eq_true rfl)) dL_law_12 ⟨Nat.le_of_ble_eq_true rfl, Nat.le_of_ble_eq_true rfl⟩) hS (fun q _ h => hFc q h) hFc (fun a2 t H1 locs ht hvm _ hB hz1 hk1 hS => ?_)
  obtain ⟨ha0, hP1, hD1⟩ := hB
  rw [ht] at hP1
  obtain ⟨hP2, hD2⟩ := va_join (wr := xw a di dz x0) (w1 := mw a2 di dz m0) hP hD [11] [0, 1, 2, 3, 4, 5, 6, 7, 8, 9, 10] rfl rfl (by decide) (by decide) hk1 hFc hP1 hD1
  subst ha0
  have hD : va_D (fun q : Nat => s.heap.size ≤ q) (lwW a a2 di dz (x0, m0)) := hD2
  have hP : va_P D vwCl (lwW a a2 di dz (x0, m0)) H1 := hP2
  refine W.widen (k := 17) (n := 317) (by omega) (by omega) ?_
  refine lv_astore_n (lv' := [(2, .ref (a2 0)), (1, .ref (a 0)), (0, .ref b)]) hx hb dL_law_15 rfl hl (by decide) rfl (fun ls hl => ?_)
  refine lv_iconst (v := nI 0) hx hb dL_law_16 (by decide +kernel) ?_
  refine lv_istore_n (lv' := [(3, .int (nI 0)), (2, .ref (a2 0)), (1, .ref (a 0)), (0, .ref b)]) hx hb dL_law_17 rfl hl (by decide) rfl (fun ls hl => ?_)
  have hl : lv_has ls 4 (ix 0 [.ref b, .ref (a 0), .ref (a2 0), .int (nI 0)]) := lv_sub hl [3, 2, 1, 0] rfl
  have hC : CG D (tyZ di dz) (lwW a a2 di dz) R_law (p, e, s, m, #[Value.ref b], below, meth, c, fun q : Nat => s.heap.size ≤ q) cL_law 4 ret := ⟨hx, hb, hr, hml, hown, hlocks, hts, hK, hA, lwW_D hD⟩
  refine law_loop (l := l) (Q := lw_Z below #[Value.ref b] s) hC (lwW_x hD) (lwW_m hD) hX hbl hbA hL (fun u i H locs ls hP hS hl => ?_) (L + 1) 0 x0 m0 (by omega) (by omega) ⟨0, false, 0, 0, _, _, _, _, _, _, _, _, _, _, false, _, _, by omega, fun k => ⟨by decide, by decide, by decide⟩, fun q => (by cases q), rfl, rfl⟩ H1 locs ls hP hS hl
  refine lv_iconst (v := 1) hx hb dL_law_317 (by decide) ?_
  refine va_forget (fun q hq => hS.2.2 q hq) ?_
  refine W.widen (k := 600000) (n := 7290000) (by decide) (by decide) ?_
  exact lw_ret hx hb hr hlocks dL_law_318
set_option maxHeartbeats 4000000 in
theorem lw_walk (l : Launch) (b : Addr) (xs : List Int32) : MetFree l x (headSpec (Jvm.Cond.code x code maxLocals ret :: tables_1) room_1) (lw_P b xs) (fun _ _ _ _ _ => True) lw_Q := by
  refine MetFree.of_bodyS (code := code) (maxLocals := maxLocals) (ret := ret) (by decide) ?_ ?_
  · intro args s m h hn
    obtain ⟨meth, c, h1, h2, h3, h4, h5, h6, -, -⟩ := Cond.code_spec hn (atoms_spec (ws := Jvm.Cond.code x code maxLocals ret :: tables_1) h _ List.mem_cons_self)
    exact ⟨meth, c, h1, h2, h3, h4, h5, h6⟩
  · intro p e s m args below meth c s₁ B hml0 hP _
    obtain ⟨rfl, hx, hbd, hgv⟩ := hP
    obtain ⟨scr, harrAt, hlist, hof, hsmall⟩ := hx
    obtain ⟨hcb, hkn, -, -⟩ := State.arrayAt?_spec harrAt
    have hown : s.vm.findClass R_law = some m.cls := findClass_of_methodNamed B.named
    have hts0 : ∀ c ∈ (Jvm.Cond.code x code maxLocals ret :: tables_1), c.before #[Value.ref b] s = true := atoms_spec (ws := Jvm.Cond.code x code maxLocals ret :: tables_1) B.pre
    have hts : ∀ w ∈ lw_tbl, w.before #[Value.ref b] s = true := k2_hts_sels lw_privs (fun w hw => hts0 w (List.mem_cons_of_mem _ hw)) lw_privs_ok
    have hml : c.maxLocals = 4 := B.maxLocals_eq (hts0 _ List.mem_cons_self)
    have X₀ : Stand p l e room_1 s m #[Value.ref b] below meth c s₁ [] 0 0 := Stand.of_body B
    have hh0 : s₁.heap = s.heap := by rw [B.state]; rfl
    have hsz : scr.slots.size = xs.length := by rw [← Array.length_toList, hlist, List.length_map]
    have hval : ∀ j : Nat, j < xs.length → scr.slots[j]? = some (.int (xs.getD j 0)) := fun j hj => by
      rw [← Array.getElem?_toList, hlist]
      simp [hj]
    have hbl : b < s.heap.size := (Array.getElem?_eq_some_iff.mp hcb).1
    have hX : va_X b xs.length (fun j => xs.getD j 0) s s.heap := ⟨scr, hcb, hof, hkn, hsz, hval⟩
    have K : W p l e room_1 s m #[Value.ref b] below meth c s₁.heap [] 0 0 (lw_Z below #[Value.ref b] s) (entryFrame m ([Value.ref b] : List Value).toArray 4) := by
      rw [hh0]
      exact whole_start l hbd ⟨B.exec, B.bytes, B.returns, hml, hown, hts, hX, hbl, B.notSynchronized, hgv⟩
    obtain ⟨t, a1, o, b1, b2, b3⟩ := K s₁ rfl X₀
    exact ⟨t, o, a1, b1, b2, b3⟩
theorem lw_pre_spec {args : Array Value} {s : State} (h : (Jvm.Cond.and given_1 narrow_1).before args s = true) (hr : rest_1_c.before args s = true) : ∃ (b : Addr) (xs : List Int32), lw_P b xs args s := by
  have hs := flat_of_before _ h
  have hq := flat_of_before _ hr
  have hc : (Cond.count 1).before args s = true := hs _ (by decide +kernel)
  have harr : (Cond.arrayOf (.arg 0) .int).before args s = true := hs _ (by decide +kernel)
  have hle : (Cond.le (.length (.arg 0)) (.int 256)).before args s = true := hs _ (by decide +kernel)
  have hlen : (Cond.isInt (.length (.arg 0))).before args s = true := hq _ (by decide +kernel)
  have hall : (Cond.all (.arg 0) (.isInt (.elem (.arg 0) (.index 0)))).before args s = true := hq _ (by decide +kernel)
  obtain ⟨b, xs, hb, hx⟩ := State.ints_of_pre rfl harr hlen hall
  have hsm : xs.length < 2 ^ 31 := hx.choose_spec.2.2.2
  have hev : (Term.length (.arg 0)).eval args s none [] s = some (.int xs.length.toInt32) := hx.length_eval hb
  have hv := Cond.le_ints hev (show (Term.int 256).eval args s none [] s = some (.int 256) from rfl)
  have hd : xs.length.toInt32 ≤ 256 := by
    simpa [Cond.before, Cond.holds, hv] using hle
  have hN : xs.length ≤ 256 := (Int32.ofNat_le_ofNat hsm (by decide)).mp (show Int32.ofNat xs.length ≤ Int32.ofNat 256 from hd)
  exact ⟨b, xs, Cond.one_arg hc (show args[0]? = some (.ref b) from hb), hx, hN, h⟩
theorem lw_comes (l : Launch) : Comes l x (Jvm.Cond.code x code maxLocals ret :: tables_1) room_1 (fun tb e args s => Calls_1 tb e args s ∧ rest_1 tb e args s ∧ Pre_1 tb e args s)
    (fun _ _ args s o t => lw_Q args s o t) := by
  intro p e ha hc hk s m args below hf hfit hheap happ hpre
  obtain ⟨b, xs, hP⟩ := lw_pre_spec hpre.2.2 hpre.2.1
  obtain ⟨k, o, h1, h2, h3, hQ⟩ := lw_walk l b xs p e ha hc hk s m args below hf ((Spec.applies_iff_loose hf).mp happ).1 hP trivial
  exact ⟨k, o, h1, h2, h3, hQ⟩
theorem lw_frame {s t : State} {o : Outcome} {args : Array Value} (h : Framed s o t [] 600000 7290000) :
    Framed s o t (fieldLocs frame_1_writes args s ++ arrayLocs frame_1_arrays args s ++ staticLocs frame_1_statics s) 600000 7290000 := h
theorem lw_limb (L : Cond) (hL : ∀ (args : Array Value) (s t : State), L.after args s (.returned (some (.int 1))) t = true) :
    ArmFor flags0 classFile x code maxLocals ret World_1 tables_1 room_1 Calls_1 rest_1 Pre_1
      (fun tb e a s o t => postC L tb e a s o t ∧ Framed s o t (fieldLocs frame_1_writes a s ++ arrayLocs frame_1_arrays a s ++ staticLocs frame_1_statics s) 600000 7290000) := by
  intro l _ _ _ p e ha hc hk s m args below hf hfit hheap happ hpre
  obtain ⟨k, o, h1, h2, h3, rfl, hF⟩ := lw_comes l p e ha hc hk s m args below hf hfit hheap happ hpre
  exact ⟨k, _, h1, h2, h3, hL args s _, lw_frame hF⟩
theorem i_vc : Claimed_1_1 ∧ Claimed_1_2 := ⟨lw_limb limb_1_1 (fun args s t => by simp [limb_1_1, Cond.after, Cond.holds, Cond.value]), lw_limb limb_1_2 (fun args s t => Cond.after_iff.mpr (by
  first | (rw [show limb_1_2 = Cond.eq .result (.int 1) from rfl, Cond.eq_ints (x := 1) (y := 1) rfl rfl]; simp; done) | (simp [limb_1_2, Cond.value, Term.eval]; done)))⟩
end
