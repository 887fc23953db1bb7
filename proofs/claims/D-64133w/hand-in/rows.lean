section
-- ===== PART A: goes FIRST, ahead of the names: the tables' words, and 'selects' of the private methods out of them =====
/-- a private method of a class that the tables say can be made, by its rows of tables_1 -/
def lw_okq (q : MethodName × Nat) : Prop := (q.1.cls ≠ "java/lang/invoke/MethodHandle" ∧ q.1.cls ≠ "java/lang/invoke/VarHandle") ∧ Cond.instantiable q.1.cls q.2 ∈ tables_1 ∧ Cond.privateMethod q.1 ∈ tables_1 ∧ Cond.instanceMethod q.1 ∈ tables_1
set_option maxRecDepth 100000
theorem lw_p0 : lw_okq (⟨"CharacterDesk", "read", "(I)I"⟩, 6) := ⟨⟨by decide +kernel, by decide +kernel⟩, List.mem_of_getElem? (i := 4) rfl, List.mem_of_getElem? (i := 37) rfl, List.mem_of_getElem? (i := 38) rfl⟩
theorem lw_p1 : lw_okq (⟨"CharacterDesk", "wantParts", "()V"⟩, 6) := ⟨⟨by decide +kernel, by decide +kernel⟩, List.mem_of_getElem? (i := 4) rfl, List.mem_of_getElem? (i := 54) rfl, List.mem_of_getElem? (i := 55) rfl⟩
theorem lw_p2 : lw_okq (⟨"CharacterDesk", "marks", "()I"⟩, 6) := ⟨⟨by decide +kernel, by decide +kernel⟩, List.mem_of_getElem? (i := 4) rfl, List.mem_of_getElem? (i := 58) rfl, List.mem_of_getElem? (i := 59) rfl⟩
theorem lw_p3 : lw_okq (⟨"CharacterDesk", "strip", "(I)I"⟩, 6) := ⟨⟨by decide +kernel, by decide +kernel⟩, List.mem_of_getElem? (i := 4) rfl, List.mem_of_getElem? (i := 62) rfl, List.mem_of_getElem? (i := 63) rfl⟩
theorem lw_p4 : lw_okq (⟨"CharacterDesk", "move", "(II)V"⟩, 6) := ⟨⟨by decide +kernel, by decide +kernel⟩, List.mem_of_getElem? (i := 4) rfl, List.mem_of_getElem? (i := 66) rfl, List.mem_of_getElem? (i := 67) rfl⟩
theorem lw_p5 : lw_okq (⟨"CharacterDesk", "wantOnes", "(I)V"⟩, 6) := ⟨⟨by decide +kernel, by decide +kernel⟩, List.mem_of_getElem? (i := 4) rfl, List.mem_of_getElem? (i := 78) rfl, List.mem_of_getElem? (i := 79) rfl⟩
theorem lw_p6 : lw_okq (⟨"CharacterDeskModel", "sumOf", "(I)I"⟩, 3) := ⟨⟨by decide +kernel, by decide +kernel⟩, List.mem_of_getElem? (i := 118) rfl, List.mem_of_getElem? (i := 138) rfl, List.mem_of_getElem? (i := 139) rfl⟩
theorem lw_p7 : lw_okq (⟨"CharacterDeskModel", "part", "(II)I"⟩, 3) := ⟨⟨by decide +kernel, by decide +kernel⟩, List.mem_of_getElem? (i := 118) rfl, List.mem_of_getElem? (i := 142) rfl, List.mem_of_getElem? (i := 143) rfl⟩
theorem lw_p8 : lw_okq (⟨"CharacterDeskModel", "cycles", "(I)V"⟩, 3) := ⟨⟨by decide +kernel, by decide +kernel⟩, List.mem_of_getElem? (i := 118) rfl, List.mem_of_getElem? (i := 159) rfl, List.mem_of_getElem? (i := 160) rfl⟩
theorem lw_p9 : lw_okq (⟨"CharacterDeskModel", "begin", "()V"⟩, 3) := ⟨⟨by decide +kernel, by decide +kernel⟩, List.mem_of_getElem? (i := 118) rfl, List.mem_of_getElem? (i := 163) rfl, List.mem_of_getElem? (i := 164) rfl⟩
theorem lw_p10 : lw_okq (⟨"CharacterDeskModel", "times", "(IIIII)V"⟩, 3) := ⟨⟨by decide +kernel, by decide +kernel⟩, List.mem_of_getElem? (i := 118) rfl, List.mem_of_getElem? (i := 167) rfl, List.mem_of_getElem? (i := 168) rfl⟩
theorem lw_p11 : lw_okq (⟨"CharacterDeskModel", "put", "(II)V"⟩, 3) := ⟨⟨by decide +kernel, by decide +kernel⟩, List.mem_of_getElem? (i := 118) rfl, List.mem_of_getElem? (i := 171) rfl, List.mem_of_getElem? (i := 172) rfl⟩
theorem lw_p12 : lw_okq (⟨"CharacterDeskModel", "coefficient", "(I)I"⟩, 3) := ⟨⟨by decide +kernel, by decide +kernel⟩, List.mem_of_getElem? (i := 118) rfl, List.mem_of_getElem? (i := 175) rfl, List.mem_of_getElem? (i := 176) rfl⟩
theorem lw_p13 : lw_okq (⟨"CharacterDeskModel", "ones", "(I)V"⟩, 3) := ⟨⟨by decide +kernel, by decide +kernel⟩, List.mem_of_getElem? (i := 118) rfl, List.mem_of_getElem? (i := 184) rfl, List.mem_of_getElem? (i := 185) rfl⟩
def lw_privs_1 : List (MethodName × Nat) := [(⟨"CharacterDesk", "read", "(I)I"⟩, 6), (⟨"CharacterDesk", "wantParts", "()V"⟩, 6), (⟨"CharacterDesk", "marks", "()I"⟩, 6), (⟨"CharacterDesk", "strip", "(I)I"⟩, 6), (⟨"CharacterDesk", "move", "(II)V"⟩, 6), (⟨"CharacterDesk", "wantOnes", "(I)V"⟩, 6), (⟨"CharacterDeskModel", "sumOf", "(I)I"⟩, 3), (⟨"CharacterDeskModel", "part", "(II)I"⟩, 3), (⟨"CharacterDeskModel", "cycles", "(I)V"⟩, 3), (⟨"CharacterDeskModel", "begin", "()V"⟩, 3), (⟨"CharacterDeskModel", "times", "(IIIII)V"⟩, 3), (⟨"CharacterDeskModel", "put", "(II)V"⟩, 3), (⟨"CharacterDeskModel", "coefficient", "(I)I"⟩, 3), (⟨"CharacterDeskModel", "ones", "(I)V"⟩, 3)]
theorem lw_r1 : ∀ q ∈ lw_privs_1, lw_okq q := List.forall_mem_cons.mpr ⟨lw_p0, List.forall_mem_cons.mpr ⟨lw_p1, List.forall_mem_cons.mpr ⟨lw_p2, List.forall_mem_cons.mpr ⟨lw_p3, List.forall_mem_cons.mpr ⟨lw_p4, List.forall_mem_cons.mpr ⟨lw_p5, List.forall_mem_cons.mpr ⟨lw_p6, List.forall_mem_cons.mpr ⟨lw_p7, List.forall_mem_cons.mpr ⟨lw_p8, List.forall_mem_cons.mpr ⟨lw_p9, List.forall_mem_cons.mpr ⟨lw_p10, List.forall_mem_cons.mpr ⟨lw_p11, List.forall_mem_cons.mpr ⟨lw_p12, List.forall_mem_cons.mpr ⟨lw_p13, fun _ h => absurd h List.not_mem_nil⟩⟩⟩⟩⟩⟩⟩⟩⟩⟩⟩⟩⟩⟩
def lw_privs : List (MethodName × Nat) := lw_privs_1
def lw_tbl : List Cond := k2_sels lw_privs ++ tables_1
theorem lw_privs_ok : ∀ q ∈ lw_privs, lw_okq q := lw_r1
-- ===== ONE list of words for every method: the tables' words that hold all through a run =====
def lw_all : List Cond := lw_tbl.filter goodWord
/-- a word of the tables by its place: claim/WORDS.tsv -/
theorem lw_w {w : Cond} (i : Nat) (h : lw_tbl[i]? = some w) (g : goodWord w = true) : w ∈ lw_all := List.mem_filter.mpr ⟨List.mem_of_getElem? h, g⟩
theorem lw_all_tbl {w : Cond} (h : w ∈ lw_all) : w ∈ lw_tbl := (List.mem_filter.mp h).1
theorem lw_self : GoodIn lw_all lw_all := fun w h => ⟨h, good_of_word (List.mem_filter.mp h).2⟩
/-- a class's field words, by their places -/
theorem lw_in (ws : List Cond) (ps : List Nat) (hp : ws = ps.filterMap (fun i => lw_tbl[i]?)) (hg : ws.all goodWord = true) : ∀ w ∈ ws, w ∈ lw_all := by
  intro w h
  have h1 := List.all_eq_true.mp hg w h
  rw [hp] at h
  obtain ⟨i, -, hi⟩ := List.mem_filterMap.mp h
  exact lw_w i hi h1
/-- the words of a contract for the method y with code b, L locals, answer r -/
abbrev ws_ (y : MethodName) (b : ByteArray) (L : Nat) (r : Option FieldType) : List Cond := Cond.code y b L r :: lw_all
theorem lw_meth {y : MethodName} {b : ByteArray} {L : Nat} {r : Option FieldType} (h : Cond.code y b L r ∈ lw_all) : GoodIn lw_all (ws_ y b L r) := by
  intro w hw
  rcases List.mem_cons.mp hw with e | e
  · rw [e]
    exact lw_self _ h
  · exact lw_self _ e
theorem lw_app {a c : List Cond} (ha : ∀ w ∈ a, w ∈ lw_all) (hc : GoodIn lw_all c) : GoodIn lw_all (a ++ c) := by
  intro w hw
  rcases List.mem_append.mp hw with e | e
  · exact lw_self w (ha w e)
  · exact hc w e
/-- what a call through an object asks: cwV n hts (lw_V ..) -/
theorem lw_V {own : String} {idx : Nat} {C : String} {y : MethodName} {b : ByteArray} {L : Nat} {r : Option FieldType} (h1 : Cond.methodLink own idx y ∈ lw_all) (h2 : Cond.instanceMethod y ∈ lw_all) (h3 : Cond.selects C y y ∈ lw_all) (h4 : Cond.initialized C ∈ lw_all) (h5 : Cond.code y b L r ∈ lw_all) : GoodIn lw_all (wsV own idx C y (ws_ y b L r)) := by
  refine lw_app ?_ (lw_meth h5)
  intro w hw
  simp only [List.mem_cons, List.not_mem_nil, or_false] at hw
  rcases hw with e | e | e | e
  · rw [e]; exact h1
  · rw [e]; exact h2
  · rw [e]; exact h3
  · rw [e]; exact h4
/-- what a static call asks: va_cwS n hts (lw_S ..) -/
theorem lw_S {own : String} {idx : Nat} {y : MethodName} {b : ByteArray} {L : Nat} {r : Option FieldType} (h1 : Cond.methodLink own idx y ∈ lw_all) (h2 : Cond.static y ∈ lw_all) (h3 : Cond.initialized y.cls ∈ lw_all) (h4 : Cond.code y b L r ∈ lw_all) : GoodIn lw_all (va_wsS own idx y (ws_ y b L r)) := by
  refine lw_app ?_ (lw_meth h4)
  intro w hw
  simp only [List.mem_cons, List.not_mem_nil, or_false] at hw
  rcases hw with e | e | e
  · rw [e]; exact h1
  · rw [e]; exact h2
  · rw [e]; exact h3
/-- the words of a contract for a method WITH HANDLERS (hh: its table) -/
abbrev wsW_ (y : MethodName) (b : ByteArray) (L : Nat) (r : Option FieldType) (hh : List (Nat × Nat × Nat × Nat)) : List Cond := Cond.codeWith y b L r hh :: lw_all
theorem lw_methW {y : MethodName} {b : ByteArray} {L : Nat} {r : Option FieldType} {hh : List (Nat × Nat × Nat × Nat)} (h : Cond.codeWith y b L r hh ∈ lw_all) : GoodIn lw_all (wsW_ y b L r hh) := by
  intro w hw
  rcases List.mem_cons.mp hw with e | e
  · rw [e]
    exact lw_self _ h
  · exact lw_self _ e
/-- any list of words by their places (lw_in), good -/
theorem lw_good {ws : List Cond} (h : ∀ w ∈ ws, w ∈ lw_all) : GoodIn lw_all ws := fun w hw => lw_self w (h w hw)
/-- what a call of a method with handlers asks: vx_cwVW n hts (lw_VW ..), vx_cwSW n hts (lw_SW ..) -/
theorem lw_VW {own : String} {idx : Nat} {C : String} {y : MethodName} {b : ByteArray} {L : Nat} {r : Option FieldType} {hh : List (Nat × Nat × Nat × Nat)} (h1 : Cond.methodLink own idx y ∈ lw_all) (h2 : Cond.instanceMethod y ∈ lw_all) (h3 : Cond.selects C y y ∈ lw_all) (h4 : Cond.initialized C ∈ lw_all) (h5 : Cond.codeWith y b L r hh ∈ lw_all) : GoodIn lw_all (wsV own idx C y (wsW_ y b L r hh)) := by
  refine lw_app ?_ (lw_methW h5)
  intro w hw
  simp only [List.mem_cons, List.not_mem_nil, or_false] at hw
  rcases hw with e | e | e | e
  · rw [e]; exact h1
  · rw [e]; exact h2
  · rw [e]; exact h3
  · rw [e]; exact h4
theorem lw_SW {own : String} {idx : Nat} {y : MethodName} {b : ByteArray} {L : Nat} {r : Option FieldType} {hh : List (Nat × Nat × Nat × Nat)} (h1 : Cond.methodLink own idx y ∈ lw_all) (h2 : Cond.static y ∈ lw_all) (h3 : Cond.initialized y.cls ∈ lw_all) (h4 : Cond.codeWith y b L r hh ∈ lw_all) : GoodIn lw_all (va_wsS own idx y (wsW_ y b L r hh)) := by
  refine lw_app ?_ (lw_methW h4)
  intro w hw
  simp only [List.mem_cons, List.not_mem_nil, or_false] at hw
  rcases hw with e | e | e
  · rw [e]; exact h1
  · rw [e]; exact h2
  · rw [e]; exact h3
/-- a word by its place in its run of the tables -/
theorem lw_at {r : List Cond} (hr : ∀ w ∈ r, w ∈ lw_tbl) {w : Cond} (i : Nat) (h : r[i]? = some w) : w ∈ lw_tbl := hr w (List.mem_of_getElem? h)
theorem lw_g {w : Cond} (h : w ∈ lw_tbl) (g : goodWord w = true) : w ∈ lw_all := List.mem_filter.mpr ⟨h, g⟩
theorem lw_ms : ∀ w ∈ k2_sels lw_privs, w ∈ lw_tbl := fun w h => show w ∈ k2_sels lw_privs ++ tables_1 from List.mem_append_left _ h
theorem lw_m0 : ∀ w ∈ tables_1, w ∈ lw_tbl := fun w h => show w ∈ k2_sels lw_privs ++ tables_1 from List.mem_append_right (k2_sels lw_privs) h
theorem qs0 : (Cond.selects "CharacterDesk" ⟨"CharacterDesk", "read", "(I)I"⟩ ⟨"CharacterDesk", "read", "(I)I"⟩) ∈ lw_all := lw_g (lw_at lw_ms 0 rfl) rfl
theorem qs1 : (Cond.selects "CharacterDesk" ⟨"CharacterDesk", "wantParts", "()V"⟩ ⟨"CharacterDesk", "wantParts", "()V"⟩) ∈ lw_all := lw_g (lw_at lw_ms 1 rfl) rfl
theorem qs2 : (Cond.selects "CharacterDesk" ⟨"CharacterDesk", "marks", "()I"⟩ ⟨"CharacterDesk", "marks", "()I"⟩) ∈ lw_all := lw_g (lw_at lw_ms 2 rfl) rfl
theorem qs3 : (Cond.selects "CharacterDesk" ⟨"CharacterDesk", "strip", "(I)I"⟩ ⟨"CharacterDesk", "strip", "(I)I"⟩) ∈ lw_all := lw_g (lw_at lw_ms 3 rfl) rfl
theorem qs4 : (Cond.selects "CharacterDesk" ⟨"CharacterDesk", "move", "(II)V"⟩ ⟨"CharacterDesk", "move", "(II)V"⟩) ∈ lw_all := lw_g (lw_at lw_ms 4 rfl) rfl
theorem qs5 : (Cond.selects "CharacterDesk" ⟨"CharacterDesk", "wantOnes", "(I)V"⟩ ⟨"CharacterDesk", "wantOnes", "(I)V"⟩) ∈ lw_all := lw_g (lw_at lw_ms 5 rfl) rfl
theorem qs6 : (Cond.selects "CharacterDeskModel" ⟨"CharacterDeskModel", "sumOf", "(I)I"⟩ ⟨"CharacterDeskModel", "sumOf", "(I)I"⟩) ∈ lw_all := lw_g (lw_at lw_ms 6 rfl) rfl
theorem qs7 : (Cond.selects "CharacterDeskModel" ⟨"CharacterDeskModel", "part", "(II)I"⟩ ⟨"CharacterDeskModel", "part", "(II)I"⟩) ∈ lw_all := lw_g (lw_at lw_ms 7 rfl) rfl
theorem qs8 : (Cond.selects "CharacterDeskModel" ⟨"CharacterDeskModel", "cycles", "(I)V"⟩ ⟨"CharacterDeskModel", "cycles", "(I)V"⟩) ∈ lw_all := lw_g (lw_at lw_ms 8 rfl) rfl
theorem qs9 : (Cond.selects "CharacterDeskModel" ⟨"CharacterDeskModel", "begin", "()V"⟩ ⟨"CharacterDeskModel", "begin", "()V"⟩) ∈ lw_all := lw_g (lw_at lw_ms 9 rfl) rfl
theorem qs10 : (Cond.selects "CharacterDeskModel" ⟨"CharacterDeskModel", "times", "(IIIII)V"⟩ ⟨"CharacterDeskModel", "times", "(IIIII)V"⟩) ∈ lw_all := lw_g (lw_at lw_ms 10 rfl) rfl
theorem qs11 : (Cond.selects "CharacterDeskModel" ⟨"CharacterDeskModel", "put", "(II)V"⟩ ⟨"CharacterDeskModel", "put", "(II)V"⟩) ∈ lw_all := lw_g (lw_at lw_ms 11 rfl) rfl
theorem qs12 : (Cond.selects "CharacterDeskModel" ⟨"CharacterDeskModel", "coefficient", "(I)I"⟩ ⟨"CharacterDeskModel", "coefficient", "(I)I"⟩) ∈ lw_all := lw_g (lw_at lw_ms 12 rfl) rfl
theorem qs13 : (Cond.selects "CharacterDeskModel" ⟨"CharacterDeskModel", "ones", "(I)V"⟩ ⟨"CharacterDeskModel", "ones", "(I)V"⟩) ∈ lw_all := lw_g (lw_at lw_ms 13 rfl) rfl
end
section
/-! java/lang/Object -/
set_option maxRecDepth 100000
def RJ0 : String := "java/lang/Object"
abbrev cJ0_init : ByteArray := object_method_1_code
def yJ0_init : MethodName := ⟨RJ0, "<init>", "()V"⟩
theorem dJ0_init_0 : decode cJ0_init 0 = .ok (.return_, 1) := by decide +kernel
theorem q23 : (Jvm.Cond.instanceMethod ({ cls := "java/lang/Object", name := "<init>", desc := "()V" } : Jvm.MethodName)) ∈ lw_all := lw_g (lw_at lw_m0 9 rfl) rfl
theorem q24 : (Jvm.Cond.code ({ cls := "java/lang/Object", name := "<init>", desc := "()V" } : Jvm.MethodName) object_method_1_code (1 : Nat) (Option.none : Option Jvm.ClassFile.FieldType)) ∈ lw_all := lw_g (lw_at lw_m0 10 rfl) rfl
theorem q14 : (Jvm.Cond.initialized "CharacterDeskLaw") ∈ lw_all := lw_g (lw_at lw_m0 0 rfl) rfl
set_option maxRecDepth 100000
theorem q17 : (Jvm.Cond.classLink "CharacterDeskLaw" (7 : Nat) "CharacterDesk") ∈ lw_all := lw_g (lw_at lw_m0 3 rfl) rfl
theorem q19 : (Jvm.Cond.methodLink "CharacterDeskLaw" (9 : Nat) ({ cls := "CharacterDesk", name := "<init>", desc := "()V" } : Jvm.MethodName)) ∈ lw_all := lw_g (lw_at lw_m0 5 rfl) rfl
theorem q46 : (Jvm.Cond.methodLink "CharacterDeskLaw" (13 : Nat) ({ cls := "CharacterDesk", name := "choose", desc := "(I)I" } : Jvm.MethodName)) ∈ lw_all := lw_g (lw_at lw_m0 32 rfl) rfl
theorem q55 : (Jvm.Cond.methodLink "CharacterDeskLaw" (18 : Nat) ({ cls := "CharacterDesk", name := "shape", desc := "()I" } : Jvm.MethodName)) ∈ lw_all := lw_g (lw_at lw_m0 41 rfl) rfl
theorem q59 : (Jvm.Cond.methodLink "CharacterDeskLaw" (23 : Nat) ({ cls := "CharacterDesk", name := "at", desc := "(I)I" } : Jvm.MethodName)) ∈ lw_all := lw_g (lw_at lw_m0 45 rfl) rfl
theorem q86 : (Jvm.Cond.methodLink "CharacterDeskLaw" (27 : Nat) ({ cls := "CharacterDesk", name := "character", desc := "(II)I" } : Jvm.MethodName)) ∈ lw_all := lw_g (lw_at lw_m0 72 rfl) rfl
theorem q87 : (Jvm.Cond.methodLink "CharacterDeskLaw" (32 : Nat) ({ cls := "CharacterDesk", name := "degree", desc := "(I)I" } : Jvm.MethodName)) ∈ lw_all := lw_g (lw_at lw_m0 73 rfl) rfl
theorem q95 : (Jvm.Cond.methodLink "CharacterDeskLaw" (36 : Nat) ({ cls := "CharacterDesk", name := "count", desc := "(I)I" } : Jvm.MethodName)) ∈ lw_all := lw_g (lw_at lw_m0 81 rfl) rfl
theorem q102 : (Jvm.Cond.methodLink "CharacterDeskLaw" (40 : Nat) ({ cls := "CharacterDesk", name := "partition", desc := "(II)I" } : Jvm.MethodName)) ∈ lw_all := lw_g (lw_at lw_m0 88 rfl) rfl
theorem q106 : (Jvm.Cond.methodLink "CharacterDeskLaw" (44 : Nat) ({ cls := "CharacterDesk", name := "turned", desc := "(I)I" } : Jvm.MethodName)) ∈ lw_all := lw_g (lw_at lw_m0 92 rfl) rfl
theorem q110 : (Jvm.Cond.methodLink "CharacterDeskLaw" (48 : Nat) ({ cls := "CharacterDesk", name := "permutations", desc := "(I)I" } : Jvm.MethodName)) ∈ lw_all := lw_g (lw_at lw_m0 96 rfl) rfl
theorem q114 : (Jvm.Cond.methodLink "CharacterDeskLaw" (52 : Nat) ({ cls := "CharacterDesk", name := "squares", desc := "(I)I" } : Jvm.MethodName)) ∈ lw_all := lw_g (lw_at lw_m0 100 rfl) rfl
theorem q119 : (Jvm.Cond.methodLink "CharacterDeskLaw" (56 : Nat) ({ cls := "CharacterDesk", name := "vanishes", desc := "(II)Z" } : Jvm.MethodName)) ∈ lw_all := lw_g (lw_at lw_m0 105 rfl) rfl
theorem q123 : (Jvm.Cond.methodLink "CharacterDeskLaw" (61 : Nat) ({ cls := "CharacterDesk", name := "greatest", desc := "(I)I" } : Jvm.MethodName)) ∈ lw_all := lw_g (lw_at lw_m0 109 rfl) rfl
theorem q127 : (Jvm.Cond.methodLink "CharacterDeskLaw" (65 : Nat) ({ cls := "CharacterDesk", name := "support", desc := "(I)I" } : Jvm.MethodName)) ∈ lw_all := lw_g (lw_at lw_m0 113 rfl) rfl
theorem q131 : (Jvm.Cond.classLink "CharacterDeskLaw" (10 : Nat) "CharacterDeskModel") ∈ lw_all := lw_g (lw_at lw_m0 117 rfl) rfl
theorem q133 : (Jvm.Cond.methodLink "CharacterDeskLaw" (12 : Nat) ({ cls := "CharacterDeskModel", name := "<init>", desc := "()V" } : Jvm.MethodName)) ∈ lw_all := lw_g (lw_at lw_m0 119 rfl) rfl
theorem q147 : (Jvm.Cond.methodLink "CharacterDeskLaw" (17 : Nat) ({ cls := "CharacterDeskModel", name := "choose", desc := "(I)I" } : Jvm.MethodName)) ∈ lw_all := lw_g (lw_at lw_m0 133 rfl) rfl
theorem q160 : (Jvm.Cond.methodLink "CharacterDeskLaw" (22 : Nat) ({ cls := "CharacterDeskModel", name := "shape", desc := "()I" } : Jvm.MethodName)) ∈ lw_all := lw_g (lw_at lw_m0 146 rfl) rfl
theorem q164 : (Jvm.Cond.methodLink "CharacterDeskLaw" (26 : Nat) ({ cls := "CharacterDeskModel", name := "at", desc := "(I)I" } : Jvm.MethodName)) ∈ lw_all := lw_g (lw_at lw_m0 150 rfl) rfl
theorem q192 : (Jvm.Cond.methodLink "CharacterDeskLaw" (31 : Nat) ({ cls := "CharacterDeskModel", name := "character", desc := "(II)I" } : Jvm.MethodName)) ∈ lw_all := lw_g (lw_at lw_m0 178 rfl) rfl
theorem q193 : (Jvm.Cond.methodLink "CharacterDeskLaw" (35 : Nat) ({ cls := "CharacterDeskModel", name := "degree", desc := "(I)I" } : Jvm.MethodName)) ∈ lw_all := lw_g (lw_at lw_m0 179 rfl) rfl
theorem q201 : (Jvm.Cond.methodLink "CharacterDeskLaw" (39 : Nat) ({ cls := "CharacterDeskModel", name := "count", desc := "(I)I" } : Jvm.MethodName)) ∈ lw_all := lw_g (lw_at lw_m0 187 rfl) rfl
theorem q205 : (Jvm.Cond.methodLink "CharacterDeskLaw" (43 : Nat) ({ cls := "CharacterDeskModel", name := "partition", desc := "(II)I" } : Jvm.MethodName)) ∈ lw_all := lw_g (lw_at lw_m0 191 rfl) rfl
theorem q209 : (Jvm.Cond.methodLink "CharacterDeskLaw" (47 : Nat) ({ cls := "CharacterDeskModel", name := "turned", desc := "(I)I" } : Jvm.MethodName)) ∈ lw_all := lw_g (lw_at lw_m0 195 rfl) rfl
theorem q213 : (Jvm.Cond.methodLink "CharacterDeskLaw" (51 : Nat) ({ cls := "CharacterDeskModel", name := "permutations", desc := "(I)I" } : Jvm.MethodName)) ∈ lw_all := lw_g (lw_at lw_m0 199 rfl) rfl
theorem q217 : (Jvm.Cond.methodLink "CharacterDeskLaw" (55 : Nat) ({ cls := "CharacterDeskModel", name := "squares", desc := "(I)I" } : Jvm.MethodName)) ∈ lw_all := lw_g (lw_at lw_m0 203 rfl) rfl
theorem q221 : (Jvm.Cond.methodLink "CharacterDeskLaw" (60 : Nat) ({ cls := "CharacterDeskModel", name := "vanishes", desc := "(II)Z" } : Jvm.MethodName)) ∈ lw_all := lw_g (lw_at lw_m0 207 rfl) rfl
theorem q225 : (Jvm.Cond.methodLink "CharacterDeskLaw" (64 : Nat) ({ cls := "CharacterDeskModel", name := "greatest", desc := "(I)I" } : Jvm.MethodName)) ∈ lw_all := lw_g (lw_at lw_m0 211 rfl) rfl
theorem q229 : (Jvm.Cond.methodLink "CharacterDeskLaw" (68 : Nat) ({ cls := "CharacterDeskModel", name := "support", desc := "(I)I" } : Jvm.MethodName)) ∈ lw_all := lw_g (lw_at lw_m0 215 rfl) rfl
theorem q44 : (Jvm.Cond.arrayClass Jvm.ClassFile.FieldType.byte) ∈ lw_all := lw_g (lw_at lw_m0 30 rfl) rfl
set_option maxRecDepth 100000
theorem q45 : (Jvm.Cond.arrayClass Jvm.ClassFile.FieldType.int) ∈ lw_all := lw_g (lw_at lw_m0 31 rfl) rfl
end
section
/-! CharacterDesk -/
set_option maxRecDepth 100000
def RX0 : String := "CharacterDesk"
def TX0 : u_T := fun k => match k with
  | 0 => ("CharacterDesk", "chosen", "I", false)
  | 1 => ("CharacterDesk", "parts", "[B", true)
  | 2 => ("CharacterDesk", "rims", "[B", true)
  | 3 => ("CharacterDesk", "rimCount", "I", false)
  | 4 => ("CharacterDesk", "now", "[I", true)
  | _ => ("CharacterDesk", "then", "[I", true)
def tyX0 : Nat → FieldType := fun k => match k with
  | 0 => .int
  | 1 => .array .byte
  | 2 => .array .byte
  | 3 => .int
  | 4 => .array .int
  | _ => .array .int
abbrev wsX00 : List Cond := u_ws RX0 TX0 6
theorem nmX0 : ∀ a, a < 6 → ∀ b, b < 6 → a ≠ b → (TX0 a).2.1 ≠ (TX0 b).2.1 := by decide +kernel
theorem tyX0_ok : ∀ k, k < 6 → parseFieldDescriptor (TX0 k).2.2.1 = some (tyX0 k) := by decide +kernel
abbrev cX0_init : ByteArray := prog_1_method_1_code
def yX0_init : MethodName := ⟨RX0, "<init>", "()V"⟩
theorem dX0_init_0 : decode cX0_init 0 = .ok (.aload_n 0, 1) := by decide +kernel
theorem dX0_init_1 : decode cX0_init 1 = .ok (.invokespecial 1, 3) := by decide +kernel
theorem dX0_init_4 : decode cX0_init 4 = .ok (.aload_n 0, 1) := by decide +kernel
theorem dX0_init_5 : decode cX0_init 5 = .ok (.iconst 4, 1) := by decide +kernel
theorem dX0_init_6 : decode cX0_init 6 = .ok (.newarray .byte, 2) := by decide +kernel
theorem dX0_init_8 : decode cX0_init 8 = .ok (.putfield 7, 3) := by decide +kernel
theorem dX0_init_11 : decode cX0_init 11 = .ok (.aload_n 0, 1) := by decide +kernel
theorem dX0_init_12 : decode cX0_init 12 = .ok (.bipush 8, 2) := by decide +kernel
theorem dX0_init_14 : decode cX0_init 14 = .ok (.newarray .byte, 2) := by decide +kernel
theorem dX0_init_16 : decode cX0_init 16 = .ok (.putfield 13, 3) := by decide +kernel
theorem dX0_init_19 : decode cX0_init 19 = .ok (.aload_n 0, 1) := by decide +kernel
theorem dX0_init_20 : decode cX0_init 20 = .ok (.sipush 2048, 3) := by decide +kernel
theorem dX0_init_23 : decode cX0_init 23 = .ok (.newarray .int, 2) := by decide +kernel
theorem dX0_init_25 : decode cX0_init 25 = .ok (.putfield 16, 3) := by decide +kernel
theorem dX0_init_28 : decode cX0_init 28 = .ok (.aload_n 0, 1) := by decide +kernel
theorem dX0_init_29 : decode cX0_init 29 = .ok (.sipush 2048, 3) := by decide +kernel
theorem dX0_init_32 : decode cX0_init 32 = .ok (.newarray .int, 2) := by decide +kernel
theorem dX0_init_34 : decode cX0_init 34 = .ok (.putfield 20, 3) := by decide +kernel
theorem dX0_init_37 : decode cX0_init 37 = .ok (.return_, 1) := by decide +kernel
abbrev cX0_choose : ByteArray := prog_1_method_9_code
def yX0_choose : MethodName := ⟨RX0, "choose", "(I)I"⟩
theorem dX0_choose_0 : decode cX0_choose 0 = .ok (.aload_n 0, 1) := by decide +kernel
theorem dX0_choose_1 : decode cX0_choose 1 = .ok (.iload_n 1, 1) := by decide +kernel
theorem dX0_choose_2 : decode cX0_choose 2 = .ok (.invokevirtual 35, 3) := by decide +kernel
theorem dX0_choose_5 : decode cX0_choose 5 = .ok (.istore_n 2, 1) := by decide +kernel
theorem dX0_choose_6 : decode cX0_choose 6 = .ok (.iload_n 2, 1) := by decide +kernel
theorem dX0_choose_7 : decode cX0_choose 7 = .ok (.ifCond .ne 6, 3) := by decide +kernel
theorem dX0_choose_10 : decode cX0_choose 10 = .ok (.ldc 39, 2) := by decide +kernel
theorem dX0_choose_12 : decode cX0_choose 12 = .ok (.ireturn, 1) := by decide +kernel
theorem dX0_choose_13 : decode cX0_choose 13 = .ok (.aload_n 0, 1) := by decide +kernel
theorem dX0_choose_14 : decode cX0_choose 14 = .ok (.iload_n 1, 1) := by decide +kernel
theorem dX0_choose_15 : decode cX0_choose 15 = .ok (.putfield 40, 3) := by decide +kernel
theorem dX0_choose_18 : decode cX0_choose 18 = .ok (.iload_n 2, 1) := by decide +kernel
theorem dX0_choose_19 : decode cX0_choose 19 = .ok (.ireturn, 1) := by decide +kernel
abbrev cX0_read : ByteArray := prog_1_method_2_code
def yX0_read : MethodName := ⟨RX0, "read", "(I)I"⟩
theorem dX0_read_0 : decode cX0_read 0 = .ok (.iload_n 1, 1) := by decide +kernel
theorem dX0_read_1 : decode cX0_read 1 = .ok (.ifCond .lt 10, 3) := by decide +kernel
theorem dX0_read_4 : decode cX0_read 4 = .ok (.iload_n 1, 1) := by decide +kernel
theorem dX0_read_5 : decode cX0_read 5 = .ok (.sipush 4095, 3) := by decide +kernel
theorem dX0_read_8 : decode cX0_read 8 = .ok (.if_icmp .le 5, 3) := by decide +kernel
theorem dX0_read_11 : decode cX0_read 11 = .ok (.iconst 0, 1) := by decide +kernel
theorem dX0_read_12 : decode cX0_read 12 = .ok (.ireturn, 1) := by decide +kernel
theorem dX0_read_13 : decode cX0_read 13 = .ok (.iconst 0, 1) := by decide +kernel
theorem dX0_read_14 : decode cX0_read 14 = .ok (.istore_n 2, 1) := by decide +kernel
theorem dX0_read_15 : decode cX0_read 15 = .ok (.iconst 0, 1) := by decide +kernel
theorem dX0_read_16 : decode cX0_read 16 = .ok (.istore_n 3, 1) := by decide +kernel
theorem dX0_read_17 : decode cX0_read 17 = .ok (.iload_n 3, 1) := by decide +kernel
theorem dX0_read_18 : decode cX0_read 18 = .ok (.iconst 4, 1) := by decide +kernel
theorem dX0_read_19 : decode cX0_read 19 = .ok (.if_icmp .ge 56, 3) := by decide +kernel
theorem dX0_read_22 : decode cX0_read 22 = .ok (.aload_n 0, 1) := by decide +kernel
theorem dX0_read_23 : decode cX0_read 23 = .ok (.getfield 7, 3) := by decide +kernel
theorem dX0_read_26 : decode cX0_read 26 = .ok (.iload_n 3, 1) := by decide +kernel
theorem dX0_read_27 : decode cX0_read 27 = .ok (.iload_n 1, 1) := by decide +kernel
theorem dX0_read_28 : decode cX0_read 28 = .ok (.iconst 3, 1) := by decide +kernel
theorem dX0_read_29 : decode cX0_read 29 = .ok (.iload_n 3, 1) := by decide +kernel
theorem dX0_read_30 : decode cX0_read 30 = .ok (.imul, 1) := by decide +kernel
theorem dX0_read_31 : decode cX0_read 31 = .ok (.ishr, 1) := by decide +kernel
theorem dX0_read_32 : decode cX0_read 32 = .ok (.bipush 7, 2) := by decide +kernel
theorem dX0_read_34 : decode cX0_read 34 = .ok (.iand, 1) := by decide +kernel
theorem dX0_read_35 : decode cX0_read 35 = .ok (.i2b, 1) := by decide +kernel
theorem dX0_read_36 : decode cX0_read 36 = .ok (.bastore, 1) := by decide +kernel
theorem dX0_read_37 : decode cX0_read 37 = .ok (.iload_n 2, 1) := by decide +kernel
theorem dX0_read_38 : decode cX0_read 38 = .ok (.aload_n 0, 1) := by decide +kernel
theorem dX0_read_39 : decode cX0_read 39 = .ok (.getfield 7, 3) := by decide +kernel
theorem dX0_read_42 : decode cX0_read 42 = .ok (.iload_n 3, 1) := by decide +kernel
theorem dX0_read_43 : decode cX0_read 43 = .ok (.baload, 1) := by decide +kernel
theorem dX0_read_44 : decode cX0_read 44 = .ok (.iadd, 1) := by decide +kernel
theorem dX0_read_45 : decode cX0_read 45 = .ok (.istore_n 2, 1) := by decide +kernel
theorem dX0_read_46 : decode cX0_read 46 = .ok (.iload_n 3, 1) := by decide +kernel
theorem dX0_read_47 : decode cX0_read 47 = .ok (.ifCond .le 22, 3) := by decide +kernel
theorem dX0_read_50 : decode cX0_read 50 = .ok (.aload_n 0, 1) := by decide +kernel
theorem dX0_read_51 : decode cX0_read 51 = .ok (.getfield 7, 3) := by decide +kernel
theorem dX0_read_54 : decode cX0_read 54 = .ok (.iload_n 3, 1) := by decide +kernel
theorem dX0_read_55 : decode cX0_read 55 = .ok (.baload, 1) := by decide +kernel
theorem dX0_read_56 : decode cX0_read 56 = .ok (.aload_n 0, 1) := by decide +kernel
theorem dX0_read_57 : decode cX0_read 57 = .ok (.getfield 7, 3) := by decide +kernel
theorem dX0_read_60 : decode cX0_read 60 = .ok (.iload_n 3, 1) := by decide +kernel
theorem dX0_read_61 : decode cX0_read 61 = .ok (.iconst 1, 1) := by decide +kernel
theorem dX0_read_62 : decode cX0_read 62 = .ok (.isub, 1) := by decide +kernel
theorem dX0_read_63 : decode cX0_read 63 = .ok (.baload, 1) := by decide +kernel
theorem dX0_read_64 : decode cX0_read 64 = .ok (.if_icmp .le 5, 3) := by decide +kernel
theorem dX0_read_67 : decode cX0_read 67 = .ok (.iconst 0, 1) := by decide +kernel
theorem dX0_read_68 : decode cX0_read 68 = .ok (.ireturn, 1) := by decide +kernel
theorem dX0_read_69 : decode cX0_read 69 = .ok (.iinc 3 1, 3) := by decide +kernel
theorem dX0_read_72 : decode cX0_read 72 = .ok (.goto (-55), 3) := by decide +kernel
theorem dX0_read_75 : decode cX0_read 75 = .ok (.iload_n 2, 1) := by decide +kernel
theorem dX0_read_76 : decode cX0_read 76 = .ok (.bipush 7, 2) := by decide +kernel
theorem dX0_read_78 : decode cX0_read 78 = .ok (.if_icmp .gt 7, 3) := by decide +kernel
theorem dX0_read_81 : decode cX0_read 81 = .ok (.iload_n 2, 1) := by decide +kernel
theorem dX0_read_82 : decode cX0_read 82 = .ok (.goto 4, 3) := by decide +kernel
theorem dX0_read_85 : decode cX0_read 85 = .ok (.iconst 0, 1) := by decide +kernel
theorem dX0_read_86 : decode cX0_read 86 = .ok (.ireturn, 1) := by decide +kernel
abbrev cX0_shape : ByteArray := prog_1_method_10_code
def yX0_shape : MethodName := ⟨RX0, "shape", "()I"⟩
theorem dX0_shape_0 : decode cX0_shape 0 = .ok (.aload_n 0, 1) := by decide +kernel
theorem dX0_shape_1 : decode cX0_shape 1 = .ok (.getfield 40, 3) := by decide +kernel
theorem dX0_shape_4 : decode cX0_shape 4 = .ok (.ireturn, 1) := by decide +kernel
abbrev cX0_at : ByteArray := prog_1_method_11_code
def yX0_at : MethodName := ⟨RX0, "at", "(I)I"⟩
theorem dX0_at_0 : decode cX0_at 0 = .ok (.aload_n 0, 1) := by decide +kernel
theorem dX0_at_1 : decode cX0_at 1 = .ok (.getfield 40, 3) := by decide +kernel
theorem dX0_at_4 : decode cX0_at 4 = .ok (.ifCond .ne 8, 3) := by decide +kernel
theorem dX0_at_7 : decode cX0_at 7 = .ok (.ldc 39, 2) := by decide +kernel
theorem dX0_at_9 : decode cX0_at 9 = .ok (.goto 12, 3) := by decide +kernel
theorem dX0_at_12 : decode cX0_at 12 = .ok (.aload_n 0, 1) := by decide +kernel
theorem dX0_at_13 : decode cX0_at 13 = .ok (.aload_n 0, 1) := by decide +kernel
theorem dX0_at_14 : decode cX0_at 14 = .ok (.getfield 40, 3) := by decide +kernel
theorem dX0_at_17 : decode cX0_at 17 = .ok (.iload_n 1, 1) := by decide +kernel
theorem dX0_at_18 : decode cX0_at 18 = .ok (.invokevirtual 43, 3) := by decide +kernel
theorem dX0_at_21 : decode cX0_at 21 = .ok (.ireturn, 1) := by decide +kernel
abbrev cX0_character : ByteArray := prog_1_method_12_code
def yX0_character : MethodName := ⟨RX0, "character", "(II)I"⟩
theorem dX0_character_0 : decode cX0_character 0 = .ok (.aload_n 0, 1) := by decide +kernel
theorem dX0_character_1 : decode cX0_character 1 = .ok (.iload_n 2, 1) := by decide +kernel
theorem dX0_character_2 : decode cX0_character 2 = .ok (.invokevirtual 35, 3) := by decide +kernel
theorem dX0_character_5 : decode cX0_character 5 = .ok (.istore_n 3, 1) := by decide +kernel
theorem dX0_character_6 : decode cX0_character 6 = .ok (.iload_n 3, 1) := by decide +kernel
theorem dX0_character_7 : decode cX0_character 7 = .ok (.ifCond .ne 6, 3) := by decide +kernel
theorem dX0_character_10 : decode cX0_character 10 = .ok (.ldc 39, 2) := by decide +kernel
theorem dX0_character_12 : decode cX0_character 12 = .ok (.ireturn, 1) := by decide +kernel
theorem dX0_character_13 : decode cX0_character 13 = .ok (.aload_n 0, 1) := by decide +kernel
theorem dX0_character_14 : decode cX0_character 14 = .ok (.invokevirtual 47, 3) := by decide +kernel
theorem dX0_character_17 : decode cX0_character 17 = .ok (.aload_n 0, 1) := by decide +kernel
theorem dX0_character_18 : decode cX0_character 18 = .ok (.iload_n 1, 1) := by decide +kernel
theorem dX0_character_19 : decode cX0_character 19 = .ok (.invokevirtual 35, 3) := by decide +kernel
theorem dX0_character_22 : decode cX0_character 22 = .ok (.iload_n 3, 1) := by decide +kernel
theorem dX0_character_23 : decode cX0_character 23 = .ok (.if_icmp .eq 6, 3) := by decide +kernel
theorem dX0_character_26 : decode cX0_character 26 = .ok (.ldc 39, 2) := by decide +kernel
theorem dX0_character_28 : decode cX0_character 28 = .ok (.ireturn, 1) := by decide +kernel
theorem dX0_character_29 : decode cX0_character 29 = .ok (.aload_n 0, 1) := by decide +kernel
theorem dX0_character_30 : decode cX0_character 30 = .ok (.invokevirtual 50, 3) := by decide +kernel
theorem dX0_character_33 : decode cX0_character 33 = .ok (.istore 4, 2) := by decide +kernel
theorem dX0_character_35 : decode cX0_character 35 = .ok (.aload_n 0, 1) := by decide +kernel
theorem dX0_character_36 : decode cX0_character 36 = .ok (.iload 4, 2) := by decide +kernel
theorem dX0_character_38 : decode cX0_character 38 = .ok (.invokevirtual 54, 3) := by decide +kernel
theorem dX0_character_41 : decode cX0_character 41 = .ok (.ireturn, 1) := by decide +kernel
abbrev cX0_wantParts : ByteArray := prog_1_method_4_code
def yX0_wantParts : MethodName := ⟨RX0, "wantParts", "()V"⟩
theorem dX0_wantParts_0 : decode cX0_wantParts 0 = .ok (.aload_n 0, 1) := by decide +kernel
theorem dX0_wantParts_1 : decode cX0_wantParts 1 = .ok (.iconst 0, 1) := by decide +kernel
theorem dX0_wantParts_2 : decode cX0_wantParts 2 = .ok (.putfield 23, 3) := by decide +kernel
theorem dX0_wantParts_5 : decode cX0_wantParts 5 = .ok (.iconst 0, 1) := by decide +kernel
theorem dX0_wantParts_6 : decode cX0_wantParts 6 = .ok (.istore_n 1, 1) := by decide +kernel
theorem dX0_wantParts_7 : decode cX0_wantParts 7 = .ok (.iload_n 1, 1) := by decide +kernel
theorem dX0_wantParts_8 : decode cX0_wantParts 8 = .ok (.iconst 4, 1) := by decide +kernel
theorem dX0_wantParts_9 : decode cX0_wantParts 9 = .ok (.if_icmp .ge 43, 3) := by decide +kernel
theorem dX0_wantParts_12 : decode cX0_wantParts 12 = .ok (.aload_n 0, 1) := by decide +kernel
theorem dX0_wantParts_13 : decode cX0_wantParts 13 = .ok (.getfield 7, 3) := by decide +kernel
theorem dX0_wantParts_16 : decode cX0_wantParts 16 = .ok (.iload_n 1, 1) := by decide +kernel
theorem dX0_wantParts_17 : decode cX0_wantParts 17 = .ok (.baload, 1) := by decide +kernel
theorem dX0_wantParts_18 : decode cX0_wantParts 18 = .ok (.ifCond .le 28, 3) := by decide +kernel
theorem dX0_wantParts_21 : decode cX0_wantParts 21 = .ok (.aload_n 0, 1) := by decide +kernel
theorem dX0_wantParts_22 : decode cX0_wantParts 22 = .ok (.getfield 13, 3) := by decide +kernel
theorem dX0_wantParts_25 : decode cX0_wantParts 25 = .ok (.aload_n 0, 1) := by decide +kernel
theorem dX0_wantParts_26 : decode cX0_wantParts 26 = .ok (.getfield 23, 3) := by decide +kernel
theorem dX0_wantParts_29 : decode cX0_wantParts 29 = .ok (.aload_n 0, 1) := by decide +kernel
theorem dX0_wantParts_30 : decode cX0_wantParts 30 = .ok (.getfield 7, 3) := by decide +kernel
theorem dX0_wantParts_33 : decode cX0_wantParts 33 = .ok (.iload_n 1, 1) := by decide +kernel
theorem dX0_wantParts_34 : decode cX0_wantParts 34 = .ok (.baload, 1) := by decide +kernel
theorem dX0_wantParts_35 : decode cX0_wantParts 35 = .ok (.bastore, 1) := by decide +kernel
theorem dX0_wantParts_36 : decode cX0_wantParts 36 = .ok (.aload_n 0, 1) := by decide +kernel
theorem dX0_wantParts_37 : decode cX0_wantParts 37 = .ok (.dup, 1) := by decide +kernel
theorem dX0_wantParts_38 : decode cX0_wantParts 38 = .ok (.getfield 23, 3) := by decide +kernel
theorem dX0_wantParts_41 : decode cX0_wantParts 41 = .ok (.iconst 1, 1) := by decide +kernel
theorem dX0_wantParts_42 : decode cX0_wantParts 42 = .ok (.iadd, 1) := by decide +kernel
theorem dX0_wantParts_43 : decode cX0_wantParts 43 = .ok (.putfield 23, 3) := by decide +kernel
theorem dX0_wantParts_46 : decode cX0_wantParts 46 = .ok (.iinc 1 1, 3) := by decide +kernel
theorem dX0_wantParts_49 : decode cX0_wantParts 49 = .ok (.goto (-42), 3) := by decide +kernel
theorem dX0_wantParts_52 : decode cX0_wantParts 52 = .ok (.return_, 1) := by decide +kernel
abbrev cX0_marks : ByteArray := prog_1_method_3_code
def yX0_marks : MethodName := ⟨RX0, "marks", "()I"⟩
theorem dX0_marks_0 : decode cX0_marks 0 = .ok (.iconst 0, 1) := by decide +kernel
theorem dX0_marks_1 : decode cX0_marks 1 = .ok (.istore_n 1, 1) := by decide +kernel
theorem dX0_marks_2 : decode cX0_marks 2 = .ok (.iconst 0, 1) := by decide +kernel
theorem dX0_marks_3 : decode cX0_marks 3 = .ok (.istore_n 2, 1) := by decide +kernel
theorem dX0_marks_4 : decode cX0_marks 4 = .ok (.iload_n 2, 1) := by decide +kernel
theorem dX0_marks_5 : decode cX0_marks 5 = .ok (.iconst 4, 1) := by decide +kernel
theorem dX0_marks_6 : decode cX0_marks 6 = .ok (.if_icmp .ge 26, 3) := by decide +kernel
theorem dX0_marks_9 : decode cX0_marks 9 = .ok (.iload_n 1, 1) := by decide +kernel
theorem dX0_marks_10 : decode cX0_marks 10 = .ok (.iconst 1, 1) := by decide +kernel
theorem dX0_marks_11 : decode cX0_marks 11 = .ok (.aload_n 0, 1) := by decide +kernel
theorem dX0_marks_12 : decode cX0_marks 12 = .ok (.getfield 7, 3) := by decide +kernel
theorem dX0_marks_15 : decode cX0_marks 15 = .ok (.iload_n 2, 1) := by decide +kernel
theorem dX0_marks_16 : decode cX0_marks 16 = .ok (.baload, 1) := by decide +kernel
theorem dX0_marks_17 : decode cX0_marks 17 = .ok (.iconst 4, 1) := by decide +kernel
theorem dX0_marks_18 : decode cX0_marks 18 = .ok (.iadd, 1) := by decide +kernel
theorem dX0_marks_19 : decode cX0_marks 19 = .ok (.iconst 1, 1) := by decide +kernel
theorem dX0_marks_20 : decode cX0_marks 20 = .ok (.isub, 1) := by decide +kernel
theorem dX0_marks_21 : decode cX0_marks 21 = .ok (.iload_n 2, 1) := by decide +kernel
theorem dX0_marks_22 : decode cX0_marks 22 = .ok (.isub, 1) := by decide +kernel
theorem dX0_marks_23 : decode cX0_marks 23 = .ok (.ishl, 1) := by decide +kernel
theorem dX0_marks_24 : decode cX0_marks 24 = .ok (.ior, 1) := by decide +kernel
theorem dX0_marks_25 : decode cX0_marks 25 = .ok (.istore_n 1, 1) := by decide +kernel
theorem dX0_marks_26 : decode cX0_marks 26 = .ok (.iinc 2 1, 3) := by decide +kernel
theorem dX0_marks_29 : decode cX0_marks 29 = .ok (.goto (-25), 3) := by decide +kernel
theorem dX0_marks_32 : decode cX0_marks 32 = .ok (.iload_n 1, 1) := by decide +kernel
theorem dX0_marks_33 : decode cX0_marks 33 = .ok (.ireturn, 1) := by decide +kernel
abbrev cX0_strip : ByteArray := prog_1_method_7_code
def yX0_strip : MethodName := ⟨RX0, "strip", "(I)I"⟩
theorem dX0_strip_0 : decode cX0_strip 0 = .ok (.iconst 0, 1) := by decide +kernel
theorem dX0_strip_1 : decode cX0_strip 1 = .ok (.istore_n 2, 1) := by decide +kernel
theorem dX0_strip_2 : decode cX0_strip 2 = .ok (.iload_n 2, 1) := by decide +kernel
theorem dX0_strip_3 : decode cX0_strip 3 = .ok (.sipush 2048, 3) := by decide +kernel
theorem dX0_strip_6 : decode cX0_strip 6 = .ok (.if_icmp .ge 16, 3) := by decide +kernel
theorem dX0_strip_9 : decode cX0_strip 9 = .ok (.aload_n 0, 1) := by decide +kernel
theorem dX0_strip_10 : decode cX0_strip 10 = .ok (.getfield 16, 3) := by decide +kernel
theorem dX0_strip_13 : decode cX0_strip 13 = .ok (.iload_n 2, 1) := by decide +kernel
theorem dX0_strip_14 : decode cX0_strip 14 = .ok (.iconst 0, 1) := by decide +kernel
theorem dX0_strip_15 : decode cX0_strip 15 = .ok (.iastore, 1) := by decide +kernel
theorem dX0_strip_16 : decode cX0_strip 16 = .ok (.iinc 2 1, 3) := by decide +kernel
theorem dX0_strip_19 : decode cX0_strip 19 = .ok (.goto (-17), 3) := by decide +kernel
theorem dX0_strip_22 : decode cX0_strip 22 = .ok (.aload_n 0, 1) := by decide +kernel
theorem dX0_strip_23 : decode cX0_strip 23 = .ok (.getfield 16, 3) := by decide +kernel
theorem dX0_strip_26 : decode cX0_strip 26 = .ok (.iload_n 1, 1) := by decide +kernel
theorem dX0_strip_27 : decode cX0_strip 27 = .ok (.iconst 1, 1) := by decide +kernel
theorem dX0_strip_28 : decode cX0_strip 28 = .ok (.iastore, 1) := by decide +kernel
theorem dX0_strip_29 : decode cX0_strip 29 = .ok (.iconst 0, 1) := by decide +kernel
theorem dX0_strip_30 : decode cX0_strip 30 = .ok (.istore_n 2, 1) := by decide +kernel
theorem dX0_strip_31 : decode cX0_strip 31 = .ok (.iload_n 2, 1) := by decide +kernel
theorem dX0_strip_32 : decode cX0_strip 32 = .ok (.aload_n 0, 1) := by decide +kernel
theorem dX0_strip_33 : decode cX0_strip 33 = .ok (.getfield 23, 3) := by decide +kernel
theorem dX0_strip_36 : decode cX0_strip 36 = .ok (.if_icmp .ge 93, 3) := by decide +kernel
theorem dX0_strip_39 : decode cX0_strip 39 = .ok (.iconst 0, 1) := by decide +kernel
theorem dX0_strip_40 : decode cX0_strip 40 = .ok (.istore_n 3, 1) := by decide +kernel
theorem dX0_strip_41 : decode cX0_strip 41 = .ok (.iload_n 3, 1) := by decide +kernel
theorem dX0_strip_42 : decode cX0_strip 42 = .ok (.sipush 2048, 3) := by decide +kernel
theorem dX0_strip_45 : decode cX0_strip 45 = .ok (.if_icmp .ge 16, 3) := by decide +kernel
theorem dX0_strip_48 : decode cX0_strip 48 = .ok (.aload_n 0, 1) := by decide +kernel
theorem dX0_strip_49 : decode cX0_strip 49 = .ok (.getfield 20, 3) := by decide +kernel
theorem dX0_strip_52 : decode cX0_strip 52 = .ok (.iload_n 3, 1) := by decide +kernel
theorem dX0_strip_53 : decode cX0_strip 53 = .ok (.iconst 0, 1) := by decide +kernel
theorem dX0_strip_54 : decode cX0_strip 54 = .ok (.iastore, 1) := by decide +kernel
theorem dX0_strip_55 : decode cX0_strip 55 = .ok (.iinc 3 1, 3) := by decide +kernel
theorem dX0_strip_58 : decode cX0_strip 58 = .ok (.goto (-17), 3) := by decide +kernel
theorem dX0_strip_61 : decode cX0_strip 61 = .ok (.iconst 0, 1) := by decide +kernel
theorem dX0_strip_62 : decode cX0_strip 62 = .ok (.istore_n 3, 1) := by decide +kernel
theorem dX0_strip_63 : decode cX0_strip 63 = .ok (.iload_n 3, 1) := by decide +kernel
theorem dX0_strip_64 : decode cX0_strip 64 = .ok (.sipush 2048, 3) := by decide +kernel
theorem dX0_strip_67 : decode cX0_strip 67 = .ok (.if_icmp .ge 29, 3) := by decide +kernel
theorem dX0_strip_70 : decode cX0_strip 70 = .ok (.aload_n 0, 1) := by decide +kernel
theorem dX0_strip_71 : decode cX0_strip 71 = .ok (.getfield 16, 3) := by decide +kernel
theorem dX0_strip_74 : decode cX0_strip 74 = .ok (.iload_n 3, 1) := by decide +kernel
theorem dX0_strip_75 : decode cX0_strip 75 = .ok (.iaload, 1) := by decide +kernel
theorem dX0_strip_76 : decode cX0_strip 76 = .ok (.ifCond .eq 14, 3) := by decide +kernel
theorem dX0_strip_79 : decode cX0_strip 79 = .ok (.aload_n 0, 1) := by decide +kernel
theorem dX0_strip_80 : decode cX0_strip 80 = .ok (.iload_n 3, 1) := by decide +kernel
theorem dX0_strip_81 : decode cX0_strip 81 = .ok (.aload_n 0, 1) := by decide +kernel
theorem dX0_strip_82 : decode cX0_strip 82 = .ok (.getfield 13, 3) := by decide +kernel
theorem dX0_strip_85 : decode cX0_strip 85 = .ok (.iload_n 2, 1) := by decide +kernel
theorem dX0_strip_86 : decode cX0_strip 86 = .ok (.baload, 1) := by decide +kernel
theorem dX0_strip_87 : decode cX0_strip 87 = .ok (.invokevirtual 27, 3) := by decide +kernel
theorem dX0_strip_90 : decode cX0_strip 90 = .ok (.iinc 3 1, 3) := by decide +kernel
theorem dX0_strip_93 : decode cX0_strip 93 = .ok (.goto (-30), 3) := by decide +kernel
theorem dX0_strip_96 : decode cX0_strip 96 = .ok (.iconst 0, 1) := by decide +kernel
theorem dX0_strip_97 : decode cX0_strip 97 = .ok (.istore_n 3, 1) := by decide +kernel
theorem dX0_strip_98 : decode cX0_strip 98 = .ok (.iload_n 3, 1) := by decide +kernel
theorem dX0_strip_99 : decode cX0_strip 99 = .ok (.sipush 2048, 3) := by decide +kernel
theorem dX0_strip_102 : decode cX0_strip 102 = .ok (.if_icmp .ge 21, 3) := by decide +kernel
theorem dX0_strip_105 : decode cX0_strip 105 = .ok (.aload_n 0, 1) := by decide +kernel
theorem dX0_strip_106 : decode cX0_strip 106 = .ok (.getfield 16, 3) := by decide +kernel
theorem dX0_strip_109 : decode cX0_strip 109 = .ok (.iload_n 3, 1) := by decide +kernel
theorem dX0_strip_110 : decode cX0_strip 110 = .ok (.aload_n 0, 1) := by decide +kernel
theorem dX0_strip_111 : decode cX0_strip 111 = .ok (.getfield 20, 3) := by decide +kernel
theorem dX0_strip_114 : decode cX0_strip 114 = .ok (.iload_n 3, 1) := by decide +kernel
theorem dX0_strip_115 : decode cX0_strip 115 = .ok (.iaload, 1) := by decide +kernel
theorem dX0_strip_116 : decode cX0_strip 116 = .ok (.iastore, 1) := by decide +kernel
theorem dX0_strip_117 : decode cX0_strip 117 = .ok (.iinc 3 1, 3) := by decide +kernel
theorem dX0_strip_120 : decode cX0_strip 120 = .ok (.goto (-22), 3) := by decide +kernel
theorem dX0_strip_123 : decode cX0_strip 123 = .ok (.iinc 2 1, 3) := by decide +kernel
theorem dX0_strip_126 : decode cX0_strip 126 = .ok (.goto (-95), 3) := by decide +kernel
theorem dX0_strip_129 : decode cX0_strip 129 = .ok (.aload_n 0, 1) := by decide +kernel
theorem dX0_strip_130 : decode cX0_strip 130 = .ok (.getfield 16, 3) := by decide +kernel
theorem dX0_strip_133 : decode cX0_strip 133 = .ok (.bipush 15, 2) := by decide +kernel
theorem dX0_strip_135 : decode cX0_strip 135 = .ok (.iaload, 1) := by decide +kernel
theorem dX0_strip_136 : decode cX0_strip 136 = .ok (.ireturn, 1) := by decide +kernel
abbrev cX0_move : ByteArray := prog_1_method_8_code
def yX0_move : MethodName := ⟨RX0, "move", "(II)V"⟩
theorem dX0_move_0 : decode cX0_move 0 = .ok (.iload_n 2, 1) := by decide +kernel
theorem dX0_move_1 : decode cX0_move 1 = .ok (.istore_n 3, 1) := by decide +kernel
theorem dX0_move_2 : decode cX0_move 2 = .ok (.iload_n 3, 1) := by decide +kernel
theorem dX0_move_3 : decode cX0_move 3 = .ok (.bipush 11, 2) := by decide +kernel
theorem dX0_move_5 : decode cX0_move 5 = .ok (.if_icmp .ge 87, 3) := by decide +kernel
theorem dX0_move_8 : decode cX0_move 8 = .ok (.iload_n 3, 1) := by decide +kernel
theorem dX0_move_9 : decode cX0_move 9 = .ok (.iload_n 2, 1) := by decide +kernel
theorem dX0_move_10 : decode cX0_move 10 = .ok (.isub, 1) := by decide +kernel
theorem dX0_move_11 : decode cX0_move 11 = .ok (.istore 4, 2) := by decide +kernel
theorem dX0_move_13 : decode cX0_move 13 = .ok (.iload_n 1, 1) := by decide +kernel
theorem dX0_move_14 : decode cX0_move 14 = .ok (.iload_n 3, 1) := by decide +kernel
theorem dX0_move_15 : decode cX0_move 15 = .ok (.ishr, 1) := by decide +kernel
theorem dX0_move_16 : decode cX0_move 16 = .ok (.iconst 1, 1) := by decide +kernel
theorem dX0_move_17 : decode cX0_move 17 = .ok (.iand, 1) := by decide +kernel
theorem dX0_move_18 : decode cX0_move 18 = .ok (.ifCond .eq 68, 3) := by decide +kernel
theorem dX0_move_21 : decode cX0_move 21 = .ok (.iload_n 1, 1) := by decide +kernel
theorem dX0_move_22 : decode cX0_move 22 = .ok (.iload 4, 2) := by decide +kernel
theorem dX0_move_24 : decode cX0_move 24 = .ok (.ishr, 1) := by decide +kernel
theorem dX0_move_25 : decode cX0_move 25 = .ok (.iconst 1, 1) := by decide +kernel
theorem dX0_move_26 : decode cX0_move 26 = .ok (.iand, 1) := by decide +kernel
theorem dX0_move_27 : decode cX0_move 27 = .ok (.ifCond .ne 59, 3) := by decide +kernel
theorem dX0_move_30 : decode cX0_move 30 = .ok (.iload_n 1, 1) := by decide +kernel
theorem dX0_move_31 : decode cX0_move 31 = .ok (.iload 4, 2) := by decide +kernel
theorem dX0_move_33 : decode cX0_move 33 = .ok (.iload_n 3, 1) := by decide +kernel
theorem dX0_move_34 : decode cX0_move 34 = .ok (.invokestatic 31, 3) := by decide +kernel
theorem dX0_move_37 : decode cX0_move 37 = .ok (.istore 5, 2) := by decide +kernel
theorem dX0_move_39 : decode cX0_move 39 = .ok (.iload_n 1, 1) := by decide +kernel
theorem dX0_move_40 : decode cX0_move 40 = .ok (.iconst 1, 1) := by decide +kernel
theorem dX0_move_41 : decode cX0_move 41 = .ok (.iload_n 3, 1) := by decide +kernel
theorem dX0_move_42 : decode cX0_move 42 = .ok (.ishl, 1) := by decide +kernel
theorem dX0_move_43 : decode cX0_move 43 = .ok (.iconst (-1), 1) := by decide +kernel
theorem dX0_move_44 : decode cX0_move 44 = .ok (.ixor, 1) := by decide +kernel
theorem dX0_move_45 : decode cX0_move 45 = .ok (.iand, 1) := by decide +kernel
theorem dX0_move_46 : decode cX0_move 46 = .ok (.iconst 1, 1) := by decide +kernel
theorem dX0_move_47 : decode cX0_move 47 = .ok (.iload 4, 2) := by decide +kernel
theorem dX0_move_49 : decode cX0_move 49 = .ok (.ishl, 1) := by decide +kernel
theorem dX0_move_50 : decode cX0_move 50 = .ok (.ior, 1) := by decide +kernel
theorem dX0_move_51 : decode cX0_move 51 = .ok (.istore 6, 2) := by decide +kernel
theorem dX0_move_53 : decode cX0_move 53 = .ok (.aload_n 0, 1) := by decide +kernel
theorem dX0_move_54 : decode cX0_move 54 = .ok (.getfield 20, 3) := by decide +kernel
theorem dX0_move_57 : decode cX0_move 57 = .ok (.iload 6, 2) := by decide +kernel
theorem dX0_move_59 : decode cX0_move 59 = .ok (.dup2, 1) := by decide +kernel
theorem dX0_move_60 : decode cX0_move 60 = .ok (.iaload, 1) := by decide +kernel
theorem dX0_move_61 : decode cX0_move 61 = .ok (.iload 5, 2) := by decide +kernel
theorem dX0_move_63 : decode cX0_move 63 = .ok (.iconst 1, 1) := by decide +kernel
theorem dX0_move_64 : decode cX0_move 64 = .ok (.iand, 1) := by decide +kernel
theorem dX0_move_65 : decode cX0_move 65 = .ok (.ifCond .ne 12, 3) := by decide +kernel
theorem dX0_move_68 : decode cX0_move 68 = .ok (.aload_n 0, 1) := by decide +kernel
theorem dX0_move_69 : decode cX0_move 69 = .ok (.getfield 16, 3) := by decide +kernel
theorem dX0_move_72 : decode cX0_move 72 = .ok (.iload_n 1, 1) := by decide +kernel
theorem dX0_move_73 : decode cX0_move 73 = .ok (.iaload, 1) := by decide +kernel
theorem dX0_move_74 : decode cX0_move 74 = .ok (.goto 10, 3) := by decide +kernel
theorem dX0_move_77 : decode cX0_move 77 = .ok (.aload_n 0, 1) := by decide +kernel
theorem dX0_move_78 : decode cX0_move 78 = .ok (.getfield 16, 3) := by decide +kernel
theorem dX0_move_81 : decode cX0_move 81 = .ok (.iload_n 1, 1) := by decide +kernel
theorem dX0_move_82 : decode cX0_move 82 = .ok (.iaload, 1) := by decide +kernel
theorem dX0_move_83 : decode cX0_move 83 = .ok (.ineg, 1) := by decide +kernel
theorem dX0_move_84 : decode cX0_move 84 = .ok (.iadd, 1) := by decide +kernel
theorem dX0_move_85 : decode cX0_move 85 = .ok (.iastore, 1) := by decide +kernel
theorem dX0_move_86 : decode cX0_move 86 = .ok (.iinc 3 1, 3) := by decide +kernel
theorem dX0_move_89 : decode cX0_move 89 = .ok (.goto (-87), 3) := by decide +kernel
theorem dX0_move_92 : decode cX0_move 92 = .ok (.return_, 1) := by decide +kernel
abbrev cX0_between : ByteArray := prog_1_method_6_code
def yX0_between : MethodName := ⟨RX0, "between", "(III)I"⟩
theorem dX0_between_0 : decode cX0_between 0 = .ok (.iconst 0, 1) := by decide +kernel
theorem dX0_between_1 : decode cX0_between 1 = .ok (.istore_n 3, 1) := by decide +kernel
theorem dX0_between_2 : decode cX0_between 2 = .ok (.iload_n 1, 1) := by decide +kernel
theorem dX0_between_3 : decode cX0_between 3 = .ok (.iconst 1, 1) := by decide +kernel
theorem dX0_between_4 : decode cX0_between 4 = .ok (.iadd, 1) := by decide +kernel
theorem dX0_between_5 : decode cX0_between 5 = .ok (.istore 4, 2) := by decide +kernel
theorem dX0_between_7 : decode cX0_between 7 = .ok (.iload 4, 2) := by decide +kernel
theorem dX0_between_9 : decode cX0_between 9 = .ok (.iload_n 2, 1) := by decide +kernel
theorem dX0_between_10 : decode cX0_between 10 = .ok (.if_icmp .ge 18, 3) := by decide +kernel
theorem dX0_between_13 : decode cX0_between 13 = .ok (.iload_n 3, 1) := by decide +kernel
theorem dX0_between_14 : decode cX0_between 14 = .ok (.iload_n 0, 1) := by decide +kernel
theorem dX0_between_15 : decode cX0_between 15 = .ok (.iload 4, 2) := by decide +kernel
theorem dX0_between_17 : decode cX0_between 17 = .ok (.ishr, 1) := by decide +kernel
theorem dX0_between_18 : decode cX0_between 18 = .ok (.iconst 1, 1) := by decide +kernel
theorem dX0_between_19 : decode cX0_between 19 = .ok (.iand, 1) := by decide +kernel
theorem dX0_between_20 : decode cX0_between 20 = .ok (.iadd, 1) := by decide +kernel
theorem dX0_between_21 : decode cX0_between 21 = .ok (.istore_n 3, 1) := by decide +kernel
theorem dX0_between_22 : decode cX0_between 22 = .ok (.iinc 4 1, 3) := by decide +kernel
theorem dX0_between_25 : decode cX0_between 25 = .ok (.goto (-18), 3) := by decide +kernel
theorem dX0_between_28 : decode cX0_between 28 = .ok (.iload_n 3, 1) := by decide +kernel
theorem dX0_between_29 : decode cX0_between 29 = .ok (.ireturn, 1) := by decide +kernel
abbrev cX0_degree : ByteArray := prog_1_method_13_code
def yX0_degree : MethodName := ⟨RX0, "degree", "(I)I"⟩
theorem dX0_degree_0 : decode cX0_degree 0 = .ok (.aload_n 0, 1) := by decide +kernel
theorem dX0_degree_1 : decode cX0_degree 1 = .ok (.iload_n 1, 1) := by decide +kernel
theorem dX0_degree_2 : decode cX0_degree 2 = .ok (.invokevirtual 35, 3) := by decide +kernel
theorem dX0_degree_5 : decode cX0_degree 5 = .ok (.istore_n 2, 1) := by decide +kernel
theorem dX0_degree_6 : decode cX0_degree 6 = .ok (.iload_n 2, 1) := by decide +kernel
theorem dX0_degree_7 : decode cX0_degree 7 = .ok (.ifCond .ne 6, 3) := by decide +kernel
theorem dX0_degree_10 : decode cX0_degree 10 = .ok (.ldc 39, 2) := by decide +kernel
theorem dX0_degree_12 : decode cX0_degree 12 = .ok (.ireturn, 1) := by decide +kernel
theorem dX0_degree_13 : decode cX0_degree 13 = .ok (.aload_n 0, 1) := by decide +kernel
theorem dX0_degree_14 : decode cX0_degree 14 = .ok (.iload_n 2, 1) := by decide +kernel
theorem dX0_degree_15 : decode cX0_degree 15 = .ok (.invokevirtual 57, 3) := by decide +kernel
theorem dX0_degree_18 : decode cX0_degree 18 = .ok (.aload_n 0, 1) := by decide +kernel
theorem dX0_degree_19 : decode cX0_degree 19 = .ok (.invokevirtual 50, 3) := by decide +kernel
theorem dX0_degree_22 : decode cX0_degree 22 = .ok (.istore_n 3, 1) := by decide +kernel
theorem dX0_degree_23 : decode cX0_degree 23 = .ok (.aload_n 0, 1) := by decide +kernel
theorem dX0_degree_24 : decode cX0_degree 24 = .ok (.iload_n 3, 1) := by decide +kernel
theorem dX0_degree_25 : decode cX0_degree 25 = .ok (.invokevirtual 54, 3) := by decide +kernel
theorem dX0_degree_28 : decode cX0_degree 28 = .ok (.ireturn, 1) := by decide +kernel
abbrev cX0_wantOnes : ByteArray := prog_1_method_5_code
def yX0_wantOnes : MethodName := ⟨RX0, "wantOnes", "(I)V"⟩
theorem dX0_wantOnes_0 : decode cX0_wantOnes 0 = .ok (.aload_n 0, 1) := by decide +kernel
theorem dX0_wantOnes_1 : decode cX0_wantOnes 1 = .ok (.iload_n 1, 1) := by decide +kernel
theorem dX0_wantOnes_2 : decode cX0_wantOnes 2 = .ok (.putfield 23, 3) := by decide +kernel
theorem dX0_wantOnes_5 : decode cX0_wantOnes 5 = .ok (.iconst 0, 1) := by decide +kernel
theorem dX0_wantOnes_6 : decode cX0_wantOnes 6 = .ok (.istore_n 2, 1) := by decide +kernel
theorem dX0_wantOnes_7 : decode cX0_wantOnes 7 = .ok (.iload_n 2, 1) := by decide +kernel
theorem dX0_wantOnes_8 : decode cX0_wantOnes 8 = .ok (.iload_n 1, 1) := by decide +kernel
theorem dX0_wantOnes_9 : decode cX0_wantOnes 9 = .ok (.if_icmp .ge 16, 3) := by decide +kernel
theorem dX0_wantOnes_12 : decode cX0_wantOnes 12 = .ok (.aload_n 0, 1) := by decide +kernel
theorem dX0_wantOnes_13 : decode cX0_wantOnes 13 = .ok (.getfield 13, 3) := by decide +kernel
theorem dX0_wantOnes_16 : decode cX0_wantOnes 16 = .ok (.iload_n 2, 1) := by decide +kernel
theorem dX0_wantOnes_17 : decode cX0_wantOnes 17 = .ok (.iconst 1, 1) := by decide +kernel
theorem dX0_wantOnes_18 : decode cX0_wantOnes 18 = .ok (.bastore, 1) := by decide +kernel
theorem dX0_wantOnes_19 : decode cX0_wantOnes 19 = .ok (.iinc 2 1, 3) := by decide +kernel
theorem dX0_wantOnes_22 : decode cX0_wantOnes 22 = .ok (.goto (-15), 3) := by decide +kernel
theorem dX0_wantOnes_25 : decode cX0_wantOnes 25 = .ok (.return_, 1) := by decide +kernel
abbrev cX0_count : ByteArray := prog_1_method_15_code
def yX0_count : MethodName := ⟨RX0, "count", "(I)I"⟩
theorem dX0_count_0 : decode cX0_count 0 = .ok (.iconst 0, 1) := by decide +kernel
theorem dX0_count_1 : decode cX0_count 1 = .ok (.istore_n 2, 1) := by decide +kernel
theorem dX0_count_2 : decode cX0_count 2 = .ok (.iconst 1, 1) := by decide +kernel
theorem dX0_count_3 : decode cX0_count 3 = .ok (.istore_n 3, 1) := by decide +kernel
theorem dX0_count_4 : decode cX0_count 4 = .ok (.iload_n 3, 1) := by decide +kernel
theorem dX0_count_5 : decode cX0_count 5 = .ok (.sipush 4096, 3) := by decide +kernel
theorem dX0_count_8 : decode cX0_count 8 = .ok (.if_icmp .ge 33, 3) := by decide +kernel
theorem dX0_count_11 : decode cX0_count 11 = .ok (.iload_n 1, 1) := by decide +kernel
theorem dX0_count_12 : decode cX0_count 12 = .ok (.invokestatic 61, 3) := by decide +kernel
theorem dX0_count_15 : decode cX0_count 15 = .ok (.ifCond .eq 26, 3) := by decide +kernel
theorem dX0_count_18 : decode cX0_count 18 = .ok (.iload_n 2, 1) := by decide +kernel
theorem dX0_count_19 : decode cX0_count 19 = .ok (.aload_n 0, 1) := by decide +kernel
theorem dX0_count_20 : decode cX0_count 20 = .ok (.iload_n 3, 1) := by decide +kernel
theorem dX0_count_21 : decode cX0_count 21 = .ok (.invokevirtual 35, 3) := by decide +kernel
theorem dX0_count_24 : decode cX0_count 24 = .ok (.iload_n 1, 1) := by decide +kernel
theorem dX0_count_25 : decode cX0_count 25 = .ok (.if_icmp .ne 7, 3) := by decide +kernel
theorem dX0_count_28 : decode cX0_count 28 = .ok (.iconst 1, 1) := by decide +kernel
theorem dX0_count_29 : decode cX0_count 29 = .ok (.goto 4, 3) := by decide +kernel
theorem dX0_count_32 : decode cX0_count 32 = .ok (.iconst 0, 1) := by decide +kernel
theorem dX0_count_33 : decode cX0_count 33 = .ok (.iadd, 1) := by decide +kernel
theorem dX0_count_34 : decode cX0_count 34 = .ok (.istore_n 2, 1) := by decide +kernel
theorem dX0_count_35 : decode cX0_count 35 = .ok (.iinc 3 1, 3) := by decide +kernel
theorem dX0_count_38 : decode cX0_count 38 = .ok (.goto (-34), 3) := by decide +kernel
theorem dX0_count_41 : decode cX0_count 41 = .ok (.iload_n 2, 1) := by decide +kernel
theorem dX0_count_42 : decode cX0_count 42 = .ok (.ireturn, 1) := by decide +kernel
abbrev cX0_isNumber : ByteArray := prog_1_method_14_code
def yX0_isNumber : MethodName := ⟨RX0, "isNumber", "(I)Z"⟩
theorem dX0_isNumber_0 : decode cX0_isNumber 0 = .ok (.iload_n 0, 1) := by decide +kernel
theorem dX0_isNumber_1 : decode cX0_isNumber 1 = .ok (.iconst 1, 1) := by decide +kernel
theorem dX0_isNumber_2 : decode cX0_isNumber 2 = .ok (.if_icmp .lt 13, 3) := by decide +kernel
theorem dX0_isNumber_5 : decode cX0_isNumber 5 = .ok (.iload_n 0, 1) := by decide +kernel
theorem dX0_isNumber_6 : decode cX0_isNumber 6 = .ok (.bipush 7, 2) := by decide +kernel
theorem dX0_isNumber_8 : decode cX0_isNumber 8 = .ok (.if_icmp .gt 7, 3) := by decide +kernel
theorem dX0_isNumber_11 : decode cX0_isNumber 11 = .ok (.iconst 1, 1) := by decide +kernel
theorem dX0_isNumber_12 : decode cX0_isNumber 12 = .ok (.goto 4, 3) := by decide +kernel
theorem dX0_isNumber_15 : decode cX0_isNumber 15 = .ok (.iconst 0, 1) := by decide +kernel
theorem dX0_isNumber_16 : decode cX0_isNumber 16 = .ok (.ireturn, 1) := by decide +kernel
abbrev cX0_partition : ByteArray := prog_1_method_16_code
def yX0_partition : MethodName := ⟨RX0, "partition", "(II)I"⟩
theorem dX0_partition_0 : decode cX0_partition 0 = .ok (.iload_n 1, 1) := by decide +kernel
theorem dX0_partition_1 : decode cX0_partition 1 = .ok (.invokestatic 61, 3) := by decide +kernel
theorem dX0_partition_4 : decode cX0_partition 4 = .ok (.ifCond .eq 7, 3) := by decide +kernel
theorem dX0_partition_7 : decode cX0_partition 7 = .ok (.iload_n 2, 1) := by decide +kernel
theorem dX0_partition_8 : decode cX0_partition 8 = .ok (.ifCond .ge 6, 3) := by decide +kernel
theorem dX0_partition_11 : decode cX0_partition 11 = .ok (.ldc 39, 2) := by decide +kernel
theorem dX0_partition_13 : decode cX0_partition 13 = .ok (.ireturn, 1) := by decide +kernel
theorem dX0_partition_14 : decode cX0_partition 14 = .ok (.iconst 0, 1) := by decide +kernel
theorem dX0_partition_15 : decode cX0_partition 15 = .ok (.istore_n 3, 1) := by decide +kernel
theorem dX0_partition_16 : decode cX0_partition 16 = .ok (.sipush 4095, 3) := by decide +kernel
theorem dX0_partition_19 : decode cX0_partition 19 = .ok (.istore 4, 2) := by decide +kernel
theorem dX0_partition_21 : decode cX0_partition 21 = .ok (.iload 4, 2) := by decide +kernel
theorem dX0_partition_23 : decode cX0_partition 23 = .ok (.ifCond .le 30, 3) := by decide +kernel
theorem dX0_partition_26 : decode cX0_partition 26 = .ok (.aload_n 0, 1) := by decide +kernel
theorem dX0_partition_27 : decode cX0_partition 27 = .ok (.iload 4, 2) := by decide +kernel
theorem dX0_partition_29 : decode cX0_partition 29 = .ok (.invokevirtual 35, 3) := by decide +kernel
theorem dX0_partition_32 : decode cX0_partition 32 = .ok (.iload_n 1, 1) := by decide +kernel
theorem dX0_partition_33 : decode cX0_partition 33 = .ok (.if_icmp .ne 14, 3) := by decide +kernel
theorem dX0_partition_36 : decode cX0_partition 36 = .ok (.iload_n 3, 1) := by decide +kernel
theorem dX0_partition_37 : decode cX0_partition 37 = .ok (.iload_n 2, 1) := by decide +kernel
theorem dX0_partition_38 : decode cX0_partition 38 = .ok (.if_icmp .ne 6, 3) := by decide +kernel
theorem dX0_partition_41 : decode cX0_partition 41 = .ok (.iload 4, 2) := by decide +kernel
theorem dX0_partition_43 : decode cX0_partition 43 = .ok (.ireturn, 1) := by decide +kernel
theorem dX0_partition_44 : decode cX0_partition 44 = .ok (.iinc 3 1, 3) := by decide +kernel
theorem dX0_partition_47 : decode cX0_partition 47 = .ok (.iinc 4 (-1), 3) := by decide +kernel
theorem dX0_partition_50 : decode cX0_partition 50 = .ok (.goto (-29), 3) := by decide +kernel
theorem dX0_partition_53 : decode cX0_partition 53 = .ok (.ldc 39, 2) := by decide +kernel
theorem dX0_partition_55 : decode cX0_partition 55 = .ok (.ireturn, 1) := by decide +kernel
abbrev cX0_turned : ByteArray := prog_1_method_17_code
def yX0_turned : MethodName := ⟨RX0, "turned", "(I)I"⟩
theorem dX0_turned_0 : decode cX0_turned 0 = .ok (.aload_n 0, 1) := by decide +kernel
theorem dX0_turned_1 : decode cX0_turned 1 = .ok (.iload_n 1, 1) := by decide +kernel
theorem dX0_turned_2 : decode cX0_turned 2 = .ok (.invokevirtual 35, 3) := by decide +kernel
theorem dX0_turned_5 : decode cX0_turned 5 = .ok (.ifCond .eq 13, 3) := by decide +kernel
theorem dX0_turned_8 : decode cX0_turned 8 = .ok (.aload_n 0, 1) := by decide +kernel
theorem dX0_turned_9 : decode cX0_turned 9 = .ok (.getfield 7, 3) := by decide +kernel
theorem dX0_turned_12 : decode cX0_turned 12 = .ok (.iconst 0, 1) := by decide +kernel
theorem dX0_turned_13 : decode cX0_turned 13 = .ok (.baload, 1) := by decide +kernel
theorem dX0_turned_14 : decode cX0_turned 14 = .ok (.iconst 4, 1) := by decide +kernel
theorem dX0_turned_15 : decode cX0_turned 15 = .ok (.if_icmp .le 6, 3) := by decide +kernel
theorem dX0_turned_18 : decode cX0_turned 18 = .ok (.ldc 39, 2) := by decide +kernel
theorem dX0_turned_20 : decode cX0_turned 20 = .ok (.ireturn, 1) := by decide +kernel
theorem dX0_turned_21 : decode cX0_turned 21 = .ok (.iconst 0, 1) := by decide +kernel
theorem dX0_turned_22 : decode cX0_turned 22 = .ok (.istore_n 2, 1) := by decide +kernel
theorem dX0_turned_23 : decode cX0_turned 23 = .ok (.iconst 4, 1) := by decide +kernel
theorem dX0_turned_24 : decode cX0_turned 24 = .ok (.istore_n 3, 1) := by decide +kernel
theorem dX0_turned_25 : decode cX0_turned 25 = .ok (.iload_n 3, 1) := by decide +kernel
theorem dX0_turned_26 : decode cX0_turned 26 = .ok (.iconst 1, 1) := by decide +kernel
theorem dX0_turned_27 : decode cX0_turned 27 = .ok (.if_icmp .lt 56, 3) := by decide +kernel
theorem dX0_turned_30 : decode cX0_turned 30 = .ok (.iconst 0, 1) := by decide +kernel
theorem dX0_turned_31 : decode cX0_turned 31 = .ok (.istore 4, 2) := by decide +kernel
theorem dX0_turned_33 : decode cX0_turned 33 = .ok (.iconst 0, 1) := by decide +kernel
theorem dX0_turned_34 : decode cX0_turned 34 = .ok (.istore 5, 2) := by decide +kernel
theorem dX0_turned_36 : decode cX0_turned 36 = .ok (.iload 5, 2) := by decide +kernel
theorem dX0_turned_38 : decode cX0_turned 38 = .ok (.iconst 4, 1) := by decide +kernel
theorem dX0_turned_39 : decode cX0_turned 39 = .ok (.if_icmp .ge 30, 3) := by decide +kernel
theorem dX0_turned_42 : decode cX0_turned 42 = .ok (.iload 4, 2) := by decide +kernel
theorem dX0_turned_44 : decode cX0_turned 44 = .ok (.aload_n 0, 1) := by decide +kernel
theorem dX0_turned_45 : decode cX0_turned 45 = .ok (.getfield 7, 3) := by decide +kernel
theorem dX0_turned_48 : decode cX0_turned 48 = .ok (.iload 5, 2) := by decide +kernel
theorem dX0_turned_50 : decode cX0_turned 50 = .ok (.baload, 1) := by decide +kernel
theorem dX0_turned_51 : decode cX0_turned 51 = .ok (.iload_n 3, 1) := by decide +kernel
theorem dX0_turned_52 : decode cX0_turned 52 = .ok (.if_icmp .lt 7, 3) := by decide +kernel
theorem dX0_turned_55 : decode cX0_turned 55 = .ok (.iconst 1, 1) := by decide +kernel
theorem dX0_turned_56 : decode cX0_turned 56 = .ok (.goto 4, 3) := by decide +kernel
theorem dX0_turned_59 : decode cX0_turned 59 = .ok (.iconst 0, 1) := by decide +kernel
theorem dX0_turned_60 : decode cX0_turned 60 = .ok (.iadd, 1) := by decide +kernel
theorem dX0_turned_61 : decode cX0_turned 61 = .ok (.istore 4, 2) := by decide +kernel
theorem dX0_turned_63 : decode cX0_turned 63 = .ok (.iinc 5 1, 3) := by decide +kernel
theorem dX0_turned_66 : decode cX0_turned 66 = .ok (.goto (-30), 3) := by decide +kernel
theorem dX0_turned_69 : decode cX0_turned 69 = .ok (.bipush 8, 2) := by decide +kernel
theorem dX0_turned_71 : decode cX0_turned 71 = .ok (.iload_n 2, 1) := by decide +kernel
theorem dX0_turned_72 : decode cX0_turned 72 = .ok (.imul, 1) := by decide +kernel
theorem dX0_turned_73 : decode cX0_turned 73 = .ok (.iload 4, 2) := by decide +kernel
theorem dX0_turned_75 : decode cX0_turned 75 = .ok (.iadd, 1) := by decide +kernel
theorem dX0_turned_76 : decode cX0_turned 76 = .ok (.istore_n 2, 1) := by decide +kernel
theorem dX0_turned_77 : decode cX0_turned 77 = .ok (.iinc 3 (-1), 3) := by decide +kernel
theorem dX0_turned_80 : decode cX0_turned 80 = .ok (.goto (-55), 3) := by decide +kernel
theorem dX0_turned_83 : decode cX0_turned 83 = .ok (.iload_n 2, 1) := by decide +kernel
theorem dX0_turned_84 : decode cX0_turned 84 = .ok (.ireturn, 1) := by decide +kernel
abbrev cX0_permutations : ByteArray := prog_1_method_18_code
def yX0_permutations : MethodName := ⟨RX0, "permutations", "(I)I"⟩
theorem dX0_permutations_0 : decode cX0_permutations 0 = .ok (.aload_n 0, 1) := by decide +kernel
theorem dX0_permutations_1 : decode cX0_permutations 1 = .ok (.iload_n 1, 1) := by decide +kernel
theorem dX0_permutations_2 : decode cX0_permutations 2 = .ok (.invokevirtual 35, 3) := by decide +kernel
theorem dX0_permutations_5 : decode cX0_permutations 5 = .ok (.istore_n 2, 1) := by decide +kernel
theorem dX0_permutations_6 : decode cX0_permutations 6 = .ok (.iload_n 2, 1) := by decide +kernel
theorem dX0_permutations_7 : decode cX0_permutations 7 = .ok (.ifCond .ne 6, 3) := by decide +kernel
theorem dX0_permutations_10 : decode cX0_permutations 10 = .ok (.ldc 39, 2) := by decide +kernel
theorem dX0_permutations_12 : decode cX0_permutations 12 = .ok (.ireturn, 1) := by decide +kernel
theorem dX0_permutations_13 : decode cX0_permutations 13 = .ok (.iconst 1, 1) := by decide +kernel
theorem dX0_permutations_14 : decode cX0_permutations 14 = .ok (.istore_n 3, 1) := by decide +kernel
theorem dX0_permutations_15 : decode cX0_permutations 15 = .ok (.iconst 2, 1) := by decide +kernel
theorem dX0_permutations_16 : decode cX0_permutations 16 = .ok (.istore 4, 2) := by decide +kernel
theorem dX0_permutations_18 : decode cX0_permutations 18 = .ok (.iload 4, 2) := by decide +kernel
theorem dX0_permutations_20 : decode cX0_permutations 20 = .ok (.iload_n 2, 1) := by decide +kernel
theorem dX0_permutations_21 : decode cX0_permutations 21 = .ok (.if_icmp .gt 14, 3) := by decide +kernel
theorem dX0_permutations_24 : decode cX0_permutations 24 = .ok (.iload_n 3, 1) := by decide +kernel
theorem dX0_permutations_25 : decode cX0_permutations 25 = .ok (.iload 4, 2) := by decide +kernel
theorem dX0_permutations_27 : decode cX0_permutations 27 = .ok (.imul, 1) := by decide +kernel
theorem dX0_permutations_28 : decode cX0_permutations 28 = .ok (.istore_n 3, 1) := by decide +kernel
theorem dX0_permutations_29 : decode cX0_permutations 29 = .ok (.iinc 4 1, 3) := by decide +kernel
theorem dX0_permutations_32 : decode cX0_permutations 32 = .ok (.goto (-14), 3) := by decide +kernel
theorem dX0_permutations_35 : decode cX0_permutations 35 = .ok (.iconst 0, 1) := by decide +kernel
theorem dX0_permutations_36 : decode cX0_permutations 36 = .ok (.istore 4, 2) := by decide +kernel
theorem dX0_permutations_38 : decode cX0_permutations 38 = .ok (.iconst 0, 1) := by decide +kernel
theorem dX0_permutations_39 : decode cX0_permutations 39 = .ok (.istore 5, 2) := by decide +kernel
theorem dX0_permutations_41 : decode cX0_permutations 41 = .ok (.iload 5, 2) := by decide +kernel
theorem dX0_permutations_43 : decode cX0_permutations 43 = .ok (.iconst 4, 1) := by decide +kernel
theorem dX0_permutations_44 : decode cX0_permutations 44 = .ok (.if_icmp .ge 79, 3) := by decide +kernel
theorem dX0_permutations_47 : decode cX0_permutations 47 = .ok (.aload_n 0, 1) := by decide +kernel
theorem dX0_permutations_48 : decode cX0_permutations 48 = .ok (.getfield 7, 3) := by decide +kernel
theorem dX0_permutations_51 : decode cX0_permutations 51 = .ok (.iload 5, 2) := by decide +kernel
theorem dX0_permutations_53 : decode cX0_permutations 53 = .ok (.baload, 1) := by decide +kernel
theorem dX0_permutations_54 : decode cX0_permutations 54 = .ok (.ifCond .le 63, 3) := by decide +kernel
theorem dX0_permutations_57 : decode cX0_permutations 57 = .ok (.iload 5, 2) := by decide +kernel
theorem dX0_permutations_59 : decode cX0_permutations 59 = .ok (.ifCond .le 29, 3) := by decide +kernel
theorem dX0_permutations_62 : decode cX0_permutations 62 = .ok (.aload_n 0, 1) := by decide +kernel
theorem dX0_permutations_63 : decode cX0_permutations 63 = .ok (.getfield 7, 3) := by decide +kernel
theorem dX0_permutations_66 : decode cX0_permutations 66 = .ok (.iload 5, 2) := by decide +kernel
theorem dX0_permutations_68 : decode cX0_permutations 68 = .ok (.baload, 1) := by decide +kernel
theorem dX0_permutations_69 : decode cX0_permutations 69 = .ok (.aload_n 0, 1) := by decide +kernel
theorem dX0_permutations_70 : decode cX0_permutations 70 = .ok (.getfield 7, 3) := by decide +kernel
theorem dX0_permutations_73 : decode cX0_permutations 73 = .ok (.iload 5, 2) := by decide +kernel
theorem dX0_permutations_75 : decode cX0_permutations 75 = .ok (.iconst 1, 1) := by decide +kernel
theorem dX0_permutations_76 : decode cX0_permutations 76 = .ok (.isub, 1) := by decide +kernel
theorem dX0_permutations_77 : decode cX0_permutations 77 = .ok (.baload, 1) := by decide +kernel
theorem dX0_permutations_78 : decode cX0_permutations 78 = .ok (.if_icmp .ne 10, 3) := by decide +kernel
theorem dX0_permutations_81 : decode cX0_permutations 81 = .ok (.iload 4, 2) := by decide +kernel
theorem dX0_permutations_83 : decode cX0_permutations 83 = .ok (.iconst 1, 1) := by decide +kernel
theorem dX0_permutations_84 : decode cX0_permutations 84 = .ok (.iadd, 1) := by decide +kernel
theorem dX0_permutations_85 : decode cX0_permutations 85 = .ok (.goto 4, 3) := by decide +kernel
theorem dX0_permutations_88 : decode cX0_permutations 88 = .ok (.iconst 1, 1) := by decide +kernel
theorem dX0_permutations_89 : decode cX0_permutations 89 = .ok (.istore 4, 2) := by decide +kernel
theorem dX0_permutations_91 : decode cX0_permutations 91 = .ok (.aload_n 0, 1) := by decide +kernel
theorem dX0_permutations_92 : decode cX0_permutations 92 = .ok (.getfield 7, 3) := by decide +kernel
theorem dX0_permutations_95 : decode cX0_permutations 95 = .ok (.iload 5, 2) := by decide +kernel
theorem dX0_permutations_97 : decode cX0_permutations 97 = .ok (.baload, 1) := by decide +kernel
theorem dX0_permutations_98 : decode cX0_permutations 98 = .ok (.iload 4, 2) := by decide +kernel
theorem dX0_permutations_100 : decode cX0_permutations 100 = .ok (.imul, 1) := by decide +kernel
theorem dX0_permutations_101 : decode cX0_permutations 101 = .ok (.istore 6, 2) := by decide +kernel
theorem dX0_permutations_103 : decode cX0_permutations 103 = .ok (.iload 6, 2) := by decide +kernel
theorem dX0_permutations_105 : decode cX0_permutations 105 = .ok (.ifCond .le 10, 3) := by decide +kernel
theorem dX0_permutations_108 : decode cX0_permutations 108 = .ok (.iload_n 3, 1) := by decide +kernel
theorem dX0_permutations_109 : decode cX0_permutations 109 = .ok (.iload 6, 2) := by decide +kernel
theorem dX0_permutations_111 : decode cX0_permutations 111 = .ok (.idiv, 1) := by decide +kernel
theorem dX0_permutations_112 : decode cX0_permutations 112 = .ok (.goto 4, 3) := by decide +kernel
theorem dX0_permutations_115 : decode cX0_permutations 115 = .ok (.iload_n 3, 1) := by decide +kernel
theorem dX0_permutations_116 : decode cX0_permutations 116 = .ok (.istore_n 3, 1) := by decide +kernel
theorem dX0_permutations_117 : decode cX0_permutations 117 = .ok (.iinc 5 1, 3) := by decide +kernel
theorem dX0_permutations_120 : decode cX0_permutations 120 = .ok (.goto (-79), 3) := by decide +kernel
theorem dX0_permutations_123 : decode cX0_permutations 123 = .ok (.iload_n 3, 1) := by decide +kernel
theorem dX0_permutations_124 : decode cX0_permutations 124 = .ok (.ireturn, 1) := by decide +kernel
abbrev cX0_squares : ByteArray := prog_1_method_19_code
def yX0_squares : MethodName := ⟨RX0, "squares", "(I)I"⟩
theorem dX0_squares_0 : decode cX0_squares 0 = .ok (.iload_n 1, 1) := by decide +kernel
theorem dX0_squares_1 : decode cX0_squares 1 = .ok (.invokestatic 61, 3) := by decide +kernel
theorem dX0_squares_4 : decode cX0_squares 4 = .ok (.ifCond .ne 6, 3) := by decide +kernel
theorem dX0_squares_7 : decode cX0_squares 7 = .ok (.ldc 39, 2) := by decide +kernel
theorem dX0_squares_9 : decode cX0_squares 9 = .ok (.ireturn, 1) := by decide +kernel
theorem dX0_squares_10 : decode cX0_squares 10 = .ok (.iconst 0, 1) := by decide +kernel
theorem dX0_squares_11 : decode cX0_squares 11 = .ok (.istore_n 2, 1) := by decide +kernel
theorem dX0_squares_12 : decode cX0_squares 12 = .ok (.iconst 1, 1) := by decide +kernel
theorem dX0_squares_13 : decode cX0_squares 13 = .ok (.istore_n 3, 1) := by decide +kernel
theorem dX0_squares_14 : decode cX0_squares 14 = .ok (.iload_n 3, 1) := by decide +kernel
theorem dX0_squares_15 : decode cX0_squares 15 = .ok (.sipush 4096, 3) := by decide +kernel
theorem dX0_squares_18 : decode cX0_squares 18 = .ok (.if_icmp .ge 33, 3) := by decide +kernel
theorem dX0_squares_21 : decode cX0_squares 21 = .ok (.aload_n 0, 1) := by decide +kernel
theorem dX0_squares_22 : decode cX0_squares 22 = .ok (.iload_n 3, 1) := by decide +kernel
theorem dX0_squares_23 : decode cX0_squares 23 = .ok (.invokevirtual 35, 3) := by decide +kernel
theorem dX0_squares_26 : decode cX0_squares 26 = .ok (.iload_n 1, 1) := by decide +kernel
theorem dX0_squares_27 : decode cX0_squares 27 = .ok (.if_icmp .ne 18, 3) := by decide +kernel
theorem dX0_squares_30 : decode cX0_squares 30 = .ok (.aload_n 0, 1) := by decide +kernel
theorem dX0_squares_31 : decode cX0_squares 31 = .ok (.iload_n 3, 1) := by decide +kernel
theorem dX0_squares_32 : decode cX0_squares 32 = .ok (.invokevirtual 65, 3) := by decide +kernel
theorem dX0_squares_35 : decode cX0_squares 35 = .ok (.istore 4, 2) := by decide +kernel
theorem dX0_squares_37 : decode cX0_squares 37 = .ok (.iload_n 2, 1) := by decide +kernel
theorem dX0_squares_38 : decode cX0_squares 38 = .ok (.iload 4, 2) := by decide +kernel
theorem dX0_squares_40 : decode cX0_squares 40 = .ok (.iload 4, 2) := by decide +kernel
theorem dX0_squares_42 : decode cX0_squares 42 = .ok (.imul, 1) := by decide +kernel
theorem dX0_squares_43 : decode cX0_squares 43 = .ok (.iadd, 1) := by decide +kernel
theorem dX0_squares_44 : decode cX0_squares 44 = .ok (.istore_n 2, 1) := by decide +kernel
theorem dX0_squares_45 : decode cX0_squares 45 = .ok (.iinc 3 1, 3) := by decide +kernel
theorem dX0_squares_48 : decode cX0_squares 48 = .ok (.goto (-34), 3) := by decide +kernel
theorem dX0_squares_51 : decode cX0_squares 51 = .ok (.iload_n 2, 1) := by decide +kernel
theorem dX0_squares_52 : decode cX0_squares 52 = .ok (.ireturn, 1) := by decide +kernel
abbrev cX0_vanishes : ByteArray := prog_1_method_20_code
def yX0_vanishes : MethodName := ⟨RX0, "vanishes", "(II)Z"⟩
theorem dX0_vanishes_0 : decode cX0_vanishes 0 = .ok (.aload_n 0, 1) := by decide +kernel
theorem dX0_vanishes_1 : decode cX0_vanishes 1 = .ok (.iload_n 1, 1) := by decide +kernel
theorem dX0_vanishes_2 : decode cX0_vanishes 2 = .ok (.iload_n 2, 1) := by decide +kernel
theorem dX0_vanishes_3 : decode cX0_vanishes 3 = .ok (.invokevirtual 43, 3) := by decide +kernel
theorem dX0_vanishes_6 : decode cX0_vanishes 6 = .ok (.ifCond .ne 7, 3) := by decide +kernel
theorem dX0_vanishes_9 : decode cX0_vanishes 9 = .ok (.iconst 1, 1) := by decide +kernel
theorem dX0_vanishes_10 : decode cX0_vanishes 10 = .ok (.goto 4, 3) := by decide +kernel
theorem dX0_vanishes_13 : decode cX0_vanishes 13 = .ok (.iconst 0, 1) := by decide +kernel
theorem dX0_vanishes_14 : decode cX0_vanishes 14 = .ok (.ireturn, 1) := by decide +kernel
abbrev cX0_greatest : ByteArray := prog_1_method_21_code
def yX0_greatest : MethodName := ⟨RX0, "greatest", "(I)I"⟩
theorem dX0_greatest_0 : decode cX0_greatest 0 = .ok (.aload_n 0, 1) := by decide +kernel
theorem dX0_greatest_1 : decode cX0_greatest 1 = .ok (.iload_n 1, 1) := by decide +kernel
theorem dX0_greatest_2 : decode cX0_greatest 2 = .ok (.invokevirtual 35, 3) := by decide +kernel
theorem dX0_greatest_5 : decode cX0_greatest 5 = .ok (.istore_n 2, 1) := by decide +kernel
theorem dX0_greatest_6 : decode cX0_greatest 6 = .ok (.ldc 39, 2) := by decide +kernel
theorem dX0_greatest_8 : decode cX0_greatest 8 = .ok (.istore_n 3, 1) := by decide +kernel
theorem dX0_greatest_9 : decode cX0_greatest 9 = .ok (.iconst 1, 1) := by decide +kernel
theorem dX0_greatest_10 : decode cX0_greatest 10 = .ok (.istore 4, 2) := by decide +kernel
theorem dX0_greatest_12 : decode cX0_greatest 12 = .ok (.iload 4, 2) := by decide +kernel
theorem dX0_greatest_14 : decode cX0_greatest 14 = .ok (.sipush 4096, 3) := by decide +kernel
theorem dX0_greatest_17 : decode cX0_greatest 17 = .ok (.if_icmp .ge 45, 3) := by decide +kernel
theorem dX0_greatest_20 : decode cX0_greatest 20 = .ok (.iload_n 2, 1) := by decide +kernel
theorem dX0_greatest_21 : decode cX0_greatest 21 = .ok (.ifCond .le 41, 3) := by decide +kernel
theorem dX0_greatest_24 : decode cX0_greatest 24 = .ok (.aload_n 0, 1) := by decide +kernel
theorem dX0_greatest_25 : decode cX0_greatest 25 = .ok (.iload 4, 2) := by decide +kernel
theorem dX0_greatest_27 : decode cX0_greatest 27 = .ok (.invokevirtual 35, 3) := by decide +kernel
theorem dX0_greatest_30 : decode cX0_greatest 30 = .ok (.iload_n 2, 1) := by decide +kernel
theorem dX0_greatest_31 : decode cX0_greatest 31 = .ok (.if_icmp .ne 25, 3) := by decide +kernel
theorem dX0_greatest_34 : decode cX0_greatest 34 = .ok (.aload_n 0, 1) := by decide +kernel
theorem dX0_greatest_35 : decode cX0_greatest 35 = .ok (.iload 4, 2) := by decide +kernel
theorem dX0_greatest_37 : decode cX0_greatest 37 = .ok (.iload_n 1, 1) := by decide +kernel
theorem dX0_greatest_38 : decode cX0_greatest 38 = .ok (.invokevirtual 43, 3) := by decide +kernel
theorem dX0_greatest_41 : decode cX0_greatest 41 = .ok (.istore 5, 2) := by decide +kernel
theorem dX0_greatest_43 : decode cX0_greatest 43 = .ok (.iload 5, 2) := by decide +kernel
theorem dX0_greatest_45 : decode cX0_greatest 45 = .ok (.iload_n 3, 1) := by decide +kernel
theorem dX0_greatest_46 : decode cX0_greatest 46 = .ok (.if_icmp .le 8, 3) := by decide +kernel
theorem dX0_greatest_49 : decode cX0_greatest 49 = .ok (.iload 5, 2) := by decide +kernel
theorem dX0_greatest_51 : decode cX0_greatest 51 = .ok (.goto 4, 3) := by decide +kernel
theorem dX0_greatest_54 : decode cX0_greatest 54 = .ok (.iload_n 3, 1) := by decide +kernel
theorem dX0_greatest_55 : decode cX0_greatest 55 = .ok (.istore_n 3, 1) := by decide +kernel
theorem dX0_greatest_56 : decode cX0_greatest 56 = .ok (.iinc 4 1, 3) := by decide +kernel
theorem dX0_greatest_59 : decode cX0_greatest 59 = .ok (.goto (-47), 3) := by decide +kernel
theorem dX0_greatest_62 : decode cX0_greatest 62 = .ok (.iload_n 3, 1) := by decide +kernel
theorem dX0_greatest_63 : decode cX0_greatest 63 = .ok (.ireturn, 1) := by decide +kernel
abbrev cX0_support : ByteArray := prog_1_method_22_code
def yX0_support : MethodName := ⟨RX0, "support", "(I)I"⟩
theorem dX0_support_0 : decode cX0_support 0 = .ok (.aload_n 0, 1) := by decide +kernel
theorem dX0_support_1 : decode cX0_support 1 = .ok (.iload_n 1, 1) := by decide +kernel
theorem dX0_support_2 : decode cX0_support 2 = .ok (.invokevirtual 35, 3) := by decide +kernel
theorem dX0_support_5 : decode cX0_support 5 = .ok (.istore_n 2, 1) := by decide +kernel
theorem dX0_support_6 : decode cX0_support 6 = .ok (.iload_n 2, 1) := by decide +kernel
theorem dX0_support_7 : decode cX0_support 7 = .ok (.ifCond .ne 6, 3) := by decide +kernel
theorem dX0_support_10 : decode cX0_support 10 = .ok (.ldc 39, 2) := by decide +kernel
theorem dX0_support_12 : decode cX0_support 12 = .ok (.ireturn, 1) := by decide +kernel
theorem dX0_support_13 : decode cX0_support 13 = .ok (.iconst 0, 1) := by decide +kernel
theorem dX0_support_14 : decode cX0_support 14 = .ok (.istore_n 3, 1) := by decide +kernel
theorem dX0_support_15 : decode cX0_support 15 = .ok (.iconst 1, 1) := by decide +kernel
theorem dX0_support_16 : decode cX0_support 16 = .ok (.istore 4, 2) := by decide +kernel
theorem dX0_support_18 : decode cX0_support 18 = .ok (.iload 4, 2) := by decide +kernel
theorem dX0_support_20 : decode cX0_support 20 = .ok (.sipush 4096, 3) := by decide +kernel
theorem dX0_support_23 : decode cX0_support 23 = .ok (.if_icmp .ge 41, 3) := by decide +kernel
theorem dX0_support_26 : decode cX0_support 26 = .ok (.aload_n 0, 1) := by decide +kernel
theorem dX0_support_27 : decode cX0_support 27 = .ok (.iload 4, 2) := by decide +kernel
theorem dX0_support_29 : decode cX0_support 29 = .ok (.invokevirtual 35, 3) := by decide +kernel
theorem dX0_support_32 : decode cX0_support 32 = .ok (.iload_n 2, 1) := by decide +kernel
theorem dX0_support_33 : decode cX0_support 33 = .ok (.if_icmp .ne 25, 3) := by decide +kernel
theorem dX0_support_36 : decode cX0_support 36 = .ok (.aload_n 0, 1) := by decide +kernel
theorem dX0_support_37 : decode cX0_support 37 = .ok (.iload 4, 2) := by decide +kernel
theorem dX0_support_39 : decode cX0_support 39 = .ok (.iload_n 1, 1) := by decide +kernel
theorem dX0_support_40 : decode cX0_support 40 = .ok (.invokevirtual 43, 3) := by decide +kernel
theorem dX0_support_43 : decode cX0_support 43 = .ok (.istore 5, 2) := by decide +kernel
theorem dX0_support_45 : decode cX0_support 45 = .ok (.iload_n 3, 1) := by decide +kernel
theorem dX0_support_46 : decode cX0_support 46 = .ok (.iload 5, 2) := by decide +kernel
theorem dX0_support_48 : decode cX0_support 48 = .ok (.ifCond .eq 7, 3) := by decide +kernel
theorem dX0_support_51 : decode cX0_support 51 = .ok (.iconst 1, 1) := by decide +kernel
theorem dX0_support_52 : decode cX0_support 52 = .ok (.goto 4, 3) := by decide +kernel
theorem dX0_support_55 : decode cX0_support 55 = .ok (.iconst 0, 1) := by decide +kernel
theorem dX0_support_56 : decode cX0_support 56 = .ok (.iadd, 1) := by decide +kernel
theorem dX0_support_57 : decode cX0_support 57 = .ok (.istore_n 3, 1) := by decide +kernel
theorem dX0_support_58 : decode cX0_support 58 = .ok (.iinc 4 1, 3) := by decide +kernel
theorem dX0_support_61 : decode cX0_support 61 = .ok (.goto (-43), 3) := by decide +kernel
theorem dX0_support_64 : decode cX0_support 64 = .ok (.iload_n 3, 1) := by decide +kernel
theorem dX0_support_65 : decode cX0_support 65 = .ok (.ireturn, 1) := by decide +kernel
theorem q15 : (Jvm.Cond.initialized "CharacterDesk") ∈ lw_all := lw_g (lw_at lw_m0 1 rfl) rfl
theorem q18 : (Jvm.Cond.instantiable "CharacterDesk" (6 : Nat)) ∈ lw_all := lw_g (lw_at lw_m0 4 rfl) rfl
theorem q20 : (Jvm.Cond.instanceMethod ({ cls := "CharacterDesk", name := "<init>", desc := "()V" } : Jvm.MethodName)) ∈ lw_all := lw_g (lw_at lw_m0 6 rfl) rfl
theorem q21 : (Jvm.Cond.code ({ cls := "CharacterDesk", name := "<init>", desc := "()V" } : Jvm.MethodName) prog_1_method_1_code (1 : Nat) (Option.none : Option Jvm.ClassFile.FieldType)) ∈ lw_all := lw_g (lw_at lw_m0 7 rfl) rfl
theorem q22 : (Jvm.Cond.methodLink "CharacterDesk" (1 : Nat) ({ cls := "java/lang/Object", name := "<init>", desc := "()V" } : Jvm.MethodName)) ∈ lw_all := lw_g (lw_at lw_m0 8 rfl) rfl
theorem q25 : (Jvm.Cond.fieldLink "CharacterDesk" (40 : Nat) "CharacterDesk" "chosen" "I") ∈ lw_all := lw_g (lw_at lw_m0 11 rfl) rfl
theorem q26 : (Jvm.Cond.fieldLink "CharacterDesk" (7 : Nat) "CharacterDesk" "parts" "[B") ∈ lw_all := lw_g (lw_at lw_m0 12 rfl) rfl
theorem q27 : (Jvm.Cond.fieldLink "CharacterDesk" (13 : Nat) "CharacterDesk" "rims" "[B") ∈ lw_all := lw_g (lw_at lw_m0 13 rfl) rfl
theorem q28 : (Jvm.Cond.fieldLink "CharacterDesk" (23 : Nat) "CharacterDesk" "rimCount" "I") ∈ lw_all := lw_g (lw_at lw_m0 14 rfl) rfl
theorem q29 : (Jvm.Cond.fieldLink "CharacterDesk" (16 : Nat) "CharacterDesk" "now" "[I") ∈ lw_all := lw_g (lw_at lw_m0 15 rfl) rfl
theorem q30 : (Jvm.Cond.fieldLink "CharacterDesk" (20 : Nat) "CharacterDesk" "then" "[I") ∈ lw_all := lw_g (lw_at lw_m0 16 rfl) rfl
theorem q31 : (Jvm.Cond.lays "CharacterDesk" "CharacterDesk" "chosen" "I") ∈ lw_all := lw_g (lw_at lw_m0 17 rfl) rfl
theorem q32 : (Jvm.Cond.soleField "CharacterDesk" "chosen") ∈ lw_all := lw_g (lw_at lw_m0 18 rfl) rfl
theorem q33 : (Jvm.Cond.laysFinal "CharacterDesk" "CharacterDesk" "parts" "[B") ∈ lw_all := lw_g (lw_at lw_m0 19 rfl) rfl
theorem q34 : (Jvm.Cond.soleField "CharacterDesk" "parts") ∈ lw_all := lw_g (lw_at lw_m0 20 rfl) rfl
theorem q35 : (Jvm.Cond.laysFinal "CharacterDesk" "CharacterDesk" "rims" "[B") ∈ lw_all := lw_g (lw_at lw_m0 21 rfl) rfl
theorem q36 : (Jvm.Cond.soleField "CharacterDesk" "rims") ∈ lw_all := lw_g (lw_at lw_m0 22 rfl) rfl
theorem q37 : (Jvm.Cond.lays "CharacterDesk" "CharacterDesk" "rimCount" "I") ∈ lw_all := lw_g (lw_at lw_m0 23 rfl) rfl
theorem q38 : (Jvm.Cond.soleField "CharacterDesk" "rimCount") ∈ lw_all := lw_g (lw_at lw_m0 24 rfl) rfl
theorem q39 : (Jvm.Cond.laysFinal "CharacterDesk" "CharacterDesk" "now" "[I") ∈ lw_all := lw_g (lw_at lw_m0 25 rfl) rfl
theorem q40 : (Jvm.Cond.soleField "CharacterDesk" "now") ∈ lw_all := lw_g (lw_at lw_m0 26 rfl) rfl
theorem q41 : (Jvm.Cond.laysFinal "CharacterDesk" "CharacterDesk" "then" "[I") ∈ lw_all := lw_g (lw_at lw_m0 27 rfl) rfl
theorem q42 : (Jvm.Cond.soleField "CharacterDesk" "then") ∈ lw_all := lw_g (lw_at lw_m0 28 rfl) rfl
theorem q43 : (Jvm.Cond.superclass "CharacterDesk" "java/lang/Object") ∈ lw_all := lw_g (lw_at lw_m0 29 rfl) rfl
theorem q47 : (Jvm.Cond.instanceMethod ({ cls := "CharacterDesk", name := "choose", desc := "(I)I" } : Jvm.MethodName)) ∈ lw_all := lw_g (lw_at lw_m0 33 rfl) rfl
theorem q48 : (Jvm.Cond.selects "CharacterDesk" ({ cls := "CharacterDesk", name := "choose", desc := "(I)I" } : Jvm.MethodName) ({ cls := "CharacterDesk", name := "choose", desc := "(I)I" } : Jvm.MethodName)) ∈ lw_all := lw_g (lw_at lw_m0 34 rfl) rfl
theorem q49 : (Jvm.Cond.code ({ cls := "CharacterDesk", name := "choose", desc := "(I)I" } : Jvm.MethodName) prog_1_method_9_code (3 : Nat) (Option.some Jvm.ClassFile.FieldType.int)) ∈ lw_all := lw_g (lw_at lw_m0 35 rfl) rfl
theorem q50 : (Jvm.Cond.methodLink "CharacterDesk" (35 : Nat) ({ cls := "CharacterDesk", name := "read", desc := "(I)I" } : Jvm.MethodName)) ∈ lw_all := lw_g (lw_at lw_m0 36 rfl) rfl
theorem q51 : (Jvm.Cond.privateMethod ({ cls := "CharacterDesk", name := "read", desc := "(I)I" } : Jvm.MethodName)) ∈ lw_tbl := lw_at lw_m0 37 rfl
theorem q52 : (Jvm.Cond.instanceMethod ({ cls := "CharacterDesk", name := "read", desc := "(I)I" } : Jvm.MethodName)) ∈ lw_all := lw_g (lw_at lw_m0 38 rfl) rfl
theorem q53 : (Jvm.Cond.code ({ cls := "CharacterDesk", name := "read", desc := "(I)I" } : Jvm.MethodName) prog_1_method_2_code (4 : Nat) (Option.some Jvm.ClassFile.FieldType.int)) ∈ lw_all := lw_g (lw_at lw_m0 39 rfl) rfl
theorem q54 : (Jvm.Cond.constant "CharacterDesk" (39 : Nat) (-1000000 : Int32)) ∈ lw_all := lw_g (lw_at lw_m0 40 rfl) rfl
theorem q56 : (Jvm.Cond.instanceMethod ({ cls := "CharacterDesk", name := "shape", desc := "()I" } : Jvm.MethodName)) ∈ lw_all := lw_g (lw_at lw_m0 42 rfl) rfl
theorem q57 : (Jvm.Cond.selects "CharacterDesk" ({ cls := "CharacterDesk", name := "shape", desc := "()I" } : Jvm.MethodName) ({ cls := "CharacterDesk", name := "shape", desc := "()I" } : Jvm.MethodName)) ∈ lw_all := lw_g (lw_at lw_m0 43 rfl) rfl
theorem q58 : (Jvm.Cond.code ({ cls := "CharacterDesk", name := "shape", desc := "()I" } : Jvm.MethodName) prog_1_method_10_code (1 : Nat) (Option.some Jvm.ClassFile.FieldType.int)) ∈ lw_all := lw_g (lw_at lw_m0 44 rfl) rfl
theorem q60 : (Jvm.Cond.instanceMethod ({ cls := "CharacterDesk", name := "at", desc := "(I)I" } : Jvm.MethodName)) ∈ lw_all := lw_g (lw_at lw_m0 46 rfl) rfl
theorem q61 : (Jvm.Cond.selects "CharacterDesk" ({ cls := "CharacterDesk", name := "at", desc := "(I)I" } : Jvm.MethodName) ({ cls := "CharacterDesk", name := "at", desc := "(I)I" } : Jvm.MethodName)) ∈ lw_all := lw_g (lw_at lw_m0 47 rfl) rfl
theorem q62 : (Jvm.Cond.code ({ cls := "CharacterDesk", name := "at", desc := "(I)I" } : Jvm.MethodName) prog_1_method_11_code (2 : Nat) (Option.some Jvm.ClassFile.FieldType.int)) ∈ lw_all := lw_g (lw_at lw_m0 48 rfl) rfl
theorem q63 : (Jvm.Cond.methodLink "CharacterDesk" (43 : Nat) ({ cls := "CharacterDesk", name := "character", desc := "(II)I" } : Jvm.MethodName)) ∈ lw_all := lw_g (lw_at lw_m0 49 rfl) rfl
theorem q64 : (Jvm.Cond.instanceMethod ({ cls := "CharacterDesk", name := "character", desc := "(II)I" } : Jvm.MethodName)) ∈ lw_all := lw_g (lw_at lw_m0 50 rfl) rfl
theorem q65 : (Jvm.Cond.selects "CharacterDesk" ({ cls := "CharacterDesk", name := "character", desc := "(II)I" } : Jvm.MethodName) ({ cls := "CharacterDesk", name := "character", desc := "(II)I" } : Jvm.MethodName)) ∈ lw_all := lw_g (lw_at lw_m0 51 rfl) rfl
theorem q66 : (Jvm.Cond.code ({ cls := "CharacterDesk", name := "character", desc := "(II)I" } : Jvm.MethodName) prog_1_method_12_code (5 : Nat) (Option.some Jvm.ClassFile.FieldType.int)) ∈ lw_all := lw_g (lw_at lw_m0 52 rfl) rfl
theorem q67 : (Jvm.Cond.methodLink "CharacterDesk" (47 : Nat) ({ cls := "CharacterDesk", name := "wantParts", desc := "()V" } : Jvm.MethodName)) ∈ lw_all := lw_g (lw_at lw_m0 53 rfl) rfl
theorem q68 : (Jvm.Cond.privateMethod ({ cls := "CharacterDesk", name := "wantParts", desc := "()V" } : Jvm.MethodName)) ∈ lw_tbl := lw_at lw_m0 54 rfl
theorem q69 : (Jvm.Cond.instanceMethod ({ cls := "CharacterDesk", name := "wantParts", desc := "()V" } : Jvm.MethodName)) ∈ lw_all := lw_g (lw_at lw_m0 55 rfl) rfl
theorem q70 : (Jvm.Cond.code ({ cls := "CharacterDesk", name := "wantParts", desc := "()V" } : Jvm.MethodName) prog_1_method_4_code (2 : Nat) (Option.none : Option Jvm.ClassFile.FieldType)) ∈ lw_all := lw_g (lw_at lw_m0 56 rfl) rfl
theorem q71 : (Jvm.Cond.methodLink "CharacterDesk" (50 : Nat) ({ cls := "CharacterDesk", name := "marks", desc := "()I" } : Jvm.MethodName)) ∈ lw_all := lw_g (lw_at lw_m0 57 rfl) rfl
theorem q72 : (Jvm.Cond.privateMethod ({ cls := "CharacterDesk", name := "marks", desc := "()I" } : Jvm.MethodName)) ∈ lw_tbl := lw_at lw_m0 58 rfl
theorem q73 : (Jvm.Cond.instanceMethod ({ cls := "CharacterDesk", name := "marks", desc := "()I" } : Jvm.MethodName)) ∈ lw_all := lw_g (lw_at lw_m0 59 rfl) rfl
theorem q74 : (Jvm.Cond.code ({ cls := "CharacterDesk", name := "marks", desc := "()I" } : Jvm.MethodName) prog_1_method_3_code (3 : Nat) (Option.some Jvm.ClassFile.FieldType.int)) ∈ lw_all := lw_g (lw_at lw_m0 60 rfl) rfl
theorem q75 : (Jvm.Cond.methodLink "CharacterDesk" (54 : Nat) ({ cls := "CharacterDesk", name := "strip", desc := "(I)I" } : Jvm.MethodName)) ∈ lw_all := lw_g (lw_at lw_m0 61 rfl) rfl
theorem q76 : (Jvm.Cond.privateMethod ({ cls := "CharacterDesk", name := "strip", desc := "(I)I" } : Jvm.MethodName)) ∈ lw_tbl := lw_at lw_m0 62 rfl
theorem q77 : (Jvm.Cond.instanceMethod ({ cls := "CharacterDesk", name := "strip", desc := "(I)I" } : Jvm.MethodName)) ∈ lw_all := lw_g (lw_at lw_m0 63 rfl) rfl
theorem q78 : (Jvm.Cond.code ({ cls := "CharacterDesk", name := "strip", desc := "(I)I" } : Jvm.MethodName) prog_1_method_7_code (4 : Nat) (Option.some Jvm.ClassFile.FieldType.int)) ∈ lw_all := lw_g (lw_at lw_m0 64 rfl) rfl
theorem q79 : (Jvm.Cond.methodLink "CharacterDesk" (27 : Nat) ({ cls := "CharacterDesk", name := "move", desc := "(II)V" } : Jvm.MethodName)) ∈ lw_all := lw_g (lw_at lw_m0 65 rfl) rfl
theorem q80 : (Jvm.Cond.privateMethod ({ cls := "CharacterDesk", name := "move", desc := "(II)V" } : Jvm.MethodName)) ∈ lw_tbl := lw_at lw_m0 66 rfl
theorem q81 : (Jvm.Cond.instanceMethod ({ cls := "CharacterDesk", name := "move", desc := "(II)V" } : Jvm.MethodName)) ∈ lw_all := lw_g (lw_at lw_m0 67 rfl) rfl
theorem q82 : (Jvm.Cond.code ({ cls := "CharacterDesk", name := "move", desc := "(II)V" } : Jvm.MethodName) prog_1_method_8_code (7 : Nat) (Option.none : Option Jvm.ClassFile.FieldType)) ∈ lw_all := lw_g (lw_at lw_m0 68 rfl) rfl
theorem q83 : (Jvm.Cond.methodLink "CharacterDesk" (31 : Nat) ({ cls := "CharacterDesk", name := "between", desc := "(III)I" } : Jvm.MethodName)) ∈ lw_all := lw_g (lw_at lw_m0 69 rfl) rfl
theorem q84 : (Jvm.Cond.static ({ cls := "CharacterDesk", name := "between", desc := "(III)I" } : Jvm.MethodName)) ∈ lw_all := lw_g (lw_at lw_m0 70 rfl) rfl
theorem q85 : (Jvm.Cond.code ({ cls := "CharacterDesk", name := "between", desc := "(III)I" } : Jvm.MethodName) prog_1_method_6_code (5 : Nat) (Option.some Jvm.ClassFile.FieldType.int)) ∈ lw_all := lw_g (lw_at lw_m0 71 rfl) rfl
theorem q88 : (Jvm.Cond.instanceMethod ({ cls := "CharacterDesk", name := "degree", desc := "(I)I" } : Jvm.MethodName)) ∈ lw_all := lw_g (lw_at lw_m0 74 rfl) rfl
theorem q89 : (Jvm.Cond.selects "CharacterDesk" ({ cls := "CharacterDesk", name := "degree", desc := "(I)I" } : Jvm.MethodName) ({ cls := "CharacterDesk", name := "degree", desc := "(I)I" } : Jvm.MethodName)) ∈ lw_all := lw_g (lw_at lw_m0 75 rfl) rfl
theorem q90 : (Jvm.Cond.code ({ cls := "CharacterDesk", name := "degree", desc := "(I)I" } : Jvm.MethodName) prog_1_method_13_code (4 : Nat) (Option.some Jvm.ClassFile.FieldType.int)) ∈ lw_all := lw_g (lw_at lw_m0 76 rfl) rfl
theorem q91 : (Jvm.Cond.methodLink "CharacterDesk" (57 : Nat) ({ cls := "CharacterDesk", name := "wantOnes", desc := "(I)V" } : Jvm.MethodName)) ∈ lw_all := lw_g (lw_at lw_m0 77 rfl) rfl
theorem q92 : (Jvm.Cond.privateMethod ({ cls := "CharacterDesk", name := "wantOnes", desc := "(I)V" } : Jvm.MethodName)) ∈ lw_tbl := lw_at lw_m0 78 rfl
theorem q93 : (Jvm.Cond.instanceMethod ({ cls := "CharacterDesk", name := "wantOnes", desc := "(I)V" } : Jvm.MethodName)) ∈ lw_all := lw_g (lw_at lw_m0 79 rfl) rfl
theorem q94 : (Jvm.Cond.code ({ cls := "CharacterDesk", name := "wantOnes", desc := "(I)V" } : Jvm.MethodName) prog_1_method_5_code (3 : Nat) (Option.none : Option Jvm.ClassFile.FieldType)) ∈ lw_all := lw_g (lw_at lw_m0 80 rfl) rfl
theorem q96 : (Jvm.Cond.instanceMethod ({ cls := "CharacterDesk", name := "count", desc := "(I)I" } : Jvm.MethodName)) ∈ lw_all := lw_g (lw_at lw_m0 82 rfl) rfl
theorem q97 : (Jvm.Cond.selects "CharacterDesk" ({ cls := "CharacterDesk", name := "count", desc := "(I)I" } : Jvm.MethodName) ({ cls := "CharacterDesk", name := "count", desc := "(I)I" } : Jvm.MethodName)) ∈ lw_all := lw_g (lw_at lw_m0 83 rfl) rfl
theorem q98 : (Jvm.Cond.code ({ cls := "CharacterDesk", name := "count", desc := "(I)I" } : Jvm.MethodName) prog_1_method_15_code (4 : Nat) (Option.some Jvm.ClassFile.FieldType.int)) ∈ lw_all := lw_g (lw_at lw_m0 84 rfl) rfl
theorem q99 : (Jvm.Cond.methodLink "CharacterDesk" (61 : Nat) ({ cls := "CharacterDesk", name := "isNumber", desc := "(I)Z" } : Jvm.MethodName)) ∈ lw_all := lw_g (lw_at lw_m0 85 rfl) rfl
theorem q100 : (Jvm.Cond.static ({ cls := "CharacterDesk", name := "isNumber", desc := "(I)Z" } : Jvm.MethodName)) ∈ lw_all := lw_g (lw_at lw_m0 86 rfl) rfl
theorem q101 : (Jvm.Cond.code ({ cls := "CharacterDesk", name := "isNumber", desc := "(I)Z" } : Jvm.MethodName) prog_1_method_14_code (1 : Nat) (Option.some Jvm.ClassFile.FieldType.boolean)) ∈ lw_all := lw_g (lw_at lw_m0 87 rfl) rfl
theorem q103 : (Jvm.Cond.instanceMethod ({ cls := "CharacterDesk", name := "partition", desc := "(II)I" } : Jvm.MethodName)) ∈ lw_all := lw_g (lw_at lw_m0 89 rfl) rfl
theorem q104 : (Jvm.Cond.selects "CharacterDesk" ({ cls := "CharacterDesk", name := "partition", desc := "(II)I" } : Jvm.MethodName) ({ cls := "CharacterDesk", name := "partition", desc := "(II)I" } : Jvm.MethodName)) ∈ lw_all := lw_g (lw_at lw_m0 90 rfl) rfl
theorem q105 : (Jvm.Cond.code ({ cls := "CharacterDesk", name := "partition", desc := "(II)I" } : Jvm.MethodName) prog_1_method_16_code (5 : Nat) (Option.some Jvm.ClassFile.FieldType.int)) ∈ lw_all := lw_g (lw_at lw_m0 91 rfl) rfl
theorem q107 : (Jvm.Cond.instanceMethod ({ cls := "CharacterDesk", name := "turned", desc := "(I)I" } : Jvm.MethodName)) ∈ lw_all := lw_g (lw_at lw_m0 93 rfl) rfl
theorem q108 : (Jvm.Cond.selects "CharacterDesk" ({ cls := "CharacterDesk", name := "turned", desc := "(I)I" } : Jvm.MethodName) ({ cls := "CharacterDesk", name := "turned", desc := "(I)I" } : Jvm.MethodName)) ∈ lw_all := lw_g (lw_at lw_m0 94 rfl) rfl
theorem q109 : (Jvm.Cond.code ({ cls := "CharacterDesk", name := "turned", desc := "(I)I" } : Jvm.MethodName) prog_1_method_17_code (6 : Nat) (Option.some Jvm.ClassFile.FieldType.int)) ∈ lw_all := lw_g (lw_at lw_m0 95 rfl) rfl
theorem q111 : (Jvm.Cond.instanceMethod ({ cls := "CharacterDesk", name := "permutations", desc := "(I)I" } : Jvm.MethodName)) ∈ lw_all := lw_g (lw_at lw_m0 97 rfl) rfl
theorem q112 : (Jvm.Cond.selects "CharacterDesk" ({ cls := "CharacterDesk", name := "permutations", desc := "(I)I" } : Jvm.MethodName) ({ cls := "CharacterDesk", name := "permutations", desc := "(I)I" } : Jvm.MethodName)) ∈ lw_all := lw_g (lw_at lw_m0 98 rfl) rfl
theorem q113 : (Jvm.Cond.code ({ cls := "CharacterDesk", name := "permutations", desc := "(I)I" } : Jvm.MethodName) prog_1_method_18_code (7 : Nat) (Option.some Jvm.ClassFile.FieldType.int)) ∈ lw_all := lw_g (lw_at lw_m0 99 rfl) rfl
theorem q115 : (Jvm.Cond.instanceMethod ({ cls := "CharacterDesk", name := "squares", desc := "(I)I" } : Jvm.MethodName)) ∈ lw_all := lw_g (lw_at lw_m0 101 rfl) rfl
theorem q116 : (Jvm.Cond.selects "CharacterDesk" ({ cls := "CharacterDesk", name := "squares", desc := "(I)I" } : Jvm.MethodName) ({ cls := "CharacterDesk", name := "squares", desc := "(I)I" } : Jvm.MethodName)) ∈ lw_all := lw_g (lw_at lw_m0 102 rfl) rfl
theorem q117 : (Jvm.Cond.code ({ cls := "CharacterDesk", name := "squares", desc := "(I)I" } : Jvm.MethodName) prog_1_method_19_code (5 : Nat) (Option.some Jvm.ClassFile.FieldType.int)) ∈ lw_all := lw_g (lw_at lw_m0 103 rfl) rfl
theorem q118 : (Jvm.Cond.methodLink "CharacterDesk" (65 : Nat) ({ cls := "CharacterDesk", name := "degree", desc := "(I)I" } : Jvm.MethodName)) ∈ lw_all := lw_g (lw_at lw_m0 104 rfl) rfl
theorem q120 : (Jvm.Cond.instanceMethod ({ cls := "CharacterDesk", name := "vanishes", desc := "(II)Z" } : Jvm.MethodName)) ∈ lw_all := lw_g (lw_at lw_m0 106 rfl) rfl
theorem q121 : (Jvm.Cond.selects "CharacterDesk" ({ cls := "CharacterDesk", name := "vanishes", desc := "(II)Z" } : Jvm.MethodName) ({ cls := "CharacterDesk", name := "vanishes", desc := "(II)Z" } : Jvm.MethodName)) ∈ lw_all := lw_g (lw_at lw_m0 107 rfl) rfl
theorem q122 : (Jvm.Cond.code ({ cls := "CharacterDesk", name := "vanishes", desc := "(II)Z" } : Jvm.MethodName) prog_1_method_20_code (3 : Nat) (Option.some Jvm.ClassFile.FieldType.boolean)) ∈ lw_all := lw_g (lw_at lw_m0 108 rfl) rfl
theorem q124 : (Jvm.Cond.instanceMethod ({ cls := "CharacterDesk", name := "greatest", desc := "(I)I" } : Jvm.MethodName)) ∈ lw_all := lw_g (lw_at lw_m0 110 rfl) rfl
theorem q125 : (Jvm.Cond.selects "CharacterDesk" ({ cls := "CharacterDesk", name := "greatest", desc := "(I)I" } : Jvm.MethodName) ({ cls := "CharacterDesk", name := "greatest", desc := "(I)I" } : Jvm.MethodName)) ∈ lw_all := lw_g (lw_at lw_m0 111 rfl) rfl
theorem q126 : (Jvm.Cond.code ({ cls := "CharacterDesk", name := "greatest", desc := "(I)I" } : Jvm.MethodName) prog_1_method_21_code (6 : Nat) (Option.some Jvm.ClassFile.FieldType.int)) ∈ lw_all := lw_g (lw_at lw_m0 112 rfl) rfl
theorem q128 : (Jvm.Cond.instanceMethod ({ cls := "CharacterDesk", name := "support", desc := "(I)I" } : Jvm.MethodName)) ∈ lw_all := lw_g (lw_at lw_m0 114 rfl) rfl
theorem q129 : (Jvm.Cond.selects "CharacterDesk" ({ cls := "CharacterDesk", name := "support", desc := "(I)I" } : Jvm.MethodName) ({ cls := "CharacterDesk", name := "support", desc := "(I)I" } : Jvm.MethodName)) ∈ lw_all := lw_g (lw_at lw_m0 115 rfl) rfl
theorem q130 : (Jvm.Cond.code ({ cls := "CharacterDesk", name := "support", desc := "(I)I" } : Jvm.MethodName) prog_1_method_22_code (6 : Nat) (Option.some Jvm.ClassFile.FieldType.int)) ∈ lw_all := lw_g (lw_at lw_m0 116 rfl) rfl
theorem in_X0 : ∀ w ∈ wsX00, w ∈ lw_all := lw_in wsX00 [31, 33, 35, 37, 39, 41] (by decide +kernel) (by decide +kernel)
end
section
/-! CharacterDeskModel -/
set_option maxRecDepth 100000
def RX1 : String := "CharacterDeskModel"
def TX1 : u_T := fun k => match k with
  | 0 => ("CharacterDeskModel", "chosen", "I", false)
  | 1 => ("CharacterDeskModel", "poly", "[I", false)
  | _ => ("CharacterDeskModel", "next", "[I", false)
def tyX1 : Nat → FieldType := fun k => match k with
  | 0 => .int
  | 1 => .array .int
  | _ => .array .int
abbrev wsX10 : List Cond := u_ws RX1 TX1 3
theorem nmX1 : ∀ a, a < 3 → ∀ b, b < 3 → a ≠ b → (TX1 a).2.1 ≠ (TX1 b).2.1 := by decide +kernel
theorem tyX1_ok : ∀ k, k < 3 → parseFieldDescriptor (TX1 k).2.2.1 = some (tyX1 k) := by decide +kernel
abbrev cX1_init : ByteArray := prog_3_method_1_code
def yX1_init : MethodName := ⟨RX1, "<init>", "()V"⟩
theorem dX1_init_0 : decode cX1_init 0 = .ok (.aload_n 0, 1) := by decide +kernel
theorem dX1_init_1 : decode cX1_init 1 = .ok (.invokespecial 1, 3) := by decide +kernel
theorem dX1_init_4 : decode cX1_init 4 = .ok (.aload_n 0, 1) := by decide +kernel
theorem dX1_init_5 : decode cX1_init 5 = .ok (.sipush 2744, 3) := by decide +kernel
theorem dX1_init_8 : decode cX1_init 8 = .ok (.newarray .int, 2) := by decide +kernel
theorem dX1_init_10 : decode cX1_init 10 = .ok (.putfield 7, 3) := by decide +kernel
theorem dX1_init_13 : decode cX1_init 13 = .ok (.aload_n 0, 1) := by decide +kernel
theorem dX1_init_14 : decode cX1_init 14 = .ok (.sipush 2744, 3) := by decide +kernel
theorem dX1_init_17 : decode cX1_init 17 = .ok (.newarray .int, 2) := by decide +kernel
theorem dX1_init_19 : decode cX1_init 19 = .ok (.putfield 13, 3) := by decide +kernel
theorem dX1_init_22 : decode cX1_init 22 = .ok (.return_, 1) := by decide +kernel
abbrev cX1_choose : ByteArray := prog_3_method_10_code
def yX1_choose : MethodName := ⟨RX1, "choose", "(I)I"⟩
theorem dX1_choose_0 : decode cX1_choose 0 = .ok (.aload_n 0, 1) := by decide +kernel
theorem dX1_choose_1 : decode cX1_choose 1 = .ok (.iload_n 1, 1) := by decide +kernel
theorem dX1_choose_2 : decode cX1_choose 2 = .ok (.invokevirtual 31, 3) := by decide +kernel
theorem dX1_choose_5 : decode cX1_choose 5 = .ok (.istore_n 2, 1) := by decide +kernel
theorem dX1_choose_6 : decode cX1_choose 6 = .ok (.iload_n 2, 1) := by decide +kernel
theorem dX1_choose_7 : decode cX1_choose 7 = .ok (.ifCond .ne 6, 3) := by decide +kernel
theorem dX1_choose_10 : decode cX1_choose 10 = .ok (.ldc 35, 2) := by decide +kernel
theorem dX1_choose_12 : decode cX1_choose 12 = .ok (.ireturn, 1) := by decide +kernel
theorem dX1_choose_13 : decode cX1_choose 13 = .ok (.aload_n 0, 1) := by decide +kernel
theorem dX1_choose_14 : decode cX1_choose 14 = .ok (.iload_n 1, 1) := by decide +kernel
theorem dX1_choose_15 : decode cX1_choose 15 = .ok (.putfield 36, 3) := by decide +kernel
theorem dX1_choose_18 : decode cX1_choose 18 = .ok (.iload_n 2, 1) := by decide +kernel
theorem dX1_choose_19 : decode cX1_choose 19 = .ok (.ireturn, 1) := by decide +kernel
abbrev cX1_sumOf : ByteArray := prog_3_method_3_code
def yX1_sumOf : MethodName := ⟨RX1, "sumOf", "(I)I"⟩
theorem dX1_sumOf_0 : decode cX1_sumOf 0 = .ok (.iload_n 1, 1) := by decide +kernel
theorem dX1_sumOf_1 : decode cX1_sumOf 1 = .ok (.ifCond .lt 10, 3) := by decide +kernel
theorem dX1_sumOf_4 : decode cX1_sumOf 4 = .ok (.iload_n 1, 1) := by decide +kernel
theorem dX1_sumOf_5 : decode cX1_sumOf 5 = .ok (.sipush 4095, 3) := by decide +kernel
theorem dX1_sumOf_8 : decode cX1_sumOf 8 = .ok (.if_icmp .le 5, 3) := by decide +kernel
theorem dX1_sumOf_11 : decode cX1_sumOf 11 = .ok (.iconst 0, 1) := by decide +kernel
theorem dX1_sumOf_12 : decode cX1_sumOf 12 = .ok (.ireturn, 1) := by decide +kernel
theorem dX1_sumOf_13 : decode cX1_sumOf 13 = .ok (.iconst 1, 1) := by decide +kernel
theorem dX1_sumOf_14 : decode cX1_sumOf 14 = .ok (.istore_n 2, 1) := by decide +kernel
theorem dX1_sumOf_15 : decode cX1_sumOf 15 = .ok (.aload_n 0, 1) := by decide +kernel
theorem dX1_sumOf_16 : decode cX1_sumOf 16 = .ok (.iload_n 1, 1) := by decide +kernel
theorem dX1_sumOf_17 : decode cX1_sumOf 17 = .ok (.iconst 0, 1) := by decide +kernel
theorem dX1_sumOf_18 : decode cX1_sumOf 18 = .ok (.invokevirtual 16, 3) := by decide +kernel
theorem dX1_sumOf_21 : decode cX1_sumOf 21 = .ok (.istore_n 3, 1) := by decide +kernel
theorem dX1_sumOf_22 : decode cX1_sumOf 22 = .ok (.iconst 1, 1) := by decide +kernel
theorem dX1_sumOf_23 : decode cX1_sumOf 23 = .ok (.istore 4, 2) := by decide +kernel
theorem dX1_sumOf_25 : decode cX1_sumOf 25 = .ok (.iload 4, 2) := by decide +kernel
theorem dX1_sumOf_27 : decode cX1_sumOf 27 = .ok (.iconst 4, 1) := by decide +kernel
theorem dX1_sumOf_28 : decode cX1_sumOf 28 = .ok (.if_icmp .ge 48, 3) := by decide +kernel
theorem dX1_sumOf_31 : decode cX1_sumOf 31 = .ok (.iload_n 2, 1) := by decide +kernel
theorem dX1_sumOf_32 : decode cX1_sumOf 32 = .ok (.ifCond .eq 26, 3) := by decide +kernel
theorem dX1_sumOf_35 : decode cX1_sumOf 35 = .ok (.aload_n 0, 1) := by decide +kernel
theorem dX1_sumOf_36 : decode cX1_sumOf 36 = .ok (.iload_n 1, 1) := by decide +kernel
theorem dX1_sumOf_37 : decode cX1_sumOf 37 = .ok (.iload 4, 2) := by decide +kernel
theorem dX1_sumOf_39 : decode cX1_sumOf 39 = .ok (.invokevirtual 16, 3) := by decide +kernel
theorem dX1_sumOf_42 : decode cX1_sumOf 42 = .ok (.aload_n 0, 1) := by decide +kernel
theorem dX1_sumOf_43 : decode cX1_sumOf 43 = .ok (.iload_n 1, 1) := by decide +kernel
theorem dX1_sumOf_44 : decode cX1_sumOf 44 = .ok (.iload 4, 2) := by decide +kernel
theorem dX1_sumOf_46 : decode cX1_sumOf 46 = .ok (.iconst 1, 1) := by decide +kernel
theorem dX1_sumOf_47 : decode cX1_sumOf 47 = .ok (.isub, 1) := by decide +kernel
theorem dX1_sumOf_48 : decode cX1_sumOf 48 = .ok (.invokevirtual 16, 3) := by decide +kernel
theorem dX1_sumOf_51 : decode cX1_sumOf 51 = .ok (.if_icmp .gt 7, 3) := by decide +kernel
theorem dX1_sumOf_54 : decode cX1_sumOf 54 = .ok (.iconst 1, 1) := by decide +kernel
theorem dX1_sumOf_55 : decode cX1_sumOf 55 = .ok (.goto 4, 3) := by decide +kernel
theorem dX1_sumOf_58 : decode cX1_sumOf 58 = .ok (.iconst 0, 1) := by decide +kernel
theorem dX1_sumOf_59 : decode cX1_sumOf 59 = .ok (.istore_n 2, 1) := by decide +kernel
theorem dX1_sumOf_60 : decode cX1_sumOf 60 = .ok (.iload_n 3, 1) := by decide +kernel
theorem dX1_sumOf_61 : decode cX1_sumOf 61 = .ok (.aload_n 0, 1) := by decide +kernel
theorem dX1_sumOf_62 : decode cX1_sumOf 62 = .ok (.iload_n 1, 1) := by decide +kernel
theorem dX1_sumOf_63 : decode cX1_sumOf 63 = .ok (.iload 4, 2) := by decide +kernel
theorem dX1_sumOf_65 : decode cX1_sumOf 65 = .ok (.invokevirtual 16, 3) := by decide +kernel
theorem dX1_sumOf_68 : decode cX1_sumOf 68 = .ok (.iadd, 1) := by decide +kernel
theorem dX1_sumOf_69 : decode cX1_sumOf 69 = .ok (.istore_n 3, 1) := by decide +kernel
theorem dX1_sumOf_70 : decode cX1_sumOf 70 = .ok (.iinc 4 1, 3) := by decide +kernel
theorem dX1_sumOf_73 : decode cX1_sumOf 73 = .ok (.goto (-48), 3) := by decide +kernel
theorem dX1_sumOf_76 : decode cX1_sumOf 76 = .ok (.iload_n 2, 1) := by decide +kernel
theorem dX1_sumOf_77 : decode cX1_sumOf 77 = .ok (.ifCond .eq 13, 3) := by decide +kernel
theorem dX1_sumOf_80 : decode cX1_sumOf 80 = .ok (.iload_n 3, 1) := by decide +kernel
theorem dX1_sumOf_81 : decode cX1_sumOf 81 = .ok (.bipush 7, 2) := by decide +kernel
theorem dX1_sumOf_83 : decode cX1_sumOf 83 = .ok (.if_icmp .gt 7, 3) := by decide +kernel
theorem dX1_sumOf_86 : decode cX1_sumOf 86 = .ok (.iload_n 3, 1) := by decide +kernel
theorem dX1_sumOf_87 : decode cX1_sumOf 87 = .ok (.goto 4, 3) := by decide +kernel
theorem dX1_sumOf_90 : decode cX1_sumOf 90 = .ok (.iconst 0, 1) := by decide +kernel
theorem dX1_sumOf_91 : decode cX1_sumOf 91 = .ok (.ireturn, 1) := by decide +kernel
abbrev cX1_part : ByteArray := prog_3_method_2_code
def yX1_part : MethodName := ⟨RX1, "part", "(II)I"⟩
theorem dX1_part_0 : decode cX1_part 0 = .ok (.iload_n 1, 1) := by decide +kernel
theorem dX1_part_1 : decode cX1_part 1 = .ok (.iconst 3, 1) := by decide +kernel
theorem dX1_part_2 : decode cX1_part 2 = .ok (.iload_n 2, 1) := by decide +kernel
theorem dX1_part_3 : decode cX1_part 3 = .ok (.imul, 1) := by decide +kernel
theorem dX1_part_4 : decode cX1_part 4 = .ok (.ishr, 1) := by decide +kernel
theorem dX1_part_5 : decode cX1_part 5 = .ok (.bipush 7, 2) := by decide +kernel
theorem dX1_part_7 : decode cX1_part 7 = .ok (.iand, 1) := by decide +kernel
theorem dX1_part_8 : decode cX1_part 8 = .ok (.ireturn, 1) := by decide +kernel
abbrev cX1_shape : ByteArray := prog_3_method_11_code
def yX1_shape : MethodName := ⟨RX1, "shape", "()I"⟩
theorem dX1_shape_0 : decode cX1_shape 0 = .ok (.aload_n 0, 1) := by decide +kernel
theorem dX1_shape_1 : decode cX1_shape 1 = .ok (.getfield 36, 3) := by decide +kernel
theorem dX1_shape_4 : decode cX1_shape 4 = .ok (.ireturn, 1) := by decide +kernel
abbrev cX1_at : ByteArray := prog_3_method_12_code
def yX1_at : MethodName := ⟨RX1, "at", "(I)I"⟩
theorem dX1_at_0 : decode cX1_at 0 = .ok (.aload_n 0, 1) := by decide +kernel
theorem dX1_at_1 : decode cX1_at 1 = .ok (.aload_n 0, 1) := by decide +kernel
theorem dX1_at_2 : decode cX1_at 2 = .ok (.getfield 36, 3) := by decide +kernel
theorem dX1_at_5 : decode cX1_at 5 = .ok (.iload_n 1, 1) := by decide +kernel
theorem dX1_at_6 : decode cX1_at 6 = .ok (.invokevirtual 40, 3) := by decide +kernel
theorem dX1_at_9 : decode cX1_at 9 = .ok (.ireturn, 1) := by decide +kernel
abbrev cX1_character : ByteArray := prog_3_method_13_code
def yX1_character : MethodName := ⟨RX1, "character", "(II)I"⟩
theorem dX1_character_0 : decode cX1_character 0 = .ok (.aload_n 0, 1) := by decide +kernel
theorem dX1_character_1 : decode cX1_character 1 = .ok (.iload_n 1, 1) := by decide +kernel
theorem dX1_character_2 : decode cX1_character 2 = .ok (.invokevirtual 31, 3) := by decide +kernel
theorem dX1_character_5 : decode cX1_character 5 = .ok (.istore_n 3, 1) := by decide +kernel
theorem dX1_character_6 : decode cX1_character 6 = .ok (.iload_n 3, 1) := by decide +kernel
theorem dX1_character_7 : decode cX1_character 7 = .ok (.ifCond .eq 12, 3) := by decide +kernel
theorem dX1_character_10 : decode cX1_character 10 = .ok (.iload_n 3, 1) := by decide +kernel
theorem dX1_character_11 : decode cX1_character 11 = .ok (.aload_n 0, 1) := by decide +kernel
theorem dX1_character_12 : decode cX1_character 12 = .ok (.iload_n 2, 1) := by decide +kernel
theorem dX1_character_13 : decode cX1_character 13 = .ok (.invokevirtual 31, 3) := by decide +kernel
theorem dX1_character_16 : decode cX1_character 16 = .ok (.if_icmp .eq 6, 3) := by decide +kernel
theorem dX1_character_19 : decode cX1_character 19 = .ok (.ldc 35, 2) := by decide +kernel
theorem dX1_character_21 : decode cX1_character 21 = .ok (.ireturn, 1) := by decide +kernel
theorem dX1_character_22 : decode cX1_character 22 = .ok (.aload_n 0, 1) := by decide +kernel
theorem dX1_character_23 : decode cX1_character 23 = .ok (.iload_n 2, 1) := by decide +kernel
theorem dX1_character_24 : decode cX1_character 24 = .ok (.invokevirtual 43, 3) := by decide +kernel
theorem dX1_character_27 : decode cX1_character 27 = .ok (.aload_n 0, 1) := by decide +kernel
theorem dX1_character_28 : decode cX1_character 28 = .ok (.iload_n 1, 1) := by decide +kernel
theorem dX1_character_29 : decode cX1_character 29 = .ok (.invokevirtual 47, 3) := by decide +kernel
theorem dX1_character_32 : decode cX1_character 32 = .ok (.ireturn, 1) := by decide +kernel
abbrev cX1_cycles : ByteArray := prog_3_method_7_code
def yX1_cycles : MethodName := ⟨RX1, "cycles", "(I)V"⟩
theorem dX1_cycles_0 : decode cX1_cycles 0 = .ok (.aload_n 0, 1) := by decide +kernel
theorem dX1_cycles_1 : decode cX1_cycles 1 = .ok (.invokevirtual 28, 3) := by decide +kernel
theorem dX1_cycles_4 : decode cX1_cycles 4 = .ok (.iconst 0, 1) := by decide +kernel
theorem dX1_cycles_5 : decode cX1_cycles 5 = .ok (.istore_n 2, 1) := by decide +kernel
theorem dX1_cycles_6 : decode cX1_cycles 6 = .ok (.iload_n 2, 1) := by decide +kernel
theorem dX1_cycles_7 : decode cX1_cycles 7 = .ok (.iconst 4, 1) := by decide +kernel
theorem dX1_cycles_8 : decode cX1_cycles 8 = .ok (.if_icmp .ge 32, 3) := by decide +kernel
theorem dX1_cycles_11 : decode cX1_cycles 11 = .ok (.aload_n 0, 1) := by decide +kernel
theorem dX1_cycles_12 : decode cX1_cycles 12 = .ok (.iload_n 1, 1) := by decide +kernel
theorem dX1_cycles_13 : decode cX1_cycles 13 = .ok (.iload_n 2, 1) := by decide +kernel
theorem dX1_cycles_14 : decode cX1_cycles 14 = .ok (.invokevirtual 16, 3) := by decide +kernel
theorem dX1_cycles_17 : decode cX1_cycles 17 = .ok (.ifCond .le 17, 3) := by decide +kernel
theorem dX1_cycles_20 : decode cX1_cycles 20 = .ok (.aload_n 0, 1) := by decide +kernel
theorem dX1_cycles_21 : decode cX1_cycles 21 = .ok (.aload_n 0, 1) := by decide +kernel
theorem dX1_cycles_22 : decode cX1_cycles 22 = .ok (.iload_n 1, 1) := by decide +kernel
theorem dX1_cycles_23 : decode cX1_cycles 23 = .ok (.iload_n 2, 1) := by decide +kernel
theorem dX1_cycles_24 : decode cX1_cycles 24 = .ok (.invokevirtual 16, 3) := by decide +kernel
theorem dX1_cycles_27 : decode cX1_cycles 27 = .ok (.iconst 1, 1) := by decide +kernel
theorem dX1_cycles_28 : decode cX1_cycles 28 = .ok (.iconst 1, 1) := by decide +kernel
theorem dX1_cycles_29 : decode cX1_cycles 29 = .ok (.iconst 1, 1) := by decide +kernel
theorem dX1_cycles_30 : decode cX1_cycles 30 = .ok (.iconst 1, 1) := by decide +kernel
theorem dX1_cycles_31 : decode cX1_cycles 31 = .ok (.invokevirtual 24, 3) := by decide +kernel
theorem dX1_cycles_34 : decode cX1_cycles 34 = .ok (.iinc 2 1, 3) := by decide +kernel
theorem dX1_cycles_37 : decode cX1_cycles 37 = .ok (.goto (-31), 3) := by decide +kernel
theorem dX1_cycles_40 : decode cX1_cycles 40 = .ok (.return_, 1) := by decide +kernel
abbrev cX1_begin : ByteArray := prog_3_method_6_code
def yX1_begin : MethodName := ⟨RX1, "begin", "()V"⟩
theorem dX1_begin_0 : decode cX1_begin 0 = .ok (.iconst 0, 1) := by decide +kernel
theorem dX1_begin_1 : decode cX1_begin 1 = .ok (.istore_n 1, 1) := by decide +kernel
theorem dX1_begin_2 : decode cX1_begin 2 = .ok (.iload_n 1, 1) := by decide +kernel
theorem dX1_begin_3 : decode cX1_begin 3 = .ok (.sipush 2744, 3) := by decide +kernel
theorem dX1_begin_6 : decode cX1_begin 6 = .ok (.if_icmp .ge 24, 3) := by decide +kernel
theorem dX1_begin_9 : decode cX1_begin 9 = .ok (.aload_n 0, 1) := by decide +kernel
theorem dX1_begin_10 : decode cX1_begin 10 = .ok (.getfield 7, 3) := by decide +kernel
theorem dX1_begin_13 : decode cX1_begin 13 = .ok (.iload_n 1, 1) := by decide +kernel
theorem dX1_begin_14 : decode cX1_begin 14 = .ok (.iload_n 1, 1) := by decide +kernel
theorem dX1_begin_15 : decode cX1_begin 15 = .ok (.ifCond .ne 7, 3) := by decide +kernel
theorem dX1_begin_18 : decode cX1_begin 18 = .ok (.iconst 1, 1) := by decide +kernel
theorem dX1_begin_19 : decode cX1_begin 19 = .ok (.goto 4, 3) := by decide +kernel
theorem dX1_begin_22 : decode cX1_begin 22 = .ok (.iconst 0, 1) := by decide +kernel
theorem dX1_begin_23 : decode cX1_begin 23 = .ok (.iastore, 1) := by decide +kernel
theorem dX1_begin_24 : decode cX1_begin 24 = .ok (.iinc 1 1, 3) := by decide +kernel
theorem dX1_begin_27 : decode cX1_begin 27 = .ok (.goto (-25), 3) := by decide +kernel
theorem dX1_begin_30 : decode cX1_begin 30 = .ok (.aload_n 0, 1) := by decide +kernel
theorem dX1_begin_31 : decode cX1_begin 31 = .ok (.iconst 1, 1) := by decide +kernel
theorem dX1_begin_32 : decode cX1_begin 32 = .ok (.iconst 1, 1) := by decide +kernel
theorem dX1_begin_33 : decode cX1_begin 33 = .ok (.iconst (-1), 1) := by decide +kernel
theorem dX1_begin_34 : decode cX1_begin 34 = .ok (.iconst 0, 1) := by decide +kernel
theorem dX1_begin_35 : decode cX1_begin 35 = .ok (.iconst 0, 1) := by decide +kernel
theorem dX1_begin_36 : decode cX1_begin 36 = .ok (.invokevirtual 24, 3) := by decide +kernel
theorem dX1_begin_39 : decode cX1_begin 39 = .ok (.aload_n 0, 1) := by decide +kernel
theorem dX1_begin_40 : decode cX1_begin 40 = .ok (.iconst 1, 1) := by decide +kernel
theorem dX1_begin_41 : decode cX1_begin 41 = .ok (.iconst 1, 1) := by decide +kernel
theorem dX1_begin_42 : decode cX1_begin 42 = .ok (.iconst 0, 1) := by decide +kernel
theorem dX1_begin_43 : decode cX1_begin 43 = .ok (.iconst (-1), 1) := by decide +kernel
theorem dX1_begin_44 : decode cX1_begin 44 = .ok (.iconst 0, 1) := by decide +kernel
theorem dX1_begin_45 : decode cX1_begin 45 = .ok (.invokevirtual 24, 3) := by decide +kernel
theorem dX1_begin_48 : decode cX1_begin 48 = .ok (.aload_n 0, 1) := by decide +kernel
theorem dX1_begin_49 : decode cX1_begin 49 = .ok (.iconst 1, 1) := by decide +kernel
theorem dX1_begin_50 : decode cX1_begin 50 = .ok (.iconst 1, 1) := by decide +kernel
theorem dX1_begin_51 : decode cX1_begin 51 = .ok (.iconst 0, 1) := by decide +kernel
theorem dX1_begin_52 : decode cX1_begin 52 = .ok (.iconst 0, 1) := by decide +kernel
theorem dX1_begin_53 : decode cX1_begin 53 = .ok (.iconst (-1), 1) := by decide +kernel
theorem dX1_begin_54 : decode cX1_begin 54 = .ok (.invokevirtual 24, 3) := by decide +kernel
theorem dX1_begin_57 : decode cX1_begin 57 = .ok (.aload_n 0, 1) := by decide +kernel
theorem dX1_begin_58 : decode cX1_begin 58 = .ok (.iconst 1, 1) := by decide +kernel
theorem dX1_begin_59 : decode cX1_begin 59 = .ok (.iconst 0, 1) := by decide +kernel
theorem dX1_begin_60 : decode cX1_begin 60 = .ok (.iconst 1, 1) := by decide +kernel
theorem dX1_begin_61 : decode cX1_begin 61 = .ok (.iconst (-1), 1) := by decide +kernel
theorem dX1_begin_62 : decode cX1_begin 62 = .ok (.iconst 0, 1) := by decide +kernel
theorem dX1_begin_63 : decode cX1_begin 63 = .ok (.invokevirtual 24, 3) := by decide +kernel
theorem dX1_begin_66 : decode cX1_begin 66 = .ok (.aload_n 0, 1) := by decide +kernel
theorem dX1_begin_67 : decode cX1_begin 67 = .ok (.iconst 1, 1) := by decide +kernel
theorem dX1_begin_68 : decode cX1_begin 68 = .ok (.iconst 0, 1) := by decide +kernel
theorem dX1_begin_69 : decode cX1_begin 69 = .ok (.iconst 1, 1) := by decide +kernel
theorem dX1_begin_70 : decode cX1_begin 70 = .ok (.iconst 0, 1) := by decide +kernel
theorem dX1_begin_71 : decode cX1_begin 71 = .ok (.iconst (-1), 1) := by decide +kernel
theorem dX1_begin_72 : decode cX1_begin 72 = .ok (.invokevirtual 24, 3) := by decide +kernel
theorem dX1_begin_75 : decode cX1_begin 75 = .ok (.aload_n 0, 1) := by decide +kernel
theorem dX1_begin_76 : decode cX1_begin 76 = .ok (.iconst 1, 1) := by decide +kernel
theorem dX1_begin_77 : decode cX1_begin 77 = .ok (.iconst 0, 1) := by decide +kernel
theorem dX1_begin_78 : decode cX1_begin 78 = .ok (.iconst 0, 1) := by decide +kernel
theorem dX1_begin_79 : decode cX1_begin 79 = .ok (.iconst 1, 1) := by decide +kernel
theorem dX1_begin_80 : decode cX1_begin 80 = .ok (.iconst (-1), 1) := by decide +kernel
theorem dX1_begin_81 : decode cX1_begin 81 = .ok (.invokevirtual 24, 3) := by decide +kernel
theorem dX1_begin_84 : decode cX1_begin 84 = .ok (.return_, 1) := by decide +kernel
abbrev cX1_times : ByteArray := prog_3_method_4_code
def yX1_times : MethodName := ⟨RX1, "times", "(IIIII)V"⟩
theorem dX1_times_0 : decode cX1_times 0 = .ok (.iconst 0, 1) := by decide +kernel
theorem dX1_times_1 : decode cX1_times 1 = .ok (.istore 6, 2) := by decide +kernel
theorem dX1_times_3 : decode cX1_times 3 = .ok (.iload 6, 2) := by decide +kernel
theorem dX1_times_5 : decode cX1_times 5 = .ok (.sipush 2744, 3) := by decide +kernel
theorem dX1_times_8 : decode cX1_times 8 = .ok (.if_icmp .ge 17, 3) := by decide +kernel
theorem dX1_times_11 : decode cX1_times 11 = .ok (.aload_n 0, 1) := by decide +kernel
theorem dX1_times_12 : decode cX1_times 12 = .ok (.getfield 13, 3) := by decide +kernel
theorem dX1_times_15 : decode cX1_times 15 = .ok (.iload 6, 2) := by decide +kernel
theorem dX1_times_17 : decode cX1_times 17 = .ok (.iconst 0, 1) := by decide +kernel
theorem dX1_times_18 : decode cX1_times 18 = .ok (.iastore, 1) := by decide +kernel
theorem dX1_times_19 : decode cX1_times 19 = .ok (.iinc 6 1, 3) := by decide +kernel
theorem dX1_times_22 : decode cX1_times 22 = .ok (.goto (-19), 3) := by decide +kernel
theorem dX1_times_25 : decode cX1_times 25 = .ok (.iconst 0, 1) := by decide +kernel
theorem dX1_times_26 : decode cX1_times 26 = .ok (.istore 6, 2) := by decide +kernel
theorem dX1_times_28 : decode cX1_times 28 = .ok (.iload 6, 2) := by decide +kernel
theorem dX1_times_30 : decode cX1_times 30 = .ok (.sipush 2744, 3) := by decide +kernel
theorem dX1_times_33 : decode cX1_times 33 = .ok (.if_icmp .ge 94, 3) := by decide +kernel
theorem dX1_times_36 : decode cX1_times 36 = .ok (.aload_n 0, 1) := by decide +kernel
theorem dX1_times_37 : decode cX1_times 37 = .ok (.getfield 7, 3) := by decide +kernel
theorem dX1_times_40 : decode cX1_times 40 = .ok (.iload 6, 2) := by decide +kernel
theorem dX1_times_42 : decode cX1_times 42 = .ok (.iaload, 1) := by decide +kernel
theorem dX1_times_43 : decode cX1_times 43 = .ok (.ifCond .eq 78, 3) := by decide +kernel
theorem dX1_times_46 : decode cX1_times 46 = .ok (.aload_n 0, 1) := by decide +kernel
theorem dX1_times_47 : decode cX1_times 47 = .ok (.iload 6, 2) := by decide +kernel
theorem dX1_times_49 : decode cX1_times 49 = .ok (.iload_n 1, 1) := by decide +kernel
theorem dX1_times_50 : decode cX1_times 50 = .ok (.iadd, 1) := by decide +kernel
theorem dX1_times_51 : decode cX1_times 51 = .ok (.iload_n 2, 1) := by decide +kernel
theorem dX1_times_52 : decode cX1_times 52 = .ok (.aload_n 0, 1) := by decide +kernel
theorem dX1_times_53 : decode cX1_times 53 = .ok (.getfield 7, 3) := by decide +kernel
theorem dX1_times_56 : decode cX1_times 56 = .ok (.iload 6, 2) := by decide +kernel
theorem dX1_times_58 : decode cX1_times 58 = .ok (.iaload, 1) := by decide +kernel
theorem dX1_times_59 : decode cX1_times 59 = .ok (.imul, 1) := by decide +kernel
theorem dX1_times_60 : decode cX1_times 60 = .ok (.invokevirtual 20, 3) := by decide +kernel
theorem dX1_times_63 : decode cX1_times 63 = .ok (.aload_n 0, 1) := by decide +kernel
theorem dX1_times_64 : decode cX1_times 64 = .ok (.iload 6, 2) := by decide +kernel
theorem dX1_times_66 : decode cX1_times 66 = .ok (.bipush 14, 2) := by decide +kernel
theorem dX1_times_68 : decode cX1_times 68 = .ok (.iload_n 1, 1) := by decide +kernel
theorem dX1_times_69 : decode cX1_times 69 = .ok (.imul, 1) := by decide +kernel
theorem dX1_times_70 : decode cX1_times 70 = .ok (.iadd, 1) := by decide +kernel
theorem dX1_times_71 : decode cX1_times 71 = .ok (.iload_n 3, 1) := by decide +kernel
theorem dX1_times_72 : decode cX1_times 72 = .ok (.aload_n 0, 1) := by decide +kernel
theorem dX1_times_73 : decode cX1_times 73 = .ok (.getfield 7, 3) := by decide +kernel
theorem dX1_times_76 : decode cX1_times 76 = .ok (.iload 6, 2) := by decide +kernel
theorem dX1_times_78 : decode cX1_times 78 = .ok (.iaload, 1) := by decide +kernel
theorem dX1_times_79 : decode cX1_times 79 = .ok (.imul, 1) := by decide +kernel
theorem dX1_times_80 : decode cX1_times 80 = .ok (.invokevirtual 20, 3) := by decide +kernel
theorem dX1_times_83 : decode cX1_times 83 = .ok (.aload_n 0, 1) := by decide +kernel
theorem dX1_times_84 : decode cX1_times 84 = .ok (.iload 6, 2) := by decide +kernel
theorem dX1_times_86 : decode cX1_times 86 = .ok (.sipush 196, 3) := by decide +kernel
theorem dX1_times_89 : decode cX1_times 89 = .ok (.iload_n 1, 1) := by decide +kernel
theorem dX1_times_90 : decode cX1_times 90 = .ok (.imul, 1) := by decide +kernel
theorem dX1_times_91 : decode cX1_times 91 = .ok (.iadd, 1) := by decide +kernel
theorem dX1_times_92 : decode cX1_times 92 = .ok (.iload 4, 2) := by decide +kernel
theorem dX1_times_94 : decode cX1_times 94 = .ok (.aload_n 0, 1) := by decide +kernel
theorem dX1_times_95 : decode cX1_times 95 = .ok (.getfield 7, 3) := by decide +kernel
theorem dX1_times_98 : decode cX1_times 98 = .ok (.iload 6, 2) := by decide +kernel
theorem dX1_times_100 : decode cX1_times 100 = .ok (.iaload, 1) := by decide +kernel
theorem dX1_times_101 : decode cX1_times 101 = .ok (.imul, 1) := by decide +kernel
theorem dX1_times_102 : decode cX1_times 102 = .ok (.invokevirtual 20, 3) := by decide +kernel
theorem dX1_times_105 : decode cX1_times 105 = .ok (.aload_n 0, 1) := by decide +kernel
theorem dX1_times_106 : decode cX1_times 106 = .ok (.iload 6, 2) := by decide +kernel
theorem dX1_times_108 : decode cX1_times 108 = .ok (.iload 5, 2) := by decide +kernel
theorem dX1_times_110 : decode cX1_times 110 = .ok (.aload_n 0, 1) := by decide +kernel
theorem dX1_times_111 : decode cX1_times 111 = .ok (.getfield 7, 3) := by decide +kernel
theorem dX1_times_114 : decode cX1_times 114 = .ok (.iload 6, 2) := by decide +kernel
theorem dX1_times_116 : decode cX1_times 116 = .ok (.iaload, 1) := by decide +kernel
theorem dX1_times_117 : decode cX1_times 117 = .ok (.imul, 1) := by decide +kernel
theorem dX1_times_118 : decode cX1_times 118 = .ok (.invokevirtual 20, 3) := by decide +kernel
theorem dX1_times_121 : decode cX1_times 121 = .ok (.iinc 6 1, 3) := by decide +kernel
theorem dX1_times_124 : decode cX1_times 124 = .ok (.goto (-96), 3) := by decide +kernel
theorem dX1_times_127 : decode cX1_times 127 = .ok (.iconst 0, 1) := by decide +kernel
theorem dX1_times_128 : decode cX1_times 128 = .ok (.istore 6, 2) := by decide +kernel
theorem dX1_times_130 : decode cX1_times 130 = .ok (.iload 6, 2) := by decide +kernel
theorem dX1_times_132 : decode cX1_times 132 = .ok (.sipush 2744, 3) := by decide +kernel
theorem dX1_times_135 : decode cX1_times 135 = .ok (.if_icmp .ge 23, 3) := by decide +kernel
theorem dX1_times_138 : decode cX1_times 138 = .ok (.aload_n 0, 1) := by decide +kernel
theorem dX1_times_139 : decode cX1_times 139 = .ok (.getfield 7, 3) := by decide +kernel
theorem dX1_times_142 : decode cX1_times 142 = .ok (.iload 6, 2) := by decide +kernel
theorem dX1_times_144 : decode cX1_times 144 = .ok (.aload_n 0, 1) := by decide +kernel
theorem dX1_times_145 : decode cX1_times 145 = .ok (.getfield 13, 3) := by decide +kernel
theorem dX1_times_148 : decode cX1_times 148 = .ok (.iload 6, 2) := by decide +kernel
theorem dX1_times_150 : decode cX1_times 150 = .ok (.iaload, 1) := by decide +kernel
theorem dX1_times_151 : decode cX1_times 151 = .ok (.iastore, 1) := by decide +kernel
theorem dX1_times_152 : decode cX1_times 152 = .ok (.iinc 6 1, 3) := by decide +kernel
theorem dX1_times_155 : decode cX1_times 155 = .ok (.goto (-25), 3) := by decide +kernel
theorem dX1_times_158 : decode cX1_times 158 = .ok (.return_, 1) := by decide +kernel
abbrev cX1_put : ByteArray := prog_3_method_5_code
def yX1_put : MethodName := ⟨RX1, "put", "(II)V"⟩
theorem dX1_put_0 : decode cX1_put 0 = .ok (.iload_n 1, 1) := by decide +kernel
theorem dX1_put_1 : decode cX1_put 1 = .ok (.sipush 2744, 3) := by decide +kernel
theorem dX1_put_4 : decode cX1_put 4 = .ok (.if_icmp .ge 17, 3) := by decide +kernel
theorem dX1_put_7 : decode cX1_put 7 = .ok (.aload_n 0, 1) := by decide +kernel
theorem dX1_put_8 : decode cX1_put 8 = .ok (.getfield 13, 3) := by decide +kernel
theorem dX1_put_11 : decode cX1_put 11 = .ok (.iload_n 1, 1) := by decide +kernel
theorem dX1_put_12 : decode cX1_put 12 = .ok (.aload_n 0, 1) := by decide +kernel
theorem dX1_put_13 : decode cX1_put 13 = .ok (.getfield 13, 3) := by decide +kernel
theorem dX1_put_16 : decode cX1_put 16 = .ok (.iload_n 1, 1) := by decide +kernel
theorem dX1_put_17 : decode cX1_put 17 = .ok (.iaload, 1) := by decide +kernel
theorem dX1_put_18 : decode cX1_put 18 = .ok (.iload_n 2, 1) := by decide +kernel
theorem dX1_put_19 : decode cX1_put 19 = .ok (.iadd, 1) := by decide +kernel
theorem dX1_put_20 : decode cX1_put 20 = .ok (.iastore, 1) := by decide +kernel
theorem dX1_put_21 : decode cX1_put 21 = .ok (.return_, 1) := by decide +kernel
abbrev cX1_coefficient : ByteArray := prog_3_method_9_code
def yX1_coefficient : MethodName := ⟨RX1, "coefficient", "(I)I"⟩
theorem dX1_coefficient_0 : decode cX1_coefficient 0 = .ok (.aload_n 0, 1) := by decide +kernel
theorem dX1_coefficient_1 : decode cX1_coefficient 1 = .ok (.getfield 7, 3) := by decide +kernel
theorem dX1_coefficient_4 : decode cX1_coefficient 4 = .ok (.aload_n 0, 1) := by decide +kernel
theorem dX1_coefficient_5 : decode cX1_coefficient 5 = .ok (.iload_n 1, 1) := by decide +kernel
theorem dX1_coefficient_6 : decode cX1_coefficient 6 = .ok (.iconst 0, 1) := by decide +kernel
theorem dX1_coefficient_7 : decode cX1_coefficient 7 = .ok (.invokevirtual 16, 3) := by decide +kernel
theorem dX1_coefficient_10 : decode cX1_coefficient 10 = .ok (.iconst 3, 1) := by decide +kernel
theorem dX1_coefficient_11 : decode cX1_coefficient 11 = .ok (.iadd, 1) := by decide +kernel
theorem dX1_coefficient_12 : decode cX1_coefficient 12 = .ok (.bipush 14, 2) := by decide +kernel
theorem dX1_coefficient_14 : decode cX1_coefficient 14 = .ok (.aload_n 0, 1) := by decide +kernel
theorem dX1_coefficient_15 : decode cX1_coefficient 15 = .ok (.iload_n 1, 1) := by decide +kernel
theorem dX1_coefficient_16 : decode cX1_coefficient 16 = .ok (.iconst 1, 1) := by decide +kernel
theorem dX1_coefficient_17 : decode cX1_coefficient 17 = .ok (.invokevirtual 16, 3) := by decide +kernel
theorem dX1_coefficient_20 : decode cX1_coefficient 20 = .ok (.iconst 2, 1) := by decide +kernel
theorem dX1_coefficient_21 : decode cX1_coefficient 21 = .ok (.iadd, 1) := by decide +kernel
theorem dX1_coefficient_22 : decode cX1_coefficient 22 = .ok (.imul, 1) := by decide +kernel
theorem dX1_coefficient_23 : decode cX1_coefficient 23 = .ok (.iadd, 1) := by decide +kernel
theorem dX1_coefficient_24 : decode cX1_coefficient 24 = .ok (.sipush 196, 3) := by decide +kernel
theorem dX1_coefficient_27 : decode cX1_coefficient 27 = .ok (.aload_n 0, 1) := by decide +kernel
theorem dX1_coefficient_28 : decode cX1_coefficient 28 = .ok (.iload_n 1, 1) := by decide +kernel
theorem dX1_coefficient_29 : decode cX1_coefficient 29 = .ok (.iconst 2, 1) := by decide +kernel
theorem dX1_coefficient_30 : decode cX1_coefficient 30 = .ok (.invokevirtual 16, 3) := by decide +kernel
theorem dX1_coefficient_33 : decode cX1_coefficient 33 = .ok (.iconst 1, 1) := by decide +kernel
theorem dX1_coefficient_34 : decode cX1_coefficient 34 = .ok (.iadd, 1) := by decide +kernel
theorem dX1_coefficient_35 : decode cX1_coefficient 35 = .ok (.imul, 1) := by decide +kernel
theorem dX1_coefficient_36 : decode cX1_coefficient 36 = .ok (.iadd, 1) := by decide +kernel
theorem dX1_coefficient_37 : decode cX1_coefficient 37 = .ok (.iaload, 1) := by decide +kernel
theorem dX1_coefficient_38 : decode cX1_coefficient 38 = .ok (.ireturn, 1) := by decide +kernel
abbrev cX1_degree : ByteArray := prog_3_method_14_code
def yX1_degree : MethodName := ⟨RX1, "degree", "(I)I"⟩
theorem dX1_degree_0 : decode cX1_degree 0 = .ok (.aload_n 0, 1) := by decide +kernel
theorem dX1_degree_1 : decode cX1_degree 1 = .ok (.iload_n 1, 1) := by decide +kernel
theorem dX1_degree_2 : decode cX1_degree 2 = .ok (.invokevirtual 31, 3) := by decide +kernel
theorem dX1_degree_5 : decode cX1_degree 5 = .ok (.istore_n 2, 1) := by decide +kernel
theorem dX1_degree_6 : decode cX1_degree 6 = .ok (.iload_n 2, 1) := by decide +kernel
theorem dX1_degree_7 : decode cX1_degree 7 = .ok (.ifCond .ne 6, 3) := by decide +kernel
theorem dX1_degree_10 : decode cX1_degree 10 = .ok (.ldc 35, 2) := by decide +kernel
theorem dX1_degree_12 : decode cX1_degree 12 = .ok (.ireturn, 1) := by decide +kernel
theorem dX1_degree_13 : decode cX1_degree 13 = .ok (.aload_n 0, 1) := by decide +kernel
theorem dX1_degree_14 : decode cX1_degree 14 = .ok (.iload_n 2, 1) := by decide +kernel
theorem dX1_degree_15 : decode cX1_degree 15 = .ok (.invokevirtual 50, 3) := by decide +kernel
theorem dX1_degree_18 : decode cX1_degree 18 = .ok (.aload_n 0, 1) := by decide +kernel
theorem dX1_degree_19 : decode cX1_degree 19 = .ok (.iload_n 1, 1) := by decide +kernel
theorem dX1_degree_20 : decode cX1_degree 20 = .ok (.invokevirtual 47, 3) := by decide +kernel
theorem dX1_degree_23 : decode cX1_degree 23 = .ok (.ireturn, 1) := by decide +kernel
abbrev cX1_ones : ByteArray := prog_3_method_8_code
def yX1_ones : MethodName := ⟨RX1, "ones", "(I)V"⟩
theorem dX1_ones_0 : decode cX1_ones 0 = .ok (.aload_n 0, 1) := by decide +kernel
theorem dX1_ones_1 : decode cX1_ones 1 = .ok (.invokevirtual 28, 3) := by decide +kernel
theorem dX1_ones_4 : decode cX1_ones 4 = .ok (.iconst 0, 1) := by decide +kernel
theorem dX1_ones_5 : decode cX1_ones 5 = .ok (.istore_n 2, 1) := by decide +kernel
theorem dX1_ones_6 : decode cX1_ones 6 = .ok (.iload_n 2, 1) := by decide +kernel
theorem dX1_ones_7 : decode cX1_ones 7 = .ok (.iload_n 1, 1) := by decide +kernel
theorem dX1_ones_8 : decode cX1_ones 8 = .ok (.if_icmp .ge 18, 3) := by decide +kernel
theorem dX1_ones_11 : decode cX1_ones 11 = .ok (.aload_n 0, 1) := by decide +kernel
theorem dX1_ones_12 : decode cX1_ones 12 = .ok (.iconst 1, 1) := by decide +kernel
theorem dX1_ones_13 : decode cX1_ones 13 = .ok (.iconst 1, 1) := by decide +kernel
theorem dX1_ones_14 : decode cX1_ones 14 = .ok (.iconst 1, 1) := by decide +kernel
theorem dX1_ones_15 : decode cX1_ones 15 = .ok (.iconst 1, 1) := by decide +kernel
theorem dX1_ones_16 : decode cX1_ones 16 = .ok (.iconst 1, 1) := by decide +kernel
theorem dX1_ones_17 : decode cX1_ones 17 = .ok (.invokevirtual 24, 3) := by decide +kernel
theorem dX1_ones_20 : decode cX1_ones 20 = .ok (.iinc 2 1, 3) := by decide +kernel
theorem dX1_ones_23 : decode cX1_ones 23 = .ok (.goto (-17), 3) := by decide +kernel
theorem dX1_ones_26 : decode cX1_ones 26 = .ok (.return_, 1) := by decide +kernel
abbrev cX1_count : ByteArray := prog_3_method_15_code
def yX1_count : MethodName := ⟨RX1, "count", "(I)I"⟩
theorem dX1_count_0 : decode cX1_count 0 = .ok (.iconst 0, 1) := by decide +kernel
theorem dX1_count_1 : decode cX1_count 1 = .ok (.istore_n 2, 1) := by decide +kernel
theorem dX1_count_2 : decode cX1_count 2 = .ok (.iconst 1, 1) := by decide +kernel
theorem dX1_count_3 : decode cX1_count 3 = .ok (.istore_n 3, 1) := by decide +kernel
theorem dX1_count_4 : decode cX1_count 4 = .ok (.iload_n 3, 1) := by decide +kernel
theorem dX1_count_5 : decode cX1_count 5 = .ok (.sipush 4096, 3) := by decide +kernel
theorem dX1_count_8 : decode cX1_count 8 = .ok (.if_icmp .ge 30, 3) := by decide +kernel
theorem dX1_count_11 : decode cX1_count 11 = .ok (.iload_n 1, 1) := by decide +kernel
theorem dX1_count_12 : decode cX1_count 12 = .ok (.ifCond .le 26, 3) := by decide +kernel
theorem dX1_count_15 : decode cX1_count 15 = .ok (.aload_n 0, 1) := by decide +kernel
theorem dX1_count_16 : decode cX1_count 16 = .ok (.iload_n 3, 1) := by decide +kernel
theorem dX1_count_17 : decode cX1_count 17 = .ok (.invokevirtual 31, 3) := by decide +kernel
theorem dX1_count_20 : decode cX1_count 20 = .ok (.iload_n 1, 1) := by decide +kernel
theorem dX1_count_21 : decode cX1_count 21 = .ok (.if_icmp .ne 9, 3) := by decide +kernel
theorem dX1_count_24 : decode cX1_count 24 = .ok (.iload_n 2, 1) := by decide +kernel
theorem dX1_count_25 : decode cX1_count 25 = .ok (.iconst 1, 1) := by decide +kernel
theorem dX1_count_26 : decode cX1_count 26 = .ok (.iadd, 1) := by decide +kernel
theorem dX1_count_27 : decode cX1_count 27 = .ok (.goto 4, 3) := by decide +kernel
theorem dX1_count_30 : decode cX1_count 30 = .ok (.iload_n 2, 1) := by decide +kernel
theorem dX1_count_31 : decode cX1_count 31 = .ok (.istore_n 2, 1) := by decide +kernel
theorem dX1_count_32 : decode cX1_count 32 = .ok (.iinc 3 1, 3) := by decide +kernel
theorem dX1_count_35 : decode cX1_count 35 = .ok (.goto (-31), 3) := by decide +kernel
theorem dX1_count_38 : decode cX1_count 38 = .ok (.iload_n 2, 1) := by decide +kernel
theorem dX1_count_39 : decode cX1_count 39 = .ok (.ireturn, 1) := by decide +kernel
abbrev cX1_partition : ByteArray := prog_3_method_16_code
def yX1_partition : MethodName := ⟨RX1, "partition", "(II)I"⟩
theorem dX1_partition_0 : decode cX1_partition 0 = .ok (.iconst 0, 1) := by decide +kernel
theorem dX1_partition_1 : decode cX1_partition 1 = .ok (.istore_n 3, 1) := by decide +kernel
theorem dX1_partition_2 : decode cX1_partition 2 = .ok (.sipush 4095, 3) := by decide +kernel
theorem dX1_partition_5 : decode cX1_partition 5 = .ok (.istore 4, 2) := by decide +kernel
theorem dX1_partition_7 : decode cX1_partition 7 = .ok (.iload 4, 2) := by decide +kernel
theorem dX1_partition_9 : decode cX1_partition 9 = .ok (.ifCond .le 34, 3) := by decide +kernel
theorem dX1_partition_12 : decode cX1_partition 12 = .ok (.iload_n 1, 1) := by decide +kernel
theorem dX1_partition_13 : decode cX1_partition 13 = .ok (.ifCond .le 30, 3) := by decide +kernel
theorem dX1_partition_16 : decode cX1_partition 16 = .ok (.aload_n 0, 1) := by decide +kernel
theorem dX1_partition_17 : decode cX1_partition 17 = .ok (.iload 4, 2) := by decide +kernel
theorem dX1_partition_19 : decode cX1_partition 19 = .ok (.invokevirtual 31, 3) := by decide +kernel
theorem dX1_partition_22 : decode cX1_partition 22 = .ok (.iload_n 1, 1) := by decide +kernel
theorem dX1_partition_23 : decode cX1_partition 23 = .ok (.if_icmp .ne 14, 3) := by decide +kernel
theorem dX1_partition_26 : decode cX1_partition 26 = .ok (.iload_n 3, 1) := by decide +kernel
theorem dX1_partition_27 : decode cX1_partition 27 = .ok (.iload_n 2, 1) := by decide +kernel
theorem dX1_partition_28 : decode cX1_partition 28 = .ok (.if_icmp .ne 6, 3) := by decide +kernel
theorem dX1_partition_31 : decode cX1_partition 31 = .ok (.iload 4, 2) := by decide +kernel
theorem dX1_partition_33 : decode cX1_partition 33 = .ok (.ireturn, 1) := by decide +kernel
theorem dX1_partition_34 : decode cX1_partition 34 = .ok (.iinc 3 1, 3) := by decide +kernel
theorem dX1_partition_37 : decode cX1_partition 37 = .ok (.iinc 4 (-1), 3) := by decide +kernel
theorem dX1_partition_40 : decode cX1_partition 40 = .ok (.goto (-33), 3) := by decide +kernel
theorem dX1_partition_43 : decode cX1_partition 43 = .ok (.ldc 35, 2) := by decide +kernel
theorem dX1_partition_45 : decode cX1_partition 45 = .ok (.ireturn, 1) := by decide +kernel
abbrev cX1_turned : ByteArray := prog_3_method_17_code
def yX1_turned : MethodName := ⟨RX1, "turned", "(I)I"⟩
theorem dX1_turned_0 : decode cX1_turned 0 = .ok (.aload_n 0, 1) := by decide +kernel
theorem dX1_turned_1 : decode cX1_turned 1 = .ok (.iload_n 1, 1) := by decide +kernel
theorem dX1_turned_2 : decode cX1_turned 2 = .ok (.invokevirtual 31, 3) := by decide +kernel
theorem dX1_turned_5 : decode cX1_turned 5 = .ok (.ifCond .eq 13, 3) := by decide +kernel
theorem dX1_turned_8 : decode cX1_turned 8 = .ok (.aload_n 0, 1) := by decide +kernel
theorem dX1_turned_9 : decode cX1_turned 9 = .ok (.iload_n 1, 1) := by decide +kernel
theorem dX1_turned_10 : decode cX1_turned 10 = .ok (.iconst 0, 1) := by decide +kernel
theorem dX1_turned_11 : decode cX1_turned 11 = .ok (.invokevirtual 16, 3) := by decide +kernel
theorem dX1_turned_14 : decode cX1_turned 14 = .ok (.iconst 4, 1) := by decide +kernel
theorem dX1_turned_15 : decode cX1_turned 15 = .ok (.if_icmp .le 6, 3) := by decide +kernel
theorem dX1_turned_18 : decode cX1_turned 18 = .ok (.ldc 35, 2) := by decide +kernel
theorem dX1_turned_20 : decode cX1_turned 20 = .ok (.ireturn, 1) := by decide +kernel
theorem dX1_turned_21 : decode cX1_turned 21 = .ok (.iconst 0, 1) := by decide +kernel
theorem dX1_turned_22 : decode cX1_turned 22 = .ok (.istore_n 2, 1) := by decide +kernel
theorem dX1_turned_23 : decode cX1_turned 23 = .ok (.iconst 0, 1) := by decide +kernel
theorem dX1_turned_24 : decode cX1_turned 24 = .ok (.istore_n 3, 1) := by decide +kernel
theorem dX1_turned_25 : decode cX1_turned 25 = .ok (.iload_n 3, 1) := by decide +kernel
theorem dX1_turned_26 : decode cX1_turned 26 = .ok (.iconst 4, 1) := by decide +kernel
theorem dX1_turned_27 : decode cX1_turned 27 = .ok (.if_icmp .ge 58, 3) := by decide +kernel
theorem dX1_turned_30 : decode cX1_turned 30 = .ok (.iconst 0, 1) := by decide +kernel
theorem dX1_turned_31 : decode cX1_turned 31 = .ok (.istore 4, 2) := by decide +kernel
theorem dX1_turned_33 : decode cX1_turned 33 = .ok (.iconst 0, 1) := by decide +kernel
theorem dX1_turned_34 : decode cX1_turned 34 = .ok (.istore 5, 2) := by decide +kernel
theorem dX1_turned_36 : decode cX1_turned 36 = .ok (.iload 5, 2) := by decide +kernel
theorem dX1_turned_38 : decode cX1_turned 38 = .ok (.iconst 4, 1) := by decide +kernel
theorem dX1_turned_39 : decode cX1_turned 39 = .ok (.if_icmp .ge 31, 3) := by decide +kernel
theorem dX1_turned_42 : decode cX1_turned 42 = .ok (.aload_n 0, 1) := by decide +kernel
theorem dX1_turned_43 : decode cX1_turned 43 = .ok (.iload_n 1, 1) := by decide +kernel
theorem dX1_turned_44 : decode cX1_turned 44 = .ok (.iload 5, 2) := by decide +kernel
theorem dX1_turned_46 : decode cX1_turned 46 = .ok (.invokevirtual 16, 3) := by decide +kernel
theorem dX1_turned_49 : decode cX1_turned 49 = .ok (.iload_n 3, 1) := by decide +kernel
theorem dX1_turned_50 : decode cX1_turned 50 = .ok (.if_icmp .le 10, 3) := by decide +kernel
theorem dX1_turned_53 : decode cX1_turned 53 = .ok (.iload 4, 2) := by decide +kernel
theorem dX1_turned_55 : decode cX1_turned 55 = .ok (.iconst 1, 1) := by decide +kernel
theorem dX1_turned_56 : decode cX1_turned 56 = .ok (.iadd, 1) := by decide +kernel
theorem dX1_turned_57 : decode cX1_turned 57 = .ok (.goto 5, 3) := by decide +kernel
theorem dX1_turned_60 : decode cX1_turned 60 = .ok (.iload 4, 2) := by decide +kernel
theorem dX1_turned_62 : decode cX1_turned 62 = .ok (.istore 4, 2) := by decide +kernel
theorem dX1_turned_64 : decode cX1_turned 64 = .ok (.iinc 5 1, 3) := by decide +kernel
theorem dX1_turned_67 : decode cX1_turned 67 = .ok (.goto (-31), 3) := by decide +kernel
theorem dX1_turned_70 : decode cX1_turned 70 = .ok (.iload_n 2, 1) := by decide +kernel
theorem dX1_turned_71 : decode cX1_turned 71 = .ok (.iload 4, 2) := by decide +kernel
theorem dX1_turned_73 : decode cX1_turned 73 = .ok (.iconst 3, 1) := by decide +kernel
theorem dX1_turned_74 : decode cX1_turned 74 = .ok (.iload_n 3, 1) := by decide +kernel
theorem dX1_turned_75 : decode cX1_turned 75 = .ok (.imul, 1) := by decide +kernel
theorem dX1_turned_76 : decode cX1_turned 76 = .ok (.ishl, 1) := by decide +kernel
theorem dX1_turned_77 : decode cX1_turned 77 = .ok (.ior, 1) := by decide +kernel
theorem dX1_turned_78 : decode cX1_turned 78 = .ok (.istore_n 2, 1) := by decide +kernel
theorem dX1_turned_79 : decode cX1_turned 79 = .ok (.iinc 3 1, 3) := by decide +kernel
theorem dX1_turned_82 : decode cX1_turned 82 = .ok (.goto (-57), 3) := by decide +kernel
theorem dX1_turned_85 : decode cX1_turned 85 = .ok (.iload_n 2, 1) := by decide +kernel
theorem dX1_turned_86 : decode cX1_turned 86 = .ok (.ireturn, 1) := by decide +kernel
abbrev cX1_permutations : ByteArray := prog_3_method_18_code
def yX1_permutations : MethodName := ⟨RX1, "permutations", "(I)I"⟩
theorem dX1_permutations_0 : decode cX1_permutations 0 = .ok (.aload_n 0, 1) := by decide +kernel
theorem dX1_permutations_1 : decode cX1_permutations 1 = .ok (.iload_n 1, 1) := by decide +kernel
theorem dX1_permutations_2 : decode cX1_permutations 2 = .ok (.invokevirtual 31, 3) := by decide +kernel
theorem dX1_permutations_5 : decode cX1_permutations 5 = .ok (.istore_n 2, 1) := by decide +kernel
theorem dX1_permutations_6 : decode cX1_permutations 6 = .ok (.iload_n 2, 1) := by decide +kernel
theorem dX1_permutations_7 : decode cX1_permutations 7 = .ok (.ifCond .ne 6, 3) := by decide +kernel
theorem dX1_permutations_10 : decode cX1_permutations 10 = .ok (.ldc 35, 2) := by decide +kernel
theorem dX1_permutations_12 : decode cX1_permutations 12 = .ok (.ireturn, 1) := by decide +kernel
theorem dX1_permutations_13 : decode cX1_permutations 13 = .ok (.iconst 1, 1) := by decide +kernel
theorem dX1_permutations_14 : decode cX1_permutations 14 = .ok (.istore_n 3, 1) := by decide +kernel
theorem dX1_permutations_15 : decode cX1_permutations 15 = .ok (.iconst 2, 1) := by decide +kernel
theorem dX1_permutations_16 : decode cX1_permutations 16 = .ok (.istore 4, 2) := by decide +kernel
theorem dX1_permutations_18 : decode cX1_permutations 18 = .ok (.iload 4, 2) := by decide +kernel
theorem dX1_permutations_20 : decode cX1_permutations 20 = .ok (.iload_n 2, 1) := by decide +kernel
theorem dX1_permutations_21 : decode cX1_permutations 21 = .ok (.if_icmp .gt 14, 3) := by decide +kernel
theorem dX1_permutations_24 : decode cX1_permutations 24 = .ok (.iload_n 3, 1) := by decide +kernel
theorem dX1_permutations_25 : decode cX1_permutations 25 = .ok (.iload 4, 2) := by decide +kernel
theorem dX1_permutations_27 : decode cX1_permutations 27 = .ok (.imul, 1) := by decide +kernel
theorem dX1_permutations_28 : decode cX1_permutations 28 = .ok (.istore_n 3, 1) := by decide +kernel
theorem dX1_permutations_29 : decode cX1_permutations 29 = .ok (.iinc 4 1, 3) := by decide +kernel
theorem dX1_permutations_32 : decode cX1_permutations 32 = .ok (.goto (-14), 3) := by decide +kernel
theorem dX1_permutations_35 : decode cX1_permutations 35 = .ok (.iconst 1, 1) := by decide +kernel
theorem dX1_permutations_36 : decode cX1_permutations 36 = .ok (.istore 4, 2) := by decide +kernel
theorem dX1_permutations_38 : decode cX1_permutations 38 = .ok (.iconst 0, 1) := by decide +kernel
theorem dX1_permutations_39 : decode cX1_permutations 39 = .ok (.istore 5, 2) := by decide +kernel
theorem dX1_permutations_41 : decode cX1_permutations 41 = .ok (.iconst 0, 1) := by decide +kernel
theorem dX1_permutations_42 : decode cX1_permutations 42 = .ok (.istore 6, 2) := by decide +kernel
theorem dX1_permutations_44 : decode cX1_permutations 44 = .ok (.iload 6, 2) := by decide +kernel
theorem dX1_permutations_46 : decode cX1_permutations 46 = .ok (.iconst 4, 1) := by decide +kernel
theorem dX1_permutations_47 : decode cX1_permutations 47 = .ok (.if_icmp .ge 67, 3) := by decide +kernel
theorem dX1_permutations_50 : decode cX1_permutations 50 = .ok (.aload_n 0, 1) := by decide +kernel
theorem dX1_permutations_51 : decode cX1_permutations 51 = .ok (.iload_n 1, 1) := by decide +kernel
theorem dX1_permutations_52 : decode cX1_permutations 52 = .ok (.iload 6, 2) := by decide +kernel
theorem dX1_permutations_54 : decode cX1_permutations 54 = .ok (.invokevirtual 16, 3) := by decide +kernel
theorem dX1_permutations_57 : decode cX1_permutations 57 = .ok (.istore 7, 2) := by decide +kernel
theorem dX1_permutations_59 : decode cX1_permutations 59 = .ok (.iload 6, 2) := by decide +kernel
theorem dX1_permutations_61 : decode cX1_permutations 61 = .ok (.ifCond .le 24, 3) := by decide +kernel
theorem dX1_permutations_64 : decode cX1_permutations 64 = .ok (.iload 7, 2) := by decide +kernel
theorem dX1_permutations_66 : decode cX1_permutations 66 = .ok (.aload_n 0, 1) := by decide +kernel
theorem dX1_permutations_67 : decode cX1_permutations 67 = .ok (.iload_n 1, 1) := by decide +kernel
theorem dX1_permutations_68 : decode cX1_permutations 68 = .ok (.iload 6, 2) := by decide +kernel
theorem dX1_permutations_70 : decode cX1_permutations 70 = .ok (.iconst 1, 1) := by decide +kernel
theorem dX1_permutations_71 : decode cX1_permutations 71 = .ok (.isub, 1) := by decide +kernel
theorem dX1_permutations_72 : decode cX1_permutations 72 = .ok (.invokevirtual 16, 3) := by decide +kernel
theorem dX1_permutations_75 : decode cX1_permutations 75 = .ok (.if_icmp .ne 10, 3) := by decide +kernel
theorem dX1_permutations_78 : decode cX1_permutations 78 = .ok (.iload 5, 2) := by decide +kernel
theorem dX1_permutations_80 : decode cX1_permutations 80 = .ok (.iconst 1, 1) := by decide +kernel
theorem dX1_permutations_81 : decode cX1_permutations 81 = .ok (.iadd, 1) := by decide +kernel
theorem dX1_permutations_82 : decode cX1_permutations 82 = .ok (.goto 4, 3) := by decide +kernel
theorem dX1_permutations_85 : decode cX1_permutations 85 = .ok (.iconst 1, 1) := by decide +kernel
theorem dX1_permutations_86 : decode cX1_permutations 86 = .ok (.istore 5, 2) := by decide +kernel
theorem dX1_permutations_88 : decode cX1_permutations 88 = .ok (.iload 7, 2) := by decide +kernel
theorem dX1_permutations_90 : decode cX1_permutations 90 = .ok (.ifCond .le 14, 3) := by decide +kernel
theorem dX1_permutations_93 : decode cX1_permutations 93 = .ok (.iload 4, 2) := by decide +kernel
theorem dX1_permutations_95 : decode cX1_permutations 95 = .ok (.iload 7, 2) := by decide +kernel
theorem dX1_permutations_97 : decode cX1_permutations 97 = .ok (.imul, 1) := by decide +kernel
theorem dX1_permutations_98 : decode cX1_permutations 98 = .ok (.iload 5, 2) := by decide +kernel
theorem dX1_permutations_100 : decode cX1_permutations 100 = .ok (.imul, 1) := by decide +kernel
theorem dX1_permutations_101 : decode cX1_permutations 101 = .ok (.goto 5, 3) := by decide +kernel
theorem dX1_permutations_104 : decode cX1_permutations 104 = .ok (.iload 4, 2) := by decide +kernel
theorem dX1_permutations_106 : decode cX1_permutations 106 = .ok (.istore 4, 2) := by decide +kernel
theorem dX1_permutations_108 : decode cX1_permutations 108 = .ok (.iinc 6 1, 3) := by decide +kernel
theorem dX1_permutations_111 : decode cX1_permutations 111 = .ok (.goto (-67), 3) := by decide +kernel
theorem dX1_permutations_114 : decode cX1_permutations 114 = .ok (.iload_n 3, 1) := by decide +kernel
theorem dX1_permutations_115 : decode cX1_permutations 115 = .ok (.iload 4, 2) := by decide +kernel
theorem dX1_permutations_117 : decode cX1_permutations 117 = .ok (.ifCond .le 8, 3) := by decide +kernel
theorem dX1_permutations_120 : decode cX1_permutations 120 = .ok (.iload 4, 2) := by decide +kernel
theorem dX1_permutations_122 : decode cX1_permutations 122 = .ok (.goto 4, 3) := by decide +kernel
theorem dX1_permutations_125 : decode cX1_permutations 125 = .ok (.iconst 1, 1) := by decide +kernel
theorem dX1_permutations_126 : decode cX1_permutations 126 = .ok (.idiv, 1) := by decide +kernel
theorem dX1_permutations_127 : decode cX1_permutations 127 = .ok (.ireturn, 1) := by decide +kernel
abbrev cX1_squares : ByteArray := prog_3_method_19_code
def yX1_squares : MethodName := ⟨RX1, "squares", "(I)I"⟩
theorem dX1_squares_0 : decode cX1_squares 0 = .ok (.iload_n 1, 1) := by decide +kernel
theorem dX1_squares_1 : decode cX1_squares 1 = .ok (.iconst 1, 1) := by decide +kernel
theorem dX1_squares_2 : decode cX1_squares 2 = .ok (.if_icmp .lt 9, 3) := by decide +kernel
theorem dX1_squares_5 : decode cX1_squares 5 = .ok (.iload_n 1, 1) := by decide +kernel
theorem dX1_squares_6 : decode cX1_squares 6 = .ok (.bipush 7, 2) := by decide +kernel
theorem dX1_squares_8 : decode cX1_squares 8 = .ok (.if_icmp .le 6, 3) := by decide +kernel
theorem dX1_squares_11 : decode cX1_squares 11 = .ok (.ldc 35, 2) := by decide +kernel
theorem dX1_squares_13 : decode cX1_squares 13 = .ok (.ireturn, 1) := by decide +kernel
theorem dX1_squares_14 : decode cX1_squares 14 = .ok (.aload_n 0, 1) := by decide +kernel
theorem dX1_squares_15 : decode cX1_squares 15 = .ok (.iload_n 1, 1) := by decide +kernel
theorem dX1_squares_16 : decode cX1_squares 16 = .ok (.invokevirtual 50, 3) := by decide +kernel
theorem dX1_squares_19 : decode cX1_squares 19 = .ok (.iconst 0, 1) := by decide +kernel
theorem dX1_squares_20 : decode cX1_squares 20 = .ok (.istore_n 2, 1) := by decide +kernel
theorem dX1_squares_21 : decode cX1_squares 21 = .ok (.iconst 1, 1) := by decide +kernel
theorem dX1_squares_22 : decode cX1_squares 22 = .ok (.istore_n 3, 1) := by decide +kernel
theorem dX1_squares_23 : decode cX1_squares 23 = .ok (.iload_n 3, 1) := by decide +kernel
theorem dX1_squares_24 : decode cX1_squares 24 = .ok (.sipush 4096, 3) := by decide +kernel
theorem dX1_squares_27 : decode cX1_squares 27 = .ok (.if_icmp .ge 33, 3) := by decide +kernel
theorem dX1_squares_30 : decode cX1_squares 30 = .ok (.aload_n 0, 1) := by decide +kernel
theorem dX1_squares_31 : decode cX1_squares 31 = .ok (.iload_n 3, 1) := by decide +kernel
theorem dX1_squares_32 : decode cX1_squares 32 = .ok (.invokevirtual 31, 3) := by decide +kernel
theorem dX1_squares_35 : decode cX1_squares 35 = .ok (.iload_n 1, 1) := by decide +kernel
theorem dX1_squares_36 : decode cX1_squares 36 = .ok (.if_icmp .ne 18, 3) := by decide +kernel
theorem dX1_squares_39 : decode cX1_squares 39 = .ok (.aload_n 0, 1) := by decide +kernel
theorem dX1_squares_40 : decode cX1_squares 40 = .ok (.iload_n 3, 1) := by decide +kernel
theorem dX1_squares_41 : decode cX1_squares 41 = .ok (.invokevirtual 47, 3) := by decide +kernel
theorem dX1_squares_44 : decode cX1_squares 44 = .ok (.istore 4, 2) := by decide +kernel
theorem dX1_squares_46 : decode cX1_squares 46 = .ok (.iload_n 2, 1) := by decide +kernel
theorem dX1_squares_47 : decode cX1_squares 47 = .ok (.iload 4, 2) := by decide +kernel
theorem dX1_squares_49 : decode cX1_squares 49 = .ok (.iload 4, 2) := by decide +kernel
theorem dX1_squares_51 : decode cX1_squares 51 = .ok (.imul, 1) := by decide +kernel
theorem dX1_squares_52 : decode cX1_squares 52 = .ok (.iadd, 1) := by decide +kernel
theorem dX1_squares_53 : decode cX1_squares 53 = .ok (.istore_n 2, 1) := by decide +kernel
theorem dX1_squares_54 : decode cX1_squares 54 = .ok (.iinc 3 1, 3) := by decide +kernel
theorem dX1_squares_57 : decode cX1_squares 57 = .ok (.goto (-34), 3) := by decide +kernel
theorem dX1_squares_60 : decode cX1_squares 60 = .ok (.iload_n 2, 1) := by decide +kernel
theorem dX1_squares_61 : decode cX1_squares 61 = .ok (.ireturn, 1) := by decide +kernel
abbrev cX1_vanishes : ByteArray := prog_3_method_20_code
def yX1_vanishes : MethodName := ⟨RX1, "vanishes", "(II)Z"⟩
theorem dX1_vanishes_0 : decode cX1_vanishes 0 = .ok (.aload_n 0, 1) := by decide +kernel
theorem dX1_vanishes_1 : decode cX1_vanishes 1 = .ok (.iload_n 1, 1) := by decide +kernel
theorem dX1_vanishes_2 : decode cX1_vanishes 2 = .ok (.iload_n 2, 1) := by decide +kernel
theorem dX1_vanishes_3 : decode cX1_vanishes 3 = .ok (.invokevirtual 40, 3) := by decide +kernel
theorem dX1_vanishes_6 : decode cX1_vanishes 6 = .ok (.ifCond .ne 7, 3) := by decide +kernel
theorem dX1_vanishes_9 : decode cX1_vanishes 9 = .ok (.iconst 1, 1) := by decide +kernel
theorem dX1_vanishes_10 : decode cX1_vanishes 10 = .ok (.goto 4, 3) := by decide +kernel
theorem dX1_vanishes_13 : decode cX1_vanishes 13 = .ok (.iconst 0, 1) := by decide +kernel
theorem dX1_vanishes_14 : decode cX1_vanishes 14 = .ok (.ireturn, 1) := by decide +kernel
abbrev cX1_greatest : ByteArray := prog_3_method_21_code
def yX1_greatest : MethodName := ⟨RX1, "greatest", "(I)I"⟩
theorem dX1_greatest_0 : decode cX1_greatest 0 = .ok (.aload_n 0, 1) := by decide +kernel
theorem dX1_greatest_1 : decode cX1_greatest 1 = .ok (.iload_n 1, 1) := by decide +kernel
theorem dX1_greatest_2 : decode cX1_greatest 2 = .ok (.invokevirtual 31, 3) := by decide +kernel
theorem dX1_greatest_5 : decode cX1_greatest 5 = .ok (.istore_n 2, 1) := by decide +kernel
theorem dX1_greatest_6 : decode cX1_greatest 6 = .ok (.iload_n 2, 1) := by decide +kernel
theorem dX1_greatest_7 : decode cX1_greatest 7 = .ok (.ifCond .ne 6, 3) := by decide +kernel
theorem dX1_greatest_10 : decode cX1_greatest 10 = .ok (.ldc 35, 2) := by decide +kernel
theorem dX1_greatest_12 : decode cX1_greatest 12 = .ok (.ireturn, 1) := by decide +kernel
theorem dX1_greatest_13 : decode cX1_greatest 13 = .ok (.aload_n 0, 1) := by decide +kernel
theorem dX1_greatest_14 : decode cX1_greatest 14 = .ok (.iload_n 1, 1) := by decide +kernel
theorem dX1_greatest_15 : decode cX1_greatest 15 = .ok (.invokevirtual 43, 3) := by decide +kernel
theorem dX1_greatest_18 : decode cX1_greatest 18 = .ok (.ldc 35, 2) := by decide +kernel
theorem dX1_greatest_20 : decode cX1_greatest 20 = .ok (.istore_n 3, 1) := by decide +kernel
theorem dX1_greatest_21 : decode cX1_greatest 21 = .ok (.iconst 1, 1) := by decide +kernel
theorem dX1_greatest_22 : decode cX1_greatest 22 = .ok (.istore 4, 2) := by decide +kernel
theorem dX1_greatest_24 : decode cX1_greatest 24 = .ok (.iload 4, 2) := by decide +kernel
theorem dX1_greatest_26 : decode cX1_greatest 26 = .ok (.sipush 4096, 3) := by decide +kernel
theorem dX1_greatest_29 : decode cX1_greatest 29 = .ok (.if_icmp .ge 40, 3) := by decide +kernel
theorem dX1_greatest_32 : decode cX1_greatest 32 = .ok (.aload_n 0, 1) := by decide +kernel
theorem dX1_greatest_33 : decode cX1_greatest 33 = .ok (.iload 4, 2) := by decide +kernel
theorem dX1_greatest_35 : decode cX1_greatest 35 = .ok (.invokevirtual 31, 3) := by decide +kernel
theorem dX1_greatest_38 : decode cX1_greatest 38 = .ok (.iload_n 2, 1) := by decide +kernel
theorem dX1_greatest_39 : decode cX1_greatest 39 = .ok (.if_icmp .ne 24, 3) := by decide +kernel
theorem dX1_greatest_42 : decode cX1_greatest 42 = .ok (.aload_n 0, 1) := by decide +kernel
theorem dX1_greatest_43 : decode cX1_greatest 43 = .ok (.iload 4, 2) := by decide +kernel
theorem dX1_greatest_45 : decode cX1_greatest 45 = .ok (.invokevirtual 47, 3) := by decide +kernel
theorem dX1_greatest_48 : decode cX1_greatest 48 = .ok (.istore 5, 2) := by decide +kernel
theorem dX1_greatest_50 : decode cX1_greatest 50 = .ok (.iload 5, 2) := by decide +kernel
theorem dX1_greatest_52 : decode cX1_greatest 52 = .ok (.iload_n 3, 1) := by decide +kernel
theorem dX1_greatest_53 : decode cX1_greatest 53 = .ok (.if_icmp .le 8, 3) := by decide +kernel
theorem dX1_greatest_56 : decode cX1_greatest 56 = .ok (.iload 5, 2) := by decide +kernel
theorem dX1_greatest_58 : decode cX1_greatest 58 = .ok (.goto 4, 3) := by decide +kernel
theorem dX1_greatest_61 : decode cX1_greatest 61 = .ok (.iload_n 3, 1) := by decide +kernel
theorem dX1_greatest_62 : decode cX1_greatest 62 = .ok (.istore_n 3, 1) := by decide +kernel
theorem dX1_greatest_63 : decode cX1_greatest 63 = .ok (.iinc 4 1, 3) := by decide +kernel
theorem dX1_greatest_66 : decode cX1_greatest 66 = .ok (.goto (-42), 3) := by decide +kernel
theorem dX1_greatest_69 : decode cX1_greatest 69 = .ok (.iload_n 3, 1) := by decide +kernel
theorem dX1_greatest_70 : decode cX1_greatest 70 = .ok (.ireturn, 1) := by decide +kernel
abbrev cX1_support : ByteArray := prog_3_method_22_code
def yX1_support : MethodName := ⟨RX1, "support", "(I)I"⟩
theorem dX1_support_0 : decode cX1_support 0 = .ok (.aload_n 0, 1) := by decide +kernel
theorem dX1_support_1 : decode cX1_support 1 = .ok (.iload_n 1, 1) := by decide +kernel
theorem dX1_support_2 : decode cX1_support 2 = .ok (.invokevirtual 31, 3) := by decide +kernel
theorem dX1_support_5 : decode cX1_support 5 = .ok (.istore_n 2, 1) := by decide +kernel
theorem dX1_support_6 : decode cX1_support 6 = .ok (.iload_n 2, 1) := by decide +kernel
theorem dX1_support_7 : decode cX1_support 7 = .ok (.ifCond .ne 6, 3) := by decide +kernel
theorem dX1_support_10 : decode cX1_support 10 = .ok (.ldc 35, 2) := by decide +kernel
theorem dX1_support_12 : decode cX1_support 12 = .ok (.ireturn, 1) := by decide +kernel
theorem dX1_support_13 : decode cX1_support 13 = .ok (.aload_n 0, 1) := by decide +kernel
theorem dX1_support_14 : decode cX1_support 14 = .ok (.iload_n 1, 1) := by decide +kernel
theorem dX1_support_15 : decode cX1_support 15 = .ok (.invokevirtual 43, 3) := by decide +kernel
theorem dX1_support_18 : decode cX1_support 18 = .ok (.iconst 0, 1) := by decide +kernel
theorem dX1_support_19 : decode cX1_support 19 = .ok (.istore_n 3, 1) := by decide +kernel
theorem dX1_support_20 : decode cX1_support 20 = .ok (.iconst 1, 1) := by decide +kernel
theorem dX1_support_21 : decode cX1_support 21 = .ok (.istore 4, 2) := by decide +kernel
theorem dX1_support_23 : decode cX1_support 23 = .ok (.iload 4, 2) := by decide +kernel
theorem dX1_support_25 : decode cX1_support 25 = .ok (.sipush 4096, 3) := by decide +kernel
theorem dX1_support_28 : decode cX1_support 28 = .ok (.if_icmp .ge 36, 3) := by decide +kernel
theorem dX1_support_31 : decode cX1_support 31 = .ok (.aload_n 0, 1) := by decide +kernel
theorem dX1_support_32 : decode cX1_support 32 = .ok (.iload 4, 2) := by decide +kernel
theorem dX1_support_34 : decode cX1_support 34 = .ok (.invokevirtual 31, 3) := by decide +kernel
theorem dX1_support_37 : decode cX1_support 37 = .ok (.iload_n 2, 1) := by decide +kernel
theorem dX1_support_38 : decode cX1_support 38 = .ok (.if_icmp .ne 18, 3) := by decide +kernel
theorem dX1_support_41 : decode cX1_support 41 = .ok (.aload_n 0, 1) := by decide +kernel
theorem dX1_support_42 : decode cX1_support 42 = .ok (.iload 4, 2) := by decide +kernel
theorem dX1_support_44 : decode cX1_support 44 = .ok (.invokevirtual 47, 3) := by decide +kernel
theorem dX1_support_47 : decode cX1_support 47 = .ok (.ifCond .eq 9, 3) := by decide +kernel
theorem dX1_support_50 : decode cX1_support 50 = .ok (.iload_n 3, 1) := by decide +kernel
theorem dX1_support_51 : decode cX1_support 51 = .ok (.iconst 1, 1) := by decide +kernel
theorem dX1_support_52 : decode cX1_support 52 = .ok (.iadd, 1) := by decide +kernel
theorem dX1_support_53 : decode cX1_support 53 = .ok (.goto 4, 3) := by decide +kernel
theorem dX1_support_56 : decode cX1_support 56 = .ok (.iload_n 3, 1) := by decide +kernel
theorem dX1_support_57 : decode cX1_support 57 = .ok (.istore_n 3, 1) := by decide +kernel
theorem dX1_support_58 : decode cX1_support 58 = .ok (.iinc 4 1, 3) := by decide +kernel
theorem dX1_support_61 : decode cX1_support 61 = .ok (.goto (-38), 3) := by decide +kernel
theorem dX1_support_64 : decode cX1_support 64 = .ok (.iload_n 3, 1) := by decide +kernel
theorem dX1_support_65 : decode cX1_support 65 = .ok (.ireturn, 1) := by decide +kernel
theorem q16 : (Jvm.Cond.initialized "CharacterDeskModel") ∈ lw_all := lw_g (lw_at lw_m0 2 rfl) rfl
theorem q132 : (Jvm.Cond.instantiable "CharacterDeskModel" (3 : Nat)) ∈ lw_all := lw_g (lw_at lw_m0 118 rfl) rfl
theorem q134 : (Jvm.Cond.instanceMethod ({ cls := "CharacterDeskModel", name := "<init>", desc := "()V" } : Jvm.MethodName)) ∈ lw_all := lw_g (lw_at lw_m0 120 rfl) rfl
theorem q135 : (Jvm.Cond.code ({ cls := "CharacterDeskModel", name := "<init>", desc := "()V" } : Jvm.MethodName) prog_3_method_1_code (1 : Nat) (Option.none : Option Jvm.ClassFile.FieldType)) ∈ lw_all := lw_g (lw_at lw_m0 121 rfl) rfl
theorem q136 : (Jvm.Cond.methodLink "CharacterDeskModel" (1 : Nat) ({ cls := "java/lang/Object", name := "<init>", desc := "()V" } : Jvm.MethodName)) ∈ lw_all := lw_g (lw_at lw_m0 122 rfl) rfl
theorem q137 : (Jvm.Cond.fieldLink "CharacterDeskModel" (36 : Nat) "CharacterDeskModel" "chosen" "I") ∈ lw_all := lw_g (lw_at lw_m0 123 rfl) rfl
theorem q138 : (Jvm.Cond.fieldLink "CharacterDeskModel" (7 : Nat) "CharacterDeskModel" "poly" "[I") ∈ lw_all := lw_g (lw_at lw_m0 124 rfl) rfl
theorem q139 : (Jvm.Cond.fieldLink "CharacterDeskModel" (13 : Nat) "CharacterDeskModel" "next" "[I") ∈ lw_all := lw_g (lw_at lw_m0 125 rfl) rfl
theorem q140 : (Jvm.Cond.lays "CharacterDeskModel" "CharacterDeskModel" "chosen" "I") ∈ lw_all := lw_g (lw_at lw_m0 126 rfl) rfl
theorem q141 : (Jvm.Cond.soleField "CharacterDeskModel" "chosen") ∈ lw_all := lw_g (lw_at lw_m0 127 rfl) rfl
theorem q142 : (Jvm.Cond.lays "CharacterDeskModel" "CharacterDeskModel" "poly" "[I") ∈ lw_all := lw_g (lw_at lw_m0 128 rfl) rfl
theorem q143 : (Jvm.Cond.soleField "CharacterDeskModel" "poly") ∈ lw_all := lw_g (lw_at lw_m0 129 rfl) rfl
theorem q144 : (Jvm.Cond.lays "CharacterDeskModel" "CharacterDeskModel" "next" "[I") ∈ lw_all := lw_g (lw_at lw_m0 130 rfl) rfl
theorem q145 : (Jvm.Cond.soleField "CharacterDeskModel" "next") ∈ lw_all := lw_g (lw_at lw_m0 131 rfl) rfl
theorem q146 : (Jvm.Cond.superclass "CharacterDeskModel" "java/lang/Object") ∈ lw_all := lw_g (lw_at lw_m0 132 rfl) rfl
theorem q148 : (Jvm.Cond.instanceMethod ({ cls := "CharacterDeskModel", name := "choose", desc := "(I)I" } : Jvm.MethodName)) ∈ lw_all := lw_g (lw_at lw_m0 134 rfl) rfl
theorem q149 : (Jvm.Cond.selects "CharacterDeskModel" ({ cls := "CharacterDeskModel", name := "choose", desc := "(I)I" } : Jvm.MethodName) ({ cls := "CharacterDeskModel", name := "choose", desc := "(I)I" } : Jvm.MethodName)) ∈ lw_all := lw_g (lw_at lw_m0 135 rfl) rfl
theorem q150 : (Jvm.Cond.code ({ cls := "CharacterDeskModel", name := "choose", desc := "(I)I" } : Jvm.MethodName) prog_3_method_10_code (3 : Nat) (Option.some Jvm.ClassFile.FieldType.int)) ∈ lw_all := lw_g (lw_at lw_m0 136 rfl) rfl
theorem q151 : (Jvm.Cond.methodLink "CharacterDeskModel" (31 : Nat) ({ cls := "CharacterDeskModel", name := "sumOf", desc := "(I)I" } : Jvm.MethodName)) ∈ lw_all := lw_g (lw_at lw_m0 137 rfl) rfl
theorem q152 : (Jvm.Cond.privateMethod ({ cls := "CharacterDeskModel", name := "sumOf", desc := "(I)I" } : Jvm.MethodName)) ∈ lw_tbl := lw_at lw_m0 138 rfl
theorem q153 : (Jvm.Cond.instanceMethod ({ cls := "CharacterDeskModel", name := "sumOf", desc := "(I)I" } : Jvm.MethodName)) ∈ lw_all := lw_g (lw_at lw_m0 139 rfl) rfl
theorem q154 : (Jvm.Cond.code ({ cls := "CharacterDeskModel", name := "sumOf", desc := "(I)I" } : Jvm.MethodName) prog_3_method_3_code (5 : Nat) (Option.some Jvm.ClassFile.FieldType.int)) ∈ lw_all := lw_g (lw_at lw_m0 140 rfl) rfl
theorem q155 : (Jvm.Cond.methodLink "CharacterDeskModel" (16 : Nat) ({ cls := "CharacterDeskModel", name := "part", desc := "(II)I" } : Jvm.MethodName)) ∈ lw_all := lw_g (lw_at lw_m0 141 rfl) rfl
theorem q156 : (Jvm.Cond.privateMethod ({ cls := "CharacterDeskModel", name := "part", desc := "(II)I" } : Jvm.MethodName)) ∈ lw_tbl := lw_at lw_m0 142 rfl
theorem q157 : (Jvm.Cond.instanceMethod ({ cls := "CharacterDeskModel", name := "part", desc := "(II)I" } : Jvm.MethodName)) ∈ lw_all := lw_g (lw_at lw_m0 143 rfl) rfl
theorem q158 : (Jvm.Cond.code ({ cls := "CharacterDeskModel", name := "part", desc := "(II)I" } : Jvm.MethodName) prog_3_method_2_code (3 : Nat) (Option.some Jvm.ClassFile.FieldType.int)) ∈ lw_all := lw_g (lw_at lw_m0 144 rfl) rfl
theorem q159 : (Jvm.Cond.constant "CharacterDeskModel" (35 : Nat) (-1000000 : Int32)) ∈ lw_all := lw_g (lw_at lw_m0 145 rfl) rfl
theorem q161 : (Jvm.Cond.instanceMethod ({ cls := "CharacterDeskModel", name := "shape", desc := "()I" } : Jvm.MethodName)) ∈ lw_all := lw_g (lw_at lw_m0 147 rfl) rfl
theorem q162 : (Jvm.Cond.selects "CharacterDeskModel" ({ cls := "CharacterDeskModel", name := "shape", desc := "()I" } : Jvm.MethodName) ({ cls := "CharacterDeskModel", name := "shape", desc := "()I" } : Jvm.MethodName)) ∈ lw_all := lw_g (lw_at lw_m0 148 rfl) rfl
theorem q163 : (Jvm.Cond.code ({ cls := "CharacterDeskModel", name := "shape", desc := "()I" } : Jvm.MethodName) prog_3_method_11_code (1 : Nat) (Option.some Jvm.ClassFile.FieldType.int)) ∈ lw_all := lw_g (lw_at lw_m0 149 rfl) rfl
theorem q165 : (Jvm.Cond.instanceMethod ({ cls := "CharacterDeskModel", name := "at", desc := "(I)I" } : Jvm.MethodName)) ∈ lw_all := lw_g (lw_at lw_m0 151 rfl) rfl
theorem q166 : (Jvm.Cond.selects "CharacterDeskModel" ({ cls := "CharacterDeskModel", name := "at", desc := "(I)I" } : Jvm.MethodName) ({ cls := "CharacterDeskModel", name := "at", desc := "(I)I" } : Jvm.MethodName)) ∈ lw_all := lw_g (lw_at lw_m0 152 rfl) rfl
theorem q167 : (Jvm.Cond.code ({ cls := "CharacterDeskModel", name := "at", desc := "(I)I" } : Jvm.MethodName) prog_3_method_12_code (2 : Nat) (Option.some Jvm.ClassFile.FieldType.int)) ∈ lw_all := lw_g (lw_at lw_m0 153 rfl) rfl
theorem q168 : (Jvm.Cond.methodLink "CharacterDeskModel" (40 : Nat) ({ cls := "CharacterDeskModel", name := "character", desc := "(II)I" } : Jvm.MethodName)) ∈ lw_all := lw_g (lw_at lw_m0 154 rfl) rfl
theorem q169 : (Jvm.Cond.instanceMethod ({ cls := "CharacterDeskModel", name := "character", desc := "(II)I" } : Jvm.MethodName)) ∈ lw_all := lw_g (lw_at lw_m0 155 rfl) rfl
theorem q170 : (Jvm.Cond.selects "CharacterDeskModel" ({ cls := "CharacterDeskModel", name := "character", desc := "(II)I" } : Jvm.MethodName) ({ cls := "CharacterDeskModel", name := "character", desc := "(II)I" } : Jvm.MethodName)) ∈ lw_all := lw_g (lw_at lw_m0 156 rfl) rfl
theorem q171 : (Jvm.Cond.code ({ cls := "CharacterDeskModel", name := "character", desc := "(II)I" } : Jvm.MethodName) prog_3_method_13_code (4 : Nat) (Option.some Jvm.ClassFile.FieldType.int)) ∈ lw_all := lw_g (lw_at lw_m0 157 rfl) rfl
theorem q172 : (Jvm.Cond.methodLink "CharacterDeskModel" (43 : Nat) ({ cls := "CharacterDeskModel", name := "cycles", desc := "(I)V" } : Jvm.MethodName)) ∈ lw_all := lw_g (lw_at lw_m0 158 rfl) rfl
theorem q173 : (Jvm.Cond.privateMethod ({ cls := "CharacterDeskModel", name := "cycles", desc := "(I)V" } : Jvm.MethodName)) ∈ lw_tbl := lw_at lw_m0 159 rfl
theorem q174 : (Jvm.Cond.instanceMethod ({ cls := "CharacterDeskModel", name := "cycles", desc := "(I)V" } : Jvm.MethodName)) ∈ lw_all := lw_g (lw_at lw_m0 160 rfl) rfl
theorem q175 : (Jvm.Cond.code ({ cls := "CharacterDeskModel", name := "cycles", desc := "(I)V" } : Jvm.MethodName) prog_3_method_7_code (3 : Nat) (Option.none : Option Jvm.ClassFile.FieldType)) ∈ lw_all := lw_g (lw_at lw_m0 161 rfl) rfl
theorem q176 : (Jvm.Cond.methodLink "CharacterDeskModel" (28 : Nat) ({ cls := "CharacterDeskModel", name := "begin", desc := "()V" } : Jvm.MethodName)) ∈ lw_all := lw_g (lw_at lw_m0 162 rfl) rfl
theorem q177 : (Jvm.Cond.privateMethod ({ cls := "CharacterDeskModel", name := "begin", desc := "()V" } : Jvm.MethodName)) ∈ lw_tbl := lw_at lw_m0 163 rfl
theorem q178 : (Jvm.Cond.instanceMethod ({ cls := "CharacterDeskModel", name := "begin", desc := "()V" } : Jvm.MethodName)) ∈ lw_all := lw_g (lw_at lw_m0 164 rfl) rfl
theorem q179 : (Jvm.Cond.code ({ cls := "CharacterDeskModel", name := "begin", desc := "()V" } : Jvm.MethodName) prog_3_method_6_code (2 : Nat) (Option.none : Option Jvm.ClassFile.FieldType)) ∈ lw_all := lw_g (lw_at lw_m0 165 rfl) rfl
theorem q180 : (Jvm.Cond.methodLink "CharacterDeskModel" (24 : Nat) ({ cls := "CharacterDeskModel", name := "times", desc := "(IIIII)V" } : Jvm.MethodName)) ∈ lw_all := lw_g (lw_at lw_m0 166 rfl) rfl
theorem q181 : (Jvm.Cond.privateMethod ({ cls := "CharacterDeskModel", name := "times", desc := "(IIIII)V" } : Jvm.MethodName)) ∈ lw_tbl := lw_at lw_m0 167 rfl
theorem q182 : (Jvm.Cond.instanceMethod ({ cls := "CharacterDeskModel", name := "times", desc := "(IIIII)V" } : Jvm.MethodName)) ∈ lw_all := lw_g (lw_at lw_m0 168 rfl) rfl
theorem q183 : (Jvm.Cond.code ({ cls := "CharacterDeskModel", name := "times", desc := "(IIIII)V" } : Jvm.MethodName) prog_3_method_4_code (7 : Nat) (Option.none : Option Jvm.ClassFile.FieldType)) ∈ lw_all := lw_g (lw_at lw_m0 169 rfl) rfl
theorem q184 : (Jvm.Cond.methodLink "CharacterDeskModel" (20 : Nat) ({ cls := "CharacterDeskModel", name := "put", desc := "(II)V" } : Jvm.MethodName)) ∈ lw_all := lw_g (lw_at lw_m0 170 rfl) rfl
theorem q185 : (Jvm.Cond.privateMethod ({ cls := "CharacterDeskModel", name := "put", desc := "(II)V" } : Jvm.MethodName)) ∈ lw_tbl := lw_at lw_m0 171 rfl
theorem q186 : (Jvm.Cond.instanceMethod ({ cls := "CharacterDeskModel", name := "put", desc := "(II)V" } : Jvm.MethodName)) ∈ lw_all := lw_g (lw_at lw_m0 172 rfl) rfl
theorem q187 : (Jvm.Cond.code ({ cls := "CharacterDeskModel", name := "put", desc := "(II)V" } : Jvm.MethodName) prog_3_method_5_code (3 : Nat) (Option.none : Option Jvm.ClassFile.FieldType)) ∈ lw_all := lw_g (lw_at lw_m0 173 rfl) rfl
theorem q188 : (Jvm.Cond.methodLink "CharacterDeskModel" (47 : Nat) ({ cls := "CharacterDeskModel", name := "coefficient", desc := "(I)I" } : Jvm.MethodName)) ∈ lw_all := lw_g (lw_at lw_m0 174 rfl) rfl
theorem q189 : (Jvm.Cond.privateMethod ({ cls := "CharacterDeskModel", name := "coefficient", desc := "(I)I" } : Jvm.MethodName)) ∈ lw_tbl := lw_at lw_m0 175 rfl
theorem q190 : (Jvm.Cond.instanceMethod ({ cls := "CharacterDeskModel", name := "coefficient", desc := "(I)I" } : Jvm.MethodName)) ∈ lw_all := lw_g (lw_at lw_m0 176 rfl) rfl
theorem q191 : (Jvm.Cond.code ({ cls := "CharacterDeskModel", name := "coefficient", desc := "(I)I" } : Jvm.MethodName) prog_3_method_9_code (2 : Nat) (Option.some Jvm.ClassFile.FieldType.int)) ∈ lw_all := lw_g (lw_at lw_m0 177 rfl) rfl
theorem q194 : (Jvm.Cond.instanceMethod ({ cls := "CharacterDeskModel", name := "degree", desc := "(I)I" } : Jvm.MethodName)) ∈ lw_all := lw_g (lw_at lw_m0 180 rfl) rfl
theorem q195 : (Jvm.Cond.selects "CharacterDeskModel" ({ cls := "CharacterDeskModel", name := "degree", desc := "(I)I" } : Jvm.MethodName) ({ cls := "CharacterDeskModel", name := "degree", desc := "(I)I" } : Jvm.MethodName)) ∈ lw_all := lw_g (lw_at lw_m0 181 rfl) rfl
theorem q196 : (Jvm.Cond.code ({ cls := "CharacterDeskModel", name := "degree", desc := "(I)I" } : Jvm.MethodName) prog_3_method_14_code (3 : Nat) (Option.some Jvm.ClassFile.FieldType.int)) ∈ lw_all := lw_g (lw_at lw_m0 182 rfl) rfl
theorem q197 : (Jvm.Cond.methodLink "CharacterDeskModel" (50 : Nat) ({ cls := "CharacterDeskModel", name := "ones", desc := "(I)V" } : Jvm.MethodName)) ∈ lw_all := lw_g (lw_at lw_m0 183 rfl) rfl
theorem q198 : (Jvm.Cond.privateMethod ({ cls := "CharacterDeskModel", name := "ones", desc := "(I)V" } : Jvm.MethodName)) ∈ lw_tbl := lw_at lw_m0 184 rfl
theorem q199 : (Jvm.Cond.instanceMethod ({ cls := "CharacterDeskModel", name := "ones", desc := "(I)V" } : Jvm.MethodName)) ∈ lw_all := lw_g (lw_at lw_m0 185 rfl) rfl
theorem q200 : (Jvm.Cond.code ({ cls := "CharacterDeskModel", name := "ones", desc := "(I)V" } : Jvm.MethodName) prog_3_method_8_code (3 : Nat) (Option.none : Option Jvm.ClassFile.FieldType)) ∈ lw_all := lw_g (lw_at lw_m0 186 rfl) rfl
theorem q202 : (Jvm.Cond.instanceMethod ({ cls := "CharacterDeskModel", name := "count", desc := "(I)I" } : Jvm.MethodName)) ∈ lw_all := lw_g (lw_at lw_m0 188 rfl) rfl
theorem q203 : (Jvm.Cond.selects "CharacterDeskModel" ({ cls := "CharacterDeskModel", name := "count", desc := "(I)I" } : Jvm.MethodName) ({ cls := "CharacterDeskModel", name := "count", desc := "(I)I" } : Jvm.MethodName)) ∈ lw_all := lw_g (lw_at lw_m0 189 rfl) rfl
theorem q204 : (Jvm.Cond.code ({ cls := "CharacterDeskModel", name := "count", desc := "(I)I" } : Jvm.MethodName) prog_3_method_15_code (4 : Nat) (Option.some Jvm.ClassFile.FieldType.int)) ∈ lw_all := lw_g (lw_at lw_m0 190 rfl) rfl
theorem q206 : (Jvm.Cond.instanceMethod ({ cls := "CharacterDeskModel", name := "partition", desc := "(II)I" } : Jvm.MethodName)) ∈ lw_all := lw_g (lw_at lw_m0 192 rfl) rfl
theorem q207 : (Jvm.Cond.selects "CharacterDeskModel" ({ cls := "CharacterDeskModel", name := "partition", desc := "(II)I" } : Jvm.MethodName) ({ cls := "CharacterDeskModel", name := "partition", desc := "(II)I" } : Jvm.MethodName)) ∈ lw_all := lw_g (lw_at lw_m0 193 rfl) rfl
theorem q208 : (Jvm.Cond.code ({ cls := "CharacterDeskModel", name := "partition", desc := "(II)I" } : Jvm.MethodName) prog_3_method_16_code (5 : Nat) (Option.some Jvm.ClassFile.FieldType.int)) ∈ lw_all := lw_g (lw_at lw_m0 194 rfl) rfl
theorem q210 : (Jvm.Cond.instanceMethod ({ cls := "CharacterDeskModel", name := "turned", desc := "(I)I" } : Jvm.MethodName)) ∈ lw_all := lw_g (lw_at lw_m0 196 rfl) rfl
theorem q211 : (Jvm.Cond.selects "CharacterDeskModel" ({ cls := "CharacterDeskModel", name := "turned", desc := "(I)I" } : Jvm.MethodName) ({ cls := "CharacterDeskModel", name := "turned", desc := "(I)I" } : Jvm.MethodName)) ∈ lw_all := lw_g (lw_at lw_m0 197 rfl) rfl
theorem q212 : (Jvm.Cond.code ({ cls := "CharacterDeskModel", name := "turned", desc := "(I)I" } : Jvm.MethodName) prog_3_method_17_code (6 : Nat) (Option.some Jvm.ClassFile.FieldType.int)) ∈ lw_all := lw_g (lw_at lw_m0 198 rfl) rfl
theorem q214 : (Jvm.Cond.instanceMethod ({ cls := "CharacterDeskModel", name := "permutations", desc := "(I)I" } : Jvm.MethodName)) ∈ lw_all := lw_g (lw_at lw_m0 200 rfl) rfl
theorem q215 : (Jvm.Cond.selects "CharacterDeskModel" ({ cls := "CharacterDeskModel", name := "permutations", desc := "(I)I" } : Jvm.MethodName) ({ cls := "CharacterDeskModel", name := "permutations", desc := "(I)I" } : Jvm.MethodName)) ∈ lw_all := lw_g (lw_at lw_m0 201 rfl) rfl
theorem q216 : (Jvm.Cond.code ({ cls := "CharacterDeskModel", name := "permutations", desc := "(I)I" } : Jvm.MethodName) prog_3_method_18_code (8 : Nat) (Option.some Jvm.ClassFile.FieldType.int)) ∈ lw_all := lw_g (lw_at lw_m0 202 rfl) rfl
theorem q218 : (Jvm.Cond.instanceMethod ({ cls := "CharacterDeskModel", name := "squares", desc := "(I)I" } : Jvm.MethodName)) ∈ lw_all := lw_g (lw_at lw_m0 204 rfl) rfl
theorem q219 : (Jvm.Cond.selects "CharacterDeskModel" ({ cls := "CharacterDeskModel", name := "squares", desc := "(I)I" } : Jvm.MethodName) ({ cls := "CharacterDeskModel", name := "squares", desc := "(I)I" } : Jvm.MethodName)) ∈ lw_all := lw_g (lw_at lw_m0 205 rfl) rfl
theorem q220 : (Jvm.Cond.code ({ cls := "CharacterDeskModel", name := "squares", desc := "(I)I" } : Jvm.MethodName) prog_3_method_19_code (5 : Nat) (Option.some Jvm.ClassFile.FieldType.int)) ∈ lw_all := lw_g (lw_at lw_m0 206 rfl) rfl
theorem q222 : (Jvm.Cond.instanceMethod ({ cls := "CharacterDeskModel", name := "vanishes", desc := "(II)Z" } : Jvm.MethodName)) ∈ lw_all := lw_g (lw_at lw_m0 208 rfl) rfl
theorem q223 : (Jvm.Cond.selects "CharacterDeskModel" ({ cls := "CharacterDeskModel", name := "vanishes", desc := "(II)Z" } : Jvm.MethodName) ({ cls := "CharacterDeskModel", name := "vanishes", desc := "(II)Z" } : Jvm.MethodName)) ∈ lw_all := lw_g (lw_at lw_m0 209 rfl) rfl
theorem q224 : (Jvm.Cond.code ({ cls := "CharacterDeskModel", name := "vanishes", desc := "(II)Z" } : Jvm.MethodName) prog_3_method_20_code (3 : Nat) (Option.some Jvm.ClassFile.FieldType.boolean)) ∈ lw_all := lw_g (lw_at lw_m0 210 rfl) rfl
theorem q226 : (Jvm.Cond.instanceMethod ({ cls := "CharacterDeskModel", name := "greatest", desc := "(I)I" } : Jvm.MethodName)) ∈ lw_all := lw_g (lw_at lw_m0 212 rfl) rfl
theorem q227 : (Jvm.Cond.selects "CharacterDeskModel" ({ cls := "CharacterDeskModel", name := "greatest", desc := "(I)I" } : Jvm.MethodName) ({ cls := "CharacterDeskModel", name := "greatest", desc := "(I)I" } : Jvm.MethodName)) ∈ lw_all := lw_g (lw_at lw_m0 213 rfl) rfl
theorem q228 : (Jvm.Cond.code ({ cls := "CharacterDeskModel", name := "greatest", desc := "(I)I" } : Jvm.MethodName) prog_3_method_21_code (6 : Nat) (Option.some Jvm.ClassFile.FieldType.int)) ∈ lw_all := lw_g (lw_at lw_m0 214 rfl) rfl
theorem q230 : (Jvm.Cond.instanceMethod ({ cls := "CharacterDeskModel", name := "support", desc := "(I)I" } : Jvm.MethodName)) ∈ lw_all := lw_g (lw_at lw_m0 216 rfl) rfl
theorem q231 : (Jvm.Cond.selects "CharacterDeskModel" ({ cls := "CharacterDeskModel", name := "support", desc := "(I)I" } : Jvm.MethodName) ({ cls := "CharacterDeskModel", name := "support", desc := "(I)I" } : Jvm.MethodName)) ∈ lw_all := lw_g (lw_at lw_m0 217 rfl) rfl
theorem q232 : (Jvm.Cond.code ({ cls := "CharacterDeskModel", name := "support", desc := "(I)I" } : Jvm.MethodName) prog_3_method_22_code (5 : Nat) (Option.some Jvm.ClassFile.FieldType.int)) ∈ lw_all := lw_g (lw_at lw_m0 218 rfl) rfl
theorem in_X1 : ∀ w ∈ wsX10, w ∈ lw_all := lw_in wsX10 [140, 142, 144] (by decide +kernel) (by decide +kernel)
end
section
/-! the law's own entry -/
set_option maxRecDepth 100000
abbrev cL_law : ByteArray := code
theorem dL_law_0 : decode cL_law 0 = .ok (.new 7, 3) := by decide +kernel
theorem dL_law_3 : decode cL_law 3 = .ok (.dup, 1) := by decide +kernel
theorem dL_law_4 : decode cL_law 4 = .ok (.invokespecial 9, 3) := by decide +kernel
theorem dL_law_7 : decode cL_law 7 = .ok (.astore_n 1, 1) := by decide +kernel
theorem dL_law_8 : decode cL_law 8 = .ok (.new 10, 3) := by decide +kernel
theorem dL_law_11 : decode cL_law 11 = .ok (.dup, 1) := by decide +kernel
theorem dL_law_12 : decode cL_law 12 = .ok (.invokespecial 12, 3) := by decide +kernel
theorem dL_law_15 : decode cL_law 15 = .ok (.astore_n 2, 1) := by decide +kernel
theorem dL_law_16 : decode cL_law 16 = .ok (.iconst 0, 1) := by decide +kernel
theorem dL_law_17 : decode cL_law 17 = .ok (.istore_n 3, 1) := by decide +kernel
theorem dL_law_18 : decode cL_law 18 = .ok (.iload_n 3, 1) := by decide +kernel
theorem dL_law_19 : decode cL_law 19 = .ok (.aload_n 0, 1) := by decide +kernel
theorem dL_law_20 : decode cL_law 20 = .ok (.arraylength, 1) := by decide +kernel
theorem dL_law_21 : decode cL_law 21 = .ok (.iconst 3, 1) := by decide +kernel
theorem dL_law_22 : decode cL_law 22 = .ok (.isub, 1) := by decide +kernel
theorem dL_law_23 : decode cL_law 23 = .ok (.if_icmp .gt 402, 3) := by decide +kernel
theorem dL_law_26 : decode cL_law 26 = .ok (.aload_n 0, 1) := by decide +kernel
theorem dL_law_27 : decode cL_law 27 = .ok (.iload_n 3, 1) := by decide +kernel
theorem dL_law_28 : decode cL_law 28 = .ok (.iaload, 1) := by decide +kernel
theorem dL_law_29 : decode cL_law 29 = .ok (.bipush 15, 2) := by decide +kernel
theorem dL_law_31 : decode cL_law 31 = .ok (.iand, 1) := by decide +kernel
theorem dL_law_32 : decode cL_law 32 = .ok (.tableswitch 387 0 12 #[68, 91, 104, 127, 160, 183, 206, 239, 262, 285, 308, 341, 364], 68) := by decide +kernel
theorem dL_law_100 : decode cL_law 100 = .ok (.aload_n 1, 1) := by decide +kernel
theorem dL_law_101 : decode cL_law 101 = .ok (.aload_n 0, 1) := by decide +kernel
theorem dL_law_102 : decode cL_law 102 = .ok (.iload_n 3, 1) := by decide +kernel
theorem dL_law_103 : decode cL_law 103 = .ok (.iconst 1, 1) := by decide +kernel
theorem dL_law_104 : decode cL_law 104 = .ok (.iadd, 1) := by decide +kernel
theorem dL_law_105 : decode cL_law 105 = .ok (.iaload, 1) := by decide +kernel
theorem dL_law_106 : decode cL_law 106 = .ok (.invokevirtual 13, 3) := by decide +kernel
theorem dL_law_109 : decode cL_law 109 = .ok (.aload_n 2, 1) := by decide +kernel
theorem dL_law_110 : decode cL_law 110 = .ok (.aload_n 0, 1) := by decide +kernel
theorem dL_law_111 : decode cL_law 111 = .ok (.iload_n 3, 1) := by decide +kernel
theorem dL_law_112 : decode cL_law 112 = .ok (.iconst 1, 1) := by decide +kernel
theorem dL_law_113 : decode cL_law 113 = .ok (.iadd, 1) := by decide +kernel
theorem dL_law_114 : decode cL_law 114 = .ok (.iaload, 1) := by decide +kernel
theorem dL_law_115 : decode cL_law 115 = .ok (.invokevirtual 17, 3) := by decide +kernel
theorem dL_law_118 : decode cL_law 118 = .ok (.if_icmp .eq 301, 3) := by decide +kernel
theorem dL_law_121 : decode cL_law 121 = .ok (.iconst 0, 1) := by decide +kernel
theorem dL_law_122 : decode cL_law 122 = .ok (.ireturn, 1) := by decide +kernel
theorem dL_law_123 : decode cL_law 123 = .ok (.aload_n 1, 1) := by decide +kernel
theorem dL_law_124 : decode cL_law 124 = .ok (.invokevirtual 18, 3) := by decide +kernel
theorem dL_law_127 : decode cL_law 127 = .ok (.aload_n 2, 1) := by decide +kernel
theorem dL_law_128 : decode cL_law 128 = .ok (.invokevirtual 22, 3) := by decide +kernel
theorem dL_law_131 : decode cL_law 131 = .ok (.if_icmp .eq 288, 3) := by decide +kernel
theorem dL_law_134 : decode cL_law 134 = .ok (.iconst 0, 1) := by decide +kernel
theorem dL_law_135 : decode cL_law 135 = .ok (.ireturn, 1) := by decide +kernel
theorem dL_law_136 : decode cL_law 136 = .ok (.aload_n 1, 1) := by decide +kernel
theorem dL_law_137 : decode cL_law 137 = .ok (.aload_n 0, 1) := by decide +kernel
theorem dL_law_138 : decode cL_law 138 = .ok (.iload_n 3, 1) := by decide +kernel
theorem dL_law_139 : decode cL_law 139 = .ok (.iconst 1, 1) := by decide +kernel
theorem dL_law_140 : decode cL_law 140 = .ok (.iadd, 1) := by decide +kernel
theorem dL_law_141 : decode cL_law 141 = .ok (.iaload, 1) := by decide +kernel
theorem dL_law_142 : decode cL_law 142 = .ok (.invokevirtual 23, 3) := by decide +kernel
theorem dL_law_145 : decode cL_law 145 = .ok (.aload_n 2, 1) := by decide +kernel
theorem dL_law_146 : decode cL_law 146 = .ok (.aload_n 0, 1) := by decide +kernel
theorem dL_law_147 : decode cL_law 147 = .ok (.iload_n 3, 1) := by decide +kernel
theorem dL_law_148 : decode cL_law 148 = .ok (.iconst 1, 1) := by decide +kernel
theorem dL_law_149 : decode cL_law 149 = .ok (.iadd, 1) := by decide +kernel
theorem dL_law_150 : decode cL_law 150 = .ok (.iaload, 1) := by decide +kernel
theorem dL_law_151 : decode cL_law 151 = .ok (.invokevirtual 26, 3) := by decide +kernel
theorem dL_law_154 : decode cL_law 154 = .ok (.if_icmp .eq 265, 3) := by decide +kernel
theorem dL_law_157 : decode cL_law 157 = .ok (.iconst 0, 1) := by decide +kernel
theorem dL_law_158 : decode cL_law 158 = .ok (.ireturn, 1) := by decide +kernel
theorem dL_law_159 : decode cL_law 159 = .ok (.aload_n 1, 1) := by decide +kernel
theorem dL_law_160 : decode cL_law 160 = .ok (.aload_n 0, 1) := by decide +kernel
theorem dL_law_161 : decode cL_law 161 = .ok (.iload_n 3, 1) := by decide +kernel
theorem dL_law_162 : decode cL_law 162 = .ok (.iconst 1, 1) := by decide +kernel
theorem dL_law_163 : decode cL_law 163 = .ok (.iadd, 1) := by decide +kernel
theorem dL_law_164 : decode cL_law 164 = .ok (.iaload, 1) := by decide +kernel
theorem dL_law_165 : decode cL_law 165 = .ok (.aload_n 0, 1) := by decide +kernel
theorem dL_law_166 : decode cL_law 166 = .ok (.iload_n 3, 1) := by decide +kernel
theorem dL_law_167 : decode cL_law 167 = .ok (.iconst 2, 1) := by decide +kernel
theorem dL_law_168 : decode cL_law 168 = .ok (.iadd, 1) := by decide +kernel
theorem dL_law_169 : decode cL_law 169 = .ok (.iaload, 1) := by decide +kernel
theorem dL_law_170 : decode cL_law 170 = .ok (.invokevirtual 27, 3) := by decide +kernel
theorem dL_law_173 : decode cL_law 173 = .ok (.aload_n 2, 1) := by decide +kernel
theorem dL_law_174 : decode cL_law 174 = .ok (.aload_n 0, 1) := by decide +kernel
theorem dL_law_175 : decode cL_law 175 = .ok (.iload_n 3, 1) := by decide +kernel
theorem dL_law_176 : decode cL_law 176 = .ok (.iconst 1, 1) := by decide +kernel
theorem dL_law_177 : decode cL_law 177 = .ok (.iadd, 1) := by decide +kernel
theorem dL_law_178 : decode cL_law 178 = .ok (.iaload, 1) := by decide +kernel
theorem dL_law_179 : decode cL_law 179 = .ok (.aload_n 0, 1) := by decide +kernel
theorem dL_law_180 : decode cL_law 180 = .ok (.iload_n 3, 1) := by decide +kernel
theorem dL_law_181 : decode cL_law 181 = .ok (.iconst 2, 1) := by decide +kernel
theorem dL_law_182 : decode cL_law 182 = .ok (.iadd, 1) := by decide +kernel
theorem dL_law_183 : decode cL_law 183 = .ok (.iaload, 1) := by decide +kernel
theorem dL_law_184 : decode cL_law 184 = .ok (.invokevirtual 31, 3) := by decide +kernel
theorem dL_law_187 : decode cL_law 187 = .ok (.if_icmp .eq 232, 3) := by decide +kernel
theorem dL_law_190 : decode cL_law 190 = .ok (.iconst 0, 1) := by decide +kernel
theorem dL_law_191 : decode cL_law 191 = .ok (.ireturn, 1) := by decide +kernel
theorem dL_law_192 : decode cL_law 192 = .ok (.aload_n 1, 1) := by decide +kernel
theorem dL_law_193 : decode cL_law 193 = .ok (.aload_n 0, 1) := by decide +kernel
theorem dL_law_194 : decode cL_law 194 = .ok (.iload_n 3, 1) := by decide +kernel
theorem dL_law_195 : decode cL_law 195 = .ok (.iconst 1, 1) := by decide +kernel
theorem dL_law_196 : decode cL_law 196 = .ok (.iadd, 1) := by decide +kernel
theorem dL_law_197 : decode cL_law 197 = .ok (.iaload, 1) := by decide +kernel
theorem dL_law_198 : decode cL_law 198 = .ok (.invokevirtual 32, 3) := by decide +kernel
theorem dL_law_201 : decode cL_law 201 = .ok (.aload_n 2, 1) := by decide +kernel
theorem dL_law_202 : decode cL_law 202 = .ok (.aload_n 0, 1) := by decide +kernel
theorem dL_law_203 : decode cL_law 203 = .ok (.iload_n 3, 1) := by decide +kernel
theorem dL_law_204 : decode cL_law 204 = .ok (.iconst 1, 1) := by decide +kernel
theorem dL_law_205 : decode cL_law 205 = .ok (.iadd, 1) := by decide +kernel
theorem dL_law_206 : decode cL_law 206 = .ok (.iaload, 1) := by decide +kernel
theorem dL_law_207 : decode cL_law 207 = .ok (.invokevirtual 35, 3) := by decide +kernel
theorem dL_law_210 : decode cL_law 210 = .ok (.if_icmp .eq 209, 3) := by decide +kernel
theorem dL_law_213 : decode cL_law 213 = .ok (.iconst 0, 1) := by decide +kernel
theorem dL_law_214 : decode cL_law 214 = .ok (.ireturn, 1) := by decide +kernel
theorem dL_law_215 : decode cL_law 215 = .ok (.aload_n 1, 1) := by decide +kernel
theorem dL_law_216 : decode cL_law 216 = .ok (.aload_n 0, 1) := by decide +kernel
theorem dL_law_217 : decode cL_law 217 = .ok (.iload_n 3, 1) := by decide +kernel
theorem dL_law_218 : decode cL_law 218 = .ok (.iconst 1, 1) := by decide +kernel
theorem dL_law_219 : decode cL_law 219 = .ok (.iadd, 1) := by decide +kernel
theorem dL_law_220 : decode cL_law 220 = .ok (.iaload, 1) := by decide +kernel
theorem dL_law_221 : decode cL_law 221 = .ok (.invokevirtual 36, 3) := by decide +kernel
theorem dL_law_224 : decode cL_law 224 = .ok (.aload_n 2, 1) := by decide +kernel
theorem dL_law_225 : decode cL_law 225 = .ok (.aload_n 0, 1) := by decide +kernel
theorem dL_law_226 : decode cL_law 226 = .ok (.iload_n 3, 1) := by decide +kernel
theorem dL_law_227 : decode cL_law 227 = .ok (.iconst 1, 1) := by decide +kernel
theorem dL_law_228 : decode cL_law 228 = .ok (.iadd, 1) := by decide +kernel
theorem dL_law_229 : decode cL_law 229 = .ok (.iaload, 1) := by decide +kernel
theorem dL_law_230 : decode cL_law 230 = .ok (.invokevirtual 39, 3) := by decide +kernel
theorem dL_law_233 : decode cL_law 233 = .ok (.if_icmp .eq 186, 3) := by decide +kernel
theorem dL_law_236 : decode cL_law 236 = .ok (.iconst 0, 1) := by decide +kernel
theorem dL_law_237 : decode cL_law 237 = .ok (.ireturn, 1) := by decide +kernel
theorem dL_law_238 : decode cL_law 238 = .ok (.aload_n 1, 1) := by decide +kernel
theorem dL_law_239 : decode cL_law 239 = .ok (.aload_n 0, 1) := by decide +kernel
theorem dL_law_240 : decode cL_law 240 = .ok (.iload_n 3, 1) := by decide +kernel
theorem dL_law_241 : decode cL_law 241 = .ok (.iconst 1, 1) := by decide +kernel
theorem dL_law_242 : decode cL_law 242 = .ok (.iadd, 1) := by decide +kernel
theorem dL_law_243 : decode cL_law 243 = .ok (.iaload, 1) := by decide +kernel
theorem dL_law_244 : decode cL_law 244 = .ok (.aload_n 0, 1) := by decide +kernel
theorem dL_law_245 : decode cL_law 245 = .ok (.iload_n 3, 1) := by decide +kernel
theorem dL_law_246 : decode cL_law 246 = .ok (.iconst 2, 1) := by decide +kernel
theorem dL_law_247 : decode cL_law 247 = .ok (.iadd, 1) := by decide +kernel
theorem dL_law_248 : decode cL_law 248 = .ok (.iaload, 1) := by decide +kernel
theorem dL_law_249 : decode cL_law 249 = .ok (.invokevirtual 40, 3) := by decide +kernel
theorem dL_law_252 : decode cL_law 252 = .ok (.aload_n 2, 1) := by decide +kernel
theorem dL_law_253 : decode cL_law 253 = .ok (.aload_n 0, 1) := by decide +kernel
theorem dL_law_254 : decode cL_law 254 = .ok (.iload_n 3, 1) := by decide +kernel
theorem dL_law_255 : decode cL_law 255 = .ok (.iconst 1, 1) := by decide +kernel
theorem dL_law_256 : decode cL_law 256 = .ok (.iadd, 1) := by decide +kernel
theorem dL_law_257 : decode cL_law 257 = .ok (.iaload, 1) := by decide +kernel
theorem dL_law_258 : decode cL_law 258 = .ok (.aload_n 0, 1) := by decide +kernel
theorem dL_law_259 : decode cL_law 259 = .ok (.iload_n 3, 1) := by decide +kernel
theorem dL_law_260 : decode cL_law 260 = .ok (.iconst 2, 1) := by decide +kernel
theorem dL_law_261 : decode cL_law 261 = .ok (.iadd, 1) := by decide +kernel
theorem dL_law_262 : decode cL_law 262 = .ok (.iaload, 1) := by decide +kernel
theorem dL_law_263 : decode cL_law 263 = .ok (.invokevirtual 43, 3) := by decide +kernel
theorem dL_law_266 : decode cL_law 266 = .ok (.if_icmp .eq 153, 3) := by decide +kernel
theorem dL_law_269 : decode cL_law 269 = .ok (.iconst 0, 1) := by decide +kernel
theorem dL_law_270 : decode cL_law 270 = .ok (.ireturn, 1) := by decide +kernel
theorem dL_law_271 : decode cL_law 271 = .ok (.aload_n 1, 1) := by decide +kernel
theorem dL_law_272 : decode cL_law 272 = .ok (.aload_n 0, 1) := by decide +kernel
theorem dL_law_273 : decode cL_law 273 = .ok (.iload_n 3, 1) := by decide +kernel
theorem dL_law_274 : decode cL_law 274 = .ok (.iconst 1, 1) := by decide +kernel
theorem dL_law_275 : decode cL_law 275 = .ok (.iadd, 1) := by decide +kernel
theorem dL_law_276 : decode cL_law 276 = .ok (.iaload, 1) := by decide +kernel
theorem dL_law_277 : decode cL_law 277 = .ok (.invokevirtual 44, 3) := by decide +kernel
theorem dL_law_280 : decode cL_law 280 = .ok (.aload_n 2, 1) := by decide +kernel
theorem dL_law_281 : decode cL_law 281 = .ok (.aload_n 0, 1) := by decide +kernel
theorem dL_law_282 : decode cL_law 282 = .ok (.iload_n 3, 1) := by decide +kernel
theorem dL_law_283 : decode cL_law 283 = .ok (.iconst 1, 1) := by decide +kernel
theorem dL_law_284 : decode cL_law 284 = .ok (.iadd, 1) := by decide +kernel
theorem dL_law_285 : decode cL_law 285 = .ok (.iaload, 1) := by decide +kernel
theorem dL_law_286 : decode cL_law 286 = .ok (.invokevirtual 47, 3) := by decide +kernel
theorem dL_law_289 : decode cL_law 289 = .ok (.if_icmp .eq 130, 3) := by decide +kernel
theorem dL_law_292 : decode cL_law 292 = .ok (.iconst 0, 1) := by decide +kernel
theorem dL_law_293 : decode cL_law 293 = .ok (.ireturn, 1) := by decide +kernel
theorem dL_law_294 : decode cL_law 294 = .ok (.aload_n 1, 1) := by decide +kernel
theorem dL_law_295 : decode cL_law 295 = .ok (.aload_n 0, 1) := by decide +kernel
theorem dL_law_296 : decode cL_law 296 = .ok (.iload_n 3, 1) := by decide +kernel
theorem dL_law_297 : decode cL_law 297 = .ok (.iconst 1, 1) := by decide +kernel
theorem dL_law_298 : decode cL_law 298 = .ok (.iadd, 1) := by decide +kernel
theorem dL_law_299 : decode cL_law 299 = .ok (.iaload, 1) := by decide +kernel
theorem dL_law_300 : decode cL_law 300 = .ok (.invokevirtual 48, 3) := by decide +kernel
theorem dL_law_303 : decode cL_law 303 = .ok (.aload_n 2, 1) := by decide +kernel
theorem dL_law_304 : decode cL_law 304 = .ok (.aload_n 0, 1) := by decide +kernel
theorem dL_law_305 : decode cL_law 305 = .ok (.iload_n 3, 1) := by decide +kernel
theorem dL_law_306 : decode cL_law 306 = .ok (.iconst 1, 1) := by decide +kernel
theorem dL_law_307 : decode cL_law 307 = .ok (.iadd, 1) := by decide +kernel
theorem dL_law_308 : decode cL_law 308 = .ok (.iaload, 1) := by decide +kernel
theorem dL_law_309 : decode cL_law 309 = .ok (.invokevirtual 51, 3) := by decide +kernel
theorem dL_law_312 : decode cL_law 312 = .ok (.if_icmp .eq 107, 3) := by decide +kernel
theorem dL_law_315 : decode cL_law 315 = .ok (.iconst 0, 1) := by decide +kernel
theorem dL_law_316 : decode cL_law 316 = .ok (.ireturn, 1) := by decide +kernel
theorem dL_law_317 : decode cL_law 317 = .ok (.aload_n 1, 1) := by decide +kernel
theorem dL_law_318 : decode cL_law 318 = .ok (.aload_n 0, 1) := by decide +kernel
theorem dL_law_319 : decode cL_law 319 = .ok (.iload_n 3, 1) := by decide +kernel
theorem dL_law_320 : decode cL_law 320 = .ok (.iconst 1, 1) := by decide +kernel
theorem dL_law_321 : decode cL_law 321 = .ok (.iadd, 1) := by decide +kernel
theorem dL_law_322 : decode cL_law 322 = .ok (.iaload, 1) := by decide +kernel
theorem dL_law_323 : decode cL_law 323 = .ok (.invokevirtual 52, 3) := by decide +kernel
theorem dL_law_326 : decode cL_law 326 = .ok (.aload_n 2, 1) := by decide +kernel
theorem dL_law_327 : decode cL_law 327 = .ok (.aload_n 0, 1) := by decide +kernel
theorem dL_law_328 : decode cL_law 328 = .ok (.iload_n 3, 1) := by decide +kernel
theorem dL_law_329 : decode cL_law 329 = .ok (.iconst 1, 1) := by decide +kernel
theorem dL_law_330 : decode cL_law 330 = .ok (.iadd, 1) := by decide +kernel
theorem dL_law_331 : decode cL_law 331 = .ok (.iaload, 1) := by decide +kernel
theorem dL_law_332 : decode cL_law 332 = .ok (.invokevirtual 55, 3) := by decide +kernel
theorem dL_law_335 : decode cL_law 335 = .ok (.if_icmp .eq 84, 3) := by decide +kernel
theorem dL_law_338 : decode cL_law 338 = .ok (.iconst 0, 1) := by decide +kernel
theorem dL_law_339 : decode cL_law 339 = .ok (.ireturn, 1) := by decide +kernel
theorem dL_law_340 : decode cL_law 340 = .ok (.aload_n 1, 1) := by decide +kernel
theorem dL_law_341 : decode cL_law 341 = .ok (.aload_n 0, 1) := by decide +kernel
theorem dL_law_342 : decode cL_law 342 = .ok (.iload_n 3, 1) := by decide +kernel
theorem dL_law_343 : decode cL_law 343 = .ok (.iconst 1, 1) := by decide +kernel
theorem dL_law_344 : decode cL_law 344 = .ok (.iadd, 1) := by decide +kernel
theorem dL_law_345 : decode cL_law 345 = .ok (.iaload, 1) := by decide +kernel
theorem dL_law_346 : decode cL_law 346 = .ok (.aload_n 0, 1) := by decide +kernel
theorem dL_law_347 : decode cL_law 347 = .ok (.iload_n 3, 1) := by decide +kernel
theorem dL_law_348 : decode cL_law 348 = .ok (.iconst 2, 1) := by decide +kernel
theorem dL_law_349 : decode cL_law 349 = .ok (.iadd, 1) := by decide +kernel
theorem dL_law_350 : decode cL_law 350 = .ok (.iaload, 1) := by decide +kernel
theorem dL_law_351 : decode cL_law 351 = .ok (.invokevirtual 56, 3) := by decide +kernel
theorem dL_law_354 : decode cL_law 354 = .ok (.aload_n 2, 1) := by decide +kernel
theorem dL_law_355 : decode cL_law 355 = .ok (.aload_n 0, 1) := by decide +kernel
theorem dL_law_356 : decode cL_law 356 = .ok (.iload_n 3, 1) := by decide +kernel
theorem dL_law_357 : decode cL_law 357 = .ok (.iconst 1, 1) := by decide +kernel
theorem dL_law_358 : decode cL_law 358 = .ok (.iadd, 1) := by decide +kernel
theorem dL_law_359 : decode cL_law 359 = .ok (.iaload, 1) := by decide +kernel
theorem dL_law_360 : decode cL_law 360 = .ok (.aload_n 0, 1) := by decide +kernel
theorem dL_law_361 : decode cL_law 361 = .ok (.iload_n 3, 1) := by decide +kernel
theorem dL_law_362 : decode cL_law 362 = .ok (.iconst 2, 1) := by decide +kernel
theorem dL_law_363 : decode cL_law 363 = .ok (.iadd, 1) := by decide +kernel
theorem dL_law_364 : decode cL_law 364 = .ok (.iaload, 1) := by decide +kernel
theorem dL_law_365 : decode cL_law 365 = .ok (.invokevirtual 60, 3) := by decide +kernel
theorem dL_law_368 : decode cL_law 368 = .ok (.if_icmp .eq 51, 3) := by decide +kernel
theorem dL_law_371 : decode cL_law 371 = .ok (.iconst 0, 1) := by decide +kernel
theorem dL_law_372 : decode cL_law 372 = .ok (.ireturn, 1) := by decide +kernel
theorem dL_law_373 : decode cL_law 373 = .ok (.aload_n 1, 1) := by decide +kernel
theorem dL_law_374 : decode cL_law 374 = .ok (.aload_n 0, 1) := by decide +kernel
theorem dL_law_375 : decode cL_law 375 = .ok (.iload_n 3, 1) := by decide +kernel
theorem dL_law_376 : decode cL_law 376 = .ok (.iconst 1, 1) := by decide +kernel
theorem dL_law_377 : decode cL_law 377 = .ok (.iadd, 1) := by decide +kernel
theorem dL_law_378 : decode cL_law 378 = .ok (.iaload, 1) := by decide +kernel
theorem dL_law_379 : decode cL_law 379 = .ok (.invokevirtual 61, 3) := by decide +kernel
theorem dL_law_382 : decode cL_law 382 = .ok (.aload_n 2, 1) := by decide +kernel
theorem dL_law_383 : decode cL_law 383 = .ok (.aload_n 0, 1) := by decide +kernel
theorem dL_law_384 : decode cL_law 384 = .ok (.iload_n 3, 1) := by decide +kernel
theorem dL_law_385 : decode cL_law 385 = .ok (.iconst 1, 1) := by decide +kernel
theorem dL_law_386 : decode cL_law 386 = .ok (.iadd, 1) := by decide +kernel
theorem dL_law_387 : decode cL_law 387 = .ok (.iaload, 1) := by decide +kernel
theorem dL_law_388 : decode cL_law 388 = .ok (.invokevirtual 64, 3) := by decide +kernel
theorem dL_law_391 : decode cL_law 391 = .ok (.if_icmp .eq 28, 3) := by decide +kernel
theorem dL_law_394 : decode cL_law 394 = .ok (.iconst 0, 1) := by decide +kernel
theorem dL_law_395 : decode cL_law 395 = .ok (.ireturn, 1) := by decide +kernel
theorem dL_law_396 : decode cL_law 396 = .ok (.aload_n 1, 1) := by decide +kernel
theorem dL_law_397 : decode cL_law 397 = .ok (.aload_n 0, 1) := by decide +kernel
theorem dL_law_398 : decode cL_law 398 = .ok (.iload_n 3, 1) := by decide +kernel
theorem dL_law_399 : decode cL_law 399 = .ok (.iconst 1, 1) := by decide +kernel
theorem dL_law_400 : decode cL_law 400 = .ok (.iadd, 1) := by decide +kernel
theorem dL_law_401 : decode cL_law 401 = .ok (.iaload, 1) := by decide +kernel
theorem dL_law_402 : decode cL_law 402 = .ok (.invokevirtual 65, 3) := by decide +kernel
theorem dL_law_405 : decode cL_law 405 = .ok (.aload_n 2, 1) := by decide +kernel
theorem dL_law_406 : decode cL_law 406 = .ok (.aload_n 0, 1) := by decide +kernel
theorem dL_law_407 : decode cL_law 407 = .ok (.iload_n 3, 1) := by decide +kernel
theorem dL_law_408 : decode cL_law 408 = .ok (.iconst 1, 1) := by decide +kernel
theorem dL_law_409 : decode cL_law 409 = .ok (.iadd, 1) := by decide +kernel
theorem dL_law_410 : decode cL_law 410 = .ok (.iaload, 1) := by decide +kernel
theorem dL_law_411 : decode cL_law 411 = .ok (.invokevirtual 68, 3) := by decide +kernel
theorem dL_law_414 : decode cL_law 414 = .ok (.if_icmp .eq 5, 3) := by decide +kernel
theorem dL_law_417 : decode cL_law 417 = .ok (.iconst 0, 1) := by decide +kernel
theorem dL_law_418 : decode cL_law 418 = .ok (.ireturn, 1) := by decide +kernel
theorem dL_law_419 : decode cL_law 419 = .ok (.iinc 3 3, 3) := by decide +kernel
theorem dL_law_422 : decode cL_law 422 = .ok (.goto (-404), 3) := by decide +kernel
theorem dL_law_425 : decode cL_law 425 = .ok (.iconst 1, 1) := by decide +kernel
theorem dL_law_426 : decode cL_law 426 = .ok (.ireturn, 1) := by decide +kernel
end
section
/-! generic rows: a method's contract over a world that is a function of a state; entry, answers, calls -/
set_option maxRecDepth 100000
abbrev vwCl : List vw_C := [(RX0, TX0, 6), (RX1, TX1, 3)]
def gC (own : String) (cc : ByteArray) (nL : Nat) (ret : Option FieldType) (D : va_G) (tys : List (ClassId × FieldType)) (A : Nat → Prop) (p : Program) (s : State) (m : MethodId) (args : Array Value) (meth : Method) (c : Code) : Prop :=
  p.tables.exec = Jvm.exec ∧ c.code = cc ∧ meth.sig.returnType = ret ∧ c.maxLocals = nL ∧ s.vm.findClass own = some m.cls ∧ (∀ w ∈ lw_all, w.before args s = true) ∧ (∀ q : Nat, s.heap.size ≤ q → A q) ∧ va_K D vwCl tys s ∧ meth.locks = false
def gW (D : va_G) (A : Nat → Prop) (s : State) (ws : va_W) (H : Heap) (locs : List Loc) : Prop := va_P D vwCl ws H ∧ va_D A ws ∧ va_S A s.heap H locs
def gPre (As : List Value) (D : va_G) (tys : List (ClassId × FieldType)) (ws : va_W) (sz : Nat) : Array Value → State → Prop := va_Pc As (fun U => U.heap.size = sz ∧ va_P D vwCl ws U.heap ∧ va_K D vwCl tys U ∧ va_D (fun _ => True) ws)
def gB {S : Type} (D : va_G) (tys : List (ClassId × FieldType)) (A : Nat → Prop) (wf : S → va_W) (u : S) (t : State) : Prop := va_P D vwCl (wf u) t.heap ∧ va_K D vwCl tys t ∧ va_D A (wf u)
/-- a contract with an int answer: from the world of u to the world of some u', nothing made -/
def gMi {S : Type} (l : Launch) (y : MethodName) (bytes : ByteArray) (nL : Nat) (ret : Option FieldType) (rm : Room) (As : List Value) (D : va_G) (tys : List (ClassId × FieldType)) (wf : S → va_W) (u : S) (post : Int32 → S → Prop) : Prop :=
  ∀ sz : Nat, Met l y (ws_ y bytes nL ret) rm (gPre As D tys (wf u) sz) (va_Qi post (gB D tys (va_A (wf u) sz) wf) (va_A (wf u) sz)) 0 0 (va_A (wf u) sz)
def gMv {S : Type} (l : Launch) (y : MethodName) (bytes : ByteArray) (nL : Nat) (rm : Room) (As : List Value) (D : va_G) (tys : List (ClassId × FieldType)) (wf : S → va_W) (u : S) (post : S → Prop) : Prop :=
  ∀ sz : Nat, Met l y (ws_ y bytes nL none) rm (gPre As D tys (wf u) sz) (va_Qv post (gB D tys (va_A (wf u) sz) wf) (va_A (wf u) sz)) 0 0 (va_A (wf u) sz)
theorem gPre_blind {As : List Value} {D : va_G} {tys : List (ClassId × FieldType)} {ws : va_W} {sz : Nat} : FrameBlind (gPre As D tys ws sz) := fun a U g mk q => by
  obtain ⟨q0, q1, qP, qK, qD⟩ := q
  exact ⟨q0, q1, qP, va_K.moved (u := U) (U := U.calling g mk a) (Vm.Alike.refl U.vm) qK, qD⟩
theorem gPre_at {s : State} {H : Heap} {As : List Value} {D : va_G} {tys : List (ClassId × FieldType)} {ws : va_W} {A : Nat → Prop} (hP : va_P D vwCl ws H) (hD : va_D A ws) (hK : va_K D vwCl tys s) : ∀ U : State, U.heap = H → s.WarmedH U.vm → gPre As D tys ws H.size As.toArray U :=
  fun U hU hW => ⟨rfl, by rw [hU], by rw [hU]; exact hP, va_K.moved hW.alike hK, hD.weaken (fun _ _ _ _ => trivial)⟩
theorem gMi.of {S : Type} {l : Launch} {y : MethodName} {bytes : ByteArray} {nL : Nat} {ret : Option FieldType} {rm : Room} {As : List Value} {D : va_G} {tys : List (ClassId × FieldType)} {wf : S → va_W} {u : S} {post : Int32 → S → Prop} (own : String) (hy : plainName y.cls = true) (ho : y.cls = own) (hn : (lg_sl As).length ≤ nL)
    (body : ∀ (p : Program) (e : Env) (s : State) (m : MethodId) (below : List Frame) (meth : Method) (c : Code) (A : Nat → Prop) (ls : Array Slot), gC own bytes nL ret D tys A p s m As.toArray meth c → gW D A s (wf u) s.heap [] → lv_has ls nL (lv_args 0 As) →
      W p l e rm s m As.toArray below meth c s.heap [] 0 0 (MQ below (va_Qi post (gB D tys A wf) A) As.toArray s 0 0 A) (F0 m 0 ls [])) : gMi l y bytes nL ret rm As D tys wf u post := by
  intro sz
  refine Met.ofW (cc := bytes) (maxL := nL) (ret := ret) hy rfl ?_
  intro p e s m args below meth c s₁ B hml hv
  obtain ⟨rfl, hsz, hP, hK, hD0⟩ := hv
  have hts := atoms_spec (ws := ws_ y bytes nL ret) B.pre
  have hts : ∀ w ∈ lw_all, w.before _ s = true := fun w h => hts w (List.mem_cons_of_mem _ h)
  have hown : s.vm.findClass own = some m.cls := by rw [← ho]; exact findClass_of_methodNamed B.named
  subst hsz
  have hD := hD0.self (sz := s.heap.size)
  rw [lg_entry_eq]
  exact body p e s m below meth c _ _ ⟨B.exec, B.bytes, B.returns, hml, hown, hts, fun q h => Or.inr h, hK, B.notSynchronized⟩ ⟨hP, hD, va_S.rf⟩ (lv_entry As hn)
theorem gMv.of {S : Type} {l : Launch} {y : MethodName} {bytes : ByteArray} {nL : Nat} {rm : Room} {As : List Value} {D : va_G} {tys : List (ClassId × FieldType)} {wf : S → va_W} {u : S} {post : S → Prop} (own : String) (hy : plainName y.cls = true) (ho : y.cls = own) (hn : (lg_sl As).length ≤ nL)
    (body : ∀ (p : Program) (e : Env) (s : State) (m : MethodId) (below : List Frame) (meth : Method) (c : Code) (A : Nat → Prop) (ls : Array Slot), gC own bytes nL none D tys A p s m As.toArray meth c → gW D A s (wf u) s.heap [] → lv_has ls nL (lv_args 0 As) →
      W p l e rm s m As.toArray below meth c s.heap [] 0 0 (MQ below (va_Qv post (gB D tys A wf) A) As.toArray s 0 0 A) (F0 m 0 ls [])) : gMv l y bytes nL rm As D tys wf u post := by
  intro sz
  refine Met.ofW (cc := bytes) (maxL := nL) (ret := none) hy rfl ?_
  intro p e s m args below meth c s₁ B hml hv
  obtain ⟨rfl, hsz, hP, hK, hD0⟩ := hv
  have hts := atoms_spec (ws := ws_ y bytes nL none) B.pre
  have hts : ∀ w ∈ lw_all, w.before _ s = true := fun w h => hts w (List.mem_cons_of_mem _ h)
  have hown : s.vm.findClass own = some m.cls := by rw [← ho]; exact findClass_of_methodNamed B.named
  subst hsz
  have hD := hD0.self (sz := s.heap.size)
  rw [lg_entry_eq]
  exact body p e s m below meth c _ _ ⟨B.exec, B.bytes, B.returns, hml, hown, hts, fun q h => Or.inr h, hK, B.notSynchronized⟩ ⟨hP, hD, va_S.rf⟩ (lv_entry As hn)
section GR
variable {S : Type} {p : Program} {l : Launch} {e : Env} {R : Room} {s : State} {m : MethodId} {args : Array Value} {below : List Frame} {meth : Method} {c : Code} {H : Heap} {locs : List Loc} {cells slots : Nat} {Q : State → Prop}
variable {own : String} {cc : ByteArray} {nL : Nat} {ret : Option FieldType} {D : va_G} {tys : List (ClassId × FieldType)} {A : Nat → Prop} {wf : S → va_W} {u : S}
variable {pc : Nat} {ls : Array Slot} {rest st0 : List Value}
/-- the top of the stack under another name -/
theorem cd_top {x y : Int32} (h : x = y) (k : W p l e R s m args below meth c H locs cells slots Q (F0 m pc ls (.int y :: rest))) : W p l e R s m args below meth c H locs cells slots Q (F0 m pc ls (.int x :: rest)) := by rw [h]; exact k
theorem gIret {post : Int32 → S → Prop} {v : Int32} (C : gC own cc nL (some .int) D tys A p s m args meth c) (w : gW D A s (wf u) H locs) (hp : post v u) (hdg : decode cc pc = .ok (.ireturn, 1)) :
    W p l e R s m args below meth c H locs cells slots (MQ below (va_Qi post (gB D tys A wf) A) args s cells slots A) (F0 m pc ls [.int v]) := by
  obtain ⟨hx, hb, hr, hml, hown, hts, hA, hK, hlocks⟩ := C
  exact W.iret (v := v) hx hb hr (fun t ht hW => ⟨⟨v, u, rfl, hp, by rw [ht]; exact w.1, va_K.moved hW.alike hK, w.2.1⟩, w.2.2.F ht⟩) w.2.2.2.2 hdg hlocks
theorem gZret {post : Int32 → S → Prop} {v : Int32} (C : gC own cc nL (some .boolean) D tys A p s m args meth c) (w : gW D A s (wf u) H locs) (hn : narrow .boolean (.int v) = .int v) (hp : post v u) (hdg : decode cc pc = .ok (.ireturn, 1)) :
    W p l e R s m args below meth c H locs cells slots (MQ below (va_Qi post (gB D tys A wf) A) args s cells slots A) (F0 m pc ls [.int v]) := by
  obtain ⟨hx, hb, hr, hml, hown, hts, hA, hK, hlocks⟩ := C
  exact W.zret (v := v) hx hb hr hn (fun t ht hW => ⟨⟨v, u, rfl, hp, by rw [ht]; exact w.1, va_K.moved hW.alike hK, w.2.1⟩, w.2.2.F ht⟩) w.2.2.2.2 hdg hlocks
theorem gVret {post : S → Prop} (C : gC own cc nL none D tys A p s m args meth c) (w : gW D A s (wf u) H locs) (hp : post u) (hdg : decode cc pc = .ok (.return_, 1)) :
    W p l e R s m args below meth c H locs cells slots (MQ below (va_Qv post (gB D tys A wf) A) args s cells slots A) (F0 m pc ls []) := by
  obtain ⟨hx, hb, hr, hml, hown, hts, hA, hK, hlocks⟩ := C
  exact W.vret hx hb hr (fun t ht hW => ⟨⟨u, rfl, hp, by rw [ht]; exact w.1, va_K.moved hW.alike hK, w.2.1⟩, w.2.2.F ht⟩) w.2.2.2.2 hdg hlocks
theorem gFree (C : gC own cc nL ret D tys A p s m args meth c) (w : gW D A s (wf u) H locs) : ∀ q, va_A (wf u) H.size q → A q := by
  obtain ⟨hx, hb, hr, hml, hown, hts, hA, hK, hlocks⟩ := C
  intro q h
  rcases h with ⟨k, e, h⟩ | h
  · exact w.2.1.2 k _ h
  · exact hA q (Nat.le_trans w.2.2.1 h)
theorem gBack {u' : S} {t : State} {H1 : Heap} {locs1 : List Loc} (C : gC own cc nL ret D tys A p s m args meth c) (w : gW D A s (wf u) H locs) (ht : t.heap = H1) (hB : gB D tys (va_A (wf u) H.size) wf u' t) (hS : va_S A s.heap H1 locs1) : gW D A s (wf u') H1 locs1 := by
  obtain ⟨hP1, hK1, hD1⟩ := hB
  rw [ht] at hP1
  exact ⟨hP1, hD1.weaken (fun k q _ h => gFree C w q.1 h), hS⟩
/-- a call of a method of the same object (int answer), the whole world handed over -/
theorem gCalli {y : MethodName} {bytes : ByteArray} {nL' n index ci : Nat} {ret' : Option FieldType} {rm : Room} {b : Nat} {As : List Value} {post : Int32 → S → Prop} {q : vw_C} {fs : List Value}
    (C : gC own cc nL ret D tys A p s m args meth c) (w : gW D A s (wf u) H locs) (hM : gMi l y bytes nL' ret' rm (.ref b :: As) D tys wf u post) (cw : CallW R s args own q.1 index y bytes nL' ret' (ws_ y bytes nL' ret') rm 0 0 n)
    (hci : vwCl[ci]? = some q) (he : (wf u)[0]? = some (b, .inr (ci, fs))) (hn : As.length = n) (hsz : ls.size = nL) (hst : st0 = As.reverse ++ .ref b :: rest) (hroom : (rest.map fun v => v.category).sum ≤ 8) (hdg : decode cc pc = .ok (.invokevirtual index, 3)) (hf : cells ≤ R.cells ∧ slots ≤ R.slots)
    (kk : ∀ (r : Int32) (u' : S) (H1 : Heap) (locs1 : List Loc), post r u' → gW D A s (wf u') H1 locs1 → W p l e R s m args below meth c H1 locs1 cells slots Q (F0 m (pc + 3) ls (.int r :: rest))) : W p l e R s m args below meth c H locs cells slots Q (F0 m pc ls st0) := by
  obtain ⟨hx, hb, hr, hml, hown, hts, hA, hK, hlocks⟩ := id C
  have hF := gFree C w
  subst hst
  exact va_calli (va_runV (As := As) (rest := rest) ⟨hx, hb, hml, hown, hts⟩ (hM H.size) cw ⟨gPre_blind, va_recv hK w.1 hci he, gPre_at w.1 w.2.1 hK⟩ rfl hn hsz rfl (lv_room hroom) hdg hf) w.2.2 (fun q _ h => hF q h) hF (fun r u' t H1 locs1 ht hvm hw hB hz1 hk1 hS => kk r u' H1 locs1 hw (gBack C w ht hB hS))
theorem gCallv {y : MethodName} {bytes : ByteArray} {nL' n index ci : Nat} {rm : Room} {b : Nat} {As : List Value} {post : S → Prop} {q : vw_C} {fs : List Value}
    (C : gC own cc nL ret D tys A p s m args meth c) (w : gW D A s (wf u) H locs) (hM : gMv l y bytes nL' rm (.ref b :: As) D tys wf u post) (cw : CallW R s args own q.1 index y bytes nL' none (ws_ y bytes nL' none) rm 0 0 n)
    (hci : vwCl[ci]? = some q) (he : (wf u)[0]? = some (b, .inr (ci, fs))) (hn : As.length = n) (hsz : ls.size = nL) (hst : st0 = As.reverse ++ .ref b :: rest) (hroom : (rest.map fun v => v.category).sum ≤ 8) (hdg : decode cc pc = .ok (.invokevirtual index, 3)) (hf : cells ≤ R.cells ∧ slots ≤ R.slots)
    (kk : ∀ (u' : S) (H1 : Heap) (locs1 : List Loc), post u' → gW D A s (wf u') H1 locs1 → W p l e R s m args below meth c H1 locs1 cells slots Q (F0 m (pc + 3) ls rest)) : W p l e R s m args below meth c H locs cells slots Q (F0 m pc ls st0) := by
  obtain ⟨hx, hb, hr, hml, hown, hts, hA, hK, hlocks⟩ := id C
  have hF := gFree C w
  subst hst
  exact va_callv (va_runV (As := As) (rest := rest) ⟨hx, hb, hml, hown, hts⟩ (hM H.size) cw ⟨gPre_blind, va_recv hK w.1 hci he, gPre_at w.1 w.2.1 hK⟩ rfl hn hsz rfl (lv_room hroom) hdg hf) w.2.2 (fun q _ h => hF q h) hF (fun u' t H1 locs1 ht hvm hw hB hz1 hk1 hS => kk u' H1 locs1 hw (gBack C w ht hB hS))
theorem gCallsi {y : MethodName} {bytes : ByteArray} {nL' n index : Nat} {ret' : Option FieldType} {rm : Room} {As : List Value} {post : Int32 → S → Prop}
    (C : gC own cc nL ret D tys A p s m args meth c) (w : gW D A s (wf u) H locs) (hM : gMi l y bytes nL' ret' rm As D tys wf u post) (cw : CallB R s args own index y bytes nL' ret' (ws_ y bytes nL' ret') rm 0 0 n ∧ (Cond.static y).before args s = true)
    (hn : As.length = n) (hsz : ls.size = nL) (hst : st0 = As.reverse ++ rest) (hroom : (rest.map fun v => v.category).sum ≤ 8) (hdg : decode cc pc = .ok (.invokestatic index, 3)) (hf : cells ≤ R.cells ∧ slots ≤ R.slots)
    (kk : ∀ (r : Int32) (u' : S) (H1 : Heap) (locs1 : List Loc), post r u' → gW D A s (wf u') H1 locs1 → W p l e R s m args below meth c H1 locs1 cells slots Q (F0 m (pc + 3) ls (.int r :: rest))) : W p l e R s m args below meth c H locs cells slots Q (F0 m pc ls st0) := by
  obtain ⟨hx, hb, hr, hml, hown, hts, hA, hK, hlocks⟩ := id C
  have hF := gFree C w
  subst hst
  exact va_calli (va_runS (As := As) (rest := rest) ⟨hx, hb, hml, hown, hts⟩ (hM H.size) cw ⟨gPre_blind, gPre_at w.1 w.2.1 hK⟩ rfl hn hsz rfl (lv_room hroom) hdg hf) w.2.2 (fun q _ h => hF q h) hF (fun r u' t H1 locs1 ht hvm hw hB hz1 hk1 hS => kk r u' H1 locs1 hw (gBack C w ht hB hS))
end GR
end
section
/-! the two worlds: cells of a CharacterDesk, cells of a CharacterDeskModel; their fields' and arrays' rows (printed by gen_rows.py) -/
set_option maxRecDepth 100000
abbrev XS : Type := Int32 × (Nat → Int32) × (Nat → Int32) × Int32 × (Nat → Int32) × (Nat → Int32)
/-- a CharacterDesk: chosen, parts, rims, rimCount, now, then -/
def wX (a : Nat → Nat) (dB dJ : ClassId) (u : XS) : va_W := [(a 0, .inr (0, [.int u.1, .ref (a 1), .ref (a 2), .int u.2.2.2.1, .ref (a 3), .ref (a 4)])), (a 1, .inl (dB, 4, .inl u.2.1)), (a 2, .inl (dB, 8, .inl u.2.2.1)), (a 3, .inl (dJ, 2048, .inl u.2.2.2.2.1)), (a 4, .inl (dJ, 2048, .inl u.2.2.2.2.2))]
abbrev tyX (dB dJ : ClassId) : List (ClassId × FieldType) := [(dB, .byte), (dJ, .int)]
abbrev MS : Type := Int32 × (Nat → Int32) × (Nat → Int32)
/-- a CharacterDeskModel: chosen, poly, next -/
def wM (a : Nat → Nat) (dJ : ClassId) (u : MS) : va_W := [(a 0, .inr (1, [.int u.1, .ref (a 1), .ref (a 2)])), (a 1, .inl (dJ, 2744, .inl u.2.1)), (a 2, .inl (dJ, 2744, .inl u.2.2))]
abbrev tyM (dJ : ClassId) : List (ClassId × FieldType) := [(dJ, .int)]
section XR
variable {p : Program} {l : Launch} {e : Env} {R : Room} {s : State} {m : MethodId} {args : Array Value} {below : List Frame} {meth : Method} {c : Code} {H : Heap} {locs : List Loc} {cells slots : Nat} {Q : State → Prop}
variable {cc : ByteArray} {nL : Nat} {ret : Option FieldType} {D : va_G} {A : Nat → Prop} {pc : Nat} {ls : Array Slot} {rest : List Value}
variable {a : Nat → Nat} {dB dJ : ClassId} {ch rc : Int32} {fp fr fn ft : Nat → Int32}
theorem xg_ch (C : gC RX0 cc nL ret D (tyX dB dJ) A p s m args meth c) (w : gW D A s (wX a dB dJ (ch, fp, fr, rc, fn, ft)) H locs) (hdg : decode cc pc = .ok (.getfield 40, 3)) (k : W p l e R s m args below meth c H locs cells slots Q (F0 m (pc + 3) ls (.int ch :: rest))) : W p l e R s m args below meth c H locs cells slots Q (F0 m pc ls (.ref (a 0) :: rest)) := by
  obtain ⟨hx, hb, hr, hml, hown, hts, hA, hK, hlocks⟩ := C
  exact va_get (D := D) (ci := 0) (v := .int ch) (C := RX0) (T := TX0) (N := 6) hx hb hts in_X0 hown hK w.1 0 rfl rfl 0 (by decide) (hts _ q25) (fun _ h9 => h9) rfl hdg k
theorem xg_p (C : gC RX0 cc nL ret D (tyX dB dJ) A p s m args meth c) (w : gW D A s (wX a dB dJ (ch, fp, fr, rc, fn, ft)) H locs) (hdg : decode cc pc = .ok (.getfield 7, 3)) (k : W p l e R s m args below meth c H locs cells slots Q (F0 m (pc + 3) ls (.ref (a 1) :: rest))) : W p l e R s m args below meth c H locs cells slots Q (F0 m pc ls (.ref (a 0) :: rest)) := by
  obtain ⟨hx, hb, hr, hml, hown, hts, hA, hK, hlocks⟩ := C
  exact va_get (D := D) (ci := 0) (v := .ref (a 1)) (C := RX0) (T := TX0) (N := 6) hx hb hts in_X0 hown hK w.1 0 rfl rfl 1 (by decide) (hts _ q26) (fun _ h9 => h9) rfl hdg k
theorem xg_r (C : gC RX0 cc nL ret D (tyX dB dJ) A p s m args meth c) (w : gW D A s (wX a dB dJ (ch, fp, fr, rc, fn, ft)) H locs) (hdg : decode cc pc = .ok (.getfield 13, 3)) (k : W p l e R s m args below meth c H locs cells slots Q (F0 m (pc + 3) ls (.ref (a 2) :: rest))) : W p l e R s m args below meth c H locs cells slots Q (F0 m pc ls (.ref (a 0) :: rest)) := by
  obtain ⟨hx, hb, hr, hml, hown, hts, hA, hK, hlocks⟩ := C
  exact va_get (D := D) (ci := 0) (v := .ref (a 2)) (C := RX0) (T := TX0) (N := 6) hx hb hts in_X0 hown hK w.1 0 rfl rfl 2 (by decide) (hts _ q27) (fun _ h9 => h9) rfl hdg k
theorem xg_rc (C : gC RX0 cc nL ret D (tyX dB dJ) A p s m args meth c) (w : gW D A s (wX a dB dJ (ch, fp, fr, rc, fn, ft)) H locs) (hdg : decode cc pc = .ok (.getfield 23, 3)) (k : W p l e R s m args below meth c H locs cells slots Q (F0 m (pc + 3) ls (.int rc :: rest))) : W p l e R s m args below meth c H locs cells slots Q (F0 m pc ls (.ref (a 0) :: rest)) := by
  obtain ⟨hx, hb, hr, hml, hown, hts, hA, hK, hlocks⟩ := C
  exact va_get (D := D) (ci := 0) (v := .int rc) (C := RX0) (T := TX0) (N := 6) hx hb hts in_X0 hown hK w.1 0 rfl rfl 3 (by decide) (hts _ q28) (fun _ h9 => h9) rfl hdg k
theorem xg_n (C : gC RX0 cc nL ret D (tyX dB dJ) A p s m args meth c) (w : gW D A s (wX a dB dJ (ch, fp, fr, rc, fn, ft)) H locs) (hdg : decode cc pc = .ok (.getfield 16, 3)) (k : W p l e R s m args below meth c H locs cells slots Q (F0 m (pc + 3) ls (.ref (a 3) :: rest))) : W p l e R s m args below meth c H locs cells slots Q (F0 m pc ls (.ref (a 0) :: rest)) := by
  obtain ⟨hx, hb, hr, hml, hown, hts, hA, hK, hlocks⟩ := C
  exact va_get (D := D) (ci := 0) (v := .ref (a 3)) (C := RX0) (T := TX0) (N := 6) hx hb hts in_X0 hown hK w.1 0 rfl rfl 4 (by decide) (hts _ q29) (fun _ h9 => h9) rfl hdg k
theorem xg_t (C : gC RX0 cc nL ret D (tyX dB dJ) A p s m args meth c) (w : gW D A s (wX a dB dJ (ch, fp, fr, rc, fn, ft)) H locs) (hdg : decode cc pc = .ok (.getfield 20, 3)) (k : W p l e R s m args below meth c H locs cells slots Q (F0 m (pc + 3) ls (.ref (a 4) :: rest))) : W p l e R s m args below meth c H locs cells slots Q (F0 m pc ls (.ref (a 0) :: rest)) := by
  obtain ⟨hx, hb, hr, hml, hown, hts, hA, hK, hlocks⟩ := C
  exact va_get (D := D) (ci := 0) (v := .ref (a 4)) (C := RX0) (T := TX0) (N := 6) hx hb hts in_X0 hown hK w.1 0 rfl rfl 5 (by decide) (hts _ q30) (fun _ h9 => h9) rfl hdg k
theorem xp_ch {v : Int32} (C : gC RX0 cc nL ret D (tyX dB dJ) A p s m args meth c) (w : gW D A s (wX a dB dJ (ch, fp, fr, rc, fn, ft)) H locs) (hdg : decode cc pc = .ok (.putfield 40, 3)) (k : ∀ (H1 : Heap) (locs1 : List Loc), gW D A s (wX a dB dJ (v, fp, fr, rc, fn, ft)) H1 locs1 → W p l e R s m args below meth c H1 locs1 cells slots Q (F0 m (pc + 3) ls rest)) : W p l e R s m args below meth c H locs cells slots Q (F0 m pc ls (.int v :: .ref (a 0) :: rest)) := by
  obtain ⟨hx, hb, hr, hml, hown, hts, hA, hK, hlocks⟩ := C
  exact va_put (D := D) (ci := 0) (v := .int v) (ty := .int) (C := RX0) (T := TX0) (N := 6) hx hb hts in_X0 tyX0 tyX0_ok nmX0 hown hK w.1 w.2.1 w.2.2 0 rfl rfl 0 (by decide) (hts _ q25) (fun _ h9 => h9) rfl (by decide +kernel) rfl rfl (Nat.le_of_ble_eq_true rfl) hdg (fun H1 locs1 hP hD hS => k H1 locs1 ⟨hP, hD, hS⟩)
theorem xp_rc {v : Int32} (C : gC RX0 cc nL ret D (tyX dB dJ) A p s m args meth c) (w : gW D A s (wX a dB dJ (ch, fp, fr, rc, fn, ft)) H locs) (hdg : decode cc pc = .ok (.putfield 23, 3)) (k : ∀ (H1 : Heap) (locs1 : List Loc), gW D A s (wX a dB dJ (ch, fp, fr, v, fn, ft)) H1 locs1 → W p l e R s m args below meth c H1 locs1 cells slots Q (F0 m (pc + 3) ls rest)) : W p l e R s m args below meth c H locs cells slots Q (F0 m pc ls (.int v :: .ref (a 0) :: rest)) := by
  obtain ⟨hx, hb, hr, hml, hown, hts, hA, hK, hlocks⟩ := C
  exact va_put (D := D) (ci := 0) (v := .int v) (ty := .int) (C := RX0) (T := TX0) (N := 6) hx hb hts in_X0 tyX0 tyX0_ok nmX0 hown hK w.1 w.2.1 w.2.2 0 rfl rfl 3 (by decide) (hts _ q28) (fun _ h9 => h9) rfl (by decide +kernel) rfl rfl (Nat.le_of_ble_eq_true rfl) hdg (fun H1 locs1 hP hD hS => k H1 locs1 ⟨hP, hD, hS⟩)
theorem xl_p (C : gC RX0 cc nL ret D (tyX dB dJ) A p s m args meth c) (w : gW D A s (wX a dB dJ (ch, fp, fr, rc, fn, ft)) H locs) (n : Nat) (hn : n < 4) (hdg : decode cc pc = .ok (.baload, 1)) (k : W p l e R s m args below meth c H locs cells slots Q (F0 m (pc + 1) ls (.int (fp n) :: rest))) : W p l e R s m args below meth c H locs cells slots Q (F0 m pc ls (.int (nI n) :: .ref (a 1) :: rest)) := by
  obtain ⟨hx, hb, hr, hml, hown, hts, hA, hK, hlocks⟩ := C
  refine va_bald (f := fp) (n := 4) hx hb hK w.1 1 0 rfl rfl (vp_in_nI hn (by decide)) hdg ?_
  rw [nI_clamp (Nat.lt_trans hn (by decide))]
  exact k
theorem xl_r (C : gC RX0 cc nL ret D (tyX dB dJ) A p s m args meth c) (w : gW D A s (wX a dB dJ (ch, fp, fr, rc, fn, ft)) H locs) (n : Nat) (hn : n < 8) (hdg : decode cc pc = .ok (.baload, 1)) (k : W p l e R s m args below meth c H locs cells slots Q (F0 m (pc + 1) ls (.int (fr n) :: rest))) : W p l e R s m args below meth c H locs cells slots Q (F0 m pc ls (.int (nI n) :: .ref (a 2) :: rest)) := by
  obtain ⟨hx, hb, hr, hml, hown, hts, hA, hK, hlocks⟩ := C
  refine va_bald (f := fr) (n := 8) hx hb hK w.1 2 0 rfl rfl (vp_in_nI hn (by decide)) hdg ?_
  rw [nI_clamp (Nat.lt_trans hn (by decide))]
  exact k
theorem xl_n (C : gC RX0 cc nL ret D (tyX dB dJ) A p s m args meth c) (w : gW D A s (wX a dB dJ (ch, fp, fr, rc, fn, ft)) H locs) (n : Nat) (hn : n < 2048) (hdg : decode cc pc = .ok (.iaload, 1)) (k : W p l e R s m args below meth c H locs cells slots Q (F0 m (pc + 1) ls (.int (fn n) :: rest))) : W p l e R s m args below meth c H locs cells slots Q (F0 m pc ls (.int (nI n) :: .ref (a 3) :: rest)) := by
  obtain ⟨hx, hb, hr, hml, hown, hts, hA, hK, hlocks⟩ := C
  refine va_iald (f := fn) (n := 2048) hx hb hK w.1 3 1 rfl rfl (vp_in_nI hn (by decide)) hdg ?_
  rw [nI_clamp (Nat.lt_trans hn (by decide))]
  exact k
theorem xl_t (C : gC RX0 cc nL ret D (tyX dB dJ) A p s m args meth c) (w : gW D A s (wX a dB dJ (ch, fp, fr, rc, fn, ft)) H locs) (n : Nat) (hn : n < 2048) (hdg : decode cc pc = .ok (.iaload, 1)) (k : W p l e R s m args below meth c H locs cells slots Q (F0 m (pc + 1) ls (.int (ft n) :: rest))) : W p l e R s m args below meth c H locs cells slots Q (F0 m pc ls (.int (nI n) :: .ref (a 4) :: rest)) := by
  obtain ⟨hx, hb, hr, hml, hown, hts, hA, hK, hlocks⟩ := C
  refine va_iald (f := ft) (n := 2048) hx hb hK w.1 4 1 rfl rfl (vp_in_nI hn (by decide)) hdg ?_
  rw [nI_clamp (Nat.lt_trans hn (by decide))]
  exact k
theorem xs_p {v : Int32} (C : gC RX0 cc nL ret D (tyX dB dJ) A p s m args meth c) (w : gW D A s (wX a dB dJ (ch, fp, fr, rc, fn, ft)) H locs) (n : Nat) (hn : n < 4) (hx9 : vp_nar .byte v = v) (hdg : decode cc pc = .ok (.bastore, 1)) (k : ∀ (H1 : Heap) (locs1 : List Loc), gW D A s (wX a dB dJ (ch, upd fp n v, fr, rc, fn, ft)) H1 locs1 → W p l e R s m args below meth c H1 locs1 cells slots Q (F0 m (pc + 1) ls rest)) : W p l e R s m args below meth c H locs cells slots Q (F0 m pc ls (.int v :: .int (nI n) :: .ref (a 1) :: rest)) := by
  obtain ⟨hx, hb, hr, hml, hown, hts, hA, hK, hlocks⟩ := C
  refine va_bast (f := fp) (n := 4) (x := v) hx hb hK w.1 w.2.1 w.2.2 1 0 rfl rfl (vp_in_nI hn (by decide)) hdg (fun H1 locs1 hP hD hS => ?_)
  rw [nI_clamp (Nat.lt_trans hn (by decide)), hx9] at hP hD
  exact k H1 locs1 ⟨hP, hD, hS⟩
theorem xs_r {v : Int32} (C : gC RX0 cc nL ret D (tyX dB dJ) A p s m args meth c) (w : gW D A s (wX a dB dJ (ch, fp, fr, rc, fn, ft)) H locs) (n : Nat) (hn : n < 8) (hx9 : vp_nar .byte v = v) (hdg : decode cc pc = .ok (.bastore, 1)) (k : ∀ (H1 : Heap) (locs1 : List Loc), gW D A s (wX a dB dJ (ch, fp, upd fr n v, rc, fn, ft)) H1 locs1 → W p l e R s m args below meth c H1 locs1 cells slots Q (F0 m (pc + 1) ls rest)) : W p l e R s m args below meth c H locs cells slots Q (F0 m pc ls (.int v :: .int (nI n) :: .ref (a 2) :: rest)) := by
  obtain ⟨hx, hb, hr, hml, hown, hts, hA, hK, hlocks⟩ := C
  refine va_bast (f := fr) (n := 8) (x := v) hx hb hK w.1 w.2.1 w.2.2 2 0 rfl rfl (vp_in_nI hn (by decide)) hdg (fun H1 locs1 hP hD hS => ?_)
  rw [nI_clamp (Nat.lt_trans hn (by decide)), hx9] at hP hD
  exact k H1 locs1 ⟨hP, hD, hS⟩
theorem xs_n {v : Int32} (C : gC RX0 cc nL ret D (tyX dB dJ) A p s m args meth c) (w : gW D A s (wX a dB dJ (ch, fp, fr, rc, fn, ft)) H locs) (n : Nat) (hn : n < 2048) (hdg : decode cc pc = .ok (.iastore, 1)) (k : ∀ (H1 : Heap) (locs1 : List Loc), gW D A s (wX a dB dJ (ch, fp, fr, rc, upd fn n v, ft)) H1 locs1 → W p l e R s m args below meth c H1 locs1 cells slots Q (F0 m (pc + 1) ls rest)) : W p l e R s m args below meth c H locs cells slots Q (F0 m pc ls (.int v :: .int (nI n) :: .ref (a 3) :: rest)) := by
  obtain ⟨hx, hb, hr, hml, hown, hts, hA, hK, hlocks⟩ := C
  refine va_iast (f := fn) (n := 2048) (x := v) hx hb hK w.1 w.2.1 w.2.2 3 1 rfl rfl (vp_in_nI hn (by decide)) hdg (fun H1 locs1 hP hD hS => ?_)
  rw [nI_clamp (Nat.lt_trans hn (by decide))] at hP hD
  exact k H1 locs1 ⟨hP, hD, hS⟩
theorem xs_t {v : Int32} (C : gC RX0 cc nL ret D (tyX dB dJ) A p s m args meth c) (w : gW D A s (wX a dB dJ (ch, fp, fr, rc, fn, ft)) H locs) (n : Nat) (hn : n < 2048) (hdg : decode cc pc = .ok (.iastore, 1)) (k : ∀ (H1 : Heap) (locs1 : List Loc), gW D A s (wX a dB dJ (ch, fp, fr, rc, fn, upd ft n v)) H1 locs1 → W p l e R s m args below meth c H1 locs1 cells slots Q (F0 m (pc + 1) ls rest)) : W p l e R s m args below meth c H locs cells slots Q (F0 m pc ls (.int v :: .int (nI n) :: .ref (a 4) :: rest)) := by
  obtain ⟨hx, hb, hr, hml, hown, hts, hA, hK, hlocks⟩ := C
  refine va_iast (f := ft) (n := 2048) (x := v) hx hb hK w.1 w.2.1 w.2.2 4 1 rfl rfl (vp_in_nI hn (by decide)) hdg (fun H1 locs1 hP hD hS => ?_)
  rw [nI_clamp (Nat.lt_trans hn (by decide))] at hP hD
  exact k H1 locs1 ⟨hP, hD, hS⟩
theorem mg_ch (C : gC RX1 cc nL ret D (tyM dJ) A p s m args meth c) (w : gW D A s (wM a dJ (ch, fn, ft)) H locs) (hdg : decode cc pc = .ok (.getfield 36, 3)) (k : W p l e R s m args below meth c H locs cells slots Q (F0 m (pc + 3) ls (.int ch :: rest))) : W p l e R s m args below meth c H locs cells slots Q (F0 m pc ls (.ref (a 0) :: rest)) := by
  obtain ⟨hx, hb, hr, hml, hown, hts, hA, hK, hlocks⟩ := C
  exact va_get (D := D) (ci := 1) (v := .int ch) (C := RX1) (T := TX1) (N := 3) hx hb hts in_X1 hown hK w.1 0 rfl rfl 0 (by decide) (hts _ q137) (fun _ h9 => h9) rfl hdg k
theorem mg_p (C : gC RX1 cc nL ret D (tyM dJ) A p s m args meth c) (w : gW D A s (wM a dJ (ch, fn, ft)) H locs) (hdg : decode cc pc = .ok (.getfield 7, 3)) (k : W p l e R s m args below meth c H locs cells slots Q (F0 m (pc + 3) ls (.ref (a 1) :: rest))) : W p l e R s m args below meth c H locs cells slots Q (F0 m pc ls (.ref (a 0) :: rest)) := by
  obtain ⟨hx, hb, hr, hml, hown, hts, hA, hK, hlocks⟩ := C
  exact va_get (D := D) (ci := 1) (v := .ref (a 1)) (C := RX1) (T := TX1) (N := 3) hx hb hts in_X1 hown hK w.1 0 rfl rfl 1 (by decide) (hts _ q138) (fun _ h9 => h9) rfl hdg k
theorem mg_n (C : gC RX1 cc nL ret D (tyM dJ) A p s m args meth c) (w : gW D A s (wM a dJ (ch, fn, ft)) H locs) (hdg : decode cc pc = .ok (.getfield 13, 3)) (k : W p l e R s m args below meth c H locs cells slots Q (F0 m (pc + 3) ls (.ref (a 2) :: rest))) : W p l e R s m args below meth c H locs cells slots Q (F0 m pc ls (.ref (a 0) :: rest)) := by
  obtain ⟨hx, hb, hr, hml, hown, hts, hA, hK, hlocks⟩ := C
  exact va_get (D := D) (ci := 1) (v := .ref (a 2)) (C := RX1) (T := TX1) (N := 3) hx hb hts in_X1 hown hK w.1 0 rfl rfl 2 (by decide) (hts _ q139) (fun _ h9 => h9) rfl hdg k
theorem mp_ch {v : Int32} (C : gC RX1 cc nL ret D (tyM dJ) A p s m args meth c) (w : gW D A s (wM a dJ (ch, fn, ft)) H locs) (hdg : decode cc pc = .ok (.putfield 36, 3)) (k : ∀ (H1 : Heap) (locs1 : List Loc), gW D A s (wM a dJ (v, fn, ft)) H1 locs1 → W p l e R s m args below meth c H1 locs1 cells slots Q (F0 m (pc + 3) ls rest)) : W p l e R s m args below meth c H locs cells slots Q (F0 m pc ls (.int v :: .ref (a 0) :: rest)) := by
  obtain ⟨hx, hb, hr, hml, hown, hts, hA, hK, hlocks⟩ := C
  exact va_put (D := D) (ci := 1) (v := .int v) (ty := .int) (C := RX1) (T := TX1) (N := 3) hx hb hts in_X1 tyX1 tyX1_ok nmX1 hown hK w.1 w.2.1 w.2.2 0 rfl rfl 0 (by decide) (hts _ q137) (fun _ h9 => h9) rfl (by decide +kernel) rfl rfl (Nat.le_of_ble_eq_true rfl) hdg (fun H1 locs1 hP hD hS => k H1 locs1 ⟨hP, hD, hS⟩)
theorem ml_p (C : gC RX1 cc nL ret D (tyM dJ) A p s m args meth c) (w : gW D A s (wM a dJ (ch, fn, ft)) H locs) (n : Nat) (hn : n < 2744) (hdg : decode cc pc = .ok (.iaload, 1)) (k : W p l e R s m args below meth c H locs cells slots Q (F0 m (pc + 1) ls (.int (fn n) :: rest))) : W p l e R s m args below meth c H locs cells slots Q (F0 m pc ls (.int (nI n) :: .ref (a 1) :: rest)) := by
  obtain ⟨hx, hb, hr, hml, hown, hts, hA, hK, hlocks⟩ := C
  refine va_iald (f := fn) (n := 2744) hx hb hK w.1 1 0 rfl rfl (vp_in_nI hn (by decide)) hdg ?_
  rw [nI_clamp (Nat.lt_trans hn (by decide))]
  exact k
theorem ml_n (C : gC RX1 cc nL ret D (tyM dJ) A p s m args meth c) (w : gW D A s (wM a dJ (ch, fn, ft)) H locs) (n : Nat) (hn : n < 2744) (hdg : decode cc pc = .ok (.iaload, 1)) (k : W p l e R s m args below meth c H locs cells slots Q (F0 m (pc + 1) ls (.int (ft n) :: rest))) : W p l e R s m args below meth c H locs cells slots Q (F0 m pc ls (.int (nI n) :: .ref (a 2) :: rest)) := by
  obtain ⟨hx, hb, hr, hml, hown, hts, hA, hK, hlocks⟩ := C
  refine va_iald (f := ft) (n := 2744) hx hb hK w.1 2 0 rfl rfl (vp_in_nI hn (by decide)) hdg ?_
  rw [nI_clamp (Nat.lt_trans hn (by decide))]
  exact k
theorem ms_p {v : Int32} (C : gC RX1 cc nL ret D (tyM dJ) A p s m args meth c) (w : gW D A s (wM a dJ (ch, fn, ft)) H locs) (n : Nat) (hn : n < 2744) (hdg : decode cc pc = .ok (.iastore, 1)) (k : ∀ (H1 : Heap) (locs1 : List Loc), gW D A s (wM a dJ (ch, upd fn n v, ft)) H1 locs1 → W p l e R s m args below meth c H1 locs1 cells slots Q (F0 m (pc + 1) ls rest)) : W p l e R s m args below meth c H locs cells slots Q (F0 m pc ls (.int v :: .int (nI n) :: .ref (a 1) :: rest)) := by
  obtain ⟨hx, hb, hr, hml, hown, hts, hA, hK, hlocks⟩ := C
  refine va_iast (f := fn) (n := 2744) (x := v) hx hb hK w.1 w.2.1 w.2.2 1 0 rfl rfl (vp_in_nI hn (by decide)) hdg (fun H1 locs1 hP hD hS => ?_)
  rw [nI_clamp (Nat.lt_trans hn (by decide))] at hP hD
  exact k H1 locs1 ⟨hP, hD, hS⟩
theorem ms_n {v : Int32} (C : gC RX1 cc nL ret D (tyM dJ) A p s m args meth c) (w : gW D A s (wM a dJ (ch, fn, ft)) H locs) (n : Nat) (hn : n < 2744) (hdg : decode cc pc = .ok (.iastore, 1)) (k : ∀ (H1 : Heap) (locs1 : List Loc), gW D A s (wM a dJ (ch, fn, upd ft n v)) H1 locs1 → W p l e R s m args below meth c H1 locs1 cells slots Q (F0 m (pc + 1) ls rest)) : W p l e R s m args below meth c H locs cells slots Q (F0 m pc ls (.int v :: .int (nI n) :: .ref (a 2) :: rest)) := by
  obtain ⟨hx, hb, hr, hml, hown, hts, hA, hK, hlocks⟩ := C
  refine va_iast (f := ft) (n := 2744) (x := v) hx hb hK w.1 w.2.1 w.2.2 2 0 rfl rfl (vp_in_nI hn (by decide)) hdg (fun H1 locs1 hP hD hS => ?_)
  rw [nI_clamp (Nat.lt_trans hn (by decide))] at hP hD
  exact k H1 locs1 ⟨hP, hD, hS⟩
end XR
end
section
/-! what the methods compute, in plain words -/
set_option maxRecDepth 100000
abbrev cd_BAD : Int32 := -1000000
/-- the i-th part of a code -/
def cd_pt (s i : Int32) : Int32 := (s >>> ((3 * i) &&& 31)) &&& 7
def cd_P (s : Int32) (i : Nat) : Nat := (cd_pt s (nI i)).toNatClampNeg
theorem cd_pt_of (s i : Int32) : ∃ j : Nat, j < 8 ∧ cd_pt s i = nI j := pk_andE (s >>> ((3 * i) &&& 31)) (m := 7) 3 (by decide)
theorem cd_pt_P (s : Int32) (i : Nat) : cd_pt s (nI i) = nI (cd_P s i) := by
  obtain ⟨j, hj, e⟩ := cd_pt_of s (nI i)
  unfold cd_P
  rw [e, nI_clamp (by omega)]
theorem cd_P_lt (s : Int32) (i : Nat) : cd_P s i < 8 := by
  obtain ⟨j, hj, e⟩ := cd_pt_of s (nI i)
  unfold cd_P
  rw [e, nI_clamp (by omega)]
  exact hj
theorem cd_b8 : ∀ j, j < 8 → (nI j).toInt8.toInt32 = nI j := by decide +kernel
theorem cd_byte {j : Nat} (h : j < 8) : vp_nar .byte (nI j) = nI j := by rw [vp_nar_byte]; exact cd_b8 j h
theorem cd_pt_b (s i : Int32) : (cd_pt s i).toInt8.toInt32 = cd_pt s i := by
  obtain ⟨j, hj, e⟩ := cd_pt_of s i
  rw [e]; exact cd_b8 j hj
theorem cd_pt_n (s i : Int32) : vp_nar .byte (cd_pt s i) = cd_pt s i := by rw [vp_nar_byte]; exact cd_pt_b s i
/-- the sum of the first n parts -/
def cd_ps (s : Int32) : Nat → Int32
  | 0 => 0
  | n + 1 => cd_ps s n + cd_pt s (nI n)
/-- the first n parts do not grow -/
abbrev cd_dec (s : Int32) (n : Nat) : Prop := ∀ j, j < n → 0 < j → cd_pt s (nI j) ≤ cd_pt s (nI j - 1)
/-- the number of which s is a partition, or 0 -/
def cd_sum (s : Int32) : Int32 := if s < 0 ∨ 4095 < s then 0 else if cd_dec s 4 ∧ cd_ps s 4 ≤ 7 then cd_ps s 4 else 0
theorem cd_dec_s {s : Int32} {n : Nat} (h : cd_dec s n) (h1 : 0 < n → cd_pt s (nI n) ≤ cd_pt s (nI n - 1)) : cd_dec s (n + 1) := by
  intro j hj h0
  rcases Nat.lt_or_ge j n with h2 | h2
  · exact h j h2 h0
  · have e : j = n := by omega
    subst e
    exact h1 h0
/-! bits -/
theorem cd_sl : ∀ n, n < 32 → ((nI n &&& 31).toBitVec.smod 32).toNat = n := by decide +kernel
theorem cd_and (a b : Nat) : nI a &&& nI b = nI (a &&& b) := by
  apply Int32.toBitVec_inj.1
  show BitVec.ofNat 32 a &&& BitVec.ofNat 32 b = BitVec.ofNat 32 (a &&& b)
  apply BitVec.eq_of_getLsbD_eq
  intro i hi
  simp [hi]
theorem cd_or (a b : Nat) : nI a ||| nI b = nI (a ||| b) := by
  apply Int32.toBitVec_inj.1
  show BitVec.ofNat 32 a ||| BitVec.ofNat 32 b = BitVec.ofNat 32 (a ||| b)
  apply BitVec.eq_of_getLsbD_eq
  intro i hi
  simp [hi]
theorem cd_xor (a b : Nat) : nI a ^^^ nI b = nI (a ^^^ b) := by
  apply Int32.toBitVec_inj.1
  show BitVec.ofNat 32 a ^^^ BitVec.ofNat 32 b = BitVec.ofNat 32 (a ^^^ b)
  apply BitVec.eq_of_getLsbD_eq
  intro i hi
  simp [hi]
def cd_bit (x b : Nat) : Nat := x / 2 ^ b % 2
theorem cd_bit_lt (x b : Nat) : cd_bit x b < 2 := Nat.mod_lt _ (by decide)
theorem cd_bit_eq {x b : Nat} (hx : x < 2048) (hb : b < 32) : (nI x >>> (nI b &&& 31)) &&& 1 = nI (cd_bit x b) := by
  rw [pk_shrN (by omega) (nI b &&& 31) b (cd_sl b hb)]
  have h : x / 2 ^ b ≤ x := Nat.div_le_self _ _
  exact pk_andN (n := x / 2 ^ b) (by omega) (m := 1) 1 (by decide)
theorem cd_one_shl {b : Nat} (hb : b < 31) : (1 : Int32) <<< (nI b &&& 31) = nI (2 ^ b) := by
  have h : 2 ^ b < 2 ^ 31 := Nat.pow_lt_pow_right (by decide) hb
  have e := pk_shlN (n := 1) (nI b &&& 31) b (cd_sl b (by omega)) (by omega)
  rw [Nat.one_mul] at e
  exact e
/-- how many marks lie on lo + 1 .. lo + k -/
def cd_btw (set lo : Nat) : Nat → Nat
  | 0 => 0
  | k + 1 => cd_btw set lo k + cd_bit set (lo + 1 + k)
theorem cd_btw_le (set lo k : Nat) : cd_btw set lo k ≤ k := by
  induction k with
  | zero => exact Nat.le_refl _
  | succ k ih =>
    have h := cd_bit_lt set (lo + 1 + k)
    show cd_btw set lo k + cd_bit set (lo + 1 + k) ≤ k + 1
    omega
/-- the set with the mark on b moved to t -/
def cd_nx (set b t : Nat) : Nat := (set &&& (2 ^ b ^^^ 4294967295)) ||| 2 ^ t
theorem cd_nx_lt {set b t : Nat} (h : set < 2048) (ht : t < 11) : cd_nx set b t < 2048 := by
  unfold cd_nx
  have h1 : set &&& (2 ^ b ^^^ 4294967295) < 2 ^ 11 := Nat.lt_of_le_of_lt Nat.and_le_left h
  have h2 : 2 ^ t < 2 ^ 11 := Nat.pow_lt_pow_right (by decide) ht
  exact Nat.or_lt_two_pow h1 h2
theorem cd_nx_eq {set b t : Nat} (hb : b < 31) (ht : t < 31) : ((nI set &&& (((1 : Int32) <<< (nI b &&& 31)) ^^^ (-1))) ||| ((1 : Int32) <<< (nI t &&& 31))) = nI (cd_nx set b t) := by
  rw [cd_one_shl hb, cd_one_shl ht, show (-1 : Int32) = nI 4294967295 from by decide, cd_xor, cd_and, cd_or]
  rfl
/-- what a move of a set by a length adds, tested by g: places 0 .. k - 1 -/
def cd_mv (g : Nat → Int32) (set len : Nat) : Nat → Int32
  | 0 => 0
  | k + 1 => cd_mv g set len k + (if cd_bit set (len + k) = 1 ∧ cd_bit set k = 0 then (if cd_btw set k (len - 1) % 2 = 0 then g (cd_nx set (len + k) k) else - g (cd_nx set (len + k) k)) else 0)
/-- how often, signs counted, the empty shape is come to -/
def cd_S : List Nat → Nat → Int32
  | [], set => if set = 15 then 1 else 0
  | r :: rs, set => cd_mv (cd_S rs) set r (11 - r)
def cd_dot (f g : Nat → Int32) : Nat → Int32
  | 0 => 0
  | n + 1 => cd_dot f g n + f n * g n
theorem cd_dot_congr {f f' g g' : Nat → Int32} : ∀ (n : Nat), (∀ j, j < n → f j = f' j) → (∀ j, j < n → g j = g' j) → cd_dot f g n = cd_dot f' g' n := by
  intro n
  induction n with
  | zero => intro _ _; rfl
  | succ n ih =>
    intro h1 h2
    show cd_dot f g n + f n * g n = cd_dot f' g' n + f' n * g' n
    rw [ih (fun j h => h1 j (by omega)) (fun j h => h2 j (by omega)), h1 n (by omega), h2 n (by omega)]
theorem cd_dot_zero {f g : Nat → Int32} : ∀ (n : Nat), (∀ j, j < n → f j = 0) → cd_dot f g n = 0 := by
  intro n
  induction n with
  | zero => intro _; rfl
  | succ n ih =>
    intro h1
    show cd_dot f g n + f n * g n = 0
    rw [ih (fun j h => h1 j (by omega)), h1 n (by omega)]
    grind
theorem cd_dot_upd {f g : Nat → Int32} {k : Nat} {x : Int32} : ∀ (n : Nat), k < n → cd_dot (upd f k x) g n = cd_dot f g n + (x - f k) * g k := by
  intro n
  induction n with
  | zero => intro h; omega
  | succ n ih =>
    intro h
    show cd_dot (upd f k x) g n + upd f k x n * g n = cd_dot f g n + f n * g n + (x - f k) * g k
    by_cases e : k = n
    · subst e
      rw [cd_dot_congr (f' := f) (g' := g) k (fun j hj => pk_un (by omega)) (fun _ _ => rfl), pk_us]
      grind
    · rw [ih (by omega), pk_un (by omega)]
      grind
theorem cd_dot_add {f g : Nat → Int32} {k : Nat} {d : Int32} {n : Nat} (h : k < n) : cd_dot (upd f k (f k + d)) g n = cd_dot f g n + d * g k := by
  rw [cd_dot_upd n h]
  grind
theorem cd_dot_delta {f : Nat → Int32} {k : Nat} : ∀ (n : Nat), k < n → cd_dot f (fun y => if y = k then 1 else 0) n = f k := by
  intro n
  induction n with
  | zero => intro h; omega
  | succ n ih =>
    intro h
    show cd_dot f (fun y => if y = k then 1 else 0) n + f n * (if n = k then 1 else 0) = f k
    by_cases e : n = k
    · subst e
      have hz : ∀ m, m ≤ n → cd_dot f (fun y => if y = n then 1 else 0) m = 0 := by
        intro m
        induction m with
        | zero => intro _; rfl
        | succ m ihm =>
          intro hm
          show cd_dot f (fun y => if y = n then 1 else 0) m + f m * (if m = n then 1 else 0) = 0
          rw [ihm (by omega), if_neg (by omega)]
          grind
      rw [hz n (Nat.le_refl _), if_pos rfl]
      grind
    · rw [ih (by omega), if_neg e]
      grind
/-- the set of marks of the parts P -/
def cd_mk (P : Nat → Nat) : Nat → Nat
  | 0 => 0
  | n + 1 => cd_mk P n ||| 2 ^ (P n + 3 - n)
theorem cd_mk_lt {P : Nat → Nat} (h : ∀ i, i < 4 → P i < 8) : ∀ n, n ≤ 4 → cd_mk P n < 2048 := by
  intro n
  induction n with
  | zero => intro _; exact (show (0 : Nat) < 2048 by decide)
  | succ n ih =>
    intro hn
    have h1 := h n (by omega)
    exact Nat.or_lt_two_pow (n := 11) (ih (by omega)) (Nat.pow_lt_pow_right (by decide) (by omega))
/-- the parts that are not 0 -/
def cd_rims (P : Nat → Nat) : Nat → List Nat
  | 0 => []
  | n + 1 => if 0 < P n then cd_rims P n ++ [P n] else cd_rims P n
theorem cd_rims_len (P : Nat → Nat) : ∀ n, (cd_rims P n).length ≤ n := by
  intro n
  induction n with
  | zero => exact Nat.le_refl _
  | succ n ih =>
    unfold cd_rims
    split
    · rw [List.length_append]
      simp only [List.length_cons, List.length_nil]
      omega
    · omega
theorem cd_rims_in {P : Nat → Nat} {N : Nat} (h : ∀ i, i < N → P i < 8) : ∀ n, n ≤ N → ∀ x ∈ cd_rims P n, 1 ≤ x ∧ x ≤ 7 := by
  intro n
  induction n with
  | zero => intro _ x hx; cases hx
  | succ n ih =>
    intro hn x hx
    unfold cd_rims at hx
    split at hx
    · rcases List.mem_append.mp hx with h1 | h1
      · exact ih (by omega) x h1
      · have e := List.mem_singleton.mp h1
        have := h n (by omega)
        omega
    · exact ih (by omega) x hx
/-! the reference's polynomials -/
/-- multiplied by a sum of four terms -/
def cd_tm (p : Nat) (w x y z : Int32) (f : Nat → Int32) (c : Nat) : Int32 :=
  (if p ≤ c then w * f (c - p) else 0) + (if 14 * p ≤ c then x * f (c - 14 * p) else 0) + (if 196 * p ≤ c then y * f (c - 196 * p) else 0) + z * f c
theorem cd_tm_congr {p : Nat} {w x y z : Int32} {f g : Nat → Int32} {N c : Nat} (h : ∀ j, j < N → f j = g j) (hc : c < N) : cd_tm p w x y z f c = cd_tm p w x y z g c := by
  unfold cd_tm
  rw [h c hc, h (c - p) (by omega), h (c - 14 * p) (by omega), h (c - 196 * p) (by omega)]
/-- one term, as far as the places below C have given it -/
def cd_t1 (d : Nat) (k : Int32) (f : Nat → Int32) (C c : Nat) : Int32 := if d ≤ c ∧ c - d < C then k * f (c - d) else 0
theorem cd_t1_0 (d : Nat) (k : Int32) (f : Nat → Int32) (c : Nat) : cd_t1 d k f 0 c = 0 := if_neg (by omega)
theorem cd_t1_s (d : Nat) (k : Int32) (f : Nat → Int32) (C c : Nat) : cd_t1 d k f (C + 1) c = cd_t1 d k f C c + (if c = C + d then k * f C else 0) := by
  unfold cd_t1
  by_cases e : c = C + d
  · subst e
    rw [if_pos (by omega), if_neg (by omega), if_pos rfl, Nat.add_sub_cancel]
    grind
  · by_cases h : d ≤ c ∧ c - d < C
    · rw [if_pos (by omega), if_pos h, if_neg e]
      grind
    · rw [if_neg (by omega), if_neg h, if_neg e]
      grind
theorem cd_t1_e (d : Nat) (k : Int32) (f : Nat → Int32) {N c : Nat} (h : c < N) : cd_t1 d k f N c = if d ≤ c then k * f (c - d) else 0 := by
  unfold cd_t1
  by_cases e : d ≤ c
  · rw [if_pos (by omega), if_pos e]
  · rw [if_neg (by omega), if_neg e]
def cd_tp (p : Nat) (w x y z : Int32) (f : Nat → Int32) (C c : Nat) : Int32 := cd_t1 p w f C c + cd_t1 (14 * p) x f C c + cd_t1 (196 * p) y f C c + cd_t1 0 z f C c
theorem cd_tp_0 (p : Nat) (w x y z : Int32) (f : Nat → Int32) (c : Nat) : cd_tp p w x y z f 0 c = 0 := by
  unfold cd_tp
  rw [cd_t1_0, cd_t1_0, cd_t1_0, cd_t1_0]
  decide
theorem cd_tp_e (p : Nat) (w x y z : Int32) (f : Nat → Int32) {N c : Nat} (h : c < N) : cd_tp p w x y z f N c = cd_tm p w x y z f c := by
  unfold cd_tp cd_tm
  rw [cd_t1_e _ _ _ h, cd_t1_e _ _ _ h, cd_t1_e _ _ _ h, cd_t1_e _ _ _ h, if_pos (Nat.zero_le c)]
  rfl
theorem cd_tp_s (p : Nat) (w x y z : Int32) (f : Nat → Int32) (C c : Nat) : cd_tp p w x y z f (C + 1) c = cd_tp p w x y z f C c + (if c = C + p then w * f C else 0) + (if c = C + 14 * p then x * f C else 0) + (if c = C + 196 * p then y * f C else 0) + (if c = C then z * f C else 0) := by
  unfold cd_tp
  rw [cd_t1_s, cd_t1_s, cd_t1_s, cd_t1_s, Nat.add_zero]
  grind
def cd_d0 (c : Nat) : Int32 := if c = 0 then 1 else 0
def cd_b1 : Nat → Int32 := cd_tm 1 1 (-1) 0 0 cd_d0
def cd_b2 : Nat → Int32 := cd_tm 1 1 0 (-1) 0 cd_b1
def cd_b3 : Nat → Int32 := cd_tm 1 1 0 0 (-1) cd_b2
def cd_b4 : Nat → Int32 := cd_tm 1 0 1 (-1) 0 cd_b3
def cd_b5 : Nat → Int32 := cd_tm 1 0 1 0 (-1) cd_b4
/-- the product of the six differences -/
def cd_b6 : Nat → Int32 := cd_tm 1 0 0 1 (-1) cd_b5
/-- and times the power sums of a list -/
def cd_po : List Nat → Nat → Int32
  | [] => cd_b6
  | p :: ps => cd_tm p 1 1 1 1 (cd_po ps)
/-- the place of a shape's coefficient -/
def cd_ix (s : Int32) : Nat := cd_P s 0 + 3 + 14 * (cd_P s 1 + 2) + 196 * (cd_P s 2 + 1)
theorem cd_ix_lt (s : Int32) : cd_ix s < 2744 := by
  have h0 := cd_P_lt s 0
  have h1 := cd_P_lt s 1
  have h2 := cd_P_lt s 2
  unfold cd_ix
  omega
/-! the answers -/
def cd_num (n : Int32) : Prop := 1 ≤ n ∧ n ≤ 7
/-- character: CharacterDesk -/
def cd_chX (s m : Int32) : Int32 := if cd_sum m = 0 then cd_BAD else if cd_sum s = cd_sum m then cd_S (cd_rims (cd_P m) 4) (cd_mk (cd_P s) 4) else cd_BAD
def cd_chM (s m : Int32) : Int32 := if cd_sum s = 0 ∨ cd_sum s ≠ cd_sum m then cd_BAD else cd_po (cd_rims (cd_P m) 4).reverse (cd_ix s)
def cd_dgX (s : Int32) : Int32 := if cd_sum s = 0 then cd_BAD else cd_S (List.replicate (cd_sum s).toNatClampNeg 1) (cd_mk (cd_P s) 4)
def cd_dgM (s : Int32) : Int32 := if cd_sum s = 0 then cd_BAD else cd_po (List.replicate (cd_sum s).toNatClampNeg 1) (cd_ix s)
/-- how many of 1 .. k are partitions of n -/
def cd_cn (n : Int32) : Nat → Int32
  | 0 => 0
  | k + 1 => if cd_sum (nI (k + 1)) = n then cd_cn n k + 1 else cd_cn n k
/-- the k-th partition of n from s downwards, seen being passed -/
def cd_pa (n k : Int32) : Nat → Int32 → Int32
  | 0, _ => cd_BAD
  | s + 1, seen => if cd_sum (nI (s + 1)) = n then (if seen = k then nI (s + 1) else cd_pa n k s (seen + 1)) else cd_pa n k s seen
/-- the sum of the squares of v over the partitions of n in 1 .. k -/
def cd_sq (v : Int32 → Int32) (n : Int32) : Nat → Int32
  | 0 => 0
  | k + 1 => if cd_sum (nI (k + 1)) = n then cd_sq v n k + v (nI (k + 1)) * v (nI (k + 1)) else cd_sq v n k
def cd_gr (v : Int32 → Int32) (n : Int32) : Nat → Int32
  | 0 => cd_BAD
  | k + 1 => if cd_sum (nI (k + 1)) = n then (if v (nI (k + 1)) ≤ cd_gr v n k then cd_gr v n k else v (nI (k + 1))) else cd_gr v n k
def cd_su (v : Int32 → Int32) (n : Int32) : Nat → Int32
  | 0 => 0
  | k + 1 => if cd_sum (nI (k + 1)) = n ∧ v (nI (k + 1)) ≠ 0 then cd_su v n k + 1 else cd_su v n k
/-- how many of the first k parts reach a column -/
def cd_cl (P : Nat → Nat) (col : Nat) : Nat → Nat
  | 0 => 0
  | k + 1 => cd_cl P col k + (if col ≤ P k then 1 else 0)
theorem cd_cl_le (P : Nat → Nat) (col : Nat) : ∀ k, cd_cl P col k ≤ k := by
  intro k
  induction k with
  | zero => exact Nat.le_refl _
  | succ k ih =>
    show cd_cl P col k + (if col ≤ P k then 1 else 0) ≤ k + 1
    split <;> omega
def cd_tX (P : Nat → Nat) : Nat → Nat
  | 0 => 0
  | j + 1 => 8 * cd_tX P j + cd_cl P (4 - j) 4
def cd_tM (P : Nat → Nat) : Nat → Nat
  | 0 => 0
  | i + 1 => cd_tM P i ||| cd_cl P (i + 1) 4 * 2 ^ (3 * i)
def cd_tuX (s : Int32) : Int32 := if cd_sum s = 0 ∨ ¬ cd_pt s 0 ≤ 4 then cd_BAD else nI (cd_tX (cd_P s) 4)
def cd_tuM (s : Int32) : Int32 := if cd_sum s = 0 ∨ ¬ cd_pt s 0 ≤ 4 then cd_BAD else nI (cd_tM (cd_P s) 4)
/-- 2 * .. * (k + 1) -/
def cd_fc : Nat → Int32
  | 0 => 1
  | k + 1 => cd_fc k * nI (k + 2)
def cd_eqX (s : Int32) : Nat → Int32
  | 0 => 0
  | i + 1 => if cd_pt s (nI i) ≤ 0 then cd_eqX s i else if 0 < i ∧ cd_pt s (nI i) = cd_pt s (nI i - 1) then cd_eqX s i + 1 else 1
def cd_wX (s w : Int32) : Nat → Int32
  | 0 => w
  | i + 1 => if cd_pt s (nI i) ≤ 0 then cd_wX s w i else if cd_pt s (nI i) * cd_eqX s (i + 1) ≤ 0 then cd_wX s w i else cd_wX s w i / (cd_pt s (nI i) * cd_eqX s (i + 1))
def cd_agM (s : Int32) : Nat → Int32
  | 0 => 0
  | i + 1 => if 0 < i ∧ cd_pt s (nI i) = cd_pt s (nI i - 1) then cd_agM s i + 1 else 1
def cd_saM (s : Int32) : Nat → Int32
  | 0 => 1
  | i + 1 => if cd_pt s (nI i) ≤ 0 then cd_saM s i else cd_saM s i * cd_pt s (nI i) * cd_agM s (i + 1)
def cd_prX (s : Int32) : Int32 := if cd_sum s = 0 then cd_BAD else cd_wX s (cd_fc ((cd_sum s).toNatClampNeg - 1)) 4
def cd_prM (s : Int32) : Int32 := if cd_sum s = 0 then cd_BAD else cd_fc ((cd_sum s).toNatClampNeg - 1) / (if cd_saM s 4 ≤ 0 then 1 else cd_saM s 4)
/-- a store at i, behind those below i -/
theorem cd_u {f : Nat → Int32} {i : Nat} {v : Int32} {P : Nat → Int32 → Prop} (h : ∀ j, j < i → P j (f j)) (hv : P i v) : ∀ j, j < i + 1 → P j (upd f i v j) := by
  intro j hj
  by_cases e : j = i
  · subst e
    rw [pk_us]; exact hv
  · rw [pk_un e]; exact h j (by omega)
theorem cd_m1 {i : Nat} (h : 0 < i) : nI i - 1 = nI (i - 1) := by
  obtain ⟨k, rfl⟩ : ∃ k, i = k + 1 := ⟨i - 1, by omega⟩
  exact nI_pred k
theorem cd_nle {x y : Int32} (h : ¬ x ≤ y) : y < x := Int32.not_le.mp h
/-- sums: at most 7 -/
theorem cd_sum_7 (s : Int32) : cd_sum s ≤ 7 := by
  unfold cd_sum
  split
  · decide
  · split
    · rename_i h; exact h.2
    · decide
theorem cd_ps_of (s : Int32) : ∀ n, n ≤ 4 → ∃ j : Nat, j ≤ 7 * n ∧ cd_ps s n = nI j := by
  intro n
  induction n with
  | zero => intro _; exact ⟨0, by omega, rfl⟩
  | succ n ih =>
    intro hn
    obtain ⟨j, hj, e⟩ := ih (by omega)
    obtain ⟨k, hk, e2⟩ := cd_pt_of s (nI n)
    refine ⟨j + k, by omega, ?_⟩
    show cd_ps s n + cd_pt s (nI n) = _
    rw [e, e2, nI_add]
theorem cd_sum_of (s : Int32) : ∃ j : Nat, j ≤ 7 ∧ cd_sum s = nI j := by
  unfold cd_sum
  split
  · exact ⟨0, by omega, rfl⟩
  · split
    · rename_i h
      obtain ⟨j, hj, e⟩ := cd_ps_of s 4 (by omega)
      refine ⟨j, ?_, e⟩
      have h2 := h.2
      rw [e] at h2
      exact (nI_leI (a := j) (b := 7) (by omega) (by decide)).mp h2
    · exact ⟨0, by omega, rfl⟩
end
section
/-! CharacterDesk: read, marks, wantParts, wantOnes, between, isNumber, shape (printed by gen_X1leaf.py) -/
set_option maxRecDepth 100000
abbrev rmv (k : Nat) : Room := { frames := k, cells := 0, slots := 0, locals := 30 * k }
theorem cd_mkx {p i : Nat} (h : i ≤ 3) : nI p + 4 - 1 - nI i = nI (p + 3 - i) := by
  rw [show nI p + 4 = nI (p + 4) from nI_add p 4, show nI (p + 4) - 1 = nI (p + 3) from nI_pred (p + 3), pk_sub (by omega)]
theorem cd_rims_put {L : List Nat} {f : Nat → Int32} {v : Nat} (h : ∀ j, j < L.length → f j = nI (L.getD j 0)) : ∀ j, j < (L ++ [v]).length → upd f L.length (nI v) j = nI ((L ++ [v]).getD j 0) := by
  intro j hj
  rw [List.length_append] at hj
  simp only [List.length_cons, List.length_nil] at hj
  by_cases e : j = L.length
  · subst e
    rw [pk_us]
    simp
  · rw [pk_un e, h j (by omega)]
    simp only [List.getD_eq_getElem?_getD]
    rw [List.getElem?_append_left (by omega)]
set_option maxHeartbeats 4000000 in
set_option maxRecDepth 100000 in
theorem lp_read {p : Program} {l : Launch} {e : Env} {s : State} {m : MethodId} {args : Array Value} {below : List Frame} {meth : Method} {c : Code} {D : va_G} {A : Nat → Prop} {a : Nat → Nat} {dB dJ : ClassId} {Q : State → Prop} {cells slots : Nat} {R : Room} {ch rc : Int32} {fr fn ft : Nat → Int32} (C : gC RX0 cX0_read 4 (some .int) D (tyX dB dJ) A p s m args meth c) (x : Int32)
    (K : ∀ (fp : Nat → Int32) (H : Heap) (locs : List Loc) (ls : Array Slot), cd_dec x 4 → (∀ j, j < 4 → fp j = cd_pt x (nI j)) → gW D A s (wX a dB dJ (ch, fp, fr, rc, fn, ft)) H locs → lv_has ls 4 [(0, .ref (a 0)), (1, .int x), (2, .int (cd_ps x 4)), (3, .int (nI 4))] → W p l e R s m args below meth c H locs cells slots Q (F0 m 75 ls []))
    (K2 : ∀ (fp : Nat → Int32) (H : Heap) (locs : List Loc) (ls : Array Slot), ¬ cd_dec x 4 → gW D A s (wX a dB dJ (ch, fp, fr, rc, fn, ft)) H locs → W p l e R s m args below meth c H locs cells slots Q (F0 m 67 ls [])) :
    ∀ (n i : Nat), i + n = 4 → ∀ (fp : Nat → Int32) (H : Heap) (locs : List Loc) (ls : Array Slot), cd_dec x i → (∀ j, j < i → fp j = cd_pt x (nI j)) → gW D A s (wX a dB dJ (ch, fp, fr, rc, fn, ft)) H locs → lv_has ls 4 [(0, .ref (a 0)), (1, .int x), (2, .int (cd_ps x i)), (3, .int (nI i))] → W p l e R s m args below meth c H locs cells slots Q (F0 m 17 ls []) := by
  obtain ⟨hx, hb, hr, hml, hown, hts, hA, hK, hlocks⟩ := id C
  intro n
  induction n with
  | zero =>
    intro i hi fp H locs ls hd hf w hl
    obtain rfl : i = 4 := by omega
    refine lv_iload_n hx hb dX0_read_17 rfl (lv_at hl 3 rfl) ?_
    refine lv_iconst (v := 4) hx hb dX0_read_18 (by decide) ?_
    refine lv_icmp_ge (tgt := 75) hx hb dX0_read_19 (by decide) (fun _ => ?_) (fun hc => absurd (nI_le (a := 4) (Nat.le_refl 4) (by decide)) hc)
    exact K _ _ _ _ hd hf w (lv_sub hl [0, 1, 2, 3] rfl)
  | succ n ih =>
    intro i hi fp H locs ls hd hf w hl
    refine lv_iload_n hx hb dX0_read_17 rfl (lv_at hl 3 rfl) ?_
    refine lv_iconst (v := 4) hx hb dX0_read_18 (by decide) ?_
    refine lv_icmp_ge (tgt := 75) hx hb dX0_read_19 (by decide) (fun hc => absurd hc (nI_ge (b := 4) (by omega) (by decide))) (fun _ => ?_)
    refine lv_aload_n hx hb dX0_read_22 rfl (lv_at hl 0 rfl) ?_
    refine xg_p C w dX0_read_23 ?_
    refine lv_iload_n hx hb dX0_read_26 rfl (lv_at hl 3 rfl) ?_
    refine lv_iload_n hx hb dX0_read_27 rfl (lv_at hl 1 rfl) ?_
    refine lv_iconst (v := 3) hx hb dX0_read_28 (by decide) ?_
    refine lv_iload_n hx hb dX0_read_29 rfl (lv_at hl 3 rfl) ?_
    refine lv_imul hx hb dX0_read_30 ?_
    refine lv_ishr hx hb dX0_read_31 ?_
    refine lv_bipush (v := 7) hx hb dX0_read_32 (by decide) ?_
    refine lv_iand hx hb dX0_read_34 ?_
    refine cd_top (y := cd_pt x (nI i)) (rfl) ?_
    refine lv_i2b (v := cd_pt x (nI i)) hx hb dX0_read_35 (cd_pt_b x _) ?_
    refine xs_p C w i (by omega) (cd_pt_n x _) dX0_read_36 (fun H locs w => ?_)
    refine lv_iload_n hx hb dX0_read_37 rfl (lv_at hl 2 rfl) ?_
    refine lv_aload_n hx hb dX0_read_38 rfl (lv_at hl 0 rfl) ?_
    refine xg_p C w dX0_read_39 ?_
    refine lv_iload_n hx hb dX0_read_42 rfl (lv_at hl 3 rfl) ?_
    refine xl_p C w i (by omega) dX0_read_43 ?_
    refine cd_top (y := cd_pt x (nI i)) (pk_us) ?_
    refine lv_iadd hx hb dX0_read_44 ?_
    refine cd_top (y := cd_ps x (i + 1)) (rfl) ?_
    refine lv_istore_n (lv' := [(2, .int (cd_ps x (i + 1))), (0, .ref (a 0)), (1, .int (x)), (3, .int (nI i))]) hx hb dX0_read_45 rfl hl (by decide) rfl (fun ls hl => ?_)
    refine lv_iload_n hx hb dX0_read_46 rfl (lv_at hl 3 rfl) ?_
    refine lv_if_le (tgt := 69) hx hb dX0_read_47 (by decide) (fun hc47 => ?_) (fun hc47 => ?_)
    · refine lv_iinc (v := nI (i + 1)) (lv' := [(3, .int (nI (i + 1))), (2, .int (cd_ps x (i + 1))), (0, .ref (a 0)), (1, .int (x))]) hx hb dX0_read_69 hl (k := 3) rfl (nI_1 _) (by decide) rfl (fun ls hl => ?_)
      refine lv_goto (tgt := 17) hx hb dX0_read_72 (by decide) ?_
      exact ih (i + 1) (by omega) _ _ _ _ (cd_dec_s hd (fun h0 => absurd hc47 (nI_nle h0 (by omega)))) (cd_u (P := fun j z => z = cd_pt x (nI j)) hf rfl) w (lv_sub hl [2, 3, 1, 0] rfl)
    · have h0 : 0 < i := Nat.pos_of_ne_zero (fun h => hc47 (by subst h; decide))
      refine lv_aload_n hx hb dX0_read_50 rfl (lv_at hl 1 rfl) ?_
      refine xg_p C w dX0_read_51 ?_
      refine lv_iload_n hx hb dX0_read_54 rfl (lv_at hl 3 rfl) ?_
      refine xl_p C w i (by omega) dX0_read_55 ?_
      refine cd_top (y := cd_pt x (nI i)) (pk_us) ?_
      refine lv_aload_n hx hb dX0_read_56 rfl (lv_at hl 1 rfl) ?_
      refine xg_p C w dX0_read_57 ?_
      refine lv_iload_n hx hb dX0_read_60 rfl (lv_at hl 3 rfl) ?_
      refine lv_iconst (v := 1) hx hb dX0_read_61 (by decide) ?_
      refine lv_isub hx hb dX0_read_62 ?_
      refine cd_top (y := nI (i - 1)) (cd_m1 h0) ?_
      refine xl_p C w (i - 1) (by omega) dX0_read_63 ?_
      refine cd_top (y := cd_pt x (nI i - 1)) (by rw [pk_un (by omega), hf (i - 1) (by omega), cd_m1 h0]) ?_
      refine lv_icmp_le (tgt := 69) hx hb dX0_read_64 (by decide) (fun hc64 => ?_) (fun hc64 => ?_)
      · refine lv_iinc (v := nI (i + 1)) (lv' := [(3, .int (nI (i + 1))), (2, .int (cd_ps x (i + 1))), (0, .ref (a 0)), (1, .int (x))]) hx hb dX0_read_69 hl (k := 3) rfl (nI_1 _) (by decide) rfl (fun ls hl => ?_)
        refine lv_goto (tgt := 17) hx hb dX0_read_72 (by decide) ?_
        exact ih (i + 1) (by omega) _ _ _ _ (cd_dec_s hd (fun _ => hc64)) (cd_u (P := fun j z => z = cd_pt x (nI j)) hf rfl) w (lv_sub hl [2, 3, 1, 0] rfl)
      · exact K2 _ _ _ _ (fun h => hc64 (h i (by omega) h0)) w
set_option maxHeartbeats 4000000 in
set_option maxRecDepth 100000 in
/-- read: the number of which x is a partition; if it is one, its parts are at hand -/
theorem mX_read (l : Launch) (D : va_G) (a : Nat → Nat) (dB dJ : ClassId) (ch rc : Int32) (fp fr fn ft : Nat → Int32) (x : Int32) : gMi l yX0_read cX0_read 4 (some .int) (rmv 0) [.ref (a 0), .int x] D (tyX dB dJ) (wX a dB dJ) (ch, fp, fr, rc, fn, ft) (fun r u => r = cd_sum x ∧ ∃ fp' : Nat → Int32, u = (ch, fp', fr, rc, fn, ft) ∧ (r ≠ 0 → ∀ i, i < 4 → fp' i = cd_pt x (nI i))) := by
  refine gMi.of RX0 (by decide) rfl (Nat.le_of_ble_eq_true rfl) (fun p e s m below meth c A ls C w hl => ?_)
  obtain ⟨hx, hb, hr, hml, hown, hts, hA, hK, hlocks⟩ := id C
  refine lv_iload_n hx hb dX0_read_0 rfl (lv_at hl 1 rfl) ?_
  refine lv_if_lt (tgt := 11) hx hb dX0_read_1 (by decide) (fun hc1 => ?_) (fun hc1 => ?_)
  · refine lv_iconst (v := 0) hx hb dX0_read_11 (by decide) ?_
    exact gIret C w (⟨by unfold cd_sum; rw [if_pos (Or.inl hc1)], _, rfl, fun h => absurd rfl h⟩) dX0_read_12
  · refine lv_iload_n hx hb dX0_read_4 rfl (lv_at hl 1 rfl) ?_
    refine lv_sipush (v := 4095) hx hb dX0_read_5 (by decide) ?_
    refine lv_icmp_le (tgt := 13) hx hb dX0_read_8 (by decide) (fun hc8 => ?_) (fun hc8 => ?_)
    · have hn : ¬ (x < 0 ∨ 4095 < x) := fun h => h.elim hc1 (fun h => absurd hc8 (Int32.not_le.mpr h))
      refine lv_iconst (v := 0) hx hb dX0_read_13 (by decide) ?_
      refine lv_istore_n (lv' := [(2, .int (0)), (0, .ref (a 0)), (1, .int (x))]) hx hb dX0_read_14 rfl hl (by decide) rfl (fun ls hl => ?_)
      refine lv_iconst (v := 0) hx hb dX0_read_15 (by decide) ?_
      refine lv_istore_n (lv' := [(3, .int (0)), (2, .int (0)), (0, .ref (a 0)), (1, .int (x))]) hx hb dX0_read_16 rfl hl (by decide) rfl (fun ls hl => ?_)
      refine lp_read C x (fun fp H locs ls hd hf w hl => ?_) (fun fp H locs ls hd w => ?_) 4 0 rfl _ _ _ _ (fun j hj => absurd hj (Nat.not_lt_zero j)) (fun j hj => absurd hj (Nat.not_lt_zero j)) w (lv_sub hl [2, 3, 1, 0] rfl)
      · refine lv_iload_n hx hb dX0_read_75 rfl (lv_at hl 2 rfl) ?_
        refine lv_bipush (v := 7) hx hb dX0_read_76 (by decide) ?_
        refine lv_icmp_gt (tgt := 85) hx hb dX0_read_78 (by decide) (fun hc78 => ?_) (fun hc78 => ?_)
        · refine lv_iconst (v := 0) hx hb dX0_read_85 (by decide) ?_
          exact gIret C w (⟨by unfold cd_sum; rw [if_neg hn, if_neg (fun h => absurd h.2 (Int32.not_le.mpr hc78))], _, rfl, fun h => absurd rfl h⟩) dX0_read_86
        · refine lv_iload_n hx hb dX0_read_81 rfl (lv_at hl 2 rfl) ?_
          refine lv_goto (tgt := 86) hx hb dX0_read_82 (by decide) ?_
          exact gIret C w (⟨by unfold cd_sum; rw [if_neg hn, if_pos ⟨hd, Int32.not_lt.mp hc78⟩], _, rfl, fun _ => hf⟩) dX0_read_86
      · refine lv_iconst (v := 0) hx hb dX0_read_67 (by decide) ?_
        exact gIret C w (⟨by unfold cd_sum; rw [if_neg hn, if_neg (fun h => hd h.1)], _, rfl, fun h => absurd rfl h⟩) dX0_read_68
    · refine lv_iconst (v := 0) hx hb dX0_read_11 (by decide) ?_
      exact gIret C w (⟨by unfold cd_sum; rw [if_pos (Or.inr (Int32.not_le.mp hc8))], _, rfl, fun h => absurd rfl h⟩) dX0_read_12
set_option maxHeartbeats 4000000 in
set_option maxRecDepth 100000 in
theorem lp_marks {p : Program} {l : Launch} {e : Env} {s : State} {m : MethodId} {args : Array Value} {below : List Frame} {meth : Method} {c : Code} {D : va_G} {A : Nat → Prop} {a : Nat → Nat} {dB dJ : ClassId} {Q : State → Prop} {cells slots : Nat} {R : Room} {ch rc : Int32} {fp fr fn ft : Nat → Int32} (C : gC RX0 cX0_marks 3 (some .int) D (tyX dB dJ) A p s m args meth c) (P : Nat → Nat) (hP : ∀ i, i < 4 → fp i = nI (P i) ∧ P i < 8) {H : Heap} {locs : List Loc} (w : gW D A s (wX a dB dJ (ch, fp, fr, rc, fn, ft)) H locs)
    (K : ∀ ls : Array Slot, lv_has ls 3 [(0, .ref (a 0)), (1, .int (nI (cd_mk P 4))), (2, .int (nI 4))] → W p l e R s m args below meth c H locs cells slots Q (F0 m 32 ls [])) :
    ∀ (n i : Nat), i + n = 4 → ∀ ls : Array Slot, lv_has ls 3 [(0, .ref (a 0)), (1, .int (nI (cd_mk P i))), (2, .int (nI i))] → W p l e R s m args below meth c H locs cells slots Q (F0 m 4 ls []) := by
  obtain ⟨hx, hb, hr, hml, hown, hts, hA, hK, hlocks⟩ := id C
  intro n
  induction n with
  | zero =>
    intro i hi ls hl
    obtain rfl : i = 4 := by omega
    refine lv_iload_n hx hb dX0_marks_4 rfl (lv_at hl 2 rfl) ?_
    refine lv_iconst (v := 4) hx hb dX0_marks_5 (by decide) ?_
    refine lv_icmp_ge (tgt := 32) hx hb dX0_marks_6 (by decide) (fun _ => ?_) (fun hc => absurd (nI_le (a := 4) (Nat.le_refl 4) (by decide)) hc)
    exact K _ (lv_sub hl [0, 1, 2] rfl)
  | succ n ih =>
    intro i hi ls hl
    have hp := hP i (by omega)
    refine lv_iload_n hx hb dX0_marks_4 rfl (lv_at hl 2 rfl) ?_
    refine lv_iconst (v := 4) hx hb dX0_marks_5 (by decide) ?_
    refine lv_icmp_ge (tgt := 32) hx hb dX0_marks_6 (by decide) (fun hc => absurd hc (nI_ge (b := 4) (by omega) (by decide))) (fun _ => ?_)
    refine lv_iload_n hx hb dX0_marks_9 rfl (lv_at hl 1 rfl) ?_
    refine lv_iconst (v := 1) hx hb dX0_marks_10 (by decide) ?_
    refine lv_aload_n hx hb dX0_marks_11 rfl (lv_at hl 0 rfl) ?_
    refine xg_p C w dX0_marks_12 ?_
    refine lv_iload_n hx hb dX0_marks_15 rfl (lv_at hl 2 rfl) ?_
    refine xl_p C w i (by omega) dX0_marks_16 ?_
    refine cd_top (y := nI (P i)) (hp.1) ?_
    refine lv_iconst (v := 4) hx hb dX0_marks_17 (by decide) ?_
    refine lv_iadd hx hb dX0_marks_18 ?_
    refine lv_iconst (v := 1) hx hb dX0_marks_19 (by decide) ?_
    refine lv_isub hx hb dX0_marks_20 ?_
    refine lv_iload_n hx hb dX0_marks_21 rfl (lv_at hl 2 rfl) ?_
    refine lv_isub hx hb dX0_marks_22 ?_
    refine cd_top (y := nI (P i + 3 - i)) (cd_mkx (by omega)) ?_
    refine lv_ishl hx hb dX0_marks_23 ?_
    refine cd_top (y := nI (2 ^ (P i + 3 - i))) (cd_one_shl (by omega)) ?_
    refine lv_ior hx hb dX0_marks_24 ?_
    refine cd_top (y := nI (cd_mk P (i + 1))) (cd_or _ _) ?_
    refine lv_istore_n (lv' := [(1, .int (nI (cd_mk P (i + 1)))), (0, .ref (a 0)), (2, .int (nI i))]) hx hb dX0_marks_25 rfl hl (by decide) rfl (fun ls hl => ?_)
    refine lv_iinc (v := nI (i + 1)) (lv' := [(2, .int (nI (i + 1))), (1, .int (nI (cd_mk P (i + 1)))), (0, .ref (a 0))]) hx hb dX0_marks_26 hl (k := 2) rfl (nI_1 _) (by decide) rfl (fun ls hl => ?_)
    refine lv_goto (tgt := 4) hx hb dX0_marks_29 (by decide) ?_
    exact ih (i + 1) (by omega) _ (lv_sub hl [2, 1, 0] rfl)
set_option maxHeartbeats 4000000 in
set_option maxRecDepth 100000 in
theorem mX_marks (l : Launch) (D : va_G) (a : Nat → Nat) (dB dJ : ClassId) (ch rc : Int32) (fp fr fn ft : Nat → Int32) (P : Nat → Nat) (hP : ∀ i, i < 4 → fp i = nI (P i) ∧ P i < 8) : gMi l yX0_marks cX0_marks 3 (some .int) (rmv 0) [.ref (a 0)] D (tyX dB dJ) (wX a dB dJ) (ch, fp, fr, rc, fn, ft) (fun r u => r = nI (cd_mk P 4) ∧ u = (ch, fp, fr, rc, fn, ft)) := by
  refine gMi.of RX0 (by decide) rfl (Nat.le_of_ble_eq_true rfl) (fun p e s m below meth c A ls C w hl => ?_)
  obtain ⟨hx, hb, hr, hml, hown, hts, hA, hK, hlocks⟩ := id C
  refine lv_iconst (v := 0) hx hb dX0_marks_0 (by decide) ?_
  refine lv_istore_n (lv' := [(1, .int (0)), (0, .ref (a 0))]) hx hb dX0_marks_1 rfl hl (by decide) rfl (fun ls hl => ?_)
  refine lv_iconst (v := 0) hx hb dX0_marks_2 (by decide) ?_
  refine lv_istore_n (lv' := [(2, .int (0)), (1, .int (0)), (0, .ref (a 0))]) hx hb dX0_marks_3 rfl hl (by decide) rfl (fun ls hl => ?_)
  refine lp_marks C P hP w (fun ls hl => ?_) 4 0 rfl _ (lv_sub hl [2, 1, 0] rfl)
  refine lv_iload_n hx hb dX0_marks_32 rfl (lv_at hl 1 rfl) ?_
  exact gIret C w (⟨rfl, rfl⟩) dX0_marks_33
set_option maxHeartbeats 4000000 in
set_option maxRecDepth 100000 in
theorem lp_wantParts {p : Program} {l : Launch} {e : Env} {s : State} {m : MethodId} {args : Array Value} {below : List Frame} {meth : Method} {c : Code} {D : va_G} {A : Nat → Prop} {a : Nat → Nat} {dB dJ : ClassId} {Q : State → Prop} {cells slots : Nat} {R : Room} {ch : Int32} {fp fn ft : Nat → Int32} (C : gC RX0 cX0_wantParts 2 none D (tyX dB dJ) A p s m args meth c) (P : Nat → Nat) (hP : ∀ i, i < 4 → fp i = nI (P i) ∧ P i < 8)
    (K : ∀ (fr : Nat → Int32) (H : Heap) (locs : List Loc) (ls : Array Slot), (∀ j, j < (cd_rims P 4).length → fr j = nI ((cd_rims P 4).getD j 0)) → gW D A s (wX a dB dJ (ch, fp, fr, nI (cd_rims P 4).length, fn, ft)) H locs → W p l e R s m args below meth c H locs cells slots Q (F0 m 52 ls [])) :
    ∀ (n i : Nat), i + n = 4 → ∀ (fr : Nat → Int32) (H : Heap) (locs : List Loc) (ls : Array Slot), (∀ j, j < (cd_rims P i).length → fr j = nI ((cd_rims P i).getD j 0)) → gW D A s (wX a dB dJ (ch, fp, fr, nI (cd_rims P i).length, fn, ft)) H locs → lv_has ls 2 [(0, .ref (a 0)), (1, .int (nI i))] → W p l e R s m args below meth c H locs cells slots Q (F0 m 7 ls []) := by
  obtain ⟨hx, hb, hr, hml, hown, hts, hA, hK, hlocks⟩ := id C
  intro n
  induction n with
  | zero =>
    intro i hi fr H locs ls hf w hl
    obtain rfl : i = 4 := by omega
    refine lv_iload_n hx hb dX0_wantParts_7 rfl (lv_at hl 1 rfl) ?_
    refine lv_iconst (v := 4) hx hb dX0_wantParts_8 (by decide) ?_
    refine lv_icmp_ge (tgt := 52) hx hb dX0_wantParts_9 (by decide) (fun _ => ?_) (fun hc => absurd (nI_le (a := 4) (Nat.le_refl 4) (by decide)) hc)
    exact K _ _ _ _ hf w
  | succ n ih =>
    intro i hi fr H locs ls hf w hl
    have hp := hP i (by omega)
    have hlen := cd_rims_len P i
    refine lv_iload_n hx hb dX0_wantParts_7 rfl (lv_at hl 1 rfl) ?_
    refine lv_iconst (v := 4) hx hb dX0_wantParts_8 (by decide) ?_
    refine lv_icmp_ge (tgt := 52) hx hb dX0_wantParts_9 (by decide) (fun hc => absurd hc (nI_ge (b := 4) (by omega) (by decide))) (fun _ => ?_)
    refine lv_aload_n hx hb dX0_wantParts_12 rfl (lv_at hl 0 rfl) ?_
    refine xg_p C w dX0_wantParts_13 ?_
    refine lv_iload_n hx hb dX0_wantParts_16 rfl (lv_at hl 1 rfl) ?_
    refine xl_p C w i (by omega) dX0_wantParts_17 ?_
    refine cd_top (y := nI (P i)) (hp.1) ?_
    refine lv_if_le (tgt := 46) hx hb dX0_wantParts_18 (by decide) (fun hc18 => ?_) (fun hc18 => ?_)
    · have er : cd_rims P (i + 1) = cd_rims P i := if_neg (fun h => nI_nle h (by omega) hc18)
      refine lv_iinc (v := nI (i + 1)) (lv' := [(1, .int (nI (i + 1))), (0, .ref (a 0))]) hx hb dX0_wantParts_46 hl (k := 1) rfl (nI_1 _) (by decide) rfl (fun ls hl => ?_)
      refine lv_goto (tgt := 7) hx hb dX0_wantParts_49 (by decide) ?_
      exact ih (i + 1) (by omega) fr _ _ _ (by rw [er]; exact hf) (by rw [er]; exact w) (lv_sub hl [1, 0] rfl)
    · have er : cd_rims P (i + 1) = cd_rims P i ++ [P i] := if_pos (Nat.pos_of_ne_zero (fun h => hc18 (by rw [h]; decide)))
      refine lv_aload_n hx hb dX0_wantParts_21 rfl (lv_at hl 0 rfl) ?_
      refine xg_r C w dX0_wantParts_22 ?_
      refine lv_aload_n hx hb dX0_wantParts_25 rfl (lv_at hl 0 rfl) ?_
      refine xg_rc C w dX0_wantParts_26 ?_
      refine lv_aload_n hx hb dX0_wantParts_29 rfl (lv_at hl 0 rfl) ?_
      refine xg_p C w dX0_wantParts_30 ?_
      refine lv_iload_n hx hb dX0_wantParts_33 rfl (lv_at hl 1 rfl) ?_
      refine xl_p C w i (by omega) dX0_wantParts_34 ?_
      refine cd_top (y := nI (P i)) (hp.1) ?_
      refine xs_r C w ((cd_rims P i).length) (by omega) (cd_byte hp.2) dX0_wantParts_35 (fun H locs w => ?_)
      refine lv_aload_n hx hb dX0_wantParts_36 rfl (lv_at hl 0 rfl) ?_
      refine lv_dup hx hb dX0_wantParts_37 rfl ?_
      refine xg_rc C w dX0_wantParts_38 ?_
      refine lv_iconst (v := 1) hx hb dX0_wantParts_41 (by decide) ?_
      refine lv_iadd hx hb dX0_wantParts_42 ?_
      refine cd_top (y := nI (cd_rims P (i + 1)).length) (by rw [er, List.length_append]; exact nI_1 _) ?_
      refine xp_rc C w dX0_wantParts_43 (fun H locs w => ?_)
      refine lv_iinc (v := nI (i + 1)) (lv' := [(1, .int (nI (i + 1))), (0, .ref (a 0))]) hx hb dX0_wantParts_46 hl (k := 1) rfl (nI_1 _) (by decide) rfl (fun ls hl => ?_)
      refine lv_goto (tgt := 7) hx hb dX0_wantParts_49 (by decide) ?_
      exact ih (i + 1) (by omega) _ _ _ _ (by rw [er]; exact cd_rims_put hf) w (lv_sub hl [1, 0] rfl)
set_option maxHeartbeats 4000000 in
set_option maxRecDepth 100000 in
theorem mX_wantParts (l : Launch) (D : va_G) (a : Nat → Nat) (dB dJ : ClassId) (ch rc : Int32) (fp fr fn ft : Nat → Int32) (P : Nat → Nat) (hP : ∀ i, i < 4 → fp i = nI (P i) ∧ P i < 8) : gMv l yX0_wantParts cX0_wantParts 2 (rmv 0) [.ref (a 0)] D (tyX dB dJ) (wX a dB dJ) (ch, fp, fr, rc, fn, ft) (fun u => ∃ fr' : Nat → Int32, u = (ch, fp, fr', nI (cd_rims P 4).length, fn, ft) ∧ ∀ j, j < (cd_rims P 4).length → fr' j = nI ((cd_rims P 4).getD j 0)) := by
  refine gMv.of RX0 (by decide) rfl (Nat.le_of_ble_eq_true rfl) (fun p e s m below meth c A ls C w hl => ?_)
  obtain ⟨hx, hb, hr, hml, hown, hts, hA, hK, hlocks⟩ := id C
  refine lv_aload_n hx hb dX0_wantParts_0 rfl (lv_at hl 0 rfl) ?_
  refine lv_iconst (v := 0) hx hb dX0_wantParts_1 (by decide) ?_
  refine xp_rc C w dX0_wantParts_2 (fun H locs w => ?_)
  refine lv_iconst (v := 0) hx hb dX0_wantParts_5 (by decide) ?_
  refine lv_istore_n (lv' := [(1, .int (0)), (0, .ref (a 0))]) hx hb dX0_wantParts_6 rfl hl (by decide) rfl (fun ls hl => ?_)
  refine lp_wantParts C P hP (fun fr H locs ls hf w => ?_) 4 0 rfl fr _ _ _ (fun j hj => absurd hj (Nat.not_lt_zero j)) w (lv_sub hl [1, 0] rfl)
  exact gVret C w (⟨_, rfl, hf⟩) dX0_wantParts_52
set_option maxHeartbeats 4000000 in
set_option maxRecDepth 100000 in
theorem lp_wantOnes {p : Program} {l : Launch} {e : Env} {s : State} {m : MethodId} {args : Array Value} {below : List Frame} {meth : Method} {c : Code} {D : va_G} {A : Nat → Prop} {a : Nat → Nat} {dB dJ : ClassId} {Q : State → Prop} {cells slots : Nat} {R : Room} {ch : Int32} {fp fn ft : Nat → Int32} (C : gC RX0 cX0_wantOnes 3 none D (tyX dB dJ) A p s m args meth c) (k : Nat) (hk : k ≤ 7)
    (K : ∀ (fr : Nat → Int32) (H : Heap) (locs : List Loc) (ls : Array Slot), (∀ j, j < k → fr j = 1) → gW D A s (wX a dB dJ (ch, fp, fr, nI k, fn, ft)) H locs → W p l e R s m args below meth c H locs cells slots Q (F0 m 25 ls [])) :
    ∀ (n i : Nat), i + n = k → ∀ (fr : Nat → Int32) (H : Heap) (locs : List Loc) (ls : Array Slot), (∀ j, j < i → fr j = 1) → gW D A s (wX a dB dJ (ch, fp, fr, nI k, fn, ft)) H locs → lv_has ls 3 [(0, .ref (a 0)), (1, .int (nI k)), (2, .int (nI i))] → W p l e R s m args below meth c H locs cells slots Q (F0 m 7 ls []) := by
  obtain ⟨hx, hb, hr, hml, hown, hts, hA, hK, hlocks⟩ := id C
  intro n
  induction n with
  | zero =>
    intro i hi fr H locs ls hf w hl
    obtain rfl : i = k := by omega
    refine lv_iload_n hx hb dX0_wantOnes_7 rfl (lv_at hl 2 rfl) ?_
    refine lv_iload_n hx hb dX0_wantOnes_8 rfl (lv_at hl 1 rfl) ?_
    refine lv_icmp_ge (tgt := 25) hx hb dX0_wantOnes_9 (by decide) (fun _ => ?_) (fun hc => absurd (nI_le (Nat.le_refl i) (by omega)) hc)
    exact K _ _ _ _ hf w
  | succ n ih =>
    intro i hi fr H locs ls hf w hl
    refine lv_iload_n hx hb dX0_wantOnes_7 rfl (lv_at hl 2 rfl) ?_
    refine lv_iload_n hx hb dX0_wantOnes_8 rfl (lv_at hl 1 rfl) ?_
    refine lv_icmp_ge (tgt := 25) hx hb dX0_wantOnes_9 (by decide) (fun hc => absurd hc (nI_ge (by omega) (by omega))) (fun _ => ?_)
    refine lv_aload_n hx hb dX0_wantOnes_12 rfl (lv_at hl 0 rfl) ?_
    refine xg_r C w dX0_wantOnes_13 ?_
    refine lv_iload_n hx hb dX0_wantOnes_16 rfl (lv_at hl 2 rfl) ?_
    refine lv_iconst (v := 1) hx hb dX0_wantOnes_17 (by decide) ?_
    refine xs_r C w i (by omega) (cd_byte (j := 1) (by decide)) dX0_wantOnes_18 (fun H locs w => ?_)
    refine lv_iinc (v := nI (i + 1)) (lv' := [(2, .int (nI (i + 1))), (0, .ref (a 0)), (1, .int (nI k))]) hx hb dX0_wantOnes_19 hl (k := 2) rfl (nI_1 _) (by decide) rfl (fun ls hl => ?_)
    refine lv_goto (tgt := 7) hx hb dX0_wantOnes_22 (by decide) ?_
    exact ih (i + 1) (by omega) _ _ _ _ (cd_u (P := fun j z => z = 1) hf rfl) w (lv_sub hl [1, 2, 0] rfl)
set_option maxHeartbeats 4000000 in
set_option maxRecDepth 100000 in
theorem mX_wantOnes (l : Launch) (D : va_G) (a : Nat → Nat) (dB dJ : ClassId) (ch rc : Int32) (fp fr fn ft : Nat → Int32) (k : Nat) (hk : k ≤ 7) : gMv l yX0_wantOnes cX0_wantOnes 3 (rmv 0) [.ref (a 0), .int (nI k)] D (tyX dB dJ) (wX a dB dJ) (ch, fp, fr, rc, fn, ft) (fun u => ∃ fr' : Nat → Int32, u = (ch, fp, fr', nI k, fn, ft) ∧ ∀ j, j < k → fr' j = 1) := by
  refine gMv.of RX0 (by decide) rfl (Nat.le_of_ble_eq_true rfl) (fun p e s m below meth c A ls C w hl => ?_)
  obtain ⟨hx, hb, hr, hml, hown, hts, hA, hK, hlocks⟩ := id C
  refine lv_aload_n hx hb dX0_wantOnes_0 rfl (lv_at hl 0 rfl) ?_
  refine lv_iload_n hx hb dX0_wantOnes_1 rfl (lv_at hl 1 rfl) ?_
  refine xp_rc C w dX0_wantOnes_2 (fun H locs w => ?_)
  refine lv_iconst (v := 0) hx hb dX0_wantOnes_5 (by decide) ?_
  refine lv_istore_n (lv' := [(2, .int (0)), (0, .ref (a 0)), (1, .int (nI k))]) hx hb dX0_wantOnes_6 rfl hl (by decide) rfl (fun ls hl => ?_)
  refine lp_wantOnes C k hk (fun fr H locs ls hf w => ?_) k 0 (Nat.zero_add k) fr _ _ _ (fun j hj => absurd hj (Nat.not_lt_zero j)) w (lv_sub hl [1, 2, 0] rfl)
  exact gVret C w (⟨_, rfl, hf⟩) dX0_wantOnes_25
set_option maxHeartbeats 4000000 in
set_option maxRecDepth 100000 in
theorem lp_between {p : Program} {l : Launch} {e : Env} {s : State} {m : MethodId} {args : Array Value} {below : List Frame} {meth : Method} {c : Code} {D : va_G} {A : Nat → Prop} {dB dJ : ClassId} {Q : State → Prop} {cells slots : Nat} {R : Room} {H : Heap} {locs : List Loc} (C : gC RX0 cX0_between 5 (some .int) D (tyX dB dJ) A p s m args meth c) (set lo k : Nat) (hset : set < 2048) (hk : lo + 1 + k < 31)
    (K : ∀ ls : Array Slot, lv_has ls 5 [(0, .int (nI set)), (1, .int (nI lo)), (2, .int (nI (lo + 1 + k))), (3, .int (nI (cd_btw set lo k))), (4, .int (nI (lo + 1 + k)))] → W p l e R s m args below meth c H locs cells slots Q (F0 m 28 ls [])) :
    ∀ (n i : Nat), i + n = k → ∀ ls : Array Slot, lv_has ls 5 [(0, .int (nI set)), (1, .int (nI lo)), (2, .int (nI (lo + 1 + k))), (3, .int (nI (cd_btw set lo i))), (4, .int (nI (lo + 1 + i)))] → W p l e R s m args below meth c H locs cells slots Q (F0 m 7 ls []) := by
  obtain ⟨hx, hb, hr, hml, hown, hts, hA, hK, hlocks⟩ := id C
  intro n
  induction n with
  | zero =>
    intro i hi ls hl
    obtain rfl : i = k := by omega
    refine lv_iload hx hb dX0_between_7 (lv_at hl 4 rfl) ?_
    refine lv_iload_n hx hb dX0_between_9 rfl (lv_at hl 2 rfl) ?_
    refine lv_icmp_ge (tgt := 28) hx hb dX0_between_10 (by decide) (fun _ => ?_) (fun hc => absurd (nI_le (Nat.le_refl _) (by omega)) hc)
    exact K _ (lv_sub hl [0, 1, 2, 3, 4] rfl)
  | succ n ih =>
    intro i hi ls hl
    refine lv_iload hx hb dX0_between_7 (lv_at hl 4 rfl) ?_
    refine lv_iload_n hx hb dX0_between_9 rfl (lv_at hl 2 rfl) ?_
    refine lv_icmp_ge (tgt := 28) hx hb dX0_between_10 (by decide) (fun hc => absurd hc (nI_ge (by omega) (by omega))) (fun _ => ?_)
    refine lv_iload_n hx hb dX0_between_13 rfl (lv_at hl 3 rfl) ?_
    refine lv_iload_n hx hb dX0_between_14 rfl (lv_at hl 0 rfl) ?_
    refine lv_iload hx hb dX0_between_15 (lv_at hl 4 rfl) ?_
    refine lv_ishr hx hb dX0_between_17 ?_
    refine lv_iconst (v := 1) hx hb dX0_between_18 (by decide) ?_
    refine lv_iand hx hb dX0_between_19 ?_
    refine cd_top (y := nI (cd_bit set (lo + 1 + i))) (cd_bit_eq hset (by omega)) ?_
    refine lv_iadd hx hb dX0_between_20 ?_
    refine cd_top (y := nI (cd_btw set lo (i + 1))) (nI_add _ _) ?_
    refine lv_istore_n (lv' := [(3, .int (nI (cd_btw set lo (i + 1)))), (0, .int (nI set)), (1, .int (nI lo)), (2, .int (nI (lo + 1 + k))), (4, .int (nI (lo + 1 + i)))]) hx hb dX0_between_21 rfl hl (by decide) rfl (fun ls hl => ?_)
    refine lv_iinc (v := nI (lo + 1 + (i + 1))) (lv' := [(4, .int (nI (lo + 1 + (i + 1)))), (3, .int (nI (cd_btw set lo (i + 1)))), (0, .int (nI set)), (1, .int (nI lo)), (2, .int (nI (lo + 1 + k)))]) hx hb dX0_between_22 hl (k := 4) rfl (nI_1 _) (by decide) rfl (fun ls hl => ?_)
    refine lv_goto (tgt := 7) hx hb dX0_between_25 (by decide) ?_
    exact ih (i + 1) (by omega) _ (lv_sub hl [2, 3, 4, 1, 0] rfl)
set_option maxHeartbeats 4000000 in
set_option maxRecDepth 100000 in
theorem mX_between (l : Launch) (D : va_G) (a : Nat → Nat) (dB dJ : ClassId) (ch rc : Int32) (fp fr fn ft : Nat → Int32) (set lo k : Nat) (hset : set < 2048) (hk : lo + 1 + k < 31) : gMi l yX0_between cX0_between 5 (some .int) (rmv 0) [.int (nI set), .int (nI lo), .int (nI (lo + 1 + k))] D (tyX dB dJ) (wX a dB dJ) (ch, fp, fr, rc, fn, ft) (fun r u => r = nI (cd_btw set lo k) ∧ u = (ch, fp, fr, rc, fn, ft)) := by
  refine gMi.of RX0 (by decide) rfl (Nat.le_of_ble_eq_true rfl) (fun p e s m below meth c A ls C w hl => ?_)
  obtain ⟨hx, hb, hr, hml, hown, hts, hA, hK, hlocks⟩ := id C
  refine lv_iconst (v := 0) hx hb dX0_between_0 (by decide) ?_
  refine lv_istore_n (lv' := [(3, .int (0)), (0, .int (nI set)), (1, .int (nI lo)), (2, .int (nI (lo + 1 + k)))]) hx hb dX0_between_1 rfl hl (by decide) rfl (fun ls hl => ?_)
  refine lv_iload_n hx hb dX0_between_2 rfl (lv_at hl 2 rfl) ?_
  refine lv_iconst (v := 1) hx hb dX0_between_3 (by decide) ?_
  refine lv_iadd hx hb dX0_between_4 ?_
  refine cd_top (y := nI (lo + 1 + 0)) (nI_1 _) ?_
  refine lv_istore (lv' := [(4, .int (nI (lo + 1 + 0))), (3, .int (0)), (0, .int (nI set)), (1, .int (nI lo)), (2, .int (nI (lo + 1 + k)))]) hx hb dX0_between_5 hl (by decide) rfl (fun ls hl => ?_)
  refine lp_between C set lo k hset hk (fun ls hl => ?_) k 0 (Nat.zero_add k) _ (lv_sub hl [2, 3, 4, 1, 0] rfl)
  refine lv_iload_n hx hb dX0_between_28 rfl (lv_at hl 3 rfl) ?_
  exact gIret C w (⟨rfl, rfl⟩) dX0_between_29
set_option maxHeartbeats 4000000 in
set_option maxRecDepth 100000 in
theorem mX_isNumber (l : Launch) (D : va_G) (a : Nat → Nat) (dB dJ : ClassId) (ch rc : Int32) (fp fr fn ft : Nat → Int32) (x : Int32) : gMi l yX0_isNumber cX0_isNumber 1 (some .boolean) (rmv 0) [.int x] D (tyX dB dJ) (wX a dB dJ) (ch, fp, fr, rc, fn, ft) (fun r u => r = (if 1 ≤ x ∧ x ≤ 7 then 1 else 0) ∧ u = (ch, fp, fr, rc, fn, ft)) := by
  refine gMi.of RX0 (by decide) rfl (Nat.le_of_ble_eq_true rfl) (fun p e s m below meth c A ls C w hl => ?_)
  obtain ⟨hx, hb, hr, hml, hown, hts, hA, hK, hlocks⟩ := id C
  refine lv_iload_n hx hb dX0_isNumber_0 rfl (lv_at hl 0 rfl) ?_
  refine lv_iconst (v := 1) hx hb dX0_isNumber_1 (by decide) ?_
  refine lv_icmp_lt (tgt := 15) hx hb dX0_isNumber_2 (by decide) (fun hc2 => ?_) (fun hc2 => ?_)
  · refine lv_iconst (v := 0) hx hb dX0_isNumber_15 (by decide) ?_
    exact gZret C w (rfl) (⟨by rw [if_neg (fun h => absurd h.1 (Int32.not_le.mpr hc2))], rfl⟩) dX0_isNumber_16
  · refine lv_iload_n hx hb dX0_isNumber_5 rfl (lv_at hl 0 rfl) ?_
    refine lv_bipush (v := 7) hx hb dX0_isNumber_6 (by decide) ?_
    refine lv_icmp_gt (tgt := 15) hx hb dX0_isNumber_8 (by decide) (fun hc8 => ?_) (fun hc8 => ?_)
    · refine lv_iconst (v := 0) hx hb dX0_isNumber_15 (by decide) ?_
      exact gZret C w (rfl) (⟨by rw [if_neg (fun h => absurd h.2 (Int32.not_le.mpr hc8))], rfl⟩) dX0_isNumber_16
    · refine lv_iconst (v := 1) hx hb dX0_isNumber_11 (by decide) ?_
      refine lv_goto (tgt := 16) hx hb dX0_isNumber_12 (by decide) ?_
      exact gZret C w (rfl) (⟨by rw [if_pos ⟨Int32.not_lt.mp hc2, Int32.not_lt.mp hc8⟩], rfl⟩) dX0_isNumber_16
set_option maxHeartbeats 4000000 in
set_option maxRecDepth 100000 in
theorem mX_shape (l : Launch) (D : va_G) (a : Nat → Nat) (dB dJ : ClassId) (ch rc : Int32) (fp fr fn ft : Nat → Int32) : gMi l yX0_shape cX0_shape 1 (some .int) (rmv 0) [.ref (a 0)] D (tyX dB dJ) (wX a dB dJ) (ch, fp, fr, rc, fn, ft) (fun r u => r = ch ∧ u = (ch, fp, fr, rc, fn, ft)) := by
  refine gMi.of RX0 (by decide) rfl (Nat.le_of_ble_eq_true rfl) (fun p e s m below meth c A ls C w hl => ?_)
  obtain ⟨hx, hb, hr, hml, hown, hts, hA, hK, hlocks⟩ := id C
  refine lv_aload_n hx hb dX0_shape_0 rfl (lv_at hl 0 rfl) ?_
  refine xg_ch C w dX0_shape_1 ?_
  exact gIret C w (⟨rfl, rfl⟩) dX0_shape_4
end
section
/-! CharacterDesk: move, strip (printed by gen_X2.py) -/
set_option maxRecDepth 100000
theorem cd_mv_no {g : Nat → Int32} {set len k : Nat} (h : ¬ (cd_bit set (len + k) = 1 ∧ cd_bit set k = 0)) : cd_mv g set len (k + 1) = cd_mv g set len k := by
  show cd_mv g set len k + (if cd_bit set (len + k) = 1 ∧ cd_bit set k = 0 then _ else 0) = _
  rw [if_neg h, Int32.add_zero]
theorem cd_mv_yes {g : Nat → Int32} {set len k : Nat} (h : cd_bit set (len + k) = 1 ∧ cd_bit set k = 0) : cd_mv g set len (k + 1) = cd_mv g set len k + (if cd_btw set k (len - 1) % 2 = 0 then g (cd_nx set (len + k) k) else - g (cd_nx set (len + k) k)) := by
  show cd_mv g set len k + (if cd_bit set (len + k) = 1 ∧ cd_bit set k = 0 then _ else 0) = _
  rw [if_pos h]
theorem cd_mv_p {g ft ft0 fn : Nat → Int32} {set len k : Nat} (h : cd_bit set (len + k) = 1 ∧ cd_bit set k = 0) (hn : cd_nx set (len + k) k < 2048) (hb : cd_btw set k (len - 1) % 2 = 0) (hf : cd_dot ft g 2048 = cd_dot ft0 g 2048 + fn set * cd_mv g set len k) :
    cd_dot (upd ft (cd_nx set (len + k) k) (ft (cd_nx set (len + k) k) + fn set)) g 2048 = cd_dot ft0 g 2048 + fn set * cd_mv g set len (k + 1) := by
  rw [cd_dot_add hn, hf, cd_mv_yes h, if_pos hb]
  grind
theorem cd_mv_m {g ft ft0 fn : Nat → Int32} {set len k : Nat} (h : cd_bit set (len + k) = 1 ∧ cd_bit set k = 0) (hn : cd_nx set (len + k) k < 2048) (hb : ¬ cd_btw set k (len - 1) % 2 = 0) (hf : cd_dot ft g 2048 = cd_dot ft0 g 2048 + fn set * cd_mv g set len k) :
    cd_dot (upd ft (cd_nx set (len + k) k) (ft (cd_nx set (len + k) k) + -fn set)) g 2048 = cd_dot ft0 g 2048 + fn set * cd_mv g set len (k + 1) := by
  rw [cd_dot_add hn, hf, cd_mv_yes h, if_neg hb]
  grind
theorem cd_drop {L : List Nat} {k : Nat} (h : k < L.length) : L.drop k = L.getD k 0 :: L.drop (k + 1) := by
  rw [List.drop_eq_getElem_cons h]
  congr 1
  rw [List.getD_eq_getElem?_getD, List.getElem?_eq_getElem h]
  rfl
theorem cd_getD_in {L : List Nat} {k : Nat} (h : k < L.length) : L.getD k 0 ∈ L := by
  rw [List.getD_eq_getElem?_getD, List.getElem?_eq_getElem h]
  exact List.getElem_mem h
set_option maxHeartbeats 4000000 in
set_option maxRecDepth 100000 in
theorem lp_move {p : Program} {l : Launch} {e : Env} {s : State} {m : MethodId} {args : Array Value} {below : List Frame} {meth : Method} {c : Code} {D : va_G} {A : Nat → Prop} {a : Nat → Nat} {dB dJ : ClassId} {Q : State → Prop} {ch rc : Int32} {fp fr fn ft0 : Nat → Int32} (C : gC RX0 cX0_move 7 none D (tyX dB dJ) A p s m args meth c) (set len : Nat) (hset : set < 2048) (h1 : 1 ≤ len) (h7 : len ≤ 7)
    (K : ∀ (ft : Nat → Int32) (H : Heap) (locs : List Loc) (ls : Array Slot), (∀ g : Nat → Int32, cd_dot ft g 2048 = cd_dot ft0 g 2048 + fn set * cd_mv g set len (11 - len)) → gW D A s (wX a dB dJ (ch, fp, fr, rc, fn, ft)) H locs → W p l e (rmv 1) s m args below meth c H locs 0 0 Q (F0 m 92 ls [])) :
    ∀ (n k : Nat), k + n = 11 - len → ∀ (ft : Nat → Int32) (H : Heap) (locs : List Loc) (ls : Array Slot), (∀ g : Nat → Int32, cd_dot ft g 2048 = cd_dot ft0 g 2048 + fn set * cd_mv g set len k) → gW D A s (wX a dB dJ (ch, fp, fr, rc, fn, ft)) H locs → lv_has ls 7 [(0, .ref (a 0)), (1, .int (nI set)), (2, .int (nI len)), (3, .int (nI (len + k)))] → W p l e (rmv 1) s m args below meth c H locs 0 0 Q (F0 m 2 ls []) := by
  obtain ⟨hx, hb, hr, hml, hown, hts, hA, hK, hlocks⟩ := id C
  intro n
  induction n with
  | zero =>
    intro k hk ft H locs ls hf w hl
    have ek : k = 11 - len := by omega
    refine lv_iload_n hx hb dX0_move_2 rfl (lv_at hl 3 rfl) ?_
    refine lv_bipush (v := 11) hx hb dX0_move_3 (by decide) ?_
    refine lv_icmp_ge (tgt := 92) hx hb dX0_move_5 (by decide) (fun _ => ?_) (fun hc => absurd (nI_le (a := 11) (by omega) (by omega)) hc)
    exact K _ _ _ _ (by rw [← ek]; exact hf) w
  | succ n ih =>
    intro k hk ft H locs ls hf w hl
    have hnx : cd_nx set (len + k) k < 2048 := cd_nx_lt hset (by omega)
    refine lv_iload_n hx hb dX0_move_2 rfl (lv_at hl 3 rfl) ?_
    refine lv_bipush (v := 11) hx hb dX0_move_3 (by decide) ?_
    refine lv_icmp_ge (tgt := 92) hx hb dX0_move_5 (by decide) (fun hc => absurd hc (nI_ge (b := 11) (by omega) (by decide))) (fun _ => ?_)
    refine lv_iload_n hx hb dX0_move_8 rfl (lv_at hl 3 rfl) ?_
    refine lv_iload_n hx hb dX0_move_9 rfl (lv_at hl 2 rfl) ?_
    refine lv_isub hx hb dX0_move_10 ?_
    refine cd_top (y := nI k) (by rw [pk_sub (by omega), Nat.add_sub_cancel_left]) ?_
    refine lv_istore (lv' := [(4, .int (nI k)), (0, .ref (a 0)), (1, .int (nI set)), (2, .int (nI len)), (3, .int (nI (len + k)))]) hx hb dX0_move_11 hl (by decide) rfl (fun ls hl => ?_)
    refine lv_iload_n hx hb dX0_move_13 rfl (lv_at hl 2 rfl) ?_
    refine lv_iload_n hx hb dX0_move_14 rfl (lv_at hl 4 rfl) ?_
    refine lv_ishr hx hb dX0_move_15 ?_
    refine lv_iconst (v := 1) hx hb dX0_move_16 (by decide) ?_
    refine lv_iand hx hb dX0_move_17 ?_
    refine cd_top (y := nI (cd_bit set (len + k))) (cd_bit_eq hset (by omega)) ?_
    refine lv_if_eq (tgt := 86) hx hb dX0_move_18 (by decide) (fun hc18 => ?_) (fun hc18 => ?_)
    · have hno : ¬ (cd_bit set (len + k) = 1 ∧ cd_bit set k = 0) := fun h => by rw [h.1] at hc18; exact absurd hc18 (by decide)
      refine lv_iinc (v := nI ((len + k) + 1)) (lv' := [(3, .int (nI ((len + k) + 1))), (4, .int (nI k)), (0, .ref (a 0)), (1, .int (nI set)), (2, .int (nI len))]) hx hb dX0_move_86 hl (k := 4) rfl (nI_1 _) (by decide) rfl (fun ls hl => ?_)
      refine lv_goto (tgt := 2) hx hb dX0_move_89 (by decide) ?_
      exact ih (k + 1) (by omega) _ _ _ _ (fun g => by rw [cd_mv_no hno]; exact hf g) w (lv_sub hl [2, 3, 4, 0] rfl)
    · have hb1 : cd_bit set (len + k) = 1 := by
        have := cd_bit_lt set (len + k)
        rcases (show cd_bit set (len + k) = 0 ∨ cd_bit set (len + k) = 1 by omega) with h | h
        · rw [h] at hc18; exact absurd rfl hc18
        · exact h
      refine lv_iload_n hx hb dX0_move_21 rfl (lv_at hl 2 rfl) ?_
      refine lv_iload hx hb dX0_move_22 (lv_at hl 0 rfl) ?_
      refine lv_ishr hx hb dX0_move_24 ?_
      refine lv_iconst (v := 1) hx hb dX0_move_25 (by decide) ?_
      refine lv_iand hx hb dX0_move_26 ?_
      refine cd_top (y := nI (cd_bit set k)) (cd_bit_eq hset (by omega)) ?_
      refine lv_if_ne (tgt := 86) hx hb dX0_move_27 (by decide) (fun hc27 => ?_) (fun hc27 => ?_)
      · have hno : ¬ (cd_bit set (len + k) = 1 ∧ cd_bit set k = 0) := fun h => hc27 (by rw [h.2]; rfl)
        refine lv_iinc (v := nI ((len + k) + 1)) (lv' := [(3, .int (nI ((len + k) + 1))), (4, .int (nI k)), (0, .ref (a 0)), (1, .int (nI set)), (2, .int (nI len))]) hx hb dX0_move_86 hl (k := 4) rfl (nI_1 _) (by decide) rfl (fun ls hl => ?_)
        refine lv_goto (tgt := 2) hx hb dX0_move_89 (by decide) ?_
        exact ih (k + 1) (by omega) _ _ _ _ (fun g => by rw [cd_mv_no hno]; exact hf g) w (lv_sub hl [2, 3, 4, 0] rfl)
      · have hb0 : cd_bit set k = 0 := by
          have := cd_bit_lt set k
          rcases (show cd_bit set k = 0 ∨ cd_bit set k = 1 by omega) with h | h
          · exact h
          · rw [h] at hc27; exact absurd hc27 (by decide)
        refine lv_iload_n hx hb dX0_move_30 rfl (lv_at hl 2 rfl) ?_
        refine lv_iload hx hb dX0_move_31 (lv_at hl 0 rfl) ?_
        refine lv_iload_n hx hb dX0_move_33 rfl (lv_at hl 4 rfl) ?_
        refine cd_top (y := nI (k + 1 + (len - 1))) (congrArg nI (by omega)) ?_
        refine gCallsi C w (mX_between l D a dB dJ ch rc fp fr fn ft set k (len - 1) hset (by omega)) (va_cwS 3 hts (lw_S q83 q84 q15 q85) rfl rfl rfl (by decide +kernel) ⟨Nat.le_of_ble_eq_true rfl, Nat.le_of_ble_eq_true rfl⟩) rfl hl.1 rfl (Nat.le_of_ble_eq_true rfl) dX0_move_34 ⟨Nat.zero_le _, Nat.zero_le _⟩ (fun r u H locs hq w => ?_)
        obtain ⟨rfl, rfl⟩ := hq
        refine lv_istore (lv' := [(5, .int (nI (cd_btw set k (len - 1)))), (4, .int (nI k)), (0, .ref (a 0)), (1, .int (nI set)), (2, .int (nI len)), (3, .int (nI (len + k)))]) hx hb dX0_move_37 hl (by decide) rfl (fun ls hl => ?_)
        refine lv_iload_n hx hb dX0_move_39 rfl (lv_at hl 3 rfl) ?_
        refine lv_iconst (v := 1) hx hb dX0_move_40 (by decide) ?_
        refine lv_iload_n hx hb dX0_move_41 rfl (lv_at hl 5 rfl) ?_
        refine lv_ishl hx hb dX0_move_42 ?_
        refine lv_iconst (v := (-1)) hx hb dX0_move_43 (by decide) ?_
        refine lv_ixor hx hb dX0_move_44 ?_
        refine lv_iand hx hb dX0_move_45 ?_
        refine lv_iconst (v := 1) hx hb dX0_move_46 (by decide) ?_
        refine lv_iload hx hb dX0_move_47 (lv_at hl 1 rfl) ?_
        refine lv_ishl hx hb dX0_move_49 ?_
        refine lv_ior hx hb dX0_move_50 ?_
        refine cd_top (y := nI (cd_nx set (len + k) k)) (cd_nx_eq (by omega) (by omega)) ?_
        refine lv_istore (lv' := [(6, .int (nI (cd_nx set (len + k) k))), (5, .int (nI (cd_btw set k (len - 1)))), (4, .int (nI k)), (0, .ref (a 0)), (1, .int (nI set)), (2, .int (nI len)), (3, .int (nI (len + k)))]) hx hb dX0_move_51 hl (by decide) rfl (fun ls hl => ?_)
        refine lv_aload_n hx hb dX0_move_53 rfl (lv_at hl 3 rfl) ?_
        refine xg_t C w dX0_move_54 ?_
        refine lv_iload hx hb dX0_move_57 (lv_at hl 0 rfl) ?_
        refine lv_dup2_11 hx hb dX0_move_59 rfl rfl ?_
        refine xl_t C w (cd_nx set (len + k) k) (hnx) dX0_move_60 ?_
        refine lv_iload hx hb dX0_move_61 (lv_at hl 1 rfl) ?_
        refine lv_iconst (v := 1) hx hb dX0_move_63 (by decide) ?_
        refine lv_iand hx hb dX0_move_64 ?_
        refine cd_top (y := nI (cd_btw set k (len - 1) % 2)) (pk_andN (by have := cd_btw_le set k (len - 1); omega) (m := 1) 1 (by decide)) ?_
        refine lv_if_ne (tgt := 77) hx hb dX0_move_65 (by decide) (fun hc65 => ?_) (fun hc65 => ?_)
        · have hb2 : ¬ cd_btw set k (len - 1) % 2 = 0 := fun h => hc65 (by rw [h]; rfl)
          refine lv_aload_n hx hb dX0_move_77 rfl (lv_at hl 3 rfl) ?_
          refine xg_n C w dX0_move_78 ?_
          refine lv_iload_n hx hb dX0_move_81 rfl (lv_at hl 4 rfl) ?_
          refine xl_n C w set (by omega) dX0_move_82 ?_
          refine lv_ineg hx hb dX0_move_83 ?_
          refine lv_iadd hx hb dX0_move_84 ?_
          refine xs_t C w (cd_nx set (len + k) k) (hnx) dX0_move_85 (fun H locs w => ?_)
          refine lv_iinc (v := nI ((len + k) + 1)) (lv' := [(3, .int (nI ((len + k) + 1))), (6, .int (nI (cd_nx set (len + k) k))), (5, .int (nI (cd_btw set k (len - 1)))), (4, .int (nI k)), (0, .ref (a 0)), (1, .int (nI set)), (2, .int (nI len))]) hx hb dX0_move_86 hl (k := 6) rfl (nI_1 _) (by decide) rfl (fun ls hl => ?_)
          refine lv_goto (tgt := 2) hx hb dX0_move_89 (by decide) ?_
          exact ih (k + 1) (by omega) _ _ _ _ (fun g => cd_mv_m ⟨hb1, hb0⟩ hnx hb2 (hf g)) w (lv_sub hl [4, 5, 6, 0] rfl)
        · have hb2 : cd_btw set k (len - 1) % 2 = 0 := by
            rcases (show cd_btw set k (len - 1) % 2 = 0 ∨ cd_btw set k (len - 1) % 2 = 1 by omega) with h | h
            · exact h
            · rw [h] at hc65; exact absurd hc65 (by decide)
          refine lv_aload_n hx hb dX0_move_68 rfl (lv_at hl 3 rfl) ?_
          refine xg_n C w dX0_move_69 ?_
          refine lv_iload_n hx hb dX0_move_72 rfl (lv_at hl 4 rfl) ?_
          refine xl_n C w set (by omega) dX0_move_73 ?_
          refine lv_goto (tgt := 84) hx hb dX0_move_74 (by decide) ?_
          refine lv_iadd hx hb dX0_move_84 ?_
          refine xs_t C w (cd_nx set (len + k) k) (hnx) dX0_move_85 (fun H locs w => ?_)
          refine lv_iinc (v := nI ((len + k) + 1)) (lv' := [(3, .int (nI ((len + k) + 1))), (6, .int (nI (cd_nx set (len + k) k))), (5, .int (nI (cd_btw set k (len - 1)))), (4, .int (nI k)), (0, .ref (a 0)), (1, .int (nI set)), (2, .int (nI len))]) hx hb dX0_move_86 hl (k := 6) rfl (nI_1 _) (by decide) rfl (fun ls hl => ?_)
          refine lv_goto (tgt := 2) hx hb dX0_move_89 (by decide) ?_
          exact ih (k + 1) (by omega) _ _ _ _ (fun g => cd_mv_p ⟨hb1, hb0⟩ hnx hb2 (hf g)) w (lv_sub hl [4, 5, 6, 0] rfl)
set_option maxHeartbeats 4000000 in
set_option maxRecDepth 100000 in
theorem mX_move (l : Launch) (D : va_G) (a : Nat → Nat) (dB dJ : ClassId) (ch rc : Int32) (fp fr fn ft : Nat → Int32) (set len : Nat) (hset : set < 2048) (h1 : 1 ≤ len) (h7 : len ≤ 7) : gMv l yX0_move cX0_move 7 (rmv 1) [.ref (a 0), .int (nI set), .int (nI len)] D (tyX dB dJ) (wX a dB dJ) (ch, fp, fr, rc, fn, ft) (fun u => ∃ ft' : Nat → Int32, u = (ch, fp, fr, rc, fn, ft') ∧ ∀ g : Nat → Int32, cd_dot ft' g 2048 = cd_dot ft g 2048 + fn set * cd_mv g set len (11 - len)) := by
  refine gMv.of RX0 (by decide) rfl (Nat.le_of_ble_eq_true rfl) (fun p e s m below meth c A ls C w hl => ?_)
  obtain ⟨hx, hb, hr, hml, hown, hts, hA, hK, hlocks⟩ := id C
  refine lv_iload_n hx hb dX0_move_0 rfl (lv_at hl 2 rfl) ?_
  refine lv_istore_n (lv' := [(3, .int (nI len)), (0, .ref (a 0)), (1, .int (nI set)), (2, .int (nI len))]) hx hb dX0_move_1 rfl hl (by decide) rfl (fun ls hl => ?_)
  refine lp_move (ft0 := ft) C set len hset h1 h7 (fun ft H locs ls hf w => ?_) (11 - len) 0 (Nat.zero_add _) ft _ _ _ (fun g => ?_) w (lv_sub hl [1, 2, 3, 0] rfl)
  · exact gVret C w (⟨_, rfl, hf⟩) dX0_move_92
  · show _ = cd_dot ft g 2048 + fn set * 0
    rw [Int32.mul_zero, Int32.add_zero]
set_option maxHeartbeats 4000000 in
set_option maxRecDepth 100000 in
theorem lp_strip1 {p : Program} {l : Launch} {e : Env} {s : State} {m : MethodId} {args : Array Value} {below : List Frame} {meth : Method} {c : Code} {D : va_G} {A : Nat → Prop} {a : Nat → Nat} {dB dJ : ClassId} {Q : State → Prop} {cells slots : Nat} {R : Room} {ch rc x : Int32} {fp fr ft : Nat → Int32} (C : gC RX0 cX0_strip 4 (some .int) D (tyX dB dJ) A p s m args meth c)
    (K : ∀ (fn : Nat → Int32) (H : Heap) (locs : List Loc) (ls : Array Slot), (∀ j, j < 2048 → fn j = 0) → gW D A s (wX a dB dJ (ch, fp, fr, rc, fn, ft)) H locs → lv_has ls 4 [(0, .ref (a 0)), (1, .int x)] → W p l e R s m args below meth c H locs cells slots Q (F0 m 22 ls [])) :
    ∀ (n i : Nat), i + n = 2048 → ∀ (fn : Nat → Int32) (H : Heap) (locs : List Loc) (ls : Array Slot), (∀ j, j < i → fn j = 0) → gW D A s (wX a dB dJ (ch, fp, fr, rc, fn, ft)) H locs → lv_has ls 4 [(0, .ref (a 0)), (1, .int x), (2, .int (nI i))] → W p l e R s m args below meth c H locs cells slots Q (F0 m 2 ls []) := by
  obtain ⟨hx, hb, hr, hml, hown, hts, hA, hK, hlocks⟩ := id C
  intro n
  induction n with
  | zero =>
    intro i hi fn H locs ls hf w hl
    obtain rfl : i = 2048 := by omega
    refine lv_iload_n hx hb dX0_strip_2 rfl (lv_at hl 2 rfl) ?_
    refine lv_sipush (v := 2048) hx hb dX0_strip_3 (by decide) ?_
    refine lv_icmp_ge (tgt := 22) hx hb dX0_strip_6 (by decide) (fun _ => ?_) (fun hc => absurd (nI_le (a := 2048) (Nat.le_refl 2048) (by decide)) hc)
    exact K _ _ _ _ hf w (lv_sub hl [0, 1] rfl)
  | succ n ih =>
    intro i hi fn H locs ls hf w hl
    refine lv_iload_n hx hb dX0_strip_2 rfl (lv_at hl 2 rfl) ?_
    refine lv_sipush (v := 2048) hx hb dX0_strip_3 (by decide) ?_
    refine lv_icmp_ge (tgt := 22) hx hb dX0_strip_6 (by decide) (fun hc => absurd hc (nI_ge (b := 2048) (by omega) (by decide))) (fun _ => ?_)
    refine lv_aload_n hx hb dX0_strip_9 rfl (lv_at hl 0 rfl) ?_
    refine xg_n C w dX0_strip_10 ?_
    refine lv_iload_n hx hb dX0_strip_13 rfl (lv_at hl 2 rfl) ?_
    refine lv_iconst (v := 0) hx hb dX0_strip_14 (by decide) ?_
    refine xs_n C w i (by omega) dX0_strip_15 (fun H locs w => ?_)
    refine lv_iinc (v := nI (i + 1)) (lv' := [(2, .int (nI (i + 1))), (0, .ref (a 0)), (1, .int (x))]) hx hb dX0_strip_16 hl (k := 2) rfl (nI_1 _) (by decide) rfl (fun ls hl => ?_)
    refine lv_goto (tgt := 2) hx hb dX0_strip_19 (by decide) ?_
    exact ih (i + 1) (by omega) _ _ _ _ (cd_u (P := fun j z => z = 0) hf rfl) w (lv_sub hl [1, 2, 0] rfl)
set_option maxHeartbeats 4000000 in
set_option maxRecDepth 100000 in
theorem lp_strip3 {p : Program} {l : Launch} {e : Env} {s : State} {m : MethodId} {args : Array Value} {below : List Frame} {meth : Method} {c : Code} {D : va_G} {A : Nat → Prop} {a : Nat → Nat} {dB dJ : ClassId} {Q : State → Prop} {cells slots : Nat} {R : Room} {ch rc y : Int32} {fp fr fn : Nat → Int32} (C : gC RX0 cX0_strip 4 (some .int) D (tyX dB dJ) A p s m args meth c)
    (K : ∀ (ft : Nat → Int32) (H : Heap) (locs : List Loc) (ls : Array Slot), (∀ j, j < 2048 → ft j = 0) → gW D A s (wX a dB dJ (ch, fp, fr, rc, fn, ft)) H locs → lv_has ls 4 [(0, .ref (a 0)), (2, .int y)] → W p l e R s m args below meth c H locs cells slots Q (F0 m 61 ls [])) :
    ∀ (n i : Nat), i + n = 2048 → ∀ (ft : Nat → Int32) (H : Heap) (locs : List Loc) (ls : Array Slot), (∀ j, j < i → ft j = 0) → gW D A s (wX a dB dJ (ch, fp, fr, rc, fn, ft)) H locs → lv_has ls 4 [(0, .ref (a 0)), (2, .int y), (3, .int (nI i))] → W p l e R s m args below meth c H locs cells slots Q (F0 m 41 ls []) := by
  obtain ⟨hx, hb, hr, hml, hown, hts, hA, hK, hlocks⟩ := id C
  intro n
  induction n with
  | zero =>
    intro i hi ft H locs ls hf w hl
    obtain rfl : i = 2048 := by omega
    refine lv_iload_n hx hb dX0_strip_41 rfl (lv_at hl 2 rfl) ?_
    refine lv_sipush (v := 2048) hx hb dX0_strip_42 (by decide) ?_
    refine lv_icmp_ge (tgt := 61) hx hb dX0_strip_45 (by decide) (fun _ => ?_) (fun hc => absurd (nI_le (a := 2048) (Nat.le_refl 2048) (by decide)) hc)
    exact K _ _ _ _ hf w (lv_sub hl [0, 1] rfl)
  | succ n ih =>
    intro i hi ft H locs ls hf w hl
    refine lv_iload_n hx hb dX0_strip_41 rfl (lv_at hl 2 rfl) ?_
    refine lv_sipush (v := 2048) hx hb dX0_strip_42 (by decide) ?_
    refine lv_icmp_ge (tgt := 61) hx hb dX0_strip_45 (by decide) (fun hc => absurd hc (nI_ge (b := 2048) (by omega) (by decide))) (fun _ => ?_)
    refine lv_aload_n hx hb dX0_strip_48 rfl (lv_at hl 0 rfl) ?_
    refine xg_t C w dX0_strip_49 ?_
    refine lv_iload_n hx hb dX0_strip_52 rfl (lv_at hl 2 rfl) ?_
    refine lv_iconst (v := 0) hx hb dX0_strip_53 (by decide) ?_
    refine xs_t C w i (by omega) dX0_strip_54 (fun H locs w => ?_)
    refine lv_iinc (v := nI (i + 1)) (lv' := [(3, .int (nI (i + 1))), (0, .ref (a 0)), (2, .int (y))]) hx hb dX0_strip_55 hl (k := 2) rfl (nI_1 _) (by decide) rfl (fun ls hl => ?_)
    refine lv_goto (tgt := 41) hx hb dX0_strip_58 (by decide) ?_
    exact ih (i + 1) (by omega) _ _ _ _ (cd_u (P := fun j z => z = 0) hf rfl) w (lv_sub hl [1, 2, 0] rfl)
set_option maxHeartbeats 4000000 in
set_option maxRecDepth 100000 in
theorem lp_strip4 {p : Program} {l : Launch} {e : Env} {s : State} {m : MethodId} {args : Array Value} {below : List Frame} {meth : Method} {c : Code} {D : va_G} {A : Nat → Prop} {a : Nat → Nat} {dB dJ : ClassId} {Q : State → Prop} {ch rc : Int32} {fp fr fn : Nat → Int32} (C : gC RX0 cX0_strip 4 (some .int) D (tyX dB dJ) A p s m args meth c) (k len : Nat) (hk : k < 8) (h1 : 1 ≤ len) (h7 : len ≤ 7) (hr9 : fr k = nI len)
    (K : ∀ (ft : Nat → Int32) (H : Heap) (locs : List Loc) (ls : Array Slot), (∀ g : Nat → Int32, cd_dot ft g 2048 = cd_dot fn (fun q => cd_mv g q len (11 - len)) 2048) → gW D A s (wX a dB dJ (ch, fp, fr, rc, fn, ft)) H locs → lv_has ls 4 [(0, .ref (a 0)), (2, .int (nI k))] → W p l e (rmv 2) s m args below meth c H locs 0 0 Q (F0 m 96 ls [])) :
    ∀ (n i : Nat), i + n = 2048 → ∀ (ft : Nat → Int32) (H : Heap) (locs : List Loc) (ls : Array Slot), (∀ g : Nat → Int32, cd_dot ft g 2048 = cd_dot fn (fun q => cd_mv g q len (11 - len)) i) → gW D A s (wX a dB dJ (ch, fp, fr, rc, fn, ft)) H locs → lv_has ls 4 [(0, .ref (a 0)), (2, .int (nI k)), (3, .int (nI i))] → W p l e (rmv 2) s m args below meth c H locs 0 0 Q (F0 m 63 ls []) := by
  obtain ⟨hx, hb, hr, hml, hown, hts, hA, hK, hlocks⟩ := id C
  intro n
  induction n with
  | zero =>
    intro i hi ft H locs ls hf w hl
    obtain rfl : i = 2048 := by omega
    refine lv_iload_n hx hb dX0_strip_63 rfl (lv_at hl 2 rfl) ?_
    refine lv_sipush (v := 2048) hx hb dX0_strip_64 (by decide) ?_
    refine lv_icmp_ge (tgt := 96) hx hb dX0_strip_67 (by decide) (fun _ => ?_) (fun hc => absurd (nI_le (a := 2048) (Nat.le_refl 2048) (by decide)) hc)
    exact K _ _ _ _ hf w (lv_sub hl [0, 1] rfl)
  | succ n ih =>
    intro i hi ft H locs ls hf w hl
    refine lv_iload_n hx hb dX0_strip_63 rfl (lv_at hl 2 rfl) ?_
    refine lv_sipush (v := 2048) hx hb dX0_strip_64 (by decide) ?_
    refine lv_icmp_ge (tgt := 96) hx hb dX0_strip_67 (by decide) (fun hc => absurd hc (nI_ge (b := 2048) (by omega) (by decide))) (fun _ => ?_)
    refine lv_aload_n hx hb dX0_strip_70 rfl (lv_at hl 0 rfl) ?_
    refine xg_n C w dX0_strip_71 ?_
    refine lv_iload_n hx hb dX0_strip_74 rfl (lv_at hl 2 rfl) ?_
    refine xl_n C w i (by omega) dX0_strip_75 ?_
    refine lv_if_eq (tgt := 90) hx hb dX0_strip_76 (by decide) (fun hc76 => ?_) (fun hc76 => ?_)
    · refine lv_iinc (v := nI (i + 1)) (lv' := [(3, .int (nI (i + 1))), (0, .ref (a 0)), (2, .int (nI k))]) hx hb dX0_strip_90 hl (k := 2) rfl (nI_1 _) (by decide) rfl (fun ls hl => ?_)
      refine lv_goto (tgt := 63) hx hb dX0_strip_93 (by decide) ?_
      exact ih (i + 1) (by omega) _ _ _ _ (fun g => by show _ = cd_dot fn _ i + fn i * _; rw [hc76, Int32.zero_mul, Int32.add_zero]; exact hf g) w (lv_sub hl [1, 2, 0] rfl)
    · refine lv_aload_n hx hb dX0_strip_79 rfl (lv_at hl 0 rfl) ?_
      refine lv_iload_n hx hb dX0_strip_80 rfl (lv_at hl 2 rfl) ?_
      refine lv_aload_n hx hb dX0_strip_81 rfl (lv_at hl 0 rfl) ?_
      refine xg_r C w dX0_strip_82 ?_
      refine lv_iload_n hx hb dX0_strip_85 rfl (lv_at hl 1 rfl) ?_
      refine xl_r C w k (by omega) dX0_strip_86 ?_
      refine cd_top (y := nI len) (hr9) ?_
      refine gCallv C w (mX_move l D a dB dJ ch rc fp fr fn ft i len (by omega) h1 h7) (cwV 2 hts (lw_V q79 q81 qs4 q15 q82) rfl rfl rfl (by decide +kernel) ⟨Nat.le_of_ble_eq_true rfl, Nat.le_of_ble_eq_true rfl⟩) rfl rfl rfl hl.1 rfl (Nat.le_of_ble_eq_true rfl) dX0_strip_87 ⟨Nat.zero_le _, Nat.zero_le _⟩ (fun u H locs hq w => ?_)
      obtain ⟨ft1, rfl, hg⟩ := hq
      refine lv_iinc (v := nI (i + 1)) (lv' := [(3, .int (nI (i + 1))), (0, .ref (a 0)), (2, .int (nI k))]) hx hb dX0_strip_90 hl (k := 2) rfl (nI_1 _) (by decide) rfl (fun ls hl => ?_)
      refine lv_goto (tgt := 63) hx hb dX0_strip_93 (by decide) ?_
      exact ih (i + 1) (by omega) _ _ _ _ (fun g => by show _ = cd_dot fn _ i + fn i * _; rw [hg g, hf g]) w (lv_sub hl [1, 2, 0] rfl)
set_option maxHeartbeats 4000000 in
set_option maxRecDepth 100000 in
theorem lp_strip5 {p : Program} {l : Launch} {e : Env} {s : State} {m : MethodId} {args : Array Value} {below : List Frame} {meth : Method} {c : Code} {D : va_G} {A : Nat → Prop} {a : Nat → Nat} {dB dJ : ClassId} {Q : State → Prop} {cells slots : Nat} {R : Room} {ch rc y : Int32} {fp fr ft : Nat → Int32} (C : gC RX0 cX0_strip 4 (some .int) D (tyX dB dJ) A p s m args meth c)
    (K : ∀ (fn : Nat → Int32) (H : Heap) (locs : List Loc) (ls : Array Slot), (∀ j, j < 2048 → fn j = ft j) → gW D A s (wX a dB dJ (ch, fp, fr, rc, fn, ft)) H locs → lv_has ls 4 [(0, .ref (a 0)), (2, .int y)] → W p l e R s m args below meth c H locs cells slots Q (F0 m 123 ls [])) :
    ∀ (n i : Nat), i + n = 2048 → ∀ (fn : Nat → Int32) (H : Heap) (locs : List Loc) (ls : Array Slot), (∀ j, j < i → fn j = ft j) → gW D A s (wX a dB dJ (ch, fp, fr, rc, fn, ft)) H locs → lv_has ls 4 [(0, .ref (a 0)), (2, .int y), (3, .int (nI i))] → W p l e R s m args below meth c H locs cells slots Q (F0 m 98 ls []) := by
  obtain ⟨hx, hb, hr, hml, hown, hts, hA, hK, hlocks⟩ := id C
  intro n
  induction n with
  | zero =>
    intro i hi fn H locs ls hf w hl
    obtain rfl : i = 2048 := by omega
    refine lv_iload_n hx hb dX0_strip_98 rfl (lv_at hl 2 rfl) ?_
    refine lv_sipush (v := 2048) hx hb dX0_strip_99 (by decide) ?_
    refine lv_icmp_ge (tgt := 123) hx hb dX0_strip_102 (by decide) (fun _ => ?_) (fun hc => absurd (nI_le (a := 2048) (Nat.le_refl 2048) (by decide)) hc)
    exact K _ _ _ _ hf w (lv_sub hl [0, 1] rfl)
  | succ n ih =>
    intro i hi fn H locs ls hf w hl
    refine lv_iload_n hx hb dX0_strip_98 rfl (lv_at hl 2 rfl) ?_
    refine lv_sipush (v := 2048) hx hb dX0_strip_99 (by decide) ?_
    refine lv_icmp_ge (tgt := 123) hx hb dX0_strip_102 (by decide) (fun hc => absurd hc (nI_ge (b := 2048) (by omega) (by decide))) (fun _ => ?_)
    refine lv_aload_n hx hb dX0_strip_105 rfl (lv_at hl 0 rfl) ?_
    refine xg_n C w dX0_strip_106 ?_
    refine lv_iload_n hx hb dX0_strip_109 rfl (lv_at hl 2 rfl) ?_
    refine lv_aload_n hx hb dX0_strip_110 rfl (lv_at hl 0 rfl) ?_
    refine xg_t C w dX0_strip_111 ?_
    refine lv_iload_n hx hb dX0_strip_114 rfl (lv_at hl 2 rfl) ?_
    refine xl_t C w i (by omega) dX0_strip_115 ?_
    refine xs_n C w i (by omega) dX0_strip_116 (fun H locs w => ?_)
    refine lv_iinc (v := nI (i + 1)) (lv' := [(3, .int (nI (i + 1))), (0, .ref (a 0)), (2, .int (y))]) hx hb dX0_strip_117 hl (k := 2) rfl (nI_1 _) (by decide) rfl (fun ls hl => ?_)
    refine lv_goto (tgt := 98) hx hb dX0_strip_120 (by decide) ?_
    exact ih (i + 1) (by omega) _ _ _ _ (cd_u (P := fun j z => z = ft j) hf rfl) w (lv_sub hl [1, 2, 0] rfl)
set_option maxHeartbeats 4000000 in
set_option maxRecDepth 100000 in
theorem lp_strip2 {p : Program} {l : Launch} {e : Env} {s : State} {m : MethodId} {args : Array Value} {below : List Frame} {meth : Method} {c : Code} {D : va_G} {A : Nat → Prop} {a : Nat → Nat} {dB dJ : ClassId} {Q : State → Prop} {ch rc : Int32} {fp fr : Nat → Int32} (C : gC RX0 cX0_strip 4 (some .int) D (tyX dB dJ) A p s m args meth c) (L : List Nat) (hL : L.length ≤ 8) (hin : ∀ x ∈ L, 1 ≤ x ∧ x ≤ 7) (hrc : rc = nI L.length) (hfr : ∀ j, j < L.length → fr j = nI (L.getD j 0)) (V : Int32)
    (K : ∀ (fn ft : Nat → Int32) (H : Heap) (locs : List Loc) (ls : Array Slot), fn 15 = V → gW D A s (wX a dB dJ (ch, fp, fr, rc, fn, ft)) H locs → lv_has ls 4 [(0, .ref (a 0))] → W p l e (rmv 2) s m args below meth c H locs 0 0 Q (F0 m 129 ls [])) :
    ∀ (n k : Nat), k + n = L.length → ∀ (fn ft : Nat → Int32) (H : Heap) (locs : List Loc) (ls : Array Slot), cd_dot fn (cd_S (L.drop k)) 2048 = V → gW D A s (wX a dB dJ (ch, fp, fr, rc, fn, ft)) H locs → lv_has ls 4 [(0, .ref (a 0)), (2, .int (nI k))] → W p l e (rmv 2) s m args below meth c H locs 0 0 Q (F0 m 31 ls []) := by
  obtain ⟨hx, hb, hr, hml, hown, hts, hA, hK, hlocks⟩ := id C
  intro n
  induction n with
  | zero =>
    intro k hk fn ft H locs ls hf w hl
    obtain rfl : k = L.length := by omega
    rw [List.drop_length] at hf
    refine lv_iload_n hx hb dX0_strip_31 rfl (lv_at hl 1 rfl) ?_
    refine lv_aload_n hx hb dX0_strip_32 rfl (lv_at hl 0 rfl) ?_
    refine xg_rc C w dX0_strip_33 ?_
    refine lv_icmp_ge (tgt := 129) hx hb dX0_strip_36 (by decide) (fun _ => ?_) (fun hc => absurd (by rw [hrc]; exact nI_le (Nat.le_refl _) (by omega)) hc)
    exact K _ _ _ _ _ ((cd_dot_delta 2048 (by decide)).symm.trans hf) w (lv_sub hl [0] rfl)
  | succ n ih =>
    intro k hk fn ft H locs ls hf w hl
    have hkl : k < L.length := by omega
    have hl9 := hin _ (cd_getD_in hkl)
    refine lv_iload_n hx hb dX0_strip_31 rfl (lv_at hl 1 rfl) ?_
    refine lv_aload_n hx hb dX0_strip_32 rfl (lv_at hl 0 rfl) ?_
    refine xg_rc C w dX0_strip_33 ?_
    refine lv_icmp_ge (tgt := 129) hx hb dX0_strip_36 (by decide) (fun hc => absurd hc (by rw [hrc]; exact nI_ge hkl (by omega))) (fun _ => ?_)
    refine lv_iconst (v := 0) hx hb dX0_strip_39 (by decide) ?_
    refine lv_istore_n (lv' := [(3, .int (0)), (0, .ref (a 0)), (2, .int (nI k))]) hx hb dX0_strip_40 rfl hl (by decide) rfl (fun ls hl => ?_)
    refine lp_strip3 C (fun ft H locs ls hz w hl => ?_) 2048 0 rfl _ _ _ _ (fun j hj => absurd hj (Nat.not_lt_zero j)) w (lv_sub hl [1, 2, 0] rfl)
    refine lv_iconst (v := 0) hx hb dX0_strip_61 (by decide) ?_
    refine lv_istore_n (lv' := [(3, .int (0)), (0, .ref (a 0)), (2, .int (nI k))]) hx hb dX0_strip_62 rfl hl (by decide) rfl (fun ls hl => ?_)
    refine lp_strip4 C k (L.getD k 0) (by omega) hl9.1 hl9.2 (hfr k hkl) (fun ft H locs ls hg w hl => ?_) 2048 0 rfl _ _ _ _ (fun g => cd_dot_zero 2048 hz) w (lv_sub hl [1, 2, 0] rfl)
    refine lv_iconst (v := 0) hx hb dX0_strip_96 (by decide) ?_
    refine lv_istore_n (lv' := [(3, .int (0)), (0, .ref (a 0)), (2, .int (nI k))]) hx hb dX0_strip_97 rfl hl (by decide) rfl (fun ls hl => ?_)
    refine lp_strip5 C (fun fn1 H locs ls he w hl => ?_) 2048 0 rfl _ _ _ _ (fun j hj => absurd hj (Nat.not_lt_zero j)) w (lv_sub hl [1, 2, 0] rfl)
    refine lv_iinc (v := nI (k + 1)) (lv' := [(2, .int (nI (k + 1))), (0, .ref (a 0))]) hx hb dX0_strip_123 hl (k := 1) rfl (nI_1 _) (by decide) rfl (fun ls hl => ?_)
    refine lv_goto (tgt := 31) hx hb dX0_strip_126 (by decide) ?_
    exact ih (k + 1) (by omega) _ _ _ _ _ (by rw [cd_dot_congr 2048 he (fun _ _ => rfl), hg, ← hf, cd_drop hkl]; rfl) w (lv_sub hl [1, 0] rfl)
set_option maxHeartbeats 4000000 in
set_option maxRecDepth 100000 in
theorem mX_strip (l : Launch) (D : va_G) (a : Nat → Nat) (dB dJ : ClassId) (ch rc : Int32) (fp fr fn ft : Nat → Int32) (L : List Nat) (hL : L.length ≤ 8) (hin : ∀ x ∈ L, 1 ≤ x ∧ x ≤ 7) (hrc : rc = nI L.length) (hfr : ∀ j, j < L.length → fr j = nI (L.getD j 0)) (st : Nat) (hst : st < 2048) : gMi l yX0_strip cX0_strip 4 (some .int) (rmv 2) [.ref (a 0), .int (nI st)] D (tyX dB dJ) (wX a dB dJ) (ch, fp, fr, rc, fn, ft) (fun r u => r = cd_S L st ∧ ∃ fn' ft' : Nat → Int32, u = (ch, fp, fr, rc, fn', ft')) := by
  refine gMi.of RX0 (by decide) rfl (Nat.le_of_ble_eq_true rfl) (fun p e s m below meth c A ls C w hl => ?_)
  obtain ⟨hx, hb, hr, hml, hown, hts, hA, hK, hlocks⟩ := id C
  refine lv_iconst (v := 0) hx hb dX0_strip_0 (by decide) ?_
  refine lv_istore_n (lv' := [(2, .int (0)), (0, .ref (a 0)), (1, .int (nI st))]) hx hb dX0_strip_1 rfl hl (by decide) rfl (fun ls hl => ?_)
  refine lp_strip1 C (fun fn H locs ls hz w hl => ?_) 2048 0 rfl _ _ _ _ (fun j hj => absurd hj (Nat.not_lt_zero j)) w (lv_sub hl [1, 2, 0] rfl)
  refine lv_aload_n hx hb dX0_strip_22 rfl (lv_at hl 0 rfl) ?_
  refine xg_n C w dX0_strip_23 ?_
  refine lv_iload_n hx hb dX0_strip_26 rfl (lv_at hl 1 rfl) ?_
  refine lv_iconst (v := 1) hx hb dX0_strip_27 (by decide) ?_
  refine xs_n C w st (by omega) dX0_strip_28 (fun H locs w => ?_)
  refine lv_iconst (v := 0) hx hb dX0_strip_29 (by decide) ?_
  refine lv_istore_n (lv' := [(2, .int (0)), (0, .ref (a 0)), (1, .int (nI st))]) hx hb dX0_strip_30 rfl hl (by decide) rfl (fun ls hl => ?_)
  refine lp_strip2 C L hL hin hrc hfr (cd_S L st) (fun fn ft H locs ls hv w hl => ?_) L.length 0 (Nat.zero_add _) _ _ _ _ _ (by rw [cd_dot_upd 2048 hst, cd_dot_zero 2048 hz, hz st hst]; show 0 + (1 - 0) * cd_S L st = _; grind) w (lv_sub hl [1, 0] rfl)
  refine lv_aload_n hx hb dX0_strip_129 rfl (lv_at hl 0 rfl) ?_
  refine xg_n C w dX0_strip_130 ?_
  refine lv_bipush (v := 15) hx hb dX0_strip_133 (by decide) ?_
  refine cd_top (y := nI 15) (rfl) ?_
  refine xl_n C w 15 (by decide) dX0_strip_135 ?_
  exact gIret C w (⟨hv, _, _, rfl⟩) dX0_strip_136
end
section
/-! CharacterDesk: its public methods (printed by gen_X3.py) -/
set_option maxRecDepth 100000
theorem cd_sum_k (x : Int32) : cd_sum x = nI (cd_sum x).toNatClampNeg ∧ (cd_sum x).toNatClampNeg ≤ 7 := by
  obtain ⟨j, hj, e⟩ := cd_sum_of x
  rw [e, nI_clamp (by omega)]
  exact ⟨rfl, hj⟩
theorem cd_sum_pos {x : Int32} (h : ¬ cd_sum x = 0) : 1 ≤ (cd_sum x).toNatClampNeg := by
  have e := (cd_sum_k x).1
  rcases Nat.eq_zero_or_pos (cd_sum x).toNatClampNeg with h0 | h0
  · rw [h0] at e; exact absurd e h
  · exact h0
def cd_cho (x : Int32) : Int32 := if cd_sum x = 0 then cd_BAD else cd_sum x
def cd_chn (ch x : Int32) : Int32 := if cd_sum x = 0 then ch else x
def cd_atX (ch x : Int32) : Int32 := if ch = 0 then cd_BAD else cd_chX ch x
def cd_coX (x : Int32) : Int32 := if 1 ≤ x ∧ x ≤ 7 then cd_cn x 4095 else 0
def cd_paX (x k : Int32) : Int32 := if (1 ≤ x ∧ x ≤ 7) ∧ 0 ≤ k then cd_pa x k 4095 0 else cd_BAD
def cd_sqX (x : Int32) : Int32 := if 1 ≤ x ∧ x ≤ 7 then cd_sq cd_dgX x 4095 else cd_BAD
def cd_vaX (s m : Int32) : Int32 := if cd_chX s m = 0 then 1 else 0
def cd_grX (x : Int32) : Int32 := if cd_sum x ≤ 0 then cd_BAD else cd_gr (fun s => cd_chX s x) (cd_sum x) 4095
def cd_suX (x : Int32) : Int32 := if cd_sum x = 0 then cd_BAD else cd_su (fun s => cd_chX s x) (cd_sum x) 4095
theorem cd_rep_f {f : Nat → Int32} {k : Nat} (h : ∀ j, j < k → f j = 1) : ∀ j, j < (List.replicate k 1).length → f j = nI ((List.replicate k 1).getD j 0) := by
  intro j hj
  rw [List.length_replicate] at hj
  rw [h j hj, List.getD_eq_getElem?_getD, List.getElem?_replicate, if_pos hj]
  rfl
theorem cd_rep_in {k : Nat} : ∀ x ∈ List.replicate k 1, 1 ≤ x ∧ x ≤ 7 := by
  intro x hx
  rw [(List.mem_replicate.mp hx).2]
  decide
theorem cd_P_ok {f : Nat → Int32} {x : Int32} (h : ∀ i, i < 4 → f i = cd_pt x (nI i)) : ∀ i, i < 4 → f i = nI (cd_P x i) ∧ cd_P x i < 8 := fun i hi => ⟨(h i hi).trans (cd_pt_P x i), cd_P_lt x i⟩
set_option maxHeartbeats 4000000 in
set_option maxRecDepth 100000 in
theorem mX_choose (l : Launch) (D : va_G) (a : Nat → Nat) (dB dJ : ClassId) (ch rc : Int32) (fp fr fn ft : Nat → Int32) (x : Int32) : gMi l yX0_choose cX0_choose 3 (some .int) (rmv 1) [.ref (a 0), .int x] D (tyX dB dJ) (wX a dB dJ) (ch, fp, fr, rc, fn, ft) (fun r u => r = cd_cho x ∧ u.1 = cd_chn ch x) := by
  refine gMi.of RX0 (by decide) rfl (Nat.le_of_ble_eq_true rfl) (fun p e s m below meth c A ls C w hl => ?_)
  obtain ⟨hx, hb, hr, hml, hown, hts, hA, hK, hlocks⟩ := id C
  refine lv_aload_n hx hb dX0_choose_0 rfl (lv_at hl 0 rfl) ?_
  refine lv_iload_n hx hb dX0_choose_1 rfl (lv_at hl 1 rfl) ?_
  refine gCalli C w (mX_read l D a dB dJ ch rc fp fr fn ft x) (cwV 1 hts (lw_V q50 q52 qs0 q15 q53) rfl rfl rfl (by decide +kernel) ⟨Nat.le_of_ble_eq_true rfl, Nat.le_of_ble_eq_true rfl⟩) rfl rfl rfl hl.1 rfl (Nat.le_of_ble_eq_true rfl) dX0_choose_2 ⟨Nat.zero_le _, Nat.zero_le _⟩ (fun r u H locs hq w => ?_)
  obtain ⟨rfl, fp, rfl, hp1⟩ := hq
  refine lv_istore_n (lv' := [(2, .int (cd_sum x)), (0, .ref (a 0)), (1, .int (x))]) hx hb dX0_choose_5 rfl hl (by decide) rfl (fun ls hl => ?_)
  refine lv_iload_n hx hb dX0_choose_6 rfl (lv_at hl 0 rfl) ?_
  refine lv_if_ne (tgt := 13) hx hb dX0_choose_7 (by decide) (fun hc7 => ?_) (fun hc7 => ?_)
  · refine lv_aload_n hx hb dX0_choose_13 rfl (lv_at hl 1 rfl) ?_
    refine lv_iload_n hx hb dX0_choose_14 rfl (lv_at hl 2 rfl) ?_
    refine xp_ch C w dX0_choose_15 (fun H locs w => ?_)
    refine lv_iload_n hx hb dX0_choose_18 rfl (lv_at hl 0 rfl) ?_
    exact gIret C w (⟨(if_neg hc7).symm, (if_neg hc7).symm⟩) dX0_choose_19
  · refine lv_ldc (v := cd_BAD) hx hb hown (hts _ q54) dX0_choose_10 ?_
    exact gIret C w (⟨(if_pos hc7).symm, (if_pos hc7).symm⟩) dX0_choose_12
set_option maxHeartbeats 4000000 in
set_option maxRecDepth 100000 in
theorem mX_character (l : Launch) (D : va_G) (a : Nat → Nat) (dB dJ : ClassId) (ch rc : Int32) (fp fr fn ft : Nat → Int32) (xs xm : Int32) : gMi l yX0_character cX0_character 5 (some .int) (rmv 3) [.ref (a 0), .int xs, .int xm] D (tyX dB dJ) (wX a dB dJ) (ch, fp, fr, rc, fn, ft) (fun r u => r = cd_chX xs xm ∧ u.1 = ch) := by
  refine gMi.of RX0 (by decide) rfl (Nat.le_of_ble_eq_true rfl) (fun p e s m below meth c A ls C w hl => ?_)
  obtain ⟨hx, hb, hr, hml, hown, hts, hA, hK, hlocks⟩ := id C
  refine lv_aload_n hx hb dX0_character_0 rfl (lv_at hl 0 rfl) ?_
  refine lv_iload_n hx hb dX0_character_1 rfl (lv_at hl 2 rfl) ?_
  refine gCalli C w (mX_read l D a dB dJ ch rc fp fr fn ft xm) (cwV 1 hts (lw_V q50 q52 qs0 q15 q53) rfl rfl rfl (by decide +kernel) ⟨Nat.le_of_ble_eq_true rfl, Nat.le_of_ble_eq_true rfl⟩) rfl rfl rfl hl.1 rfl (Nat.le_of_ble_eq_true rfl) dX0_character_2 ⟨Nat.zero_le _, Nat.zero_le _⟩ (fun r u H locs hq w => ?_)
  obtain ⟨rfl, fp, rfl, hp1⟩ := hq
  refine lv_istore_n (lv' := [(3, .int (cd_sum xm)), (0, .ref (a 0)), (1, .int (xs)), (2, .int (xm))]) hx hb dX0_character_5 rfl hl (by decide) rfl (fun ls hl => ?_)
  refine lv_iload_n hx hb dX0_character_6 rfl (lv_at hl 0 rfl) ?_
  refine lv_if_ne (tgt := 13) hx hb dX0_character_7 (by decide) (fun hc7 => ?_) (fun hc7 => ?_)
  · refine lv_aload_n hx hb dX0_character_13 rfl (lv_at hl 1 rfl) ?_
    refine gCallv C w (mX_wantParts l D a dB dJ ch rc fp fr fn ft (cd_P xm) (cd_P_ok (hp1 hc7))) (cwV 0 hts (lw_V q67 q69 qs1 q15 q70) rfl rfl rfl (by decide +kernel) ⟨Nat.le_of_ble_eq_true rfl, Nat.le_of_ble_eq_true rfl⟩) rfl rfl rfl hl.1 rfl (Nat.le_of_ble_eq_true rfl) dX0_character_14 ⟨Nat.zero_le _, Nat.zero_le _⟩ (fun u H locs hq w => ?_)
    obtain ⟨fr, rfl, hf1⟩ := hq
    refine lv_aload_n hx hb dX0_character_17 rfl (lv_at hl 1 rfl) ?_
    refine lv_iload_n hx hb dX0_character_18 rfl (lv_at hl 2 rfl) ?_
    refine gCalli C w (mX_read l D a dB dJ ch (nI (cd_rims (cd_P xm) 4).length) fp fr fn ft xs) (cwV 1 hts (lw_V q50 q52 qs0 q15 q53) rfl rfl rfl (by decide +kernel) ⟨Nat.le_of_ble_eq_true rfl, Nat.le_of_ble_eq_true rfl⟩) rfl rfl rfl hl.1 rfl (Nat.le_of_ble_eq_true rfl) dX0_character_19 ⟨Nat.zero_le _, Nat.zero_le _⟩ (fun r u H locs hq w => ?_)
    obtain ⟨rfl, fp, rfl, hp2⟩ := hq
    refine lv_iload_n hx hb dX0_character_22 rfl (lv_at hl 0 rfl) ?_
    refine lv_icmp_eq (tgt := 29) hx hb dX0_character_23 (by decide) (fun hc23 => ?_) (fun hc23 => ?_)
    · have hp3 := hp2 (by rw [hc23]; exact hc7)
      refine lv_aload_n hx hb dX0_character_29 rfl (lv_at hl 1 rfl) ?_
      refine gCalli C w (mX_marks l D a dB dJ ch (nI (cd_rims (cd_P xm) 4).length) fp fr fn ft (cd_P xs) (cd_P_ok hp3)) (cwV 0 hts (lw_V q71 q73 qs2 q15 q74) rfl rfl rfl (by decide +kernel) ⟨Nat.le_of_ble_eq_true rfl, Nat.le_of_ble_eq_true rfl⟩) rfl rfl rfl hl.1 rfl (Nat.le_of_ble_eq_true rfl) dX0_character_30 ⟨Nat.zero_le _, Nat.zero_le _⟩ (fun r u H locs hq w => ?_)
      obtain ⟨rfl, rfl⟩ := hq
      refine lv_istore (lv' := [(4, .int (nI (cd_mk (cd_P xs) 4))), (3, .int (cd_sum xm)), (0, .ref (a 0)), (1, .int (xs)), (2, .int (xm))]) hx hb dX0_character_33 hl (by decide) rfl (fun ls hl => ?_)
      refine lv_aload_n hx hb dX0_character_35 rfl (lv_at hl 2 rfl) ?_
      refine lv_iload hx hb dX0_character_36 (lv_at hl 0 rfl) ?_
      refine gCalli C w (mX_strip l D a dB dJ ch (nI (cd_rims (cd_P xm) 4).length) fp fr fn ft (cd_rims (cd_P xm) 4) (Nat.le_trans (cd_rims_len _ 4) (by decide)) (cd_rims_in (N := 4) (fun i _ => cd_P_lt xm i) 4 (Nat.le_refl 4)) rfl hf1 (cd_mk (cd_P xs) 4) (cd_mk_lt (fun i _ => cd_P_lt xs i) 4 (Nat.le_refl 4))) (cwV 1 hts (lw_V q75 q77 qs3 q15 q78) rfl rfl rfl (by decide +kernel) ⟨Nat.le_of_ble_eq_true rfl, Nat.le_of_ble_eq_true rfl⟩) rfl rfl rfl hl.1 rfl (Nat.le_of_ble_eq_true rfl) dX0_character_38 ⟨Nat.zero_le _, Nat.zero_le _⟩ (fun r u H locs hq w => ?_)
      obtain ⟨rfl, fn, ft, rfl⟩ := hq
      exact gIret C w (⟨((if_neg hc7).trans (if_pos hc23)).symm, rfl⟩) dX0_character_41
    · refine lv_ldc (v := cd_BAD) hx hb hown (hts _ q54) dX0_character_26 ?_
      exact gIret C w (⟨((if_neg hc7).trans (if_neg hc23)).symm, rfl⟩) dX0_character_28
  · refine lv_ldc (v := cd_BAD) hx hb hown (hts _ q54) dX0_character_10 ?_
    exact gIret C w (⟨(if_pos hc7).symm, rfl⟩) dX0_character_12
set_option maxHeartbeats 4000000 in
set_option maxRecDepth 100000 in
theorem mX_degree (l : Launch) (D : va_G) (a : Nat → Nat) (dB dJ : ClassId) (ch rc : Int32) (fp fr fn ft : Nat → Int32) (x : Int32) : gMi l yX0_degree cX0_degree 4 (some .int) (rmv 3) [.ref (a 0), .int x] D (tyX dB dJ) (wX a dB dJ) (ch, fp, fr, rc, fn, ft) (fun r u => r = cd_dgX x ∧ u.1 = ch) := by
  refine gMi.of RX0 (by decide) rfl (Nat.le_of_ble_eq_true rfl) (fun p e s m below meth c A ls C w hl => ?_)
  obtain ⟨hx, hb, hr, hml, hown, hts, hA, hK, hlocks⟩ := id C
  have hk := cd_sum_k x
  refine lv_aload_n hx hb dX0_degree_0 rfl (lv_at hl 0 rfl) ?_
  refine lv_iload_n hx hb dX0_degree_1 rfl (lv_at hl 1 rfl) ?_
  refine gCalli C w (mX_read l D a dB dJ ch rc fp fr fn ft x) (cwV 1 hts (lw_V q50 q52 qs0 q15 q53) rfl rfl rfl (by decide +kernel) ⟨Nat.le_of_ble_eq_true rfl, Nat.le_of_ble_eq_true rfl⟩) rfl rfl rfl hl.1 rfl (Nat.le_of_ble_eq_true rfl) dX0_degree_2 ⟨Nat.zero_le _, Nat.zero_le _⟩ (fun r u H locs hq w => ?_)
  obtain ⟨rfl, fp, rfl, hp1⟩ := hq
  refine lv_istore_n (lv' := [(2, .int (cd_sum x)), (0, .ref (a 0)), (1, .int (x))]) hx hb dX0_degree_5 rfl hl (by decide) rfl (fun ls hl => ?_)
  refine lv_iload_n hx hb dX0_degree_6 rfl (lv_at hl 0 rfl) ?_
  refine lv_if_ne (tgt := 13) hx hb dX0_degree_7 (by decide) (fun hc7 => ?_) (fun hc7 => ?_)
  · refine lv_aload_n hx hb dX0_degree_13 rfl (lv_at hl 1 rfl) ?_
    refine lv_iload_n hx hb dX0_degree_14 rfl (lv_at hl 0 rfl) ?_
    refine cd_top (y := nI (cd_sum x).toNatClampNeg) (hk.1) ?_
    refine gCallv C w (mX_wantOnes l D a dB dJ ch rc fp fr fn ft (cd_sum x).toNatClampNeg hk.2) (cwV 1 hts (lw_V q91 q93 qs5 q15 q94) rfl rfl rfl (by decide +kernel) ⟨Nat.le_of_ble_eq_true rfl, Nat.le_of_ble_eq_true rfl⟩) rfl rfl rfl hl.1 rfl (Nat.le_of_ble_eq_true rfl) dX0_degree_15 ⟨Nat.zero_le _, Nat.zero_le _⟩ (fun u H locs hq w => ?_)
    obtain ⟨fr, rfl, hf1⟩ := hq
    refine lv_aload_n hx hb dX0_degree_18 rfl (lv_at hl 1 rfl) ?_
    refine gCalli C w (mX_marks l D a dB dJ ch (nI (cd_sum x).toNatClampNeg) fp fr fn ft (cd_P x) (cd_P_ok (hp1 hc7))) (cwV 0 hts (lw_V q71 q73 qs2 q15 q74) rfl rfl rfl (by decide +kernel) ⟨Nat.le_of_ble_eq_true rfl, Nat.le_of_ble_eq_true rfl⟩) rfl rfl rfl hl.1 rfl (Nat.le_of_ble_eq_true rfl) dX0_degree_19 ⟨Nat.zero_le _, Nat.zero_le _⟩ (fun r u H locs hq w => ?_)
    obtain ⟨rfl, rfl⟩ := hq
    refine lv_istore_n (lv' := [(3, .int (nI (cd_mk (cd_P x) 4))), (2, .int (cd_sum x)), (0, .ref (a 0)), (1, .int (x))]) hx hb dX0_degree_22 rfl hl (by decide) rfl (fun ls hl => ?_)
    refine lv_aload_n hx hb dX0_degree_23 rfl (lv_at hl 2 rfl) ?_
    refine lv_iload_n hx hb dX0_degree_24 rfl (lv_at hl 0 rfl) ?_
    refine gCalli C w (mX_strip l D a dB dJ ch (nI (cd_sum x).toNatClampNeg) fp fr fn ft (List.replicate (cd_sum x).toNatClampNeg 1) (by rw [List.length_replicate]; omega) cd_rep_in (by rw [List.length_replicate]) (cd_rep_f hf1) (cd_mk (cd_P x) 4) (cd_mk_lt (fun i _ => cd_P_lt x i) 4 (Nat.le_refl 4))) (cwV 1 hts (lw_V q75 q77 qs3 q15 q78) rfl rfl rfl (by decide +kernel) ⟨Nat.le_of_ble_eq_true rfl, Nat.le_of_ble_eq_true rfl⟩) rfl rfl rfl hl.1 rfl (Nat.le_of_ble_eq_true rfl) dX0_degree_25 ⟨Nat.zero_le _, Nat.zero_le _⟩ (fun r u H locs hq w => ?_)
    obtain ⟨rfl, fn, ft, rfl⟩ := hq
    exact gIret C w (⟨(if_neg hc7).symm, rfl⟩) dX0_degree_28
  · refine lv_ldc (v := cd_BAD) hx hb hown (hts _ q54) dX0_degree_10 ?_
    exact gIret C w (⟨(if_pos hc7).symm, rfl⟩) dX0_degree_12
set_option maxHeartbeats 4000000 in
set_option maxRecDepth 100000 in
theorem mX_at (l : Launch) (D : va_G) (a : Nat → Nat) (dB dJ : ClassId) (ch rc : Int32) (fp fr fn ft : Nat → Int32) (x : Int32) : gMi l yX0_at cX0_at 2 (some .int) (rmv 4) [.ref (a 0), .int x] D (tyX dB dJ) (wX a dB dJ) (ch, fp, fr, rc, fn, ft) (fun r u => r = cd_atX ch x ∧ u.1 = ch) := by
  refine gMi.of RX0 (by decide) rfl (Nat.le_of_ble_eq_true rfl) (fun p e s m below meth c A ls C w hl => ?_)
  obtain ⟨hx, hb, hr, hml, hown, hts, hA, hK, hlocks⟩ := id C
  refine lv_aload_n hx hb dX0_at_0 rfl (lv_at hl 0 rfl) ?_
  refine xg_ch C w dX0_at_1 ?_
  refine lv_if_ne (tgt := 12) hx hb dX0_at_4 (by decide) (fun hc4 => ?_) (fun hc4 => ?_)
  · refine lv_aload_n hx hb dX0_at_12 rfl (lv_at hl 0 rfl) ?_
    refine lv_aload_n hx hb dX0_at_13 rfl (lv_at hl 0 rfl) ?_
    refine xg_ch C w dX0_at_14 ?_
    refine lv_iload_n hx hb dX0_at_17 rfl (lv_at hl 1 rfl) ?_
    refine gCalli C w (mX_character l D a dB dJ ch rc fp fr fn ft ch x) (cwV 2 hts (lw_V q63 q64 q65 q15 q66) rfl rfl rfl (by decide +kernel) ⟨Nat.le_of_ble_eq_true rfl, Nat.le_of_ble_eq_true rfl⟩) rfl rfl rfl hl.1 rfl (Nat.le_of_ble_eq_true rfl) dX0_at_18 ⟨Nat.zero_le _, Nat.zero_le _⟩ (fun r u H locs hq w => ?_)
    obtain ⟨ch9, fp, fr, rc, fn, ft⟩ := u
    obtain ⟨rfl, h9⟩ := hq
    have h9 : ch = ch9 := (show ch9 = ch from h9).symm
    subst h9
    exact gIret C w (⟨(if_neg hc4).symm, rfl⟩) dX0_at_21
  · refine lv_ldc (v := cd_BAD) hx hb hown (hts _ q54) dX0_at_7 ?_
    refine lv_goto (tgt := 21) hx hb dX0_at_9 (by decide) ?_
    exact gIret C w (⟨(if_pos hc4).symm, rfl⟩) dX0_at_21
set_option maxHeartbeats 4000000 in
set_option maxRecDepth 100000 in
theorem mX_vanishes (l : Launch) (D : va_G) (a : Nat → Nat) (dB dJ : ClassId) (ch rc : Int32) (fp fr fn ft : Nat → Int32) (xs xm : Int32) : gMi l yX0_vanishes cX0_vanishes 3 (some .boolean) (rmv 4) [.ref (a 0), .int xs, .int xm] D (tyX dB dJ) (wX a dB dJ) (ch, fp, fr, rc, fn, ft) (fun r u => r = cd_vaX xs xm ∧ u.1 = ch) := by
  refine gMi.of RX0 (by decide) rfl (Nat.le_of_ble_eq_true rfl) (fun p e s m below meth c A ls C w hl => ?_)
  obtain ⟨hx, hb, hr, hml, hown, hts, hA, hK, hlocks⟩ := id C
  refine lv_aload_n hx hb dX0_vanishes_0 rfl (lv_at hl 0 rfl) ?_
  refine lv_iload_n hx hb dX0_vanishes_1 rfl (lv_at hl 1 rfl) ?_
  refine lv_iload_n hx hb dX0_vanishes_2 rfl (lv_at hl 2 rfl) ?_
  refine gCalli C w (mX_character l D a dB dJ ch rc fp fr fn ft xs xm) (cwV 2 hts (lw_V q63 q64 q65 q15 q66) rfl rfl rfl (by decide +kernel) ⟨Nat.le_of_ble_eq_true rfl, Nat.le_of_ble_eq_true rfl⟩) rfl rfl rfl hl.1 rfl (Nat.le_of_ble_eq_true rfl) dX0_vanishes_3 ⟨Nat.zero_le _, Nat.zero_le _⟩ (fun r u H locs hq w => ?_)
  obtain ⟨ch9, fp, fr, rc, fn, ft⟩ := u
  obtain ⟨rfl, h9⟩ := hq
  have h9 : ch = ch9 := (show ch9 = ch from h9).symm
  subst h9
  refine lv_if_ne (tgt := 13) hx hb dX0_vanishes_6 (by decide) (fun hc6 => ?_) (fun hc6 => ?_)
  · refine lv_iconst (v := 0) hx hb dX0_vanishes_13 (by decide) ?_
    exact gZret C w (rfl) (⟨(if_neg hc6).symm, rfl⟩) dX0_vanishes_14
  · refine lv_iconst (v := 1) hx hb dX0_vanishes_9 (by decide) ?_
    refine lv_goto (tgt := 14) hx hb dX0_vanishes_10 (by decide) ?_
    exact gZret C w (rfl) (⟨(if_pos hc6).symm, rfl⟩) dX0_vanishes_14
set_option maxHeartbeats 4000000 in
set_option maxRecDepth 100000 in
theorem lp_count {p : Program} {l : Launch} {e : Env} {s : State} {m : MethodId} {args : Array Value} {below : List Frame} {meth : Method} {c : Code} {D : va_G} {A : Nat → Prop} {a : Nat → Nat} {dB dJ : ClassId} {ch x : Int32} (C : gC RX0 cX0_count 4 (some .int) D (tyX dB dJ) A p s m args meth c) (hn : 1 ≤ x ∧ x ≤ 7) :
    ∀ (n i : Nat), i + n = 4095 → ∀ (fp fr : Nat → Int32) (rc : Int32) (fn ft : Nat → Int32) (H : Heap) (locs : List Loc) (ls : Array Slot), gW D A s (wX a dB dJ (ch, fp, fr, rc, fn, ft)) H locs → lv_has ls 4 [(0, .ref (a 0)), (1, .int x), (2, .int (cd_cn x i)), (3, .int (nI (i + 1)))] → W p l e (rmv 1) s m args below meth c H locs 0 0 (MQ below (va_Qi (fun r u => r = cd_cn x 4095 ∧ u.1 = ch) (gB D (tyX dB dJ) A (wX a dB dJ)) A) args s 0 0 A) (F0 m 4 ls []) := by
  obtain ⟨hx, hb, hr, hml, hown, hts, hA, hK, hlocks⟩ := id C
  intro n
  induction n with
  | zero =>
    intro i hi fp fr rc fn ft H locs ls w hl
    obtain rfl : i = 4095 := by omega
    refine lv_iload_n hx hb dX0_count_4 rfl (lv_at hl 3 rfl) ?_
    refine lv_sipush (v := 4096) hx hb dX0_count_5 (by decide) ?_
    refine lv_icmp_ge (tgt := 41) hx hb dX0_count_8 (by decide) (fun _ => ?_) (fun hc => absurd (nI_le (a := 4096) (b := 4095 + 1) (Nat.le_refl 4096) (by decide)) hc)
    refine lv_iload_n hx hb dX0_count_41 rfl (lv_at hl 2 rfl) ?_
    exact gIret C w (⟨rfl, rfl⟩) dX0_count_42
  | succ n ih =>
    intro i hi fp fr rc fn ft H locs ls w hl
    refine lv_iload_n hx hb dX0_count_4 rfl (lv_at hl 3 rfl) ?_
    refine lv_sipush (v := 4096) hx hb dX0_count_5 (by decide) ?_
    refine lv_icmp_ge (tgt := 41) hx hb dX0_count_8 (by decide) (fun hc => absurd hc (nI_ge (b := 4096) (by omega) (by decide))) (fun _ => ?_)
    refine lv_iload_n hx hb dX0_count_11 rfl (lv_at hl 1 rfl) ?_
    refine gCallsi C w (mX_isNumber l D a dB dJ ch rc fp fr fn ft x) (va_cwS 1 hts (lw_S q99 q100 q15 q101) rfl rfl rfl (by decide +kernel) ⟨Nat.le_of_ble_eq_true rfl, Nat.le_of_ble_eq_true rfl⟩) rfl hl.1 rfl (Nat.le_of_ble_eq_true rfl) dX0_count_12 ⟨Nat.zero_le _, Nat.zero_le _⟩ (fun r u H locs hq w => ?_)
    obtain ⟨rfl, rfl⟩ := hq
    refine lv_if_eq (tgt := 41) hx hb dX0_count_15 (by decide) (fun hc => absurd hc (by rw [if_pos hn]; decide)) (fun _ => ?_)
    refine lv_iload_n hx hb dX0_count_18 rfl (lv_at hl 2 rfl) ?_
    refine lv_aload_n hx hb dX0_count_19 rfl (lv_at hl 0 rfl) ?_
    refine lv_iload_n hx hb dX0_count_20 rfl (lv_at hl 3 rfl) ?_
    refine gCalli C w (mX_read l D a dB dJ ch rc fp fr fn ft (nI (i + 1))) (cwV 1 hts (lw_V q50 q52 qs0 q15 q53) rfl rfl rfl (by decide +kernel) ⟨Nat.le_of_ble_eq_true rfl, Nat.le_of_ble_eq_true rfl⟩) rfl rfl rfl hl.1 rfl (Nat.le_of_ble_eq_true rfl) dX0_count_21 ⟨Nat.zero_le _, Nat.zero_le _⟩ (fun r u H locs hq w => ?_)
    obtain ⟨rfl, fp, rfl, hp1⟩ := hq
    refine lv_iload_n hx hb dX0_count_24 rfl (lv_at hl 1 rfl) ?_
    refine lv_icmp_ne (tgt := 32) hx hb dX0_count_25 (by decide) (fun hc25 => ?_) (fun hc25 => ?_)
    · refine lv_iconst (v := 0) hx hb dX0_count_32 (by decide) ?_
      refine lv_iadd hx hb dX0_count_33 ?_
      refine cd_top (y := cd_cn x (i + 1)) (by rw [Int32.add_zero]; exact (if_neg hc25).symm) ?_
      refine lv_istore_n (lv' := [(2, .int (cd_cn x (i + 1))), (0, .ref (a 0)), (1, .int (x)), (3, .int (nI (i + 1)))]) hx hb dX0_count_34 rfl hl (by decide) rfl (fun ls hl => ?_)
      refine lv_iinc (v := nI ((i + 1) + 1)) (lv' := [(3, .int (nI ((i + 1) + 1))), (2, .int (cd_cn x (i + 1))), (0, .ref (a 0)), (1, .int (x))]) hx hb dX0_count_35 hl (k := 3) rfl (nI_1 _) (by decide) rfl (fun ls hl => ?_)
      refine lv_goto (tgt := 4) hx hb dX0_count_38 (by decide) ?_
      exact ih (i + 1) (by omega) _ _ _ _ _ _ _ _ w (lv_sub hl [2, 3, 1, 0] rfl)
    · refine lv_iconst (v := 1) hx hb dX0_count_28 (by decide) ?_
      refine lv_goto (tgt := 33) hx hb dX0_count_29 (by decide) ?_
      refine lv_iadd hx hb dX0_count_33 ?_
      refine cd_top (y := cd_cn x (i + 1)) ((if_pos hc25).symm) ?_
      refine lv_istore_n (lv' := [(2, .int (cd_cn x (i + 1))), (0, .ref (a 0)), (1, .int (x)), (3, .int (nI (i + 1)))]) hx hb dX0_count_34 rfl hl (by decide) rfl (fun ls hl => ?_)
      refine lv_iinc (v := nI ((i + 1) + 1)) (lv' := [(3, .int (nI ((i + 1) + 1))), (2, .int (cd_cn x (i + 1))), (0, .ref (a 0)), (1, .int (x))]) hx hb dX0_count_35 hl (k := 3) rfl (nI_1 _) (by decide) rfl (fun ls hl => ?_)
      refine lv_goto (tgt := 4) hx hb dX0_count_38 (by decide) ?_
      exact ih (i + 1) (by omega) _ _ _ _ _ _ _ _ w (lv_sub hl [2, 3, 1, 0] rfl)
set_option maxHeartbeats 4000000 in
set_option maxRecDepth 100000 in
theorem mX_count (l : Launch) (D : va_G) (a : Nat → Nat) (dB dJ : ClassId) (ch rc : Int32) (fp fr fn ft : Nat → Int32) (x : Int32) : gMi l yX0_count cX0_count 4 (some .int) (rmv 1) [.ref (a 0), .int x] D (tyX dB dJ) (wX a dB dJ) (ch, fp, fr, rc, fn, ft) (fun r u => r = cd_coX x ∧ u.1 = ch) := by
  refine gMi.of RX0 (by decide) rfl (Nat.le_of_ble_eq_true rfl) (fun p e s m below meth c A ls C w hl => ?_)
  obtain ⟨hx, hb, hr, hml, hown, hts, hA, hK, hlocks⟩ := id C
  by_cases hn : 1 ≤ x ∧ x ≤ 7
  · rw [show cd_coX x = cd_cn x 4095 from if_pos hn]
    refine lv_iconst (v := 0) hx hb dX0_count_0 (by decide) ?_
    refine lv_istore_n (lv' := [(2, .int (0)), (0, .ref (a 0)), (1, .int (x))]) hx hb dX0_count_1 rfl hl (by decide) rfl (fun ls hl => ?_)
    refine lv_iconst (v := 1) hx hb dX0_count_2 (by decide) ?_
    refine lv_istore_n (lv' := [(3, .int (1)), (2, .int (0)), (0, .ref (a 0)), (1, .int (x))]) hx hb dX0_count_3 rfl hl (by decide) rfl (fun ls hl => ?_)
    exact lp_count C hn 4095 0 rfl _ _ _ _ _ _ _ _ w (lv_sub hl [2, 3, 1, 0] rfl)
  · refine lv_iconst (v := 0) hx hb dX0_count_0 (by decide) ?_
    refine lv_istore_n (lv' := [(2, .int (0)), (0, .ref (a 0)), (1, .int (x))]) hx hb dX0_count_1 rfl hl (by decide) rfl (fun ls hl => ?_)
    refine lv_iconst (v := 1) hx hb dX0_count_2 (by decide) ?_
    refine lv_istore_n (lv' := [(3, .int (1)), (2, .int (0)), (0, .ref (a 0)), (1, .int (x))]) hx hb dX0_count_3 rfl hl (by decide) rfl (fun ls hl => ?_)
    refine lv_iload_n hx hb dX0_count_4 rfl (lv_at hl 0 rfl) ?_
    refine lv_sipush (v := 4096) hx hb dX0_count_5 (by decide) ?_
    refine lv_icmp_ge (tgt := 41) hx hb dX0_count_8 (by decide) (fun hc => absurd hc (by decide)) (fun _ => ?_)
    refine lv_iload_n hx hb dX0_count_11 rfl (lv_at hl 3 rfl) ?_
    refine gCallsi C w (mX_isNumber l D a dB dJ ch rc fp fr fn ft x) (va_cwS 1 hts (lw_S q99 q100 q15 q101) rfl rfl rfl (by decide +kernel) ⟨Nat.le_of_ble_eq_true rfl, Nat.le_of_ble_eq_true rfl⟩) rfl hl.1 rfl (Nat.le_of_ble_eq_true rfl) dX0_count_12 ⟨Nat.zero_le _, Nat.zero_le _⟩ (fun r u H locs hq w => ?_)
    obtain ⟨rfl, rfl⟩ := hq
    refine lv_if_eq (tgt := 41) hx hb dX0_count_15 (by decide) (fun _ => ?_) (fun hc => absurd (if_neg hn) hc)
    refine lv_iload_n hx hb dX0_count_41 rfl (lv_at hl 1 rfl) ?_
    exact gIret C w (⟨(if_neg hn).symm, rfl⟩) dX0_count_42
set_option maxHeartbeats 4000000 in
set_option maxRecDepth 100000 in
theorem lp_partition {p : Program} {l : Launch} {e : Env} {s : State} {m : MethodId} {args : Array Value} {below : List Frame} {meth : Method} {c : Code} {D : va_G} {A : Nat → Prop} {a : Nat → Nat} {dB dJ : ClassId} {ch x k V : Int32} (C : gC RX0 cX0_partition 5 (some .int) D (tyX dB dJ) A p s m args meth c) :
    ∀ (t : Nat) (seen : Int32), t ≤ 4095 → cd_pa x k t seen = V → ∀ (fp fr : Nat → Int32) (rc : Int32) (fn ft : Nat → Int32) (H : Heap) (locs : List Loc) (ls : Array Slot), gW D A s (wX a dB dJ (ch, fp, fr, rc, fn, ft)) H locs → lv_has ls 5 [(0, .ref (a 0)), (1, .int x), (2, .int k), (3, .int seen), (4, .int (nI t))] → W p l e (rmv 1) s m args below meth c H locs 0 0 (MQ below (va_Qi (fun r u => r = V ∧ u.1 = ch) (gB D (tyX dB dJ) A (wX a dB dJ)) A) args s 0 0 A) (F0 m 21 ls []) := by
  obtain ⟨hx, hb, hr, hml, hown, hts, hA, hK, hlocks⟩ := id C
  intro t
  induction t with
  | zero =>
    intro seen ht hV fp fr rc fn ft H locs ls w hl
    refine lv_iload hx hb dX0_partition_21 (lv_at hl 4 rfl) ?_
    refine lv_if_le (tgt := 53) hx hb dX0_partition_23 (by decide) (fun _ => ?_) (fun hc => absurd (by decide) hc)
    refine lv_ldc (v := cd_BAD) hx hb hown (hts _ q54) dX0_partition_53 ?_
    exact gIret C w (⟨hV, rfl⟩) dX0_partition_55
  | succ t ih =>
    intro seen ht hV fp fr rc fn ft H locs ls w hl
    refine lv_iload hx hb dX0_partition_21 (lv_at hl 4 rfl) ?_
    refine lv_if_le (tgt := 53) hx hb dX0_partition_23 (by decide) (fun hc => absurd hc (nI_nle (by omega) (by omega))) (fun _ => ?_)
    refine lv_aload_n hx hb dX0_partition_26 rfl (lv_at hl 0 rfl) ?_
    refine lv_iload hx hb dX0_partition_27 (lv_at hl 4 rfl) ?_
    refine gCalli C w (mX_read l D a dB dJ ch rc fp fr fn ft (nI (t + 1))) (cwV 1 hts (lw_V q50 q52 qs0 q15 q53) rfl rfl rfl (by decide +kernel) ⟨Nat.le_of_ble_eq_true rfl, Nat.le_of_ble_eq_true rfl⟩) rfl rfl rfl hl.1 rfl (Nat.le_of_ble_eq_true rfl) dX0_partition_29 ⟨Nat.zero_le _, Nat.zero_le _⟩ (fun r u H locs hq w => ?_)
    obtain ⟨rfl, fp, rfl, hp1⟩ := hq
    refine lv_iload_n hx hb dX0_partition_32 rfl (lv_at hl 1 rfl) ?_
    refine lv_icmp_ne (tgt := 47) hx hb dX0_partition_33 (by decide) (fun hc33 => ?_) (fun hc33 => ?_)
    · refine lv_iinc (v := nI t) (lv' := [(4, .int (nI t)), (0, .ref (a 0)), (1, .int (x)), (2, .int (k)), (3, .int (seen))]) hx hb dX0_partition_47 hl (k := 4) rfl (pk_m1 t) (by decide) rfl (fun ls hl => ?_)
      refine lv_goto (tgt := 21) hx hb dX0_partition_50 (by decide) ?_
      exact ih _ (by omega) ((if_neg hc33).symm.trans hV) _ _ _ _ _ _ _ _ w (lv_sub hl [1, 2, 3, 4, 0] rfl)
    · refine lv_iload_n hx hb dX0_partition_36 rfl (lv_at hl 3 rfl) ?_
      refine lv_iload_n hx hb dX0_partition_37 rfl (lv_at hl 2 rfl) ?_
      refine lv_icmp_ne (tgt := 44) hx hb dX0_partition_38 (by decide) (fun hc38 => ?_) (fun hc38 => ?_)
      · refine lv_iinc (v := seen + 1) (lv' := [(3, .int (seen + 1)), (0, .ref (a 0)), (1, .int (x)), (2, .int (k)), (4, .int (nI (t + 1)))]) hx hb dX0_partition_44 hl (k := 3) rfl (rfl) (by decide) rfl (fun ls hl => ?_)
        refine lv_iinc (v := nI t) (lv' := [(4, .int (nI t)), (3, .int (seen + 1)), (0, .ref (a 0)), (1, .int (x)), (2, .int (k))]) hx hb dX0_partition_47 hl (k := 4) rfl (pk_m1 t) (by decide) rfl (fun ls hl => ?_)
        refine lv_goto (tgt := 21) hx hb dX0_partition_50 (by decide) ?_
        exact ih _ (by omega) (((if_pos hc33).trans (if_neg hc38)).symm.trans hV) _ _ _ _ _ _ _ _ w (lv_sub hl [2, 3, 4, 1, 0] rfl)
      · refine lv_iload hx hb dX0_partition_41 (lv_at hl 4 rfl) ?_
        exact gIret C w (⟨((if_pos hc33).trans (if_pos hc38)).symm.trans hV, rfl⟩) dX0_partition_43
set_option maxHeartbeats 4000000 in
set_option maxRecDepth 100000 in
theorem mX_partition (l : Launch) (D : va_G) (a : Nat → Nat) (dB dJ : ClassId) (ch rc : Int32) (fp fr fn ft : Nat → Int32) (x k : Int32) : gMi l yX0_partition cX0_partition 5 (some .int) (rmv 1) [.ref (a 0), .int x, .int k] D (tyX dB dJ) (wX a dB dJ) (ch, fp, fr, rc, fn, ft) (fun r u => r = cd_paX x k ∧ u.1 = ch) := by
  refine gMi.of RX0 (by decide) rfl (Nat.le_of_ble_eq_true rfl) (fun p e s m below meth c A ls C w hl => ?_)
  obtain ⟨hx, hb, hr, hml, hown, hts, hA, hK, hlocks⟩ := id C
  by_cases hn : 1 ≤ x ∧ x ≤ 7
  · refine lv_iload_n hx hb dX0_partition_0 rfl (lv_at hl 1 rfl) ?_
    refine gCallsi C w (mX_isNumber l D a dB dJ ch rc fp fr fn ft x) (va_cwS 1 hts (lw_S q99 q100 q15 q101) rfl rfl rfl (by decide +kernel) ⟨Nat.le_of_ble_eq_true rfl, Nat.le_of_ble_eq_true rfl⟩) rfl hl.1 rfl (Nat.le_of_ble_eq_true rfl) dX0_partition_1 ⟨Nat.zero_le _, Nat.zero_le _⟩ (fun r u H locs hq w => ?_)
    obtain ⟨rfl, rfl⟩ := hq
    refine lv_if_eq (tgt := 11) hx hb dX0_partition_4 (by decide) (fun hc => absurd hc (by rw [if_pos hn]; decide)) (fun _ => ?_)
    refine lv_iload_n hx hb dX0_partition_7 rfl (lv_at hl 2 rfl) ?_
    refine lv_if_ge (tgt := 14) hx hb dX0_partition_8 (by decide) (fun hc8 => ?_) (fun hc8 => ?_)
    · rw [show cd_paX x k = cd_pa x k 4095 0 from if_pos ⟨hn, hc8⟩]
      refine lv_iconst (v := 0) hx hb dX0_partition_14 (by decide) ?_
      refine lv_istore_n (lv' := [(3, .int (0)), (0, .ref (a 0)), (1, .int (x)), (2, .int (k))]) hx hb dX0_partition_15 rfl hl (by decide) rfl (fun ls hl => ?_)
      refine lv_sipush (v := 4095) hx hb dX0_partition_16 (by decide) ?_
      refine lv_istore (lv' := [(4, .int (4095)), (3, .int (0)), (0, .ref (a 0)), (1, .int (x)), (2, .int (k))]) hx hb dX0_partition_19 hl (by decide) rfl (fun ls hl => ?_)
      exact lp_partition C 4095 0 (Nat.le_refl _) rfl _ _ _ _ _ _ _ _ w (lv_sub hl [2, 3, 4, 1, 0] rfl)
    · refine lv_ldc (v := cd_BAD) hx hb hown (hts _ q54) dX0_partition_11 ?_
      exact gIret C w (⟨(if_neg (fun h => hc8 h.2)).symm, rfl⟩) dX0_partition_13
  · refine lv_iload_n hx hb dX0_partition_0 rfl (lv_at hl 1 rfl) ?_
    refine gCallsi C w (mX_isNumber l D a dB dJ ch rc fp fr fn ft x) (va_cwS 1 hts (lw_S q99 q100 q15 q101) rfl rfl rfl (by decide +kernel) ⟨Nat.le_of_ble_eq_true rfl, Nat.le_of_ble_eq_true rfl⟩) rfl hl.1 rfl (Nat.le_of_ble_eq_true rfl) dX0_partition_1 ⟨Nat.zero_le _, Nat.zero_le _⟩ (fun r u H locs hq w => ?_)
    obtain ⟨rfl, rfl⟩ := hq
    refine lv_if_eq (tgt := 11) hx hb dX0_partition_4 (by decide) (fun _ => ?_) (fun hc => absurd (if_neg hn) hc)
    refine lv_ldc (v := cd_BAD) hx hb hown (hts _ q54) dX0_partition_11 ?_
    exact gIret C w (⟨(if_neg (fun h => hn h.1)).symm, rfl⟩) dX0_partition_13
set_option maxHeartbeats 4000000 in
set_option maxRecDepth 100000 in
theorem lp_squares {p : Program} {l : Launch} {e : Env} {s : State} {m : MethodId} {args : Array Value} {below : List Frame} {meth : Method} {c : Code} {D : va_G} {A : Nat → Prop} {a : Nat → Nat} {dB dJ : ClassId} {ch x : Int32} (C : gC RX0 cX0_squares 5 (some .int) D (tyX dB dJ) A p s m args meth c) :
    ∀ (n i : Nat), i + n = 4095 → ∀ (fp fr : Nat → Int32) (rc : Int32) (fn ft : Nat → Int32) (H : Heap) (locs : List Loc) (ls : Array Slot), gW D A s (wX a dB dJ (ch, fp, fr, rc, fn, ft)) H locs → lv_has ls 5 [(0, .ref (a 0)), (1, .int x), (2, .int (cd_sq cd_dgX x i)), (3, .int (nI (i + 1)))] → W p l e (rmv 4) s m args below meth c H locs 0 0 (MQ below (va_Qi (fun r u => r = cd_sq cd_dgX x 4095 ∧ u.1 = ch) (gB D (tyX dB dJ) A (wX a dB dJ)) A) args s 0 0 A) (F0 m 14 ls []) := by
  obtain ⟨hx, hb, hr, hml, hown, hts, hA, hK, hlocks⟩ := id C
  intro n
  induction n with
  | zero =>
    intro i hi fp fr rc fn ft H locs ls w hl
    obtain rfl : i = 4095 := by omega
    refine lv_iload_n hx hb dX0_squares_14 rfl (lv_at hl 3 rfl) ?_
    refine lv_sipush (v := 4096) hx hb dX0_squares_15 (by decide) ?_
    refine lv_icmp_ge (tgt := 51) hx hb dX0_squares_18 (by decide) (fun _ => ?_) (fun hc => absurd (nI_le (a := 4096) (b := 4095 + 1) (Nat.le_refl 4096) (by decide)) hc)
    refine lv_iload_n hx hb dX0_squares_51 rfl (lv_at hl 2 rfl) ?_
    exact gIret C w (⟨rfl, rfl⟩) dX0_squares_52
  | succ n ih =>
    intro i hi fp fr rc fn ft H locs ls w hl
    refine lv_iload_n hx hb dX0_squares_14 rfl (lv_at hl 3 rfl) ?_
    refine lv_sipush (v := 4096) hx hb dX0_squares_15 (by decide) ?_
    refine lv_icmp_ge (tgt := 51) hx hb dX0_squares_18 (by decide) (fun hc => absurd hc (nI_ge (b := 4096) (by omega) (by decide))) (fun _ => ?_)
    refine lv_aload_n hx hb dX0_squares_21 rfl (lv_at hl 0 rfl) ?_
    refine lv_iload_n hx hb dX0_squares_22 rfl (lv_at hl 3 rfl) ?_
    refine gCalli C w (mX_read l D a dB dJ ch rc fp fr fn ft (nI (i + 1))) (cwV 1 hts (lw_V q50 q52 qs0 q15 q53) rfl rfl rfl (by decide +kernel) ⟨Nat.le_of_ble_eq_true rfl, Nat.le_of_ble_eq_true rfl⟩) rfl rfl rfl hl.1 rfl (Nat.le_of_ble_eq_true rfl) dX0_squares_23 ⟨Nat.zero_le _, Nat.zero_le _⟩ (fun r u H locs hq w => ?_)
    obtain ⟨rfl, fp, rfl, hp1⟩ := hq
    refine lv_iload_n hx hb dX0_squares_26 rfl (lv_at hl 1 rfl) ?_
    refine lv_icmp_ne (tgt := 45) hx hb dX0_squares_27 (by decide) (fun hc27 => ?_) (fun hc27 => ?_)
    · have e9 : cd_sq cd_dgX x (i + 1) = cd_sq cd_dgX x i := if_neg hc27
      refine lv_iinc (v := nI ((i + 1) + 1)) (lv' := [(3, .int (nI ((i + 1) + 1))), (0, .ref (a 0)), (1, .int (x)), (2, .int (cd_sq cd_dgX x i))]) hx hb dX0_squares_45 hl (k := 3) rfl (nI_1 _) (by decide) rfl (fun ls hl => ?_)
      refine lv_goto (tgt := 14) hx hb dX0_squares_48 (by decide) ?_
      exact ih (i + 1) (by omega) _ _ _ _ _ _ _ _ w (by rw [e9]; exact (lv_sub hl [1, 2, 3, 0] rfl))
    · refine lv_aload_n hx hb dX0_squares_30 rfl (lv_at hl 0 rfl) ?_
      refine lv_iload_n hx hb dX0_squares_31 rfl (lv_at hl 3 rfl) ?_
      refine gCalli C w (mX_degree l D a dB dJ ch rc fp fr fn ft (nI (i + 1))) (cwV 1 hts (lw_V q118 q88 q89 q15 q90) rfl rfl rfl (by decide +kernel) ⟨Nat.le_of_ble_eq_true rfl, Nat.le_of_ble_eq_true rfl⟩) rfl rfl rfl hl.1 rfl (Nat.le_of_ble_eq_true rfl) dX0_squares_32 ⟨Nat.zero_le _, Nat.zero_le _⟩ (fun r u H locs hq w => ?_)
      obtain ⟨ch9, fp, fr, rc, fn, ft⟩ := u
      obtain ⟨rfl, h9⟩ := hq
      have h9 : ch = ch9 := (show ch9 = ch from h9).symm
      subst h9
      refine lv_istore (lv' := [(4, .int (cd_dgX (nI (i + 1)))), (0, .ref (a 0)), (1, .int (x)), (2, .int (cd_sq cd_dgX x i)), (3, .int (nI (i + 1)))]) hx hb dX0_squares_35 hl (by decide) rfl (fun ls hl => ?_)
      refine lv_iload_n hx hb dX0_squares_37 rfl (lv_at hl 3 rfl) ?_
      refine lv_iload hx hb dX0_squares_38 (lv_at hl 0 rfl) ?_
      refine lv_iload hx hb dX0_squares_40 (lv_at hl 0 rfl) ?_
      refine lv_imul hx hb dX0_squares_42 ?_
      refine lv_iadd hx hb dX0_squares_43 ?_
      refine cd_top (y := cd_sq cd_dgX x (i + 1)) ((if_pos hc27).symm) ?_
      refine lv_istore_n (lv' := [(2, .int (cd_sq cd_dgX x (i + 1))), (4, .int (cd_dgX (nI (i + 1)))), (0, .ref (a 0)), (1, .int (x)), (3, .int (nI (i + 1)))]) hx hb dX0_squares_44 rfl hl (by decide) rfl (fun ls hl => ?_)
      refine lv_iinc (v := nI ((i + 1) + 1)) (lv' := [(3, .int (nI ((i + 1) + 1))), (2, .int (cd_sq cd_dgX x (i + 1))), (4, .int (cd_dgX (nI (i + 1)))), (0, .ref (a 0)), (1, .int (x))]) hx hb dX0_squares_45 hl (k := 4) rfl (nI_1 _) (by decide) rfl (fun ls hl => ?_)
      refine lv_goto (tgt := 14) hx hb dX0_squares_48 (by decide) ?_
      exact ih (i + 1) (by omega) _ _ _ _ _ _ _ _ w (lv_sub hl [3, 4, 1, 0] rfl)
set_option maxHeartbeats 4000000 in
set_option maxRecDepth 100000 in
theorem mX_squares (l : Launch) (D : va_G) (a : Nat → Nat) (dB dJ : ClassId) (ch rc : Int32) (fp fr fn ft : Nat → Int32) (x : Int32) : gMi l yX0_squares cX0_squares 5 (some .int) (rmv 4) [.ref (a 0), .int x] D (tyX dB dJ) (wX a dB dJ) (ch, fp, fr, rc, fn, ft) (fun r u => r = cd_sqX x ∧ u.1 = ch) := by
  refine gMi.of RX0 (by decide) rfl (Nat.le_of_ble_eq_true rfl) (fun p e s m below meth c A ls C w hl => ?_)
  obtain ⟨hx, hb, hr, hml, hown, hts, hA, hK, hlocks⟩ := id C
  by_cases hn : 1 ≤ x ∧ x ≤ 7
  · rw [show cd_sqX x = cd_sq cd_dgX x 4095 from if_pos hn]
    refine lv_iload_n hx hb dX0_squares_0 rfl (lv_at hl 1 rfl) ?_
    refine gCallsi C w (mX_isNumber l D a dB dJ ch rc fp fr fn ft x) (va_cwS 1 hts (lw_S q99 q100 q15 q101) rfl rfl rfl (by decide +kernel) ⟨Nat.le_of_ble_eq_true rfl, Nat.le_of_ble_eq_true rfl⟩) rfl hl.1 rfl (Nat.le_of_ble_eq_true rfl) dX0_squares_1 ⟨Nat.zero_le _, Nat.zero_le _⟩ (fun r u H locs hq w => ?_)
    obtain ⟨rfl, rfl⟩ := hq
    refine lv_if_ne (tgt := 10) hx hb dX0_squares_4 (by decide) (fun _ => ?_) (fun hc => absurd hc (by rw [if_pos hn]; decide))
    refine lv_iconst (v := 0) hx hb dX0_squares_10 (by decide) ?_
    refine lv_istore_n (lv' := [(2, .int (0)), (0, .ref (a 0)), (1, .int (x))]) hx hb dX0_squares_11 rfl hl (by decide) rfl (fun ls hl => ?_)
    refine lv_iconst (v := 1) hx hb dX0_squares_12 (by decide) ?_
    refine lv_istore_n (lv' := [(3, .int (1)), (2, .int (0)), (0, .ref (a 0)), (1, .int (x))]) hx hb dX0_squares_13 rfl hl (by decide) rfl (fun ls hl => ?_)
    exact lp_squares C 4095 0 rfl _ _ _ _ _ _ _ _ w (lv_sub hl [2, 3, 1, 0] rfl)
  · refine lv_iload_n hx hb dX0_squares_0 rfl (lv_at hl 1 rfl) ?_
    refine gCallsi C w (mX_isNumber l D a dB dJ ch rc fp fr fn ft x) (va_cwS 1 hts (lw_S q99 q100 q15 q101) rfl rfl rfl (by decide +kernel) ⟨Nat.le_of_ble_eq_true rfl, Nat.le_of_ble_eq_true rfl⟩) rfl hl.1 rfl (Nat.le_of_ble_eq_true rfl) dX0_squares_1 ⟨Nat.zero_le _, Nat.zero_le _⟩ (fun r u H locs hq w => ?_)
    obtain ⟨rfl, rfl⟩ := hq
    refine lv_if_ne (tgt := 10) hx hb dX0_squares_4 (by decide) (fun hc => absurd (if_neg hn) hc) (fun _ => ?_)
    refine lv_ldc (v := cd_BAD) hx hb hown (hts _ q54) dX0_squares_7 ?_
    exact gIret C w (⟨(if_neg hn).symm, rfl⟩) dX0_squares_9
set_option maxHeartbeats 4000000 in
set_option maxRecDepth 100000 in
theorem lp_greatest {p : Program} {l : Launch} {e : Env} {s : State} {m : MethodId} {args : Array Value} {below : List Frame} {meth : Method} {c : Code} {D : va_G} {A : Nat → Prop} {a : Nat → Nat} {dB dJ : ClassId} {ch x : Int32} (C : gC RX0 cX0_greatest 6 (some .int) D (tyX dB dJ) A p s m args meth c) (hn : ¬ cd_sum x ≤ 0) :
    ∀ (n i : Nat), i + n = 4095 → ∀ (fp fr : Nat → Int32) (rc : Int32) (fn ft : Nat → Int32) (H : Heap) (locs : List Loc) (ls : Array Slot), gW D A s (wX a dB dJ (ch, fp, fr, rc, fn, ft)) H locs → lv_has ls 6 [(0, .ref (a 0)), (1, .int x), (2, .int (cd_sum x)), (3, .int (cd_gr (fun s => cd_chX s x) (cd_sum x) i)), (4, .int (nI (i + 1)))] → W p l e (rmv 4) s m args below meth c H locs 0 0 (MQ below (va_Qi (fun r u => r = cd_gr (fun s => cd_chX s x) (cd_sum x) 4095 ∧ u.1 = ch) (gB D (tyX dB dJ) A (wX a dB dJ)) A) args s 0 0 A) (F0 m 12 ls []) := by
  obtain ⟨hx, hb, hr, hml, hown, hts, hA, hK, hlocks⟩ := id C
  intro n
  induction n with
  | zero =>
    intro i hi fp fr rc fn ft H locs ls w hl
    obtain rfl : i = 4095 := by omega
    refine lv_iload hx hb dX0_greatest_12 (lv_at hl 4 rfl) ?_
    refine lv_sipush (v := 4096) hx hb dX0_greatest_14 (by decide) ?_
    refine lv_icmp_ge (tgt := 62) hx hb dX0_greatest_17 (by decide) (fun _ => ?_) (fun hc => absurd (nI_le (a := 4096) (b := 4095 + 1) (Nat.le_refl 4096) (by decide)) hc)
    refine lv_iload_n hx hb dX0_greatest_62 rfl (lv_at hl 3 rfl) ?_
    exact gIret C w (⟨rfl, rfl⟩) dX0_greatest_63
  | succ n ih =>
    intro i hi fp fr rc fn ft H locs ls w hl
    refine lv_iload hx hb dX0_greatest_12 (lv_at hl 4 rfl) ?_
    refine lv_sipush (v := 4096) hx hb dX0_greatest_14 (by decide) ?_
    refine lv_icmp_ge (tgt := 62) hx hb dX0_greatest_17 (by decide) (fun hc => absurd hc (nI_ge (b := 4096) (by omega) (by decide))) (fun _ => ?_)
    refine lv_iload_n hx hb dX0_greatest_20 rfl (lv_at hl 2 rfl) ?_
    refine lv_if_le (tgt := 62) hx hb dX0_greatest_21 (by decide) (fun hc => absurd hc (hn)) (fun _ => ?_)
    refine lv_aload_n hx hb dX0_greatest_24 rfl (lv_at hl 0 rfl) ?_
    refine lv_iload hx hb dX0_greatest_25 (lv_at hl 4 rfl) ?_
    refine gCalli C w (mX_read l D a dB dJ ch rc fp fr fn ft (nI (i + 1))) (cwV 1 hts (lw_V q50 q52 qs0 q15 q53) rfl rfl rfl (by decide +kernel) ⟨Nat.le_of_ble_eq_true rfl, Nat.le_of_ble_eq_true rfl⟩) rfl rfl rfl hl.1 rfl (Nat.le_of_ble_eq_true rfl) dX0_greatest_27 ⟨Nat.zero_le _, Nat.zero_le _⟩ (fun r u H locs hq w => ?_)
    obtain ⟨rfl, fp, rfl, hp1⟩ := hq
    refine lv_iload_n hx hb dX0_greatest_30 rfl (lv_at hl 2 rfl) ?_
    refine lv_icmp_ne (tgt := 56) hx hb dX0_greatest_31 (by decide) (fun hc31 => ?_) (fun hc31 => ?_)
    · have e9 : cd_gr (fun s => cd_chX s x) (cd_sum x) (i + 1) = cd_gr (fun s => cd_chX s x) (cd_sum x) i := if_neg hc31
      refine lv_iinc (v := nI ((i + 1) + 1)) (lv' := [(4, .int (nI ((i + 1) + 1))), (0, .ref (a 0)), (1, .int (x)), (2, .int (cd_sum x)), (3, .int (cd_gr (fun s => cd_chX s x) (cd_sum x) i))]) hx hb dX0_greatest_56 hl (k := 4) rfl (nI_1 _) (by decide) rfl (fun ls hl => ?_)
      refine lv_goto (tgt := 12) hx hb dX0_greatest_59 (by decide) ?_
      exact ih (i + 1) (by omega) _ _ _ _ _ _ _ _ w (by rw [e9]; exact (lv_sub hl [1, 2, 3, 4, 0] rfl))
    · refine lv_aload_n hx hb dX0_greatest_34 rfl (lv_at hl 0 rfl) ?_
      refine lv_iload hx hb dX0_greatest_35 (lv_at hl 4 rfl) ?_
      refine lv_iload_n hx hb dX0_greatest_37 rfl (lv_at hl 1 rfl) ?_
      refine gCalli C w (mX_character l D a dB dJ ch rc fp fr fn ft (nI (i + 1)) x) (cwV 2 hts (lw_V q63 q64 q65 q15 q66) rfl rfl rfl (by decide +kernel) ⟨Nat.le_of_ble_eq_true rfl, Nat.le_of_ble_eq_true rfl⟩) rfl rfl rfl hl.1 rfl (Nat.le_of_ble_eq_true rfl) dX0_greatest_38 ⟨Nat.zero_le _, Nat.zero_le _⟩ (fun r u H locs hq w => ?_)
      obtain ⟨ch9, fp, fr, rc, fn, ft⟩ := u
      obtain ⟨rfl, h9⟩ := hq
      have h9 : ch = ch9 := (show ch9 = ch from h9).symm
      subst h9
      refine lv_istore (lv' := [(5, .int (cd_chX (nI (i + 1)) x)), (0, .ref (a 0)), (1, .int (x)), (2, .int (cd_sum x)), (3, .int (cd_gr (fun s => cd_chX s x) (cd_sum x) i)), (4, .int (nI (i + 1)))]) hx hb dX0_greatest_41 hl (by decide) rfl (fun ls hl => ?_)
      refine lv_iload hx hb dX0_greatest_43 (lv_at hl 0 rfl) ?_
      refine lv_iload_n hx hb dX0_greatest_45 rfl (lv_at hl 4 rfl) ?_
      refine lv_icmp_le (tgt := 54) hx hb dX0_greatest_46 (by decide) (fun hc46 => ?_) (fun hc46 => ?_)
      · refine lv_iload_n hx hb dX0_greatest_54 rfl (lv_at hl 4 rfl) ?_
        refine cd_top (y := cd_gr (fun s => cd_chX s x) (cd_sum x) (i + 1)) (((if_pos hc31).trans (if_pos hc46)).symm) ?_
        refine lv_istore_n (lv' := [(3, .int (cd_gr (fun s => cd_chX s x) (cd_sum x) (i + 1))), (5, .int (cd_chX (nI (i + 1)) x)), (0, .ref (a 0)), (1, .int (x)), (2, .int (cd_sum x)), (4, .int (nI (i + 1)))]) hx hb dX0_greatest_55 rfl hl (by decide) rfl (fun ls hl => ?_)
        refine lv_iinc (v := nI ((i + 1) + 1)) (lv' := [(4, .int (nI ((i + 1) + 1))), (3, .int (cd_gr (fun s => cd_chX s x) (cd_sum x) (i + 1))), (5, .int (cd_chX (nI (i + 1)) x)), (0, .ref (a 0)), (1, .int (x)), (2, .int (cd_sum x))]) hx hb dX0_greatest_56 hl (k := 5) rfl (nI_1 _) (by decide) rfl (fun ls hl => ?_)
        refine lv_goto (tgt := 12) hx hb dX0_greatest_59 (by decide) ?_
        exact ih (i + 1) (by omega) _ _ _ _ _ _ _ _ w (lv_sub hl [3, 4, 5, 1, 0] rfl)
      · refine lv_iload hx hb dX0_greatest_49 (lv_at hl 0 rfl) ?_
        refine cd_top (y := cd_gr (fun s => cd_chX s x) (cd_sum x) (i + 1)) (((if_pos hc31).trans (if_neg hc46)).symm) ?_
        refine lv_goto (tgt := 55) hx hb dX0_greatest_51 (by decide) ?_
        refine lv_istore_n (lv' := [(3, .int (cd_gr (fun s => cd_chX s x) (cd_sum x) (i + 1))), (5, .int (cd_chX (nI (i + 1)) x)), (0, .ref (a 0)), (1, .int (x)), (2, .int (cd_sum x)), (4, .int (nI (i + 1)))]) hx hb dX0_greatest_55 rfl hl (by decide) rfl (fun ls hl => ?_)
        refine lv_iinc (v := nI ((i + 1) + 1)) (lv' := [(4, .int (nI ((i + 1) + 1))), (3, .int (cd_gr (fun s => cd_chX s x) (cd_sum x) (i + 1))), (5, .int (cd_chX (nI (i + 1)) x)), (0, .ref (a 0)), (1, .int (x)), (2, .int (cd_sum x))]) hx hb dX0_greatest_56 hl (k := 5) rfl (nI_1 _) (by decide) rfl (fun ls hl => ?_)
        refine lv_goto (tgt := 12) hx hb dX0_greatest_59 (by decide) ?_
        exact ih (i + 1) (by omega) _ _ _ _ _ _ _ _ w (lv_sub hl [3, 4, 5, 1, 0] rfl)
set_option maxHeartbeats 4000000 in
set_option maxRecDepth 100000 in
theorem mX_greatest (l : Launch) (D : va_G) (a : Nat → Nat) (dB dJ : ClassId) (ch rc : Int32) (fp fr fn ft : Nat → Int32) (x : Int32) : gMi l yX0_greatest cX0_greatest 6 (some .int) (rmv 4) [.ref (a 0), .int x] D (tyX dB dJ) (wX a dB dJ) (ch, fp, fr, rc, fn, ft) (fun r u => r = cd_grX x ∧ u.1 = ch) := by
  refine gMi.of RX0 (by decide) rfl (Nat.le_of_ble_eq_true rfl) (fun p e s m below meth c A ls C w hl => ?_)
  obtain ⟨hx, hb, hr, hml, hown, hts, hA, hK, hlocks⟩ := id C
  by_cases hn : cd_sum x ≤ 0
  · refine lv_aload_n hx hb dX0_greatest_0 rfl (lv_at hl 0 rfl) ?_
    refine lv_iload_n hx hb dX0_greatest_1 rfl (lv_at hl 1 rfl) ?_
    refine gCalli C w (mX_read l D a dB dJ ch rc fp fr fn ft x) (cwV 1 hts (lw_V q50 q52 qs0 q15 q53) rfl rfl rfl (by decide +kernel) ⟨Nat.le_of_ble_eq_true rfl, Nat.le_of_ble_eq_true rfl⟩) rfl rfl rfl hl.1 rfl (Nat.le_of_ble_eq_true rfl) dX0_greatest_2 ⟨Nat.zero_le _, Nat.zero_le _⟩ (fun r u H locs hq w => ?_)
    obtain ⟨rfl, fp, rfl, hp1⟩ := hq
    refine lv_istore_n (lv' := [(2, .int (cd_sum x)), (0, .ref (a 0)), (1, .int (x))]) hx hb dX0_greatest_5 rfl hl (by decide) rfl (fun ls hl => ?_)
    refine lv_ldc (v := cd_BAD) hx hb hown (hts _ q54) dX0_greatest_6 ?_
    refine lv_istore_n (lv' := [(3, .int (cd_BAD)), (2, .int (cd_sum x)), (0, .ref (a 0)), (1, .int (x))]) hx hb dX0_greatest_8 rfl hl (by decide) rfl (fun ls hl => ?_)
    refine lv_iconst (v := 1) hx hb dX0_greatest_9 (by decide) ?_
    refine lv_istore (lv' := [(4, .int (1)), (3, .int (cd_BAD)), (2, .int (cd_sum x)), (0, .ref (a 0)), (1, .int (x))]) hx hb dX0_greatest_10 hl (by decide) rfl (fun ls hl => ?_)
    refine lv_iload hx hb dX0_greatest_12 (lv_at hl 0 rfl) ?_
    refine lv_sipush (v := 4096) hx hb dX0_greatest_14 (by decide) ?_
    refine lv_icmp_ge (tgt := 62) hx hb dX0_greatest_17 (by decide) (fun hc => absurd hc (by decide)) (fun _ => ?_)
    refine lv_iload_n hx hb dX0_greatest_20 rfl (lv_at hl 2 rfl) ?_
    refine lv_if_le (tgt := 62) hx hb dX0_greatest_21 (by decide) (fun _ => ?_) (fun hc => absurd (hn) hc)
    refine lv_iload_n hx hb dX0_greatest_62 rfl (lv_at hl 1 rfl) ?_
    exact gIret C w (⟨(if_pos hn).symm, rfl⟩) dX0_greatest_63
  · rw [show cd_grX x = cd_gr (fun s => cd_chX s x) (cd_sum x) 4095 from if_neg hn]
    refine lv_aload_n hx hb dX0_greatest_0 rfl (lv_at hl 0 rfl) ?_
    refine lv_iload_n hx hb dX0_greatest_1 rfl (lv_at hl 1 rfl) ?_
    refine gCalli C w (mX_read l D a dB dJ ch rc fp fr fn ft x) (cwV 1 hts (lw_V q50 q52 qs0 q15 q53) rfl rfl rfl (by decide +kernel) ⟨Nat.le_of_ble_eq_true rfl, Nat.le_of_ble_eq_true rfl⟩) rfl rfl rfl hl.1 rfl (Nat.le_of_ble_eq_true rfl) dX0_greatest_2 ⟨Nat.zero_le _, Nat.zero_le _⟩ (fun r u H locs hq w => ?_)
    obtain ⟨rfl, fp, rfl, hp1⟩ := hq
    refine lv_istore_n (lv' := [(2, .int (cd_sum x)), (0, .ref (a 0)), (1, .int (x))]) hx hb dX0_greatest_5 rfl hl (by decide) rfl (fun ls hl => ?_)
    refine lv_ldc (v := cd_BAD) hx hb hown (hts _ q54) dX0_greatest_6 ?_
    refine lv_istore_n (lv' := [(3, .int (cd_BAD)), (2, .int (cd_sum x)), (0, .ref (a 0)), (1, .int (x))]) hx hb dX0_greatest_8 rfl hl (by decide) rfl (fun ls hl => ?_)
    refine lv_iconst (v := 1) hx hb dX0_greatest_9 (by decide) ?_
    refine lv_istore (lv' := [(4, .int (1)), (3, .int (cd_BAD)), (2, .int (cd_sum x)), (0, .ref (a 0)), (1, .int (x))]) hx hb dX0_greatest_10 hl (by decide) rfl (fun ls hl => ?_)
    exact lp_greatest C hn 4095 0 rfl _ _ _ _ _ _ _ _ w (lv_sub hl [3, 4, 2, 1, 0] rfl)
set_option maxHeartbeats 4000000 in
set_option maxRecDepth 100000 in
theorem lp_support {p : Program} {l : Launch} {e : Env} {s : State} {m : MethodId} {args : Array Value} {below : List Frame} {meth : Method} {c : Code} {D : va_G} {A : Nat → Prop} {a : Nat → Nat} {dB dJ : ClassId} {ch x : Int32} (C : gC RX0 cX0_support 6 (some .int) D (tyX dB dJ) A p s m args meth c) :
    ∀ (n i : Nat), i + n = 4095 → ∀ (fp fr : Nat → Int32) (rc : Int32) (fn ft : Nat → Int32) (H : Heap) (locs : List Loc) (ls : Array Slot), gW D A s (wX a dB dJ (ch, fp, fr, rc, fn, ft)) H locs → lv_has ls 6 [(0, .ref (a 0)), (1, .int x), (2, .int (cd_sum x)), (3, .int (cd_su (fun s => cd_chX s x) (cd_sum x) i)), (4, .int (nI (i + 1)))] → W p l e (rmv 4) s m args below meth c H locs 0 0 (MQ below (va_Qi (fun r u => r = cd_su (fun s => cd_chX s x) (cd_sum x) 4095 ∧ u.1 = ch) (gB D (tyX dB dJ) A (wX a dB dJ)) A) args s 0 0 A) (F0 m 18 ls []) := by
  obtain ⟨hx, hb, hr, hml, hown, hts, hA, hK, hlocks⟩ := id C
  intro n
  induction n with
  | zero =>
    intro i hi fp fr rc fn ft H locs ls w hl
    obtain rfl : i = 4095 := by omega
    refine lv_iload hx hb dX0_support_18 (lv_at hl 4 rfl) ?_
    refine lv_sipush (v := 4096) hx hb dX0_support_20 (by decide) ?_
    refine lv_icmp_ge (tgt := 64) hx hb dX0_support_23 (by decide) (fun _ => ?_) (fun hc => absurd (nI_le (a := 4096) (b := 4095 + 1) (Nat.le_refl 4096) (by decide)) hc)
    refine lv_iload_n hx hb dX0_support_64 rfl (lv_at hl 3 rfl) ?_
    exact gIret C w (⟨rfl, rfl⟩) dX0_support_65
  | succ n ih =>
    intro i hi fp fr rc fn ft H locs ls w hl
    refine lv_iload hx hb dX0_support_18 (lv_at hl 4 rfl) ?_
    refine lv_sipush (v := 4096) hx hb dX0_support_20 (by decide) ?_
    refine lv_icmp_ge (tgt := 64) hx hb dX0_support_23 (by decide) (fun hc => absurd hc (nI_ge (b := 4096) (by omega) (by decide))) (fun _ => ?_)
    refine lv_aload_n hx hb dX0_support_26 rfl (lv_at hl 0 rfl) ?_
    refine lv_iload hx hb dX0_support_27 (lv_at hl 4 rfl) ?_
    refine gCalli C w (mX_read l D a dB dJ ch rc fp fr fn ft (nI (i + 1))) (cwV 1 hts (lw_V q50 q52 qs0 q15 q53) rfl rfl rfl (by decide +kernel) ⟨Nat.le_of_ble_eq_true rfl, Nat.le_of_ble_eq_true rfl⟩) rfl rfl rfl hl.1 rfl (Nat.le_of_ble_eq_true rfl) dX0_support_29 ⟨Nat.zero_le _, Nat.zero_le _⟩ (fun r u H locs hq w => ?_)
    obtain ⟨rfl, fp, rfl, hp1⟩ := hq
    refine lv_iload_n hx hb dX0_support_32 rfl (lv_at hl 2 rfl) ?_
    refine lv_icmp_ne (tgt := 58) hx hb dX0_support_33 (by decide) (fun hc33 => ?_) (fun hc33 => ?_)
    · have e9 : cd_su (fun s => cd_chX s x) (cd_sum x) (i + 1) = cd_su (fun s => cd_chX s x) (cd_sum x) i := if_neg (fun h => hc33 h.1)
      refine lv_iinc (v := nI ((i + 1) + 1)) (lv' := [(4, .int (nI ((i + 1) + 1))), (0, .ref (a 0)), (1, .int (x)), (2, .int (cd_sum x)), (3, .int (cd_su (fun s => cd_chX s x) (cd_sum x) i))]) hx hb dX0_support_58 hl (k := 4) rfl (nI_1 _) (by decide) rfl (fun ls hl => ?_)
      refine lv_goto (tgt := 18) hx hb dX0_support_61 (by decide) ?_
      exact ih (i + 1) (by omega) _ _ _ _ _ _ _ _ w (by rw [e9]; exact (lv_sub hl [1, 2, 3, 4, 0] rfl))
    · refine lv_aload_n hx hb dX0_support_36 rfl (lv_at hl 0 rfl) ?_
      refine lv_iload hx hb dX0_support_37 (lv_at hl 4 rfl) ?_
      refine lv_iload_n hx hb dX0_support_39 rfl (lv_at hl 1 rfl) ?_
      refine gCalli C w (mX_character l D a dB dJ ch rc fp fr fn ft (nI (i + 1)) x) (cwV 2 hts (lw_V q63 q64 q65 q15 q66) rfl rfl rfl (by decide +kernel) ⟨Nat.le_of_ble_eq_true rfl, Nat.le_of_ble_eq_true rfl⟩) rfl rfl rfl hl.1 rfl (Nat.le_of_ble_eq_true rfl) dX0_support_40 ⟨Nat.zero_le _, Nat.zero_le _⟩ (fun r u H locs hq w => ?_)
      obtain ⟨ch9, fp, fr, rc, fn, ft⟩ := u
      obtain ⟨rfl, h9⟩ := hq
      have h9 : ch = ch9 := (show ch9 = ch from h9).symm
      subst h9
      refine lv_istore (lv' := [(5, .int (cd_chX (nI (i + 1)) x)), (0, .ref (a 0)), (1, .int (x)), (2, .int (cd_sum x)), (3, .int (cd_su (fun s => cd_chX s x) (cd_sum x) i)), (4, .int (nI (i + 1)))]) hx hb dX0_support_43 hl (by decide) rfl (fun ls hl => ?_)
      refine lv_iload_n hx hb dX0_support_45 rfl (lv_at hl 4 rfl) ?_
      refine lv_iload hx hb dX0_support_46 (lv_at hl 0 rfl) ?_
      refine lv_if_eq (tgt := 55) hx hb dX0_support_48 (by decide) (fun hc48 => ?_) (fun hc48 => ?_)
      · refine lv_iconst (v := 0) hx hb dX0_support_55 (by decide) ?_
        refine lv_iadd hx hb dX0_support_56 ?_
        refine cd_top (y := cd_su (fun s => cd_chX s x) (cd_sum x) (i + 1)) (by rw [Int32.add_zero]; exact (if_neg (fun h => h.2 hc48)).symm) ?_
        refine lv_istore_n (lv' := [(3, .int (cd_su (fun s => cd_chX s x) (cd_sum x) (i + 1))), (5, .int (cd_chX (nI (i + 1)) x)), (0, .ref (a 0)), (1, .int (x)), (2, .int (cd_sum x)), (4, .int (nI (i + 1)))]) hx hb dX0_support_57 rfl hl (by decide) rfl (fun ls hl => ?_)
        refine lv_iinc (v := nI ((i + 1) + 1)) (lv' := [(4, .int (nI ((i + 1) + 1))), (3, .int (cd_su (fun s => cd_chX s x) (cd_sum x) (i + 1))), (5, .int (cd_chX (nI (i + 1)) x)), (0, .ref (a 0)), (1, .int (x)), (2, .int (cd_sum x))]) hx hb dX0_support_58 hl (k := 5) rfl (nI_1 _) (by decide) rfl (fun ls hl => ?_)
        refine lv_goto (tgt := 18) hx hb dX0_support_61 (by decide) ?_
        exact ih (i + 1) (by omega) _ _ _ _ _ _ _ _ w (lv_sub hl [3, 4, 5, 1, 0] rfl)
      · refine lv_iconst (v := 1) hx hb dX0_support_51 (by decide) ?_
        refine lv_goto (tgt := 56) hx hb dX0_support_52 (by decide) ?_
        refine lv_iadd hx hb dX0_support_56 ?_
        refine cd_top (y := cd_su (fun s => cd_chX s x) (cd_sum x) (i + 1)) ((if_pos ⟨hc33, hc48⟩).symm) ?_
        refine lv_istore_n (lv' := [(3, .int (cd_su (fun s => cd_chX s x) (cd_sum x) (i + 1))), (5, .int (cd_chX (nI (i + 1)) x)), (0, .ref (a 0)), (1, .int (x)), (2, .int (cd_sum x)), (4, .int (nI (i + 1)))]) hx hb dX0_support_57 rfl hl (by decide) rfl (fun ls hl => ?_)
        refine lv_iinc (v := nI ((i + 1) + 1)) (lv' := [(4, .int (nI ((i + 1) + 1))), (3, .int (cd_su (fun s => cd_chX s x) (cd_sum x) (i + 1))), (5, .int (cd_chX (nI (i + 1)) x)), (0, .ref (a 0)), (1, .int (x)), (2, .int (cd_sum x))]) hx hb dX0_support_58 hl (k := 5) rfl (nI_1 _) (by decide) rfl (fun ls hl => ?_)
        refine lv_goto (tgt := 18) hx hb dX0_support_61 (by decide) ?_
        exact ih (i + 1) (by omega) _ _ _ _ _ _ _ _ w (lv_sub hl [3, 4, 5, 1, 0] rfl)
set_option maxHeartbeats 4000000 in
set_option maxRecDepth 100000 in
theorem mX_support (l : Launch) (D : va_G) (a : Nat → Nat) (dB dJ : ClassId) (ch rc : Int32) (fp fr fn ft : Nat → Int32) (x : Int32) : gMi l yX0_support cX0_support 6 (some .int) (rmv 4) [.ref (a 0), .int x] D (tyX dB dJ) (wX a dB dJ) (ch, fp, fr, rc, fn, ft) (fun r u => r = cd_suX x ∧ u.1 = ch) := by
  refine gMi.of RX0 (by decide) rfl (Nat.le_of_ble_eq_true rfl) (fun p e s m below meth c A ls C w hl => ?_)
  obtain ⟨hx, hb, hr, hml, hown, hts, hA, hK, hlocks⟩ := id C
  refine lv_aload_n hx hb dX0_support_0 rfl (lv_at hl 0 rfl) ?_
  refine lv_iload_n hx hb dX0_support_1 rfl (lv_at hl 1 rfl) ?_
  refine gCalli C w (mX_read l D a dB dJ ch rc fp fr fn ft x) (cwV 1 hts (lw_V q50 q52 qs0 q15 q53) rfl rfl rfl (by decide +kernel) ⟨Nat.le_of_ble_eq_true rfl, Nat.le_of_ble_eq_true rfl⟩) rfl rfl rfl hl.1 rfl (Nat.le_of_ble_eq_true rfl) dX0_support_2 ⟨Nat.zero_le _, Nat.zero_le _⟩ (fun r u H locs hq w => ?_)
  obtain ⟨rfl, fp, rfl, hp1⟩ := hq
  refine lv_istore_n (lv' := [(2, .int (cd_sum x)), (0, .ref (a 0)), (1, .int (x))]) hx hb dX0_support_5 rfl hl (by decide) rfl (fun ls hl => ?_)
  refine lv_iload_n hx hb dX0_support_6 rfl (lv_at hl 0 rfl) ?_
  refine lv_if_ne (tgt := 13) hx hb dX0_support_7 (by decide) (fun hc7 => ?_) (fun hc7 => ?_)
  · rw [show cd_suX x = cd_su (fun s => cd_chX s x) (cd_sum x) 4095 from if_neg hc7]
    refine lv_iconst (v := 0) hx hb dX0_support_13 (by decide) ?_
    refine lv_istore_n (lv' := [(3, .int (0)), (2, .int (cd_sum x)), (0, .ref (a 0)), (1, .int (x))]) hx hb dX0_support_14 rfl hl (by decide) rfl (fun ls hl => ?_)
    refine lv_iconst (v := 1) hx hb dX0_support_15 (by decide) ?_
    refine lv_istore (lv' := [(4, .int (1)), (3, .int (0)), (2, .int (cd_sum x)), (0, .ref (a 0)), (1, .int (x))]) hx hb dX0_support_16 hl (by decide) rfl (fun ls hl => ?_)
    exact lp_support C 4095 0 rfl _ _ _ _ _ _ _ _ w (lv_sub hl [3, 4, 2, 1, 0] rfl)
  · refine lv_ldc (v := cd_BAD) hx hb hown (hts _ q54) dX0_support_10 ?_
    exact gIret C w (⟨(if_pos hc7).symm, rfl⟩) dX0_support_12
end
section
/-! CharacterDesk: turned, permutations (printed by gen_X4.py) -/
set_option maxRecDepth 100000
theorem cd_cl_no {P : Nat → Nat} {col i : Nat} (h : ¬ col ≤ P i) : nI (cd_cl P col i) + 0 = nI (cd_cl P col (i + 1)) := by
  rw [Int32.add_zero]
  show _ = nI (cd_cl P col i + (if col ≤ P i then 1 else 0))
  rw [if_neg h]
  rfl
theorem cd_cl_yes {P : Nat → Nat} {col i : Nat} (h : col ≤ P i) : nI (cd_cl P col i) + 1 = nI (cd_cl P col (i + 1)) := by
  show _ = nI (cd_cl P col i + (if col ≤ P i then 1 else 0))
  rw [if_pos h]
  exact nI_1 _
set_option maxHeartbeats 4000000 in
set_option maxRecDepth 100000 in
theorem lp_turned1 {p : Program} {l : Launch} {e : Env} {s : State} {m : MethodId} {args : Array Value} {below : List Frame} {meth : Method} {c : Code} {D : va_G} {A : Nat → Prop} {a : Nat → Nat} {dB dJ : ClassId} {Q : State → Prop} {cells slots : Nat} {R : Room} {ch rc y : Int32} {fp fr fn ft : Nat → Int32} (C : gC RX0 cX0_turned 6 (some .int) D (tyX dB dJ) A p s m args meth c) (P : Nat → Nat) (hP : ∀ i, i < 4 → fp i = nI (P i) ∧ P i < 8) (col : Nat) (hcol : col ≤ 4) {H : Heap} {locs : List Loc} (w : gW D A s (wX a dB dJ (ch, fp, fr, rc, fn, ft)) H locs)
    (K : ∀ ls : Array Slot, lv_has ls 6 [(0, .ref (a 0)), (2, .int y), (3, .int (nI col)), (4, .int (nI (cd_cl P col 4)))] → W p l e R s m args below meth c H locs cells slots Q (F0 m 69 ls [])) :
    ∀ (n i : Nat), i + n = 4 → ∀ ls : Array Slot, lv_has ls 6 [(0, .ref (a 0)), (2, .int y), (3, .int (nI col)), (4, .int (nI (cd_cl P col i))), (5, .int (nI i))] → W p l e R s m args below meth c H locs cells slots Q (F0 m 36 ls []) := by
  obtain ⟨hx, hb, hr, hml, hown, hts, hA, hK, hlocks⟩ := id C
  intro n
  induction n with
  | zero =>
    intro i hi ls hl
    obtain rfl : i = 4 := by omega
    refine lv_iload hx hb dX0_turned_36 (lv_at hl 4 rfl) ?_
    refine lv_iconst (v := 4) hx hb dX0_turned_38 (by decide) ?_
    refine lv_icmp_ge (tgt := 69) hx hb dX0_turned_39 (by decide) (fun _ => ?_) (fun hc => absurd (nI_le (a := 4) (Nat.le_refl 4) (by decide)) hc)
    exact K _ (lv_sub hl [0, 1, 2, 3] rfl)
  | succ n ih =>
    intro i hi ls hl
    have hp := hP i (by omega)
    refine lv_iload hx hb dX0_turned_36 (lv_at hl 4 rfl) ?_
    refine lv_iconst (v := 4) hx hb dX0_turned_38 (by decide) ?_
    refine lv_icmp_ge (tgt := 69) hx hb dX0_turned_39 (by decide) (fun hc => absurd hc (nI_ge (b := 4) (by omega) (by decide))) (fun _ => ?_)
    refine lv_iload hx hb dX0_turned_42 (lv_at hl 3 rfl) ?_
    refine lv_aload_n hx hb dX0_turned_44 rfl (lv_at hl 0 rfl) ?_
    refine xg_p C w dX0_turned_45 ?_
    refine lv_iload hx hb dX0_turned_48 (lv_at hl 4 rfl) ?_
    refine xl_p C w i (by omega) dX0_turned_50 ?_
    refine cd_top (y := nI (P i)) (hp.1) ?_
    refine lv_iload_n hx hb dX0_turned_51 rfl (lv_at hl 2 rfl) ?_
    refine lv_icmp_lt (tgt := 59) hx hb dX0_turned_52 (by decide) (fun hc52 => ?_) (fun hc52 => ?_)
    · refine lv_iconst (v := 0) hx hb dX0_turned_59 (by decide) ?_
      refine lv_iadd hx hb dX0_turned_60 ?_
      refine cd_top (y := nI (cd_cl P col (i + 1))) (cd_cl_no (Nat.not_le.mpr ((nI_ltI (by omega) (by omega)).mp hc52))) ?_
      refine lv_istore (lv' := [(4, .int (nI (cd_cl P col (i + 1)))), (0, .ref (a 0)), (2, .int (y)), (3, .int (nI col)), (5, .int (nI i))]) hx hb dX0_turned_61 hl (by decide) rfl (fun ls hl => ?_)
      refine lv_iinc (v := nI (i + 1)) (lv' := [(5, .int (nI (i + 1))), (4, .int (nI (cd_cl P col (i + 1)))), (0, .ref (a 0)), (2, .int (y)), (3, .int (nI col))]) hx hb dX0_turned_63 hl (k := 4) rfl (nI_1 _) (by decide) rfl (fun ls hl => ?_)
      refine lv_goto (tgt := 36) hx hb dX0_turned_66 (by decide) ?_
      exact ih (i + 1) (by omega) _ (lv_sub hl [2, 3, 4, 1, 0] rfl)
    · refine lv_iconst (v := 1) hx hb dX0_turned_55 (by decide) ?_
      refine lv_goto (tgt := 60) hx hb dX0_turned_56 (by decide) ?_
      refine lv_iadd hx hb dX0_turned_60 ?_
      refine cd_top (y := nI (cd_cl P col (i + 1))) (cd_cl_yes (Nat.not_lt.mp (fun h => hc52 ((nI_ltI (by omega) (by omega)).mpr h)))) ?_
      refine lv_istore (lv' := [(4, .int (nI (cd_cl P col (i + 1)))), (0, .ref (a 0)), (2, .int (y)), (3, .int (nI col)), (5, .int (nI i))]) hx hb dX0_turned_61 hl (by decide) rfl (fun ls hl => ?_)
      refine lv_iinc (v := nI (i + 1)) (lv' := [(5, .int (nI (i + 1))), (4, .int (nI (cd_cl P col (i + 1)))), (0, .ref (a 0)), (2, .int (y)), (3, .int (nI col))]) hx hb dX0_turned_63 hl (k := 4) rfl (nI_1 _) (by decide) rfl (fun ls hl => ?_)
      refine lv_goto (tgt := 36) hx hb dX0_turned_66 (by decide) ?_
      exact ih (i + 1) (by omega) _ (lv_sub hl [2, 3, 4, 1, 0] rfl)
set_option maxHeartbeats 4000000 in
set_option maxRecDepth 100000 in
theorem lp_turned2 {p : Program} {l : Launch} {e : Env} {s : State} {m : MethodId} {args : Array Value} {below : List Frame} {meth : Method} {c : Code} {D : va_G} {A : Nat → Prop} {a : Nat → Nat} {dB dJ : ClassId} {Q : State → Prop} {cells slots : Nat} {R : Room} {ch rc : Int32} {fp fr fn ft : Nat → Int32} (C : gC RX0 cX0_turned 6 (some .int) D (tyX dB dJ) A p s m args meth c) (P : Nat → Nat) (hP : ∀ i, i < 4 → fp i = nI (P i) ∧ P i < 8) {H : Heap} {locs : List Loc} (w : gW D A s (wX a dB dJ (ch, fp, fr, rc, fn, ft)) H locs)
    (K : ∀ ls : Array Slot, lv_has ls 6 [(0, .ref (a 0)), (2, .int (nI (cd_tX P 4)))] → W p l e R s m args below meth c H locs cells slots Q (F0 m 83 ls [])) :
    ∀ (n j : Nat), j + n = 4 → ∀ ls : Array Slot, lv_has ls 6 [(0, .ref (a 0)), (2, .int (nI (cd_tX P j))), (3, .int (nI (4 - j)))] → W p l e R s m args below meth c H locs cells slots Q (F0 m 25 ls []) := by
  obtain ⟨hx, hb, hr, hml, hown, hts, hA, hK, hlocks⟩ := id C
  intro n
  induction n with
  | zero =>
    intro j hj ls hl
    obtain rfl : j = 4 := by omega
    refine lv_iload_n hx hb dX0_turned_25 rfl (lv_at hl 2 rfl) ?_
    refine lv_iconst (v := 1) hx hb dX0_turned_26 (by decide) ?_
    refine lv_icmp_lt (tgt := 83) hx hb dX0_turned_27 (by decide) (fun _ => ?_) (fun hc => absurd (by decide) hc)
    exact K _ (lv_sub hl [0, 1] rfl)
  | succ n ih =>
    intro j hj ls hl
    refine lv_iload_n hx hb dX0_turned_25 rfl (lv_at hl 2 rfl) ?_
    refine lv_iconst (v := 1) hx hb dX0_turned_26 (by decide) ?_
    refine lv_icmp_lt (tgt := 83) hx hb dX0_turned_27 (by decide) (fun hc => absurd hc (nI_nlt (b := 1) (by omega) (by omega))) (fun _ => ?_)
    refine lv_iconst (v := 0) hx hb dX0_turned_30 (by decide) ?_
    refine lv_istore (lv' := [(4, .int (0)), (0, .ref (a 0)), (2, .int (nI (cd_tX P j))), (3, .int (nI (4 - j)))]) hx hb dX0_turned_31 hl (by decide) rfl (fun ls hl => ?_)
    refine lv_iconst (v := 0) hx hb dX0_turned_33 (by decide) ?_
    refine lv_istore (lv' := [(5, .int (0)), (4, .int (0)), (0, .ref (a 0)), (2, .int (nI (cd_tX P j))), (3, .int (nI (4 - j)))]) hx hb dX0_turned_34 hl (by decide) rfl (fun ls hl => ?_)
    refine lp_turned1 C P hP (4 - j) (by omega) w (fun ls hl => ?_) 4 0 rfl _ (lv_sub hl [2, 3, 4, 1, 0] rfl)
    refine lv_bipush (v := 8) hx hb dX0_turned_69 (by decide) ?_
    refine lv_iload_n hx hb dX0_turned_71 rfl (lv_at hl 1 rfl) ?_
    refine lv_imul hx hb dX0_turned_72 ?_
    refine cd_top (y := nI (8 * cd_tX P j)) (pk_mul 8 _) ?_
    refine lv_iload hx hb dX0_turned_73 (lv_at hl 3 rfl) ?_
    refine lv_iadd hx hb dX0_turned_75 ?_
    refine cd_top (y := nI (cd_tX P (j + 1))) (nI_add _ _) ?_
    refine lv_istore_n (lv' := [(2, .int (nI (cd_tX P (j + 1)))), (0, .ref (a 0)), (3, .int (nI (4 - j))), (4, .int (nI (cd_cl P (4 - j) 4)))]) hx hb dX0_turned_76 rfl hl (by decide) rfl (fun ls hl => ?_)
    refine lv_iinc (v := nI (4 - (j + 1))) (lv' := [(3, .int (nI (4 - (j + 1)))), (2, .int (nI (cd_tX P (j + 1)))), (0, .ref (a 0)), (4, .int (nI (cd_cl P (4 - j) 4)))]) hx hb dX0_turned_77 hl (k := 2) rfl (by rw [show 4 - j = (4 - (j + 1)) + 1 by omega]; exact pk_m1 _) (by decide) rfl (fun ls hl => ?_)
    refine lv_goto (tgt := 25) hx hb dX0_turned_80 (by decide) ?_
    exact ih (j + 1) (by omega) _ (lv_sub hl [2, 1, 0] rfl)
set_option maxHeartbeats 4000000 in
set_option maxRecDepth 100000 in
theorem mX_turned (l : Launch) (D : va_G) (a : Nat → Nat) (dB dJ : ClassId) (ch rc : Int32) (fp fr fn ft : Nat → Int32) (x : Int32) : gMi l yX0_turned cX0_turned 6 (some .int) (rmv 1) [.ref (a 0), .int x] D (tyX dB dJ) (wX a dB dJ) (ch, fp, fr, rc, fn, ft) (fun r u => r = cd_tuX x ∧ u.1 = ch) := by
  refine gMi.of RX0 (by decide) rfl (Nat.le_of_ble_eq_true rfl) (fun p e s m below meth c A ls C w hl => ?_)
  obtain ⟨hx, hb, hr, hml, hown, hts, hA, hK, hlocks⟩ := id C
  refine lv_aload_n hx hb dX0_turned_0 rfl (lv_at hl 0 rfl) ?_
  refine lv_iload_n hx hb dX0_turned_1 rfl (lv_at hl 1 rfl) ?_
  refine gCalli C w (mX_read l D a dB dJ ch rc fp fr fn ft x) (cwV 1 hts (lw_V q50 q52 qs0 q15 q53) rfl rfl rfl (by decide +kernel) ⟨Nat.le_of_ble_eq_true rfl, Nat.le_of_ble_eq_true rfl⟩) rfl rfl rfl hl.1 rfl (Nat.le_of_ble_eq_true rfl) dX0_turned_2 ⟨Nat.zero_le _, Nat.zero_le _⟩ (fun r u H locs hq w => ?_)
  obtain ⟨rfl, fp, rfl, hp1⟩ := hq
  refine lv_if_eq (tgt := 18) hx hb dX0_turned_5 (by decide) (fun hc5 => ?_) (fun hc5 => ?_)
  · refine lv_ldc (v := cd_BAD) hx hb hown (hts _ q54) dX0_turned_18 ?_
    exact gIret C w (⟨(if_pos (Or.inl hc5)).symm, rfl⟩) dX0_turned_20
  · refine lv_aload_n hx hb dX0_turned_8 rfl (lv_at hl 0 rfl) ?_
    refine xg_p C w dX0_turned_9 ?_
    refine lv_iconst (v := 0) hx hb dX0_turned_12 (by decide) ?_
    refine cd_top (y := nI 0) (rfl) ?_
    refine xl_p C w 0 (by decide) dX0_turned_13 ?_
    refine cd_top (y := cd_pt x 0) (hp1 hc5 0 (by decide)) ?_
    refine lv_iconst (v := 4) hx hb dX0_turned_14 (by decide) ?_
    refine lv_icmp_le (tgt := 21) hx hb dX0_turned_15 (by decide) (fun hc15 => ?_) (fun hc15 => ?_)
    · have hn : ¬ (cd_sum x = 0 ∨ ¬ cd_pt x 0 ≤ 4) := fun h => h.elim hc5 (fun h => h hc15)
      refine lv_iconst (v := 0) hx hb dX0_turned_21 (by decide) ?_
      refine lv_istore_n (lv' := [(2, .int (0)), (0, .ref (a 0)), (1, .int (x))]) hx hb dX0_turned_22 rfl hl (by decide) rfl (fun ls hl => ?_)
      refine lv_iconst (v := 4) hx hb dX0_turned_23 (by decide) ?_
      refine lv_istore_n (lv' := [(3, .int (4)), (2, .int (0)), (0, .ref (a 0)), (1, .int (x))]) hx hb dX0_turned_24 rfl hl (by decide) rfl (fun ls hl => ?_)
      refine lp_turned2 C (cd_P x) (cd_P_ok (hp1 hc5)) w (fun ls hl => ?_) 4 0 rfl _ (lv_sub hl [2, 1, 0] rfl)
      refine lv_iload_n hx hb dX0_turned_83 rfl (lv_at hl 1 rfl) ?_
      exact gIret C w ⟨(if_neg hn).symm, rfl⟩ dX0_turned_84
    · refine lv_ldc (v := cd_BAD) hx hb hown (hts _ q54) dX0_turned_18 ?_
      exact gIret C w (⟨(if_pos (Or.inr hc15)).symm, rfl⟩) dX0_turned_20
set_option maxHeartbeats 4000000 in
set_option maxRecDepth 100000 in
theorem lp_perm1 {p : Program} {l : Launch} {e : Env} {s : State} {m : MethodId} {args : Array Value} {below : List Frame} {meth : Method} {c : Code} {D : va_G} {A : Nat → Prop} {a : Nat → Nat} {dB dJ : ClassId} {Q : State → Prop} {cells slots : Nat} {R : Room} (C : gC RX0 cX0_permutations 7 (some .int) D (tyX dB dJ) A p s m args meth c) (k : Nat) (h1 : 1 ≤ k) (hk : k ≤ 7) {H : Heap} {locs : List Loc}
    (K : ∀ ls : Array Slot, lv_has ls 7 [(0, .ref (a 0)), (3, .int (cd_fc (k - 1)))] → W p l e R s m args below meth c H locs cells slots Q (F0 m 35 ls [])) :
    ∀ (n i : Nat), i + n = k - 1 → ∀ ls : Array Slot, lv_has ls 7 [(0, .ref (a 0)), (2, .int (nI k)), (3, .int (cd_fc i)), (4, .int (nI (i + 2)))] → W p l e R s m args below meth c H locs cells slots Q (F0 m 18 ls []) := by
  obtain ⟨hx, hb, hr, hml, hown, hts, hA, hK, hlocks⟩ := id C
  intro n
  induction n with
  | zero =>
    intro i hi ls hl
    obtain rfl : i = k - 1 := by omega
    refine lv_iload hx hb dX0_permutations_18 (lv_at hl 3 rfl) ?_
    refine lv_iload_n hx hb dX0_permutations_20 rfl (lv_at hl 1 rfl) ?_
    refine lv_icmp_gt (tgt := 35) hx hb dX0_permutations_21 (by decide) (fun _ => ?_) (fun hc => absurd (nI_lt (by omega) (by omega)) hc)
    exact K _ (lv_sub hl [0, 2] rfl)
  | succ n ih =>
    intro i hi ls hl
    refine lv_iload hx hb dX0_permutations_18 (lv_at hl 3 rfl) ?_
    refine lv_iload_n hx hb dX0_permutations_20 rfl (lv_at hl 1 rfl) ?_
    refine lv_icmp_gt (tgt := 35) hx hb dX0_permutations_21 (by decide) (fun hc => absurd hc (nI_nlt (by omega) (by omega))) (fun _ => ?_)
    refine lv_iload_n hx hb dX0_permutations_24 rfl (lv_at hl 2 rfl) ?_
    refine lv_iload hx hb dX0_permutations_25 (lv_at hl 3 rfl) ?_
    refine lv_imul hx hb dX0_permutations_27 ?_
    refine cd_top (y := cd_fc (i + 1)) (rfl) ?_
    refine lv_istore_n (lv' := [(3, .int (cd_fc (i + 1))), (0, .ref (a 0)), (2, .int (nI k)), (4, .int (nI (i + 2)))]) hx hb dX0_permutations_28 rfl hl (by decide) rfl (fun ls hl => ?_)
    refine lv_iinc (v := nI (i + 1 + 2)) (lv' := [(4, .int (nI (i + 1 + 2))), (3, .int (cd_fc (i + 1))), (0, .ref (a 0)), (2, .int (nI k))]) hx hb dX0_permutations_29 hl (k := 3) rfl (by rw [show i + 1 + 2 = (i + 2) + 1 by omega]; exact nI_1 _) (by decide) rfl (fun ls hl => ?_)
    refine lv_goto (tgt := 18) hx hb dX0_permutations_32 (by decide) ?_
    exact ih (i + 1) (by omega) _ (lv_sub hl [2, 3, 1, 0] rfl)
set_option maxHeartbeats 4000000 in
set_option maxRecDepth 100000 in
theorem lp_perm2 {p : Program} {l : Launch} {e : Env} {s : State} {m : MethodId} {args : Array Value} {below : List Frame} {meth : Method} {c : Code} {D : va_G} {A : Nat → Prop} {a : Nat → Nat} {dB dJ : ClassId} {Q : State → Prop} {cells slots : Nat} {R : Room} {ch rc x v : Int32} {fp fr fn ft : Nat → Int32} (C : gC RX0 cX0_permutations 7 (some .int) D (tyX dB dJ) A p s m args meth c) (hp : ∀ i, i < 4 → fp i = cd_pt x (nI i)) {H : Heap} {locs : List Loc} (w : gW D A s (wX a dB dJ (ch, fp, fr, rc, fn, ft)) H locs)
    (K : ∀ ls : Array Slot, lv_has ls 7 [(0, .ref (a 0)), (3, .int (cd_wX x v 4))] → W p l e R s m args below meth c H locs cells slots Q (F0 m 123 ls [])) :
    ∀ (n i : Nat), i + n = 4 → ∀ ls : Array Slot, lv_has ls 7 [(0, .ref (a 0)), (3, .int (cd_wX x v i)), (4, .int (cd_eqX x i)), (5, .int (nI i))] → W p l e R s m args below meth c H locs cells slots Q (F0 m 41 ls []) := by
  obtain ⟨hx, hb, hr, hml, hown, hts, hA, hK, hlocks⟩ := id C
  intro n
  induction n with
  | zero =>
    intro i hi ls hl
    obtain rfl : i = 4 := by omega
    refine lv_iload hx hb dX0_permutations_41 (lv_at hl 3 rfl) ?_
    refine lv_iconst (v := 4) hx hb dX0_permutations_43 (by decide) ?_
    refine lv_icmp_ge (tgt := 123) hx hb dX0_permutations_44 (by decide) (fun _ => ?_) (fun hc => absurd (nI_le (a := 4) (Nat.le_refl 4) (by decide)) hc)
    exact K _ (lv_sub hl [0, 1] rfl)
  | succ n ih =>
    intro i hi ls hl
    have hpi := hp i (by omega)
    refine lv_iload hx hb dX0_permutations_41 (lv_at hl 3 rfl) ?_
    refine lv_iconst (v := 4) hx hb dX0_permutations_43 (by decide) ?_
    refine lv_icmp_ge (tgt := 123) hx hb dX0_permutations_44 (by decide) (fun hc => absurd hc (nI_ge (b := 4) (by omega) (by decide))) (fun _ => ?_)
    refine lv_aload_n hx hb dX0_permutations_47 rfl (lv_at hl 0 rfl) ?_
    refine xg_p C w dX0_permutations_48 ?_
    refine lv_iload hx hb dX0_permutations_51 (lv_at hl 3 rfl) ?_
    refine xl_p C w i (by omega) dX0_permutations_53 ?_
    refine cd_top (y := cd_pt x (nI i)) (hpi) ?_
    refine lv_if_le (tgt := 117) hx hb dX0_permutations_54 (by decide) (fun hc54 => ?_) (fun hc54 => ?_)
    · have e1 : cd_eqX x (i + 1) = cd_eqX x i := if_pos hc54
      have e2 : cd_wX x v (i + 1) = cd_wX x v i := if_pos hc54
      refine lv_iinc (v := nI (i + 1)) (lv' := [(5, .int (nI (i + 1))), (0, .ref (a 0)), (3, .int (cd_wX x v i)), (4, .int (cd_eqX x i))]) hx hb dX0_permutations_117 hl (k := 3) rfl (nI_1 _) (by decide) rfl (fun ls hl => ?_)
      refine lv_goto (tgt := 41) hx hb dX0_permutations_120 (by decide) ?_
      exact ih (i + 1) (by omega) _ (by rw [e1, e2]; exact (lv_sub hl [1, 2, 3, 0] rfl))
    · refine lv_iload hx hb dX0_permutations_57 (lv_at hl 3 rfl) ?_
      refine lv_if_le (tgt := 88) hx hb dX0_permutations_59 (by decide) (fun hc59 => ?_) (fun hc59 => ?_)
      · refine lv_iconst (v := 1) hx hb dX0_permutations_88 (by decide) ?_
        refine cd_top (y := cd_eqX x (i + 1)) (((if_neg hc54).trans (if_neg (fun h => nI_nle h.1 (by omega) hc59))).symm) ?_
        refine lv_istore (lv' := [(4, .int (cd_eqX x (i + 1))), (0, .ref (a 0)), (3, .int (cd_wX x v i)), (5, .int (nI i))]) hx hb dX0_permutations_89 hl (by decide) rfl (fun ls hl => ?_)
        refine lv_aload_n hx hb dX0_permutations_91 rfl (lv_at hl 1 rfl) ?_
        refine xg_p C w dX0_permutations_92 ?_
        refine lv_iload hx hb dX0_permutations_95 (lv_at hl 3 rfl) ?_
        refine xl_p C w i (by omega) dX0_permutations_97 ?_
        refine cd_top (y := cd_pt x (nI i)) (hpi) ?_
        refine lv_iload hx hb dX0_permutations_98 (lv_at hl 0 rfl) ?_
        refine lv_imul hx hb dX0_permutations_100 ?_
        refine lv_istore (lv' := [(6, .int ((cd_pt x (nI i)) * (cd_eqX x (i + 1)))), (4, .int (cd_eqX x (i + 1))), (0, .ref (a 0)), (3, .int (cd_wX x v i)), (5, .int (nI i))]) hx hb dX0_permutations_101 hl (by decide) rfl (fun ls hl => ?_)
        refine lv_iload hx hb dX0_permutations_103 (lv_at hl 0 rfl) ?_
        refine lv_if_le (tgt := 115) hx hb dX0_permutations_105 (by decide) (fun hc105 => ?_) (fun hc105 => ?_)
        · refine lv_iload_n hx hb dX0_permutations_115 rfl (lv_at hl 3 rfl) ?_
          refine cd_top (y := cd_wX x v (i + 1)) (((if_neg hc54).trans (if_pos hc105)).symm) ?_
          refine lv_istore_n (lv' := [(3, .int (cd_wX x v (i + 1))), (6, .int ((cd_pt x (nI i)) * (cd_eqX x (i + 1)))), (4, .int (cd_eqX x (i + 1))), (0, .ref (a 0)), (5, .int (nI i))]) hx hb dX0_permutations_116 rfl hl (by decide) rfl (fun ls hl => ?_)
          refine lv_iinc (v := nI (i + 1)) (lv' := [(5, .int (nI (i + 1))), (3, .int (cd_wX x v (i + 1))), (6, .int ((cd_pt x (nI i)) * (cd_eqX x (i + 1)))), (4, .int (cd_eqX x (i + 1))), (0, .ref (a 0))]) hx hb dX0_permutations_117 hl (k := 4) rfl (nI_1 _) (by decide) rfl (fun ls hl => ?_)
          refine lv_goto (tgt := 41) hx hb dX0_permutations_120 (by decide) ?_
          exact ih (i + 1) (by omega) _ (lv_sub hl [4, 1, 3, 0] rfl)
        · refine lv_iload_n hx hb dX0_permutations_108 rfl (lv_at hl 3 rfl) ?_
          refine lv_iload hx hb dX0_permutations_109 (lv_at hl 0 rfl) ?_
          refine lv_idiv hx hb dX0_permutations_111 (fun h => hc105 (by rw [h]; decide)) ?_
          refine cd_top (y := cd_wX x v (i + 1)) (((if_neg hc54).trans (if_neg hc105)).symm) ?_
          refine lv_goto (tgt := 116) hx hb dX0_permutations_112 (by decide) ?_
          refine lv_istore_n (lv' := [(3, .int (cd_wX x v (i + 1))), (6, .int ((cd_pt x (nI i)) * (cd_eqX x (i + 1)))), (4, .int (cd_eqX x (i + 1))), (0, .ref (a 0)), (5, .int (nI i))]) hx hb dX0_permutations_116 rfl hl (by decide) rfl (fun ls hl => ?_)
          refine lv_iinc (v := nI (i + 1)) (lv' := [(5, .int (nI (i + 1))), (3, .int (cd_wX x v (i + 1))), (6, .int ((cd_pt x (nI i)) * (cd_eqX x (i + 1)))), (4, .int (cd_eqX x (i + 1))), (0, .ref (a 0))]) hx hb dX0_permutations_117 hl (k := 4) rfl (nI_1 _) (by decide) rfl (fun ls hl => ?_)
          refine lv_goto (tgt := 41) hx hb dX0_permutations_120 (by decide) ?_
          exact ih (i + 1) (by omega) _ (lv_sub hl [4, 1, 3, 0] rfl)
      · have h0 : 0 < i := Nat.pos_of_ne_zero (fun h => hc59 (by subst h; decide))
        refine lv_aload_n hx hb dX0_permutations_62 rfl (lv_at hl 0 rfl) ?_
        refine xg_p C w dX0_permutations_63 ?_
        refine lv_iload hx hb dX0_permutations_66 (lv_at hl 3 rfl) ?_
        refine xl_p C w i (by omega) dX0_permutations_68 ?_
        refine cd_top (y := cd_pt x (nI i)) (hpi) ?_
        refine lv_aload_n hx hb dX0_permutations_69 rfl (lv_at hl 0 rfl) ?_
        refine xg_p C w dX0_permutations_70 ?_
        refine lv_iload hx hb dX0_permutations_73 (lv_at hl 3 rfl) ?_
        refine lv_iconst (v := 1) hx hb dX0_permutations_75 (by decide) ?_
        refine lv_isub hx hb dX0_permutations_76 ?_
        refine cd_top (y := nI (i - 1)) (cd_m1 h0) ?_
        refine xl_p C w (i - 1) (by omega) dX0_permutations_77 ?_
        refine cd_top (y := cd_pt x (nI i - 1)) (by rw [hp (i - 1) (by omega), cd_m1 h0]) ?_
        refine lv_icmp_ne (tgt := 88) hx hb dX0_permutations_78 (by decide) (fun hc78 => ?_) (fun hc78 => ?_)
        · refine lv_iconst (v := 1) hx hb dX0_permutations_88 (by decide) ?_
          refine cd_top (y := cd_eqX x (i + 1)) (((if_neg hc54).trans (if_neg (fun h => hc78 h.2))).symm) ?_
          refine lv_istore (lv' := [(4, .int (cd_eqX x (i + 1))), (0, .ref (a 0)), (3, .int (cd_wX x v i)), (5, .int (nI i))]) hx hb dX0_permutations_89 hl (by decide) rfl (fun ls hl => ?_)
          refine lv_aload_n hx hb dX0_permutations_91 rfl (lv_at hl 1 rfl) ?_
          refine xg_p C w dX0_permutations_92 ?_
          refine lv_iload hx hb dX0_permutations_95 (lv_at hl 3 rfl) ?_
          refine xl_p C w i (by omega) dX0_permutations_97 ?_
          refine cd_top (y := cd_pt x (nI i)) (hpi) ?_
          refine lv_iload hx hb dX0_permutations_98 (lv_at hl 0 rfl) ?_
          refine lv_imul hx hb dX0_permutations_100 ?_
          refine lv_istore (lv' := [(6, .int ((cd_pt x (nI i)) * (cd_eqX x (i + 1)))), (4, .int (cd_eqX x (i + 1))), (0, .ref (a 0)), (3, .int (cd_wX x v i)), (5, .int (nI i))]) hx hb dX0_permutations_101 hl (by decide) rfl (fun ls hl => ?_)
          refine lv_iload hx hb dX0_permutations_103 (lv_at hl 0 rfl) ?_
          refine lv_if_le (tgt := 115) hx hb dX0_permutations_105 (by decide) (fun hc105 => ?_) (fun hc105 => ?_)
          · refine lv_iload_n hx hb dX0_permutations_115 rfl (lv_at hl 3 rfl) ?_
            refine cd_top (y := cd_wX x v (i + 1)) (((if_neg hc54).trans (if_pos hc105)).symm) ?_
            refine lv_istore_n (lv' := [(3, .int (cd_wX x v (i + 1))), (6, .int ((cd_pt x (nI i)) * (cd_eqX x (i + 1)))), (4, .int (cd_eqX x (i + 1))), (0, .ref (a 0)), (5, .int (nI i))]) hx hb dX0_permutations_116 rfl hl (by decide) rfl (fun ls hl => ?_)
            refine lv_iinc (v := nI (i + 1)) (lv' := [(5, .int (nI (i + 1))), (3, .int (cd_wX x v (i + 1))), (6, .int ((cd_pt x (nI i)) * (cd_eqX x (i + 1)))), (4, .int (cd_eqX x (i + 1))), (0, .ref (a 0))]) hx hb dX0_permutations_117 hl (k := 4) rfl (nI_1 _) (by decide) rfl (fun ls hl => ?_)
            refine lv_goto (tgt := 41) hx hb dX0_permutations_120 (by decide) ?_
            exact ih (i + 1) (by omega) _ (lv_sub hl [4, 1, 3, 0] rfl)
          · refine lv_iload_n hx hb dX0_permutations_108 rfl (lv_at hl 3 rfl) ?_
            refine lv_iload hx hb dX0_permutations_109 (lv_at hl 0 rfl) ?_
            refine lv_idiv hx hb dX0_permutations_111 (fun h => hc105 (by rw [h]; decide)) ?_
            refine cd_top (y := cd_wX x v (i + 1)) (((if_neg hc54).trans (if_neg hc105)).symm) ?_
            refine lv_goto (tgt := 116) hx hb dX0_permutations_112 (by decide) ?_
            refine lv_istore_n (lv' := [(3, .int (cd_wX x v (i + 1))), (6, .int ((cd_pt x (nI i)) * (cd_eqX x (i + 1)))), (4, .int (cd_eqX x (i + 1))), (0, .ref (a 0)), (5, .int (nI i))]) hx hb dX0_permutations_116 rfl hl (by decide) rfl (fun ls hl => ?_)
            refine lv_iinc (v := nI (i + 1)) (lv' := [(5, .int (nI (i + 1))), (3, .int (cd_wX x v (i + 1))), (6, .int ((cd_pt x (nI i)) * (cd_eqX x (i + 1)))), (4, .int (cd_eqX x (i + 1))), (0, .ref (a 0))]) hx hb dX0_permutations_117 hl (k := 4) rfl (nI_1 _) (by decide) rfl (fun ls hl => ?_)
            refine lv_goto (tgt := 41) hx hb dX0_permutations_120 (by decide) ?_
            exact ih (i + 1) (by omega) _ (lv_sub hl [4, 1, 3, 0] rfl)
        · refine lv_iload hx hb dX0_permutations_81 (lv_at hl 2 rfl) ?_
          refine lv_iconst (v := 1) hx hb dX0_permutations_83 (by decide) ?_
          refine lv_iadd hx hb dX0_permutations_84 ?_
          refine cd_top (y := cd_eqX x (i + 1)) (((if_neg hc54).trans (if_pos ⟨h0, hc78⟩)).symm) ?_
          refine lv_goto (tgt := 89) hx hb dX0_permutations_85 (by decide) ?_
          refine lv_istore (lv' := [(4, .int (cd_eqX x (i + 1))), (0, .ref (a 0)), (3, .int (cd_wX x v i)), (5, .int (nI i))]) hx hb dX0_permutations_89 hl (by decide) rfl (fun ls hl => ?_)
          refine lv_aload_n hx hb dX0_permutations_91 rfl (lv_at hl 1 rfl) ?_
          refine xg_p C w dX0_permutations_92 ?_
          refine lv_iload hx hb dX0_permutations_95 (lv_at hl 3 rfl) ?_
          refine xl_p C w i (by omega) dX0_permutations_97 ?_
          refine cd_top (y := cd_pt x (nI i)) (hpi) ?_
          refine lv_iload hx hb dX0_permutations_98 (lv_at hl 0 rfl) ?_
          refine lv_imul hx hb dX0_permutations_100 ?_
          refine lv_istore (lv' := [(6, .int ((cd_pt x (nI i)) * (cd_eqX x (i + 1)))), (4, .int (cd_eqX x (i + 1))), (0, .ref (a 0)), (3, .int (cd_wX x v i)), (5, .int (nI i))]) hx hb dX0_permutations_101 hl (by decide) rfl (fun ls hl => ?_)
          refine lv_iload hx hb dX0_permutations_103 (lv_at hl 0 rfl) ?_
          refine lv_if_le (tgt := 115) hx hb dX0_permutations_105 (by decide) (fun hc105 => ?_) (fun hc105 => ?_)
          · refine lv_iload_n hx hb dX0_permutations_115 rfl (lv_at hl 3 rfl) ?_
            refine cd_top (y := cd_wX x v (i + 1)) (((if_neg hc54).trans (if_pos hc105)).symm) ?_
            refine lv_istore_n (lv' := [(3, .int (cd_wX x v (i + 1))), (6, .int ((cd_pt x (nI i)) * (cd_eqX x (i + 1)))), (4, .int (cd_eqX x (i + 1))), (0, .ref (a 0)), (5, .int (nI i))]) hx hb dX0_permutations_116 rfl hl (by decide) rfl (fun ls hl => ?_)
            refine lv_iinc (v := nI (i + 1)) (lv' := [(5, .int (nI (i + 1))), (3, .int (cd_wX x v (i + 1))), (6, .int ((cd_pt x (nI i)) * (cd_eqX x (i + 1)))), (4, .int (cd_eqX x (i + 1))), (0, .ref (a 0))]) hx hb dX0_permutations_117 hl (k := 4) rfl (nI_1 _) (by decide) rfl (fun ls hl => ?_)
            refine lv_goto (tgt := 41) hx hb dX0_permutations_120 (by decide) ?_
            exact ih (i + 1) (by omega) _ (lv_sub hl [4, 1, 3, 0] rfl)
          · refine lv_iload_n hx hb dX0_permutations_108 rfl (lv_at hl 3 rfl) ?_
            refine lv_iload hx hb dX0_permutations_109 (lv_at hl 0 rfl) ?_
            refine lv_idiv hx hb dX0_permutations_111 (fun h => hc105 (by rw [h]; decide)) ?_
            refine cd_top (y := cd_wX x v (i + 1)) (((if_neg hc54).trans (if_neg hc105)).symm) ?_
            refine lv_goto (tgt := 116) hx hb dX0_permutations_112 (by decide) ?_
            refine lv_istore_n (lv' := [(3, .int (cd_wX x v (i + 1))), (6, .int ((cd_pt x (nI i)) * (cd_eqX x (i + 1)))), (4, .int (cd_eqX x (i + 1))), (0, .ref (a 0)), (5, .int (nI i))]) hx hb dX0_permutations_116 rfl hl (by decide) rfl (fun ls hl => ?_)
            refine lv_iinc (v := nI (i + 1)) (lv' := [(5, .int (nI (i + 1))), (3, .int (cd_wX x v (i + 1))), (6, .int ((cd_pt x (nI i)) * (cd_eqX x (i + 1)))), (4, .int (cd_eqX x (i + 1))), (0, .ref (a 0))]) hx hb dX0_permutations_117 hl (k := 4) rfl (nI_1 _) (by decide) rfl (fun ls hl => ?_)
            refine lv_goto (tgt := 41) hx hb dX0_permutations_120 (by decide) ?_
            exact ih (i + 1) (by omega) _ (lv_sub hl [4, 1, 3, 0] rfl)
set_option maxHeartbeats 4000000 in
set_option maxRecDepth 100000 in
theorem mX_permutations (l : Launch) (D : va_G) (a : Nat → Nat) (dB dJ : ClassId) (ch rc : Int32) (fp fr fn ft : Nat → Int32) (x : Int32) : gMi l yX0_permutations cX0_permutations 7 (some .int) (rmv 1) [.ref (a 0), .int x] D (tyX dB dJ) (wX a dB dJ) (ch, fp, fr, rc, fn, ft) (fun r u => r = cd_prX x ∧ u.1 = ch) := by
  refine gMi.of RX0 (by decide) rfl (Nat.le_of_ble_eq_true rfl) (fun p e s m below meth c A ls C w hl => ?_)
  obtain ⟨hx, hb, hr, hml, hown, hts, hA, hK, hlocks⟩ := id C
  have hk := cd_sum_k x
  refine lv_aload_n hx hb dX0_permutations_0 rfl (lv_at hl 0 rfl) ?_
  refine lv_iload_n hx hb dX0_permutations_1 rfl (lv_at hl 1 rfl) ?_
  refine gCalli C w (mX_read l D a dB dJ ch rc fp fr fn ft x) (cwV 1 hts (lw_V q50 q52 qs0 q15 q53) rfl rfl rfl (by decide +kernel) ⟨Nat.le_of_ble_eq_true rfl, Nat.le_of_ble_eq_true rfl⟩) rfl rfl rfl hl.1 rfl (Nat.le_of_ble_eq_true rfl) dX0_permutations_2 ⟨Nat.zero_le _, Nat.zero_le _⟩ (fun r u H locs hq w => ?_)
  obtain ⟨rfl, fp, rfl, hp1⟩ := hq
  refine lv_istore_n (lv' := [(2, .int (cd_sum x)), (0, .ref (a 0)), (1, .int (x))]) hx hb dX0_permutations_5 rfl hl (by decide) rfl (fun ls hl => ?_)
  refine lv_iload_n hx hb dX0_permutations_6 rfl (lv_at hl 0 rfl) ?_
  refine lv_if_ne (tgt := 13) hx hb dX0_permutations_7 (by decide) (fun hc7 => ?_) (fun hc7 => ?_)
  · refine lv_iconst (v := 1) hx hb dX0_permutations_13 (by decide) ?_
    refine lv_istore_n (lv' := [(3, .int (1)), (2, .int (cd_sum x)), (0, .ref (a 0)), (1, .int (x))]) hx hb dX0_permutations_14 rfl hl (by decide) rfl (fun ls hl => ?_)
    refine lv_iconst (v := 2) hx hb dX0_permutations_15 (by decide) ?_
    refine lv_istore (lv' := [(4, .int (2)), (3, .int (1)), (2, .int (cd_sum x)), (0, .ref (a 0)), (1, .int (x))]) hx hb dX0_permutations_16 hl (by decide) rfl (fun ls hl => ?_)
    refine lp_perm1 C (cd_sum x).toNatClampNeg (cd_sum_pos hc7) hk.2 (fun ls hl => ?_) ((cd_sum x).toNatClampNeg - 1) 0 (Nat.zero_add _) _ (by rw [← hk.1]; exact (lv_sub hl [3, 2, 1, 0] rfl))
    refine lv_iconst (v := 0) hx hb dX0_permutations_35 (by decide) ?_
    refine lv_istore (lv' := [(4, .int (0)), (0, .ref (a 0)), (3, .int (cd_fc ((cd_sum x).toNatClampNeg - 1)))]) hx hb dX0_permutations_36 hl (by decide) rfl (fun ls hl => ?_)
    refine lv_iconst (v := 0) hx hb dX0_permutations_38 (by decide) ?_
    refine lv_istore (lv' := [(5, .int (0)), (4, .int (0)), (0, .ref (a 0)), (3, .int (cd_fc ((cd_sum x).toNatClampNeg - 1)))]) hx hb dX0_permutations_39 hl (by decide) rfl (fun ls hl => ?_)
    refine lp_perm2 C (hp1 hc7) w (fun ls hl => ?_) 4 0 rfl _ (lv_sub hl [2, 3, 1, 0] rfl)
    refine lv_iload_n hx hb dX0_permutations_123 rfl (lv_at hl 1 rfl) ?_
    exact gIret C w ⟨(if_neg hc7).symm, rfl⟩ dX0_permutations_124
  · refine lv_ldc (v := cd_BAD) hx hb hown (hts _ q54) dX0_permutations_10 ?_
    exact gIret C w (⟨(if_pos hc7).symm, rfl⟩) dX0_permutations_12
end
section
/-! CharacterDeskModel: part, sumOf, put, times, begin, cycles, ones, coefficient (printed by gen_M1.py) -/
set_option maxRecDepth 100000
set_option maxHeartbeats 4000000 in
set_option maxRecDepth 100000 in
theorem mM_part (l : Launch) (D : va_G) (a : Nat → Nat) (dJ : ClassId) (ch : Int32) (fn ft : Nat → Int32) (x i : Int32) : gMi l yX1_part cX1_part 3 (some .int) (rmv 0) [.ref (a 0), .int x, .int i] D (tyM dJ) (wM a dJ) (ch, fn, ft) (fun r u => r = cd_pt x i ∧ u = (ch, fn, ft)) := by
  refine gMi.of RX1 (by decide) rfl (Nat.le_of_ble_eq_true rfl) (fun p e s m below meth c A ls C w hl => ?_)
  obtain ⟨hx, hb, hr, hml, hown, hts, hA, hK, hlocks⟩ := id C
  refine lv_iload_n hx hb dX1_part_0 rfl (lv_at hl 1 rfl) ?_
  refine lv_iconst (v := 3) hx hb dX1_part_1 (by decide) ?_
  refine lv_iload_n hx hb dX1_part_2 rfl (lv_at hl 2 rfl) ?_
  refine lv_imul hx hb dX1_part_3 ?_
  refine lv_ishr hx hb dX1_part_4 ?_
  refine lv_bipush (v := 7) hx hb dX1_part_5 (by decide) ?_
  refine lv_iand hx hb dX1_part_7 ?_
  exact gIret C w (⟨rfl, rfl⟩) dX1_part_8
set_option maxHeartbeats 4000000 in
set_option maxRecDepth 100000 in
theorem lp_sumOf {p : Program} {l : Launch} {e : Env} {s : State} {m : MethodId} {args : Array Value} {below : List Frame} {meth : Method} {c : Code} {D : va_G} {A : Nat → Prop} {a : Nat → Nat} {dJ : ClassId} {Q : State → Prop} {ch : Int32} {fn ft : Nat → Int32} {x : Int32} (C : gC RX1 cX1_sumOf 5 (some .int) D (tyM dJ) A p s m args meth c)
    (K : ∀ (H : Heap) (locs : List Loc) (ls : Array Slot), gW D A s (wM a dJ (ch, fn, ft)) H locs → lv_has ls 5 [(0, .ref (a 0)), (1, .int x), (2, .int (if cd_dec x 4 then 1 else 0)), (3, .int (cd_ps x 4)), (4, .int (nI 4))] → W p l e (rmv 1) s m args below meth c H locs 0 0 Q (F0 m 76 ls [])) :
    ∀ (n i : Nat), i + n = 4 → 1 ≤ i → ∀ (H : Heap) (locs : List Loc) (ls : Array Slot), gW D A s (wM a dJ (ch, fn, ft)) H locs → lv_has ls 5 [(0, .ref (a 0)), (1, .int x), (2, .int (if cd_dec x i then 1 else 0)), (3, .int (cd_ps x i)), (4, .int (nI i))] → W p l e (rmv 1) s m args below meth c H locs 0 0 Q (F0 m 25 ls []) := by
  obtain ⟨hx, hb, hr, hml, hown, hts, hA, hK, hlocks⟩ := id C
  intro n
  induction n with
  | zero =>
    intro i hi h1 H locs ls w hl
    obtain rfl : i = 4 := by omega
    refine lv_iload hx hb dX1_sumOf_25 (lv_at hl 4 rfl) ?_
    refine lv_iconst (v := 4) hx hb dX1_sumOf_27 (by decide) ?_
    refine lv_icmp_ge (tgt := 76) hx hb dX1_sumOf_28 (by decide) (fun _ => ?_) (fun hc => absurd (nI_le (a := 4) (Nat.le_refl 4) (by decide)) hc)
    exact K _ _ _ w (lv_sub hl [0, 1, 2, 3, 4] rfl)
  | succ n ih =>
    intro i hi h1 H locs ls w hl
    refine lv_iload hx hb dX1_sumOf_25 (lv_at hl 4 rfl) ?_
    refine lv_iconst (v := 4) hx hb dX1_sumOf_27 (by decide) ?_
    refine lv_icmp_ge (tgt := 76) hx hb dX1_sumOf_28 (by decide) (fun hc => absurd hc (nI_ge (b := 4) (by omega) (by decide))) (fun _ => ?_)
    refine lv_iload_n hx hb dX1_sumOf_31 rfl (lv_at hl 2 rfl) ?_
    refine lv_if_eq (tgt := 58) hx hb dX1_sumOf_32 (by decide) (fun hc32 => ?_) (fun hc32 => ?_)
    · have hnd : ¬ cd_dec x i := fun h => by rw [if_pos h] at hc32; exact absurd hc32 (by decide)
      refine lv_iconst (v := 0) hx hb dX1_sumOf_58 (by decide) ?_
      refine cd_top (y := if cd_dec x (i + 1) then 1 else 0) ((if_neg (fun h => hnd (fun j hj h0 => h j (by omega) h0))).symm) ?_
      refine lv_istore_n (lv' := [(2, .int (if cd_dec x (i + 1) then 1 else 0)), (0, .ref (a 0)), (1, .int (x)), (3, .int (cd_ps x i)), (4, .int (nI i))]) hx hb dX1_sumOf_59 rfl hl (by decide) rfl (fun ls hl => ?_)
      refine lv_iload_n hx hb dX1_sumOf_60 rfl (lv_at hl 3 rfl) ?_
      refine lv_aload_n hx hb dX1_sumOf_61 rfl (lv_at hl 1 rfl) ?_
      refine lv_iload_n hx hb dX1_sumOf_62 rfl (lv_at hl 2 rfl) ?_
      refine lv_iload hx hb dX1_sumOf_63 (lv_at hl 4 rfl) ?_
      refine gCalli C w (mM_part l D a dJ ch fn ft x (nI i)) (cwV 2 hts (lw_V q155 q157 qs7 q16 q158) rfl rfl rfl (by decide +kernel) ⟨Nat.le_of_ble_eq_true rfl, Nat.le_of_ble_eq_true rfl⟩) rfl rfl rfl hl.1 rfl (Nat.le_of_ble_eq_true rfl) dX1_sumOf_65 ⟨Nat.zero_le _, Nat.zero_le _⟩ (fun r u H locs hq w => ?_)
      obtain ⟨rfl, rfl⟩ := hq
      refine lv_iadd hx hb dX1_sumOf_68 ?_
      refine cd_top (y := cd_ps x (i + 1)) (rfl) ?_
      refine lv_istore_n (lv' := [(3, .int (cd_ps x (i + 1))), (2, .int (if cd_dec x (i + 1) then 1 else 0)), (0, .ref (a 0)), (1, .int (x)), (4, .int (nI i))]) hx hb dX1_sumOf_69 rfl hl (by decide) rfl (fun ls hl => ?_)
      refine lv_iinc (v := nI (i + 1)) (lv' := [(4, .int (nI (i + 1))), (3, .int (cd_ps x (i + 1))), (2, .int (if cd_dec x (i + 1) then 1 else 0)), (0, .ref (a 0)), (1, .int (x))]) hx hb dX1_sumOf_70 hl (k := 4) rfl (nI_1 _) (by decide) rfl (fun ls hl => ?_)
      refine lv_goto (tgt := 25) hx hb dX1_sumOf_73 (by decide) ?_
      exact ih (i + 1) (by omega) (by omega) _ _ _ w (lv_sub hl [3, 4, 2, 1, 0] rfl)
    · have hd : cd_dec x i := Classical.byContradiction (fun h => hc32 (if_neg h))
      refine lv_aload_n hx hb dX1_sumOf_35 rfl (lv_at hl 0 rfl) ?_
      refine lv_iload_n hx hb dX1_sumOf_36 rfl (lv_at hl 1 rfl) ?_
      refine lv_iload hx hb dX1_sumOf_37 (lv_at hl 4 rfl) ?_
      refine gCalli C w (mM_part l D a dJ ch fn ft x (nI i)) (cwV 2 hts (lw_V q155 q157 qs7 q16 q158) rfl rfl rfl (by decide +kernel) ⟨Nat.le_of_ble_eq_true rfl, Nat.le_of_ble_eq_true rfl⟩) rfl rfl rfl hl.1 rfl (Nat.le_of_ble_eq_true rfl) dX1_sumOf_39 ⟨Nat.zero_le _, Nat.zero_le _⟩ (fun r u H locs hq w => ?_)
      obtain ⟨rfl, rfl⟩ := hq
      refine lv_aload_n hx hb dX1_sumOf_42 rfl (lv_at hl 0 rfl) ?_
      refine lv_iload_n hx hb dX1_sumOf_43 rfl (lv_at hl 1 rfl) ?_
      refine lv_iload hx hb dX1_sumOf_44 (lv_at hl 4 rfl) ?_
      refine lv_iconst (v := 1) hx hb dX1_sumOf_46 (by decide) ?_
      refine lv_isub hx hb dX1_sumOf_47 ?_
      refine gCalli C w (mM_part l D a dJ ch fn ft x (nI i - 1)) (cwV 2 hts (lw_V q155 q157 qs7 q16 q158) rfl rfl rfl (by decide +kernel) ⟨Nat.le_of_ble_eq_true rfl, Nat.le_of_ble_eq_true rfl⟩) rfl rfl rfl hl.1 rfl (Nat.le_of_ble_eq_true rfl) dX1_sumOf_48 ⟨Nat.zero_le _, Nat.zero_le _⟩ (fun r u H locs hq w => ?_)
      obtain ⟨rfl, rfl⟩ := hq
      refine lv_icmp_gt (tgt := 58) hx hb dX1_sumOf_51 (by decide) (fun hc51 => ?_) (fun hc51 => ?_)
      · refine lv_iconst (v := 0) hx hb dX1_sumOf_58 (by decide) ?_
        refine cd_top (y := if cd_dec x (i + 1) then 1 else 0) ((if_neg (fun h => absurd (h i (by omega) (by omega)) (Int32.not_le.mpr hc51))).symm) ?_
        refine lv_istore_n (lv' := [(2, .int (if cd_dec x (i + 1) then 1 else 0)), (0, .ref (a 0)), (1, .int (x)), (3, .int (cd_ps x i)), (4, .int (nI i))]) hx hb dX1_sumOf_59 rfl hl (by decide) rfl (fun ls hl => ?_)
        refine lv_iload_n hx hb dX1_sumOf_60 rfl (lv_at hl 3 rfl) ?_
        refine lv_aload_n hx hb dX1_sumOf_61 rfl (lv_at hl 1 rfl) ?_
        refine lv_iload_n hx hb dX1_sumOf_62 rfl (lv_at hl 2 rfl) ?_
        refine lv_iload hx hb dX1_sumOf_63 (lv_at hl 4 rfl) ?_
        refine gCalli C w (mM_part l D a dJ ch fn ft x (nI i)) (cwV 2 hts (lw_V q155 q157 qs7 q16 q158) rfl rfl rfl (by decide +kernel) ⟨Nat.le_of_ble_eq_true rfl, Nat.le_of_ble_eq_true rfl⟩) rfl rfl rfl hl.1 rfl (Nat.le_of_ble_eq_true rfl) dX1_sumOf_65 ⟨Nat.zero_le _, Nat.zero_le _⟩ (fun r u H locs hq w => ?_)
        obtain ⟨rfl, rfl⟩ := hq
        refine lv_iadd hx hb dX1_sumOf_68 ?_
        refine cd_top (y := cd_ps x (i + 1)) (rfl) ?_
        refine lv_istore_n (lv' := [(3, .int (cd_ps x (i + 1))), (2, .int (if cd_dec x (i + 1) then 1 else 0)), (0, .ref (a 0)), (1, .int (x)), (4, .int (nI i))]) hx hb dX1_sumOf_69 rfl hl (by decide) rfl (fun ls hl => ?_)
        refine lv_iinc (v := nI (i + 1)) (lv' := [(4, .int (nI (i + 1))), (3, .int (cd_ps x (i + 1))), (2, .int (if cd_dec x (i + 1) then 1 else 0)), (0, .ref (a 0)), (1, .int (x))]) hx hb dX1_sumOf_70 hl (k := 4) rfl (nI_1 _) (by decide) rfl (fun ls hl => ?_)
        refine lv_goto (tgt := 25) hx hb dX1_sumOf_73 (by decide) ?_
        exact ih (i + 1) (by omega) (by omega) _ _ _ w (lv_sub hl [3, 4, 2, 1, 0] rfl)
      · refine lv_iconst (v := 1) hx hb dX1_sumOf_54 (by decide) ?_
        refine cd_top (y := if cd_dec x (i + 1) then 1 else 0) ((if_pos (cd_dec_s hd (fun _ => Int32.not_lt.mp hc51))).symm) ?_
        refine lv_goto (tgt := 59) hx hb dX1_sumOf_55 (by decide) ?_
        refine lv_istore_n (lv' := [(2, .int (if cd_dec x (i + 1) then 1 else 0)), (0, .ref (a 0)), (1, .int (x)), (3, .int (cd_ps x i)), (4, .int (nI i))]) hx hb dX1_sumOf_59 rfl hl (by decide) rfl (fun ls hl => ?_)
        refine lv_iload_n hx hb dX1_sumOf_60 rfl (lv_at hl 3 rfl) ?_
        refine lv_aload_n hx hb dX1_sumOf_61 rfl (lv_at hl 1 rfl) ?_
        refine lv_iload_n hx hb dX1_sumOf_62 rfl (lv_at hl 2 rfl) ?_
        refine lv_iload hx hb dX1_sumOf_63 (lv_at hl 4 rfl) ?_
        refine gCalli C w (mM_part l D a dJ ch fn ft x (nI i)) (cwV 2 hts (lw_V q155 q157 qs7 q16 q158) rfl rfl rfl (by decide +kernel) ⟨Nat.le_of_ble_eq_true rfl, Nat.le_of_ble_eq_true rfl⟩) rfl rfl rfl hl.1 rfl (Nat.le_of_ble_eq_true rfl) dX1_sumOf_65 ⟨Nat.zero_le _, Nat.zero_le _⟩ (fun r u H locs hq w => ?_)
        obtain ⟨rfl, rfl⟩ := hq
        refine lv_iadd hx hb dX1_sumOf_68 ?_
        refine cd_top (y := cd_ps x (i + 1)) (rfl) ?_
        refine lv_istore_n (lv' := [(3, .int (cd_ps x (i + 1))), (2, .int (if cd_dec x (i + 1) then 1 else 0)), (0, .ref (a 0)), (1, .int (x)), (4, .int (nI i))]) hx hb dX1_sumOf_69 rfl hl (by decide) rfl (fun ls hl => ?_)
        refine lv_iinc (v := nI (i + 1)) (lv' := [(4, .int (nI (i + 1))), (3, .int (cd_ps x (i + 1))), (2, .int (if cd_dec x (i + 1) then 1 else 0)), (0, .ref (a 0)), (1, .int (x))]) hx hb dX1_sumOf_70 hl (k := 4) rfl (nI_1 _) (by decide) rfl (fun ls hl => ?_)
        refine lv_goto (tgt := 25) hx hb dX1_sumOf_73 (by decide) ?_
        exact ih (i + 1) (by omega) (by omega) _ _ _ w (lv_sub hl [3, 4, 2, 1, 0] rfl)
set_option maxHeartbeats 4000000 in
set_option maxRecDepth 100000 in
theorem mM_sumOf (l : Launch) (D : va_G) (a : Nat → Nat) (dJ : ClassId) (ch : Int32) (fn ft : Nat → Int32) (x : Int32) : gMi l yX1_sumOf cX1_sumOf 5 (some .int) (rmv 1) [.ref (a 0), .int x] D (tyM dJ) (wM a dJ) (ch, fn, ft) (fun r u => r = cd_sum x ∧ u = (ch, fn, ft)) := by
  refine gMi.of RX1 (by decide) rfl (Nat.le_of_ble_eq_true rfl) (fun p e s m below meth c A ls C w hl => ?_)
  obtain ⟨hx, hb, hr, hml, hown, hts, hA, hK, hlocks⟩ := id C
  refine lv_iload_n hx hb dX1_sumOf_0 rfl (lv_at hl 1 rfl) ?_
  refine lv_if_lt (tgt := 11) hx hb dX1_sumOf_1 (by decide) (fun hc1 => ?_) (fun hc1 => ?_)
  · refine lv_iconst (v := 0) hx hb dX1_sumOf_11 (by decide) ?_
    exact gIret C w (⟨by unfold cd_sum; rw [if_pos (Or.inl hc1)], rfl⟩) dX1_sumOf_12
  · refine lv_iload_n hx hb dX1_sumOf_4 rfl (lv_at hl 1 rfl) ?_
    refine lv_sipush (v := 4095) hx hb dX1_sumOf_5 (by decide) ?_
    refine lv_icmp_le (tgt := 13) hx hb dX1_sumOf_8 (by decide) (fun hc8 => ?_) (fun hc8 => ?_)
    · have hn : ¬ (x < 0 ∨ 4095 < x) := fun h => h.elim hc1 (fun h => absurd hc8 (Int32.not_le.mpr h))
      refine lv_iconst (v := 1) hx hb dX1_sumOf_13 (by decide) ?_
      refine lv_istore_n (lv' := [(2, .int (1)), (0, .ref (a 0)), (1, .int (x))]) hx hb dX1_sumOf_14 rfl hl (by decide) rfl (fun ls hl => ?_)
      refine lv_aload_n hx hb dX1_sumOf_15 rfl (lv_at hl 1 rfl) ?_
      refine lv_iload_n hx hb dX1_sumOf_16 rfl (lv_at hl 2 rfl) ?_
      refine lv_iconst (v := 0) hx hb dX1_sumOf_17 (by decide) ?_
      refine gCalli C w (mM_part l D a dJ ch fn ft x 0) (cwV 2 hts (lw_V q155 q157 qs7 q16 q158) rfl rfl rfl (by decide +kernel) ⟨Nat.le_of_ble_eq_true rfl, Nat.le_of_ble_eq_true rfl⟩) rfl rfl rfl hl.1 rfl (Nat.le_of_ble_eq_true rfl) dX1_sumOf_18 ⟨Nat.zero_le _, Nat.zero_le _⟩ (fun r u H locs hq w => ?_)
      obtain ⟨rfl, rfl⟩ := hq
      refine cd_top (y := cd_ps x 1) ((Int32.zero_add (cd_pt x 0)).symm) ?_
      refine lv_istore_n (lv' := [(3, .int (cd_ps x 1)), (2, .int (1)), (0, .ref (a 0)), (1, .int (x))]) hx hb dX1_sumOf_21 rfl hl (by decide) rfl (fun ls hl => ?_)
      refine lv_iconst (v := 1) hx hb dX1_sumOf_22 (by decide) ?_
      refine lv_istore (lv' := [(4, .int (1)), (3, .int (cd_ps x 1)), (2, .int (1)), (0, .ref (a 0)), (1, .int (x))]) hx hb dX1_sumOf_23 hl (by decide) rfl (fun ls hl => ?_)
      refine lp_sumOf C (fun H locs ls w hl => ?_) 3 1 rfl (Nat.le_refl 1) _ _ _ w (by rw [if_pos (show cd_dec x 1 from fun j hj h0 => absurd h0 (by omega))]; exact (lv_sub hl [3, 4, 2, 1, 0] rfl))
      refine lv_iload_n hx hb dX1_sumOf_76 rfl (lv_at hl 2 rfl) ?_
      refine lv_if_eq (tgt := 90) hx hb dX1_sumOf_77 (by decide) (fun hc77 => ?_) (fun hc77 => ?_)
      · have hnd : ¬ cd_dec x 4 := fun h => by rw [if_pos h] at hc77; exact absurd hc77 (by decide)
        refine lv_iconst (v := 0) hx hb dX1_sumOf_90 (by decide) ?_
        exact gIret C w (⟨by unfold cd_sum; rw [if_neg hn, if_neg (fun h => hnd h.1)], rfl⟩) dX1_sumOf_91
      · have hd : cd_dec x 4 := Classical.byContradiction (fun h => hc77 (if_neg h))
        refine lv_iload_n hx hb dX1_sumOf_80 rfl (lv_at hl 3 rfl) ?_
        refine lv_bipush (v := 7) hx hb dX1_sumOf_81 (by decide) ?_
        refine lv_icmp_gt (tgt := 90) hx hb dX1_sumOf_83 (by decide) (fun hc83 => ?_) (fun hc83 => ?_)
        · refine lv_iconst (v := 0) hx hb dX1_sumOf_90 (by decide) ?_
          exact gIret C w (⟨by unfold cd_sum; rw [if_neg hn, if_neg (fun h => absurd h.2 (Int32.not_le.mpr hc83))], rfl⟩) dX1_sumOf_91
        · refine lv_iload_n hx hb dX1_sumOf_86 rfl (lv_at hl 3 rfl) ?_
          refine lv_goto (tgt := 91) hx hb dX1_sumOf_87 (by decide) ?_
          exact gIret C w (⟨by unfold cd_sum; rw [if_neg hn, if_pos ⟨hd, Int32.not_lt.mp hc83⟩], rfl⟩) dX1_sumOf_91
    · refine lv_iconst (v := 0) hx hb dX1_sumOf_11 (by decide) ?_
      exact gIret C w (⟨by unfold cd_sum; rw [if_pos (Or.inr (Int32.not_le.mp hc8))], rfl⟩) dX1_sumOf_12
theorem cd_putp {f : Nat → Int32} {i : Nat} {v : Int32} : ∀ j, j < 2744 → upd f i (f i + v) j = f j + (if j = i then v else 0) := by
  intro j hj
  by_cases e : j = i
  · subst e
    rw [pk_us, if_pos rfl]
  · rw [pk_un e, if_neg e, Int32.add_zero]
set_option maxHeartbeats 4000000 in
set_option maxRecDepth 100000 in
theorem mM_put (l : Launch) (D : va_G) (a : Nat → Nat) (dJ : ClassId) (ch : Int32) (fn ft : Nat → Int32) (i : Nat) (v : Int32) (hi : i < 2147483648) : gMv l yX1_put cX1_put 3 (rmv 0) [.ref (a 0), .int (nI i), .int v] D (tyM dJ) (wM a dJ) (ch, fn, ft) (fun u => ∃ ft' : Nat → Int32, u = (ch, fn, ft') ∧ ∀ j, j < 2744 → ft' j = ft j + (if j = i then v else 0)) := by
  refine gMv.of RX1 (by decide) rfl (Nat.le_of_ble_eq_true rfl) (fun p e s m below meth c A ls C w hl => ?_)
  obtain ⟨hx, hb, hr, hml, hown, hts, hA, hK, hlocks⟩ := id C
  refine lv_iload_n hx hb dX1_put_0 rfl (lv_at hl 1 rfl) ?_
  refine lv_sipush (v := 2744) hx hb dX1_put_1 (by decide) ?_
  refine lv_icmp_ge (tgt := 21) hx hb dX1_put_4 (by decide) (fun hc4 => ?_) (fun hc4 => ?_)
  · have hge : 2744 ≤ i := (nI_leI (a := 2744) (by decide) hi).mp hc4
    exact gVret C w (⟨_, rfl, fun j hj => by rw [if_neg (by omega), Int32.add_zero]⟩) dX1_put_21
  · have hlt : i < 2744 := Nat.not_le.mp (fun h => hc4 (nI_le (a := 2744) h hi))
    refine lv_aload_n hx hb dX1_put_7 rfl (lv_at hl 0 rfl) ?_
    refine mg_n C w dX1_put_8 ?_
    refine lv_iload_n hx hb dX1_put_11 rfl (lv_at hl 1 rfl) ?_
    refine lv_aload_n hx hb dX1_put_12 rfl (lv_at hl 0 rfl) ?_
    refine mg_n C w dX1_put_13 ?_
    refine lv_iload_n hx hb dX1_put_16 rfl (lv_at hl 1 rfl) ?_
    refine ml_n C w i (by omega) dX1_put_17 ?_
    refine lv_iload_n hx hb dX1_put_18 rfl (lv_at hl 2 rfl) ?_
    refine lv_iadd hx hb dX1_put_19 ?_
    refine ms_n C w i (by omega) dX1_put_20 (fun H locs w => ?_)
    exact gVret C w (⟨_, rfl, cd_putp⟩) dX1_put_21
set_option maxHeartbeats 4000000 in
set_option maxRecDepth 100000 in
theorem lp_times1 {p : Program} {l : Launch} {e : Env} {s : State} {m : MethodId} {args : Array Value} {below : List Frame} {meth : Method} {c : Code} {D : va_G} {A : Nat → Prop} {a : Nat → Nat} {dJ : ClassId} {Q : State → Prop} {cells slots : Nat} {R : Room} {ch : Int32} {fn : Nat → Int32} {pp : Nat} {wa xa ya za : Int32} (C : gC RX1 cX1_times 7 none D (tyM dJ) A p s m args meth c)
    (K : ∀ (ft : Nat → Int32) (H : Heap) (locs : List Loc) (ls : Array Slot), (∀ j, j < 2744 → ft j = 0) → gW D A s (wM a dJ (ch, fn, ft)) H locs → lv_has ls 7 [(0, .ref (a 0)), (1, .int (nI pp)), (2, .int wa), (3, .int xa), (4, .int ya), (5, .int za)] → W p l e R s m args below meth c H locs cells slots Q (F0 m 25 ls [])) :
    ∀ (n i : Nat), i + n = 2744 → ∀ (ft : Nat → Int32) (H : Heap) (locs : List Loc) (ls : Array Slot), (∀ j, j < i → ft j = 0) → gW D A s (wM a dJ (ch, fn, ft)) H locs → lv_has ls 7 [(0, .ref (a 0)), (1, .int (nI pp)), (2, .int wa), (3, .int xa), (4, .int ya), (5, .int za), (6, .int (nI i))] → W p l e R s m args below meth c H locs cells slots Q (F0 m 3 ls []) := by
  obtain ⟨hx, hb, hr, hml, hown, hts, hA, hK, hlocks⟩ := id C
  intro n
  induction n with
  | zero =>
    intro i hi ft H locs ls hf w hl
    obtain rfl : i = 2744 := by omega
    refine lv_iload hx hb dX1_times_3 (lv_at hl 6 rfl) ?_
    refine lv_sipush (v := 2744) hx hb dX1_times_5 (by decide) ?_
    refine lv_icmp_ge (tgt := 25) hx hb dX1_times_8 (by decide) (fun _ => ?_) (fun hc => absurd (nI_le (a := 2744) (Nat.le_refl 2744) (by decide)) hc)
    exact K _ _ _ _ hf w (lv_sub hl [0, 1, 2, 3, 4, 5] rfl)
  | succ n ih =>
    intro i hi ft H locs ls hf w hl
    refine lv_iload hx hb dX1_times_3 (lv_at hl 6 rfl) ?_
    refine lv_sipush (v := 2744) hx hb dX1_times_5 (by decide) ?_
    refine lv_icmp_ge (tgt := 25) hx hb dX1_times_8 (by decide) (fun hc => absurd hc (nI_ge (b := 2744) (by omega) (by decide))) (fun _ => ?_)
    refine lv_aload_n hx hb dX1_times_11 rfl (lv_at hl 0 rfl) ?_
    refine mg_n C w dX1_times_12 ?_
    refine lv_iload hx hb dX1_times_15 (lv_at hl 6 rfl) ?_
    refine lv_iconst (v := 0) hx hb dX1_times_17 (by decide) ?_
    refine ms_n C w i (by omega) dX1_times_18 (fun H locs w => ?_)
    refine lv_iinc (v := nI (i + 1)) (lv' := [(6, .int (nI (i + 1))), (0, .ref (a 0)), (1, .int (nI pp)), (2, .int (wa)), (3, .int (xa)), (4, .int (ya)), (5, .int (za))]) hx hb dX1_times_19 hl (k := 6) rfl (nI_1 _) (by decide) rfl (fun ls hl => ?_)
    refine lv_goto (tgt := 3) hx hb dX1_times_22 (by decide) ?_
    exact ih (i + 1) (by omega) _ _ _ _ (cd_u (P := fun j z => z = 0) hf rfl) w (lv_sub hl [1, 2, 3, 4, 5, 6, 0] rfl)
set_option maxHeartbeats 4000000 in
set_option maxRecDepth 100000 in
theorem lp_times2 {p : Program} {l : Launch} {e : Env} {s : State} {m : MethodId} {args : Array Value} {below : List Frame} {meth : Method} {c : Code} {D : va_G} {A : Nat → Prop} {a : Nat → Nat} {dJ : ClassId} {Q : State → Prop} {ch : Int32} {fn : Nat → Int32} (pp : Nat) (wa xa ya za : Int32) (hp : pp ≤ 7) (C : gC RX1 cX1_times 7 none D (tyM dJ) A p s m args meth c)
    (K : ∀ (ft : Nat → Int32) (H : Heap) (locs : List Loc) (ls : Array Slot), (∀ j, j < 2744 → ft j = cd_tp pp wa xa ya za fn 2744 j) → gW D A s (wM a dJ (ch, fn, ft)) H locs → lv_has ls 7 [(0, .ref (a 0))] → W p l e (rmv 1) s m args below meth c H locs 0 0 Q (F0 m 127 ls [])) :
    ∀ (n i : Nat), i + n = 2744 → ∀ (ft : Nat → Int32) (H : Heap) (locs : List Loc) (ls : Array Slot), (∀ j, j < 2744 → ft j = cd_tp pp wa xa ya za fn i j) → gW D A s (wM a dJ (ch, fn, ft)) H locs → lv_has ls 7 [(0, .ref (a 0)), (1, .int (nI pp)), (2, .int wa), (3, .int xa), (4, .int ya), (5, .int za), (6, .int (nI i))] → W p l e (rmv 1) s m args below meth c H locs 0 0 Q (F0 m 28 ls []) := by
  obtain ⟨hx, hb, hr, hml, hown, hts, hA, hK, hlocks⟩ := id C
  intro n
  induction n with
  | zero =>
    intro i hi ft H locs ls hf w hl
    obtain rfl : i = 2744 := by omega
    refine lv_iload hx hb dX1_times_28 (lv_at hl 6 rfl) ?_
    refine lv_sipush (v := 2744) hx hb dX1_times_30 (by decide) ?_
    refine lv_icmp_ge (tgt := 127) hx hb dX1_times_33 (by decide) (fun _ => ?_) (fun hc => absurd (nI_le (a := 2744) (Nat.le_refl 2744) (by decide)) hc)
    exact K _ _ _ _ hf w (lv_sub hl [0] rfl)
  | succ n ih =>
    intro i hi ft H locs ls hf w hl
    refine lv_iload hx hb dX1_times_28 (lv_at hl 6 rfl) ?_
    refine lv_sipush (v := 2744) hx hb dX1_times_30 (by decide) ?_
    refine lv_icmp_ge (tgt := 127) hx hb dX1_times_33 (by decide) (fun hc => absurd hc (nI_ge (b := 2744) (by omega) (by decide))) (fun _ => ?_)
    refine lv_aload_n hx hb dX1_times_36 rfl (lv_at hl 0 rfl) ?_
    refine mg_p C w dX1_times_37 ?_
    refine lv_iload hx hb dX1_times_40 (lv_at hl 6 rfl) ?_
    refine ml_p C w i (by omega) dX1_times_42 ?_
    refine lv_if_eq (tgt := 121) hx hb dX1_times_43 (by decide) (fun hc43 => ?_) (fun hc43 => ?_)
    · refine lv_iinc (v := nI (i + 1)) (lv' := [(6, .int (nI (i + 1))), (0, .ref (a 0)), (1, .int (nI pp)), (2, .int (wa)), (3, .int (xa)), (4, .int (ya)), (5, .int (za))]) hx hb dX1_times_121 hl (k := 6) rfl (nI_1 _) (by decide) rfl (fun ls hl => ?_)
      refine lv_goto (tgt := 28) hx hb dX1_times_124 (by decide) ?_
      exact ih (i + 1) (by omega) _ _ _ _ (fun j hj => by rw [cd_tp_s, hc43, hf j hj]; simp only [Int32.mul_zero, ite_self, Int32.add_zero]) w (lv_sub hl [1, 2, 3, 4, 5, 6, 0] rfl)
    · refine lv_aload_n hx hb dX1_times_46 rfl (lv_at hl 0 rfl) ?_
      refine lv_iload hx hb dX1_times_47 (lv_at hl 6 rfl) ?_
      refine lv_iload_n hx hb dX1_times_49 rfl (lv_at hl 1 rfl) ?_
      refine lv_iadd hx hb dX1_times_50 ?_
      refine cd_top (y := nI (i + pp)) (nI_add _ _) ?_
      refine lv_iload_n hx hb dX1_times_51 rfl (lv_at hl 2 rfl) ?_
      refine lv_aload_n hx hb dX1_times_52 rfl (lv_at hl 0 rfl) ?_
      refine mg_p C w dX1_times_53 ?_
      refine lv_iload hx hb dX1_times_56 (lv_at hl 6 rfl) ?_
      refine ml_p C w i (by omega) dX1_times_58 ?_
      refine lv_imul hx hb dX1_times_59 ?_
      refine gCallv C w (mM_put l D a dJ ch fn ft (i + pp) (wa * fn i) (by omega)) (cwV 2 hts (lw_V q184 q186 qs11 q16 q187) rfl rfl rfl (by decide +kernel) ⟨Nat.le_of_ble_eq_true rfl, Nat.le_of_ble_eq_true rfl⟩) rfl rfl rfl hl.1 rfl (Nat.le_of_ble_eq_true rfl) dX1_times_60 ⟨Nat.zero_le _, Nat.zero_le _⟩ (fun u H locs hq w => ?_)
      obtain ⟨ft1, rfl, hq1⟩ := hq
      refine lv_aload_n hx hb dX1_times_63 rfl (lv_at hl 0 rfl) ?_
      refine lv_iload hx hb dX1_times_64 (lv_at hl 6 rfl) ?_
      refine lv_bipush (v := 14) hx hb dX1_times_66 (by decide) ?_
      refine lv_iload_n hx hb dX1_times_68 rfl (lv_at hl 1 rfl) ?_
      refine lv_imul hx hb dX1_times_69 ?_
      refine cd_top (y := nI (14 * pp)) (pk_mul 14 _) ?_
      refine lv_iadd hx hb dX1_times_70 ?_
      refine cd_top (y := nI (i + 14 * pp)) (nI_add _ _) ?_
      refine lv_iload_n hx hb dX1_times_71 rfl (lv_at hl 3 rfl) ?_
      refine lv_aload_n hx hb dX1_times_72 rfl (lv_at hl 0 rfl) ?_
      refine mg_p C w dX1_times_73 ?_
      refine lv_iload hx hb dX1_times_76 (lv_at hl 6 rfl) ?_
      refine ml_p C w i (by omega) dX1_times_78 ?_
      refine lv_imul hx hb dX1_times_79 ?_
      refine gCallv C w (mM_put l D a dJ ch fn ft1 (i + 14 * pp) (xa * fn i) (by omega)) (cwV 2 hts (lw_V q184 q186 qs11 q16 q187) rfl rfl rfl (by decide +kernel) ⟨Nat.le_of_ble_eq_true rfl, Nat.le_of_ble_eq_true rfl⟩) rfl rfl rfl hl.1 rfl (Nat.le_of_ble_eq_true rfl) dX1_times_80 ⟨Nat.zero_le _, Nat.zero_le _⟩ (fun u H locs hq w => ?_)
      obtain ⟨ft2, rfl, hq2⟩ := hq
      refine lv_aload_n hx hb dX1_times_83 rfl (lv_at hl 0 rfl) ?_
      refine lv_iload hx hb dX1_times_84 (lv_at hl 6 rfl) ?_
      refine lv_sipush (v := 196) hx hb dX1_times_86 (by decide) ?_
      refine lv_iload_n hx hb dX1_times_89 rfl (lv_at hl 1 rfl) ?_
      refine lv_imul hx hb dX1_times_90 ?_
      refine cd_top (y := nI (196 * pp)) (pk_mul 196 _) ?_
      refine lv_iadd hx hb dX1_times_91 ?_
      refine cd_top (y := nI (i + 196 * pp)) (nI_add _ _) ?_
      refine lv_iload hx hb dX1_times_92 (lv_at hl 4 rfl) ?_
      refine lv_aload_n hx hb dX1_times_94 rfl (lv_at hl 0 rfl) ?_
      refine mg_p C w dX1_times_95 ?_
      refine lv_iload hx hb dX1_times_98 (lv_at hl 6 rfl) ?_
      refine ml_p C w i (by omega) dX1_times_100 ?_
      refine lv_imul hx hb dX1_times_101 ?_
      refine gCallv C w (mM_put l D a dJ ch fn ft2 (i + 196 * pp) (ya * fn i) (by omega)) (cwV 2 hts (lw_V q184 q186 qs11 q16 q187) rfl rfl rfl (by decide +kernel) ⟨Nat.le_of_ble_eq_true rfl, Nat.le_of_ble_eq_true rfl⟩) rfl rfl rfl hl.1 rfl (Nat.le_of_ble_eq_true rfl) dX1_times_102 ⟨Nat.zero_le _, Nat.zero_le _⟩ (fun u H locs hq w => ?_)
      obtain ⟨ft3, rfl, hq3⟩ := hq
      refine lv_aload_n hx hb dX1_times_105 rfl (lv_at hl 0 rfl) ?_
      refine lv_iload hx hb dX1_times_106 (lv_at hl 6 rfl) ?_
      refine lv_iload hx hb dX1_times_108 (lv_at hl 5 rfl) ?_
      refine lv_aload_n hx hb dX1_times_110 rfl (lv_at hl 0 rfl) ?_
      refine mg_p C w dX1_times_111 ?_
      refine lv_iload hx hb dX1_times_114 (lv_at hl 6 rfl) ?_
      refine ml_p C w i (by omega) dX1_times_116 ?_
      refine lv_imul hx hb dX1_times_117 ?_
      refine gCallv C w (mM_put l D a dJ ch fn ft3 (i) (za * fn i) (by omega)) (cwV 2 hts (lw_V q184 q186 qs11 q16 q187) rfl rfl rfl (by decide +kernel) ⟨Nat.le_of_ble_eq_true rfl, Nat.le_of_ble_eq_true rfl⟩) rfl rfl rfl hl.1 rfl (Nat.le_of_ble_eq_true rfl) dX1_times_118 ⟨Nat.zero_le _, Nat.zero_le _⟩ (fun u H locs hq w => ?_)
      obtain ⟨ft4, rfl, hq4⟩ := hq
      refine lv_iinc (v := nI (i + 1)) (lv' := [(6, .int (nI (i + 1))), (0, .ref (a 0)), (1, .int (nI pp)), (2, .int (wa)), (3, .int (xa)), (4, .int (ya)), (5, .int (za))]) hx hb dX1_times_121 hl (k := 6) rfl (nI_1 _) (by decide) rfl (fun ls hl => ?_)
      refine lv_goto (tgt := 28) hx hb dX1_times_124 (by decide) ?_
      exact ih (i + 1) (by omega) _ _ _ _ (fun j hj => by rw [hq4 j hj, hq3 j hj, hq2 j hj, hq1 j hj, hf j hj, cd_tp_s]) w (lv_sub hl [1, 2, 3, 4, 5, 6, 0] rfl)
set_option maxHeartbeats 4000000 in
set_option maxRecDepth 100000 in
theorem lp_times3 {p : Program} {l : Launch} {e : Env} {s : State} {m : MethodId} {args : Array Value} {below : List Frame} {meth : Method} {c : Code} {D : va_G} {A : Nat → Prop} {a : Nat → Nat} {dJ : ClassId} {Q : State → Prop} {cells slots : Nat} {R : Room} {ch : Int32} {ft : Nat → Int32} (C : gC RX1 cX1_times 7 none D (tyM dJ) A p s m args meth c)
    (K : ∀ (fn : Nat → Int32) (H : Heap) (locs : List Loc) (ls : Array Slot), (∀ j, j < 2744 → fn j = ft j) → gW D A s (wM a dJ (ch, fn, ft)) H locs → W p l e R s m args below meth c H locs cells slots Q (F0 m 158 ls [])) :
    ∀ (n i : Nat), i + n = 2744 → ∀ (fn : Nat → Int32) (H : Heap) (locs : List Loc) (ls : Array Slot), (∀ j, j < i → fn j = ft j) → gW D A s (wM a dJ (ch, fn, ft)) H locs → lv_has ls 7 [(0, .ref (a 0)), (6, .int (nI i))] → W p l e R s m args below meth c H locs cells slots Q (F0 m 130 ls []) := by
  obtain ⟨hx, hb, hr, hml, hown, hts, hA, hK, hlocks⟩ := id C
  intro n
  induction n with
  | zero =>
    intro i hi fn H locs ls hf w hl
    obtain rfl : i = 2744 := by omega
    refine lv_iload hx hb dX1_times_130 (lv_at hl 1 rfl) ?_
    refine lv_sipush (v := 2744) hx hb dX1_times_132 (by decide) ?_
    refine lv_icmp_ge (tgt := 158) hx hb dX1_times_135 (by decide) (fun _ => ?_) (fun hc => absurd (nI_le (a := 2744) (Nat.le_refl 2744) (by decide)) hc)
    exact K _ _ _ _ hf w
  | succ n ih =>
    intro i hi fn H locs ls hf w hl
    refine lv_iload hx hb dX1_times_130 (lv_at hl 1 rfl) ?_
    refine lv_sipush (v := 2744) hx hb dX1_times_132 (by decide) ?_
    refine lv_icmp_ge (tgt := 158) hx hb dX1_times_135 (by decide) (fun hc => absurd hc (nI_ge (b := 2744) (by omega) (by decide))) (fun _ => ?_)
    refine lv_aload_n hx hb dX1_times_138 rfl (lv_at hl 0 rfl) ?_
    refine mg_p C w dX1_times_139 ?_
    refine lv_iload hx hb dX1_times_142 (lv_at hl 1 rfl) ?_
    refine lv_aload_n hx hb dX1_times_144 rfl (lv_at hl 0 rfl) ?_
    refine mg_n C w dX1_times_145 ?_
    refine lv_iload hx hb dX1_times_148 (lv_at hl 1 rfl) ?_
    refine ml_n C w i (by omega) dX1_times_150 ?_
    refine ms_p C w i (by omega) dX1_times_151 (fun H locs w => ?_)
    refine lv_iinc (v := nI (i + 1)) (lv' := [(6, .int (nI (i + 1))), (0, .ref (a 0))]) hx hb dX1_times_152 hl (k := 1) rfl (nI_1 _) (by decide) rfl (fun ls hl => ?_)
    refine lv_goto (tgt := 130) hx hb dX1_times_155 (by decide) ?_
    exact ih (i + 1) (by omega) _ _ _ _ (cd_u (P := fun j z => z = ft j) hf rfl) w (lv_sub hl [1, 0] rfl)
set_option maxHeartbeats 4000000 in
set_option maxRecDepth 100000 in
theorem mM_times (l : Launch) (D : va_G) (a : Nat → Nat) (dJ : ClassId) (ch : Int32) (fn ft : Nat → Int32) (pp : Nat) (wa xa ya za : Int32) (hp : pp ≤ 7) : gMv l yX1_times cX1_times 7 (rmv 1) [.ref (a 0), .int (nI pp), .int wa, .int xa, .int ya, .int za] D (tyM dJ) (wM a dJ) (ch, fn, ft) (fun u => ∃ fn' ft' : Nat → Int32, u = (ch, fn', ft') ∧ ∀ j, j < 2744 → fn' j = cd_tm pp wa xa ya za fn j) := by
  refine gMv.of RX1 (by decide) rfl (Nat.le_of_ble_eq_true rfl) (fun p e s m below meth c A ls C w hl => ?_)
  obtain ⟨hx, hb, hr, hml, hown, hts, hA, hK, hlocks⟩ := id C
  refine lv_iconst (v := 0) hx hb dX1_times_0 (by decide) ?_
  refine lv_istore (lv' := [(6, .int (0)), (0, .ref (a 0)), (1, .int (nI pp)), (2, .int (wa)), (3, .int (xa)), (4, .int (ya)), (5, .int (za))]) hx hb dX1_times_1 hl (by decide) rfl (fun ls hl => ?_)
  refine lp_times1 C (fun ft H locs ls hz w hl => ?_) 2744 0 rfl _ _ _ _ (fun j hj => absurd hj (Nat.not_lt_zero j)) w (lv_sub hl [1, 2, 3, 4, 5, 6, 0] rfl)
  refine lv_iconst (v := 0) hx hb dX1_times_25 (by decide) ?_
  refine lv_istore (lv' := [(6, .int (0)), (0, .ref (a 0)), (1, .int (nI pp)), (2, .int (wa)), (3, .int (xa)), (4, .int (ya)), (5, .int (za))]) hx hb dX1_times_26 hl (by decide) rfl (fun ls hl => ?_)
  refine lp_times2 pp wa xa ya za hp C (fun ft H locs ls hf w hl => ?_) 2744 0 rfl _ _ _ _ (fun j hj => by rw [cd_tp_0]; exact hz j hj) w (lv_sub hl [1, 2, 3, 4, 5, 6, 0] rfl)
  refine lv_iconst (v := 0) hx hb dX1_times_127 (by decide) ?_
  refine lv_istore (lv' := [(6, .int (0)), (0, .ref (a 0))]) hx hb dX1_times_128 hl (by decide) rfl (fun ls hl => ?_)
  refine lp_times3 C (fun fn1 H locs ls he w => ?_) 2744 0 rfl _ _ _ _ (fun j hj => absurd hj (Nat.not_lt_zero j)) w (lv_sub hl [1, 0] rfl)
  exact gVret C w (⟨_, _, rfl, fun j hj => by rw [he j hj, hf j hj]; exact cd_tp_e pp wa xa ya za fn hj⟩) dX1_times_158
set_option maxHeartbeats 4000000 in
set_option maxRecDepth 100000 in
theorem lp_begin {p : Program} {l : Launch} {e : Env} {s : State} {m : MethodId} {args : Array Value} {below : List Frame} {meth : Method} {c : Code} {D : va_G} {A : Nat → Prop} {a : Nat → Nat} {dJ : ClassId} {Q : State → Prop} {cells slots : Nat} {R : Room} {ch : Int32} {ft : Nat → Int32} (C : gC RX1 cX1_begin 2 none D (tyM dJ) A p s m args meth c)
    (K : ∀ (fn : Nat → Int32) (H : Heap) (locs : List Loc) (ls : Array Slot), (∀ j, j < 2744 → fn j = cd_d0 j) → gW D A s (wM a dJ (ch, fn, ft)) H locs → lv_has ls 2 [(0, .ref (a 0))] → W p l e R s m args below meth c H locs cells slots Q (F0 m 30 ls [])) :
    ∀ (n i : Nat), i + n = 2744 → ∀ (fn : Nat → Int32) (H : Heap) (locs : List Loc) (ls : Array Slot), (∀ j, j < i → fn j = cd_d0 j) → gW D A s (wM a dJ (ch, fn, ft)) H locs → lv_has ls 2 [(0, .ref (a 0)), (1, .int (nI i))] → W p l e R s m args below meth c H locs cells slots Q (F0 m 2 ls []) := by
  obtain ⟨hx, hb, hr, hml, hown, hts, hA, hK, hlocks⟩ := id C
  intro n
  induction n with
  | zero =>
    intro i hi fn H locs ls hf w hl
    obtain rfl : i = 2744 := by omega
    refine lv_iload_n hx hb dX1_begin_2 rfl (lv_at hl 1 rfl) ?_
    refine lv_sipush (v := 2744) hx hb dX1_begin_3 (by decide) ?_
    refine lv_icmp_ge (tgt := 30) hx hb dX1_begin_6 (by decide) (fun _ => ?_) (fun hc => absurd (nI_le (a := 2744) (Nat.le_refl 2744) (by decide)) hc)
    exact K _ _ _ _ hf w (lv_sub hl [0] rfl)
  | succ n ih =>
    intro i hi fn H locs ls hf w hl
    refine lv_iload_n hx hb dX1_begin_2 rfl (lv_at hl 1 rfl) ?_
    refine lv_sipush (v := 2744) hx hb dX1_begin_3 (by decide) ?_
    refine lv_icmp_ge (tgt := 30) hx hb dX1_begin_6 (by decide) (fun hc => absurd hc (nI_ge (b := 2744) (by omega) (by decide))) (fun _ => ?_)
    refine lv_aload_n hx hb dX1_begin_9 rfl (lv_at hl 0 rfl) ?_
    refine mg_p C w dX1_begin_10 ?_
    refine lv_iload_n hx hb dX1_begin_13 rfl (lv_at hl 1 rfl) ?_
    refine lv_iload_n hx hb dX1_begin_14 rfl (lv_at hl 1 rfl) ?_
    refine lv_if_ne (tgt := 22) hx hb dX1_begin_15 (by decide) (fun hc15 => ?_) (fun hc15 => ?_)
    · refine lv_iconst (v := 0) hx hb dX1_begin_22 (by decide) ?_
      refine cd_top (y := cd_d0 i) ((if_neg (fun h => hc15 (by rw [h]; rfl))).symm) ?_
      refine ms_p C w i (by omega) dX1_begin_23 (fun H locs w => ?_)
      refine lv_iinc (v := nI (i + 1)) (lv' := [(1, .int (nI (i + 1))), (0, .ref (a 0))]) hx hb dX1_begin_24 hl (k := 1) rfl (nI_1 _) (by decide) rfl (fun ls hl => ?_)
      refine lv_goto (tgt := 2) hx hb dX1_begin_27 (by decide) ?_
      exact ih (i + 1) (by omega) _ _ _ _ (cd_u (P := fun j z => z = cd_d0 j) hf rfl) w (lv_sub hl [1, 0] rfl)
    · refine lv_iconst (v := 1) hx hb dX1_begin_18 (by decide) ?_
      refine cd_top (y := cd_d0 i) ((if_pos ((nI_eq (b := 0) (by omega) (by decide)).mp hc15)).symm) ?_
      refine lv_goto (tgt := 23) hx hb dX1_begin_19 (by decide) ?_
      refine ms_p C w i (by omega) dX1_begin_23 (fun H locs w => ?_)
      refine lv_iinc (v := nI (i + 1)) (lv' := [(1, .int (nI (i + 1))), (0, .ref (a 0))]) hx hb dX1_begin_24 hl (k := 1) rfl (nI_1 _) (by decide) rfl (fun ls hl => ?_)
      refine lv_goto (tgt := 2) hx hb dX1_begin_27 (by decide) ?_
      exact ih (i + 1) (by omega) _ _ _ _ (cd_u (P := fun j z => z = cd_d0 j) hf rfl) w (lv_sub hl [1, 0] rfl)
set_option maxHeartbeats 4000000 in
set_option maxRecDepth 100000 in
theorem mM_begin (l : Launch) (D : va_G) (a : Nat → Nat) (dJ : ClassId) (ch : Int32) (fn ft : Nat → Int32) : gMv l yX1_begin cX1_begin 2 (rmv 2) [.ref (a 0)] D (tyM dJ) (wM a dJ) (ch, fn, ft) (fun u => ∃ fn' ft' : Nat → Int32, u = (ch, fn', ft') ∧ ∀ j, j < 2744 → fn' j = cd_b6 j) := by
  refine gMv.of RX1 (by decide) rfl (Nat.le_of_ble_eq_true rfl) (fun p e s m below meth c A ls C w hl => ?_)
  obtain ⟨hx, hb, hr, hml, hown, hts, hA, hK, hlocks⟩ := id C
  refine lv_iconst (v := 0) hx hb dX1_begin_0 (by decide) ?_
  refine lv_istore_n (lv' := [(1, .int (0)), (0, .ref (a 0))]) hx hb dX1_begin_1 rfl hl (by decide) rfl (fun ls hl => ?_)
  refine lp_begin C (fun fn H locs ls hf0 w hl => ?_) 2744 0 rfl _ _ _ _ (fun j hj => absurd hj (Nat.not_lt_zero j)) w (lv_sub hl [1, 0] rfl)
  refine lv_aload_n hx hb dX1_begin_30 rfl (lv_at hl 0 rfl) ?_
  refine lv_iconst (v := 1) hx hb dX1_begin_31 (by decide) ?_
  refine lv_iconst (v := 1) hx hb dX1_begin_32 (by decide) ?_
  refine lv_iconst (v := (-1)) hx hb dX1_begin_33 (by decide) ?_
  refine lv_iconst (v := 0) hx hb dX1_begin_34 (by decide) ?_
  refine lv_iconst (v := 0) hx hb dX1_begin_35 (by decide) ?_
  refine gCallv C w (mM_times l D a dJ ch fn ft 1 1 (-1) 0 0 (by decide)) (cwV 5 hts (lw_V q180 q182 qs10 q16 q183) rfl rfl rfl (by decide +kernel) ⟨Nat.le_of_ble_eq_true rfl, Nat.le_of_ble_eq_true rfl⟩) rfl rfl rfl hl.1 rfl (Nat.le_of_ble_eq_true rfl) dX1_begin_36 ⟨Nat.zero_le _, Nat.zero_le _⟩ (fun u H locs hq w => ?_)
  obtain ⟨fn1, ft1, rfl, hq1⟩ := hq
  have hf1 : ∀ j, j < 2744 → fn1 j = cd_b1 j := fun j hj => (hq1 j hj).trans (cd_tm_congr hf0 hj)
  refine lv_aload_n hx hb dX1_begin_39 rfl (lv_at hl 0 rfl) ?_
  refine lv_iconst (v := 1) hx hb dX1_begin_40 (by decide) ?_
  refine lv_iconst (v := 1) hx hb dX1_begin_41 (by decide) ?_
  refine lv_iconst (v := 0) hx hb dX1_begin_42 (by decide) ?_
  refine lv_iconst (v := (-1)) hx hb dX1_begin_43 (by decide) ?_
  refine lv_iconst (v := 0) hx hb dX1_begin_44 (by decide) ?_
  refine gCallv C w (mM_times l D a dJ ch fn1 ft1 1 1 0 (-1) 0 (by decide)) (cwV 5 hts (lw_V q180 q182 qs10 q16 q183) rfl rfl rfl (by decide +kernel) ⟨Nat.le_of_ble_eq_true rfl, Nat.le_of_ble_eq_true rfl⟩) rfl rfl rfl hl.1 rfl (Nat.le_of_ble_eq_true rfl) dX1_begin_45 ⟨Nat.zero_le _, Nat.zero_le _⟩ (fun u H locs hq w => ?_)
  obtain ⟨fn2, ft2, rfl, hq2⟩ := hq
  have hf2 : ∀ j, j < 2744 → fn2 j = cd_b2 j := fun j hj => (hq2 j hj).trans (cd_tm_congr hf1 hj)
  refine lv_aload_n hx hb dX1_begin_48 rfl (lv_at hl 0 rfl) ?_
  refine lv_iconst (v := 1) hx hb dX1_begin_49 (by decide) ?_
  refine lv_iconst (v := 1) hx hb dX1_begin_50 (by decide) ?_
  refine lv_iconst (v := 0) hx hb dX1_begin_51 (by decide) ?_
  refine lv_iconst (v := 0) hx hb dX1_begin_52 (by decide) ?_
  refine lv_iconst (v := (-1)) hx hb dX1_begin_53 (by decide) ?_
  refine gCallv C w (mM_times l D a dJ ch fn2 ft2 1 1 0 0 (-1) (by decide)) (cwV 5 hts (lw_V q180 q182 qs10 q16 q183) rfl rfl rfl (by decide +kernel) ⟨Nat.le_of_ble_eq_true rfl, Nat.le_of_ble_eq_true rfl⟩) rfl rfl rfl hl.1 rfl (Nat.le_of_ble_eq_true rfl) dX1_begin_54 ⟨Nat.zero_le _, Nat.zero_le _⟩ (fun u H locs hq w => ?_)
  obtain ⟨fn3, ft3, rfl, hq3⟩ := hq
  have hf3 : ∀ j, j < 2744 → fn3 j = cd_b3 j := fun j hj => (hq3 j hj).trans (cd_tm_congr hf2 hj)
  refine lv_aload_n hx hb dX1_begin_57 rfl (lv_at hl 0 rfl) ?_
  refine lv_iconst (v := 1) hx hb dX1_begin_58 (by decide) ?_
  refine lv_iconst (v := 0) hx hb dX1_begin_59 (by decide) ?_
  refine lv_iconst (v := 1) hx hb dX1_begin_60 (by decide) ?_
  refine lv_iconst (v := (-1)) hx hb dX1_begin_61 (by decide) ?_
  refine lv_iconst (v := 0) hx hb dX1_begin_62 (by decide) ?_
  refine gCallv C w (mM_times l D a dJ ch fn3 ft3 1 0 1 (-1) 0 (by decide)) (cwV 5 hts (lw_V q180 q182 qs10 q16 q183) rfl rfl rfl (by decide +kernel) ⟨Nat.le_of_ble_eq_true rfl, Nat.le_of_ble_eq_true rfl⟩) rfl rfl rfl hl.1 rfl (Nat.le_of_ble_eq_true rfl) dX1_begin_63 ⟨Nat.zero_le _, Nat.zero_le _⟩ (fun u H locs hq w => ?_)
  obtain ⟨fn4, ft4, rfl, hq4⟩ := hq
  have hf4 : ∀ j, j < 2744 → fn4 j = cd_b4 j := fun j hj => (hq4 j hj).trans (cd_tm_congr hf3 hj)
  refine lv_aload_n hx hb dX1_begin_66 rfl (lv_at hl 0 rfl) ?_
  refine lv_iconst (v := 1) hx hb dX1_begin_67 (by decide) ?_
  refine lv_iconst (v := 0) hx hb dX1_begin_68 (by decide) ?_
  refine lv_iconst (v := 1) hx hb dX1_begin_69 (by decide) ?_
  refine lv_iconst (v := 0) hx hb dX1_begin_70 (by decide) ?_
  refine lv_iconst (v := (-1)) hx hb dX1_begin_71 (by decide) ?_
  refine gCallv C w (mM_times l D a dJ ch fn4 ft4 1 0 1 0 (-1) (by decide)) (cwV 5 hts (lw_V q180 q182 qs10 q16 q183) rfl rfl rfl (by decide +kernel) ⟨Nat.le_of_ble_eq_true rfl, Nat.le_of_ble_eq_true rfl⟩) rfl rfl rfl hl.1 rfl (Nat.le_of_ble_eq_true rfl) dX1_begin_72 ⟨Nat.zero_le _, Nat.zero_le _⟩ (fun u H locs hq w => ?_)
  obtain ⟨fn5, ft5, rfl, hq5⟩ := hq
  have hf5 : ∀ j, j < 2744 → fn5 j = cd_b5 j := fun j hj => (hq5 j hj).trans (cd_tm_congr hf4 hj)
  refine lv_aload_n hx hb dX1_begin_75 rfl (lv_at hl 0 rfl) ?_
  refine lv_iconst (v := 1) hx hb dX1_begin_76 (by decide) ?_
  refine lv_iconst (v := 0) hx hb dX1_begin_77 (by decide) ?_
  refine lv_iconst (v := 0) hx hb dX1_begin_78 (by decide) ?_
  refine lv_iconst (v := 1) hx hb dX1_begin_79 (by decide) ?_
  refine lv_iconst (v := (-1)) hx hb dX1_begin_80 (by decide) ?_
  refine gCallv C w (mM_times l D a dJ ch fn5 ft5 1 0 0 1 (-1) (by decide)) (cwV 5 hts (lw_V q180 q182 qs10 q16 q183) rfl rfl rfl (by decide +kernel) ⟨Nat.le_of_ble_eq_true rfl, Nat.le_of_ble_eq_true rfl⟩) rfl rfl rfl hl.1 rfl (Nat.le_of_ble_eq_true rfl) dX1_begin_81 ⟨Nat.zero_le _, Nat.zero_le _⟩ (fun u H locs hq w => ?_)
  obtain ⟨fn6, ft6, rfl, hq6⟩ := hq
  have hf6 : ∀ j, j < 2744 → fn6 j = cd_b6 j := fun j hj => (hq6 j hj).trans (cd_tm_congr hf5 hj)
  exact gVret C w (⟨_, _, rfl, hf6⟩) dX1_begin_84
set_option maxHeartbeats 4000000 in
set_option maxRecDepth 100000 in
theorem lp_cycles {p : Program} {l : Launch} {e : Env} {s : State} {m : MethodId} {args : Array Value} {below : List Frame} {meth : Method} {c : Code} {D : va_G} {A : Nat → Prop} {a : Nat → Nat} {dJ : ClassId} {Q : State → Prop} {ch x : Int32} (C : gC RX1 cX1_cycles 3 none D (tyM dJ) A p s m args meth c)
    (K : ∀ (fn ft : Nat → Int32) (H : Heap) (locs : List Loc) (ls : Array Slot), (∀ j, j < 2744 → fn j = cd_po (cd_rims (cd_P x) 4).reverse j) → gW D A s (wM a dJ (ch, fn, ft)) H locs → W p l e (rmv 3) s m args below meth c H locs 0 0 Q (F0 m 40 ls [])) :
    ∀ (n i : Nat), i + n = 4 → ∀ (fn ft : Nat → Int32) (H : Heap) (locs : List Loc) (ls : Array Slot), (∀ j, j < 2744 → fn j = cd_po (cd_rims (cd_P x) i).reverse j) → gW D A s (wM a dJ (ch, fn, ft)) H locs → lv_has ls 3 [(0, .ref (a 0)), (1, .int x), (2, .int (nI i))] → W p l e (rmv 3) s m args below meth c H locs 0 0 Q (F0 m 6 ls []) := by
  obtain ⟨hx, hb, hr, hml, hown, hts, hA, hK, hlocks⟩ := id C
  intro n
  induction n with
  | zero =>
    intro i hi fn ft H locs ls hf w hl
    obtain rfl : i = 4 := by omega
    refine lv_iload_n hx hb dX1_cycles_6 rfl (lv_at hl 2 rfl) ?_
    refine lv_iconst (v := 4) hx hb dX1_cycles_7 (by decide) ?_
    refine lv_icmp_ge (tgt := 40) hx hb dX1_cycles_8 (by decide) (fun _ => ?_) (fun hc => absurd (nI_le (a := 4) (Nat.le_refl 4) (by decide)) hc)
    exact K _ _ _ _ _ hf w
  | succ n ih =>
    intro i hi fn ft H locs ls hf w hl
    have hP8 := cd_P_lt x i
    refine lv_iload_n hx hb dX1_cycles_6 rfl (lv_at hl 2 rfl) ?_
    refine lv_iconst (v := 4) hx hb dX1_cycles_7 (by decide) ?_
    refine lv_icmp_ge (tgt := 40) hx hb dX1_cycles_8 (by decide) (fun hc => absurd hc (nI_ge (b := 4) (by omega) (by decide))) (fun _ => ?_)
    refine lv_aload_n hx hb dX1_cycles_11 rfl (lv_at hl 0 rfl) ?_
    refine lv_iload_n hx hb dX1_cycles_12 rfl (lv_at hl 1 rfl) ?_
    refine lv_iload_n hx hb dX1_cycles_13 rfl (lv_at hl 2 rfl) ?_
    refine gCalli C w (mM_part l D a dJ ch fn ft x (nI i)) (cwV 2 hts (lw_V q155 q157 qs7 q16 q158) rfl rfl rfl (by decide +kernel) ⟨Nat.le_of_ble_eq_true rfl, Nat.le_of_ble_eq_true rfl⟩) rfl rfl rfl hl.1 rfl (Nat.le_of_ble_eq_true rfl) dX1_cycles_14 ⟨Nat.zero_le _, Nat.zero_le _⟩ (fun r u H locs hq w => ?_)
    obtain ⟨rfl, rfl⟩ := hq
    refine cd_top (y := nI (cd_P x i)) (cd_pt_P x i) ?_
    refine lv_if_le (tgt := 34) hx hb dX1_cycles_17 (by decide) (fun hc17 => ?_) (fun hc17 => ?_)
    · have er : cd_rims (cd_P x) (i + 1) = cd_rims (cd_P x) i := if_neg (fun h => nI_nle h (by omega) hc17)
      refine lv_iinc (v := nI (i + 1)) (lv' := [(2, .int (nI (i + 1))), (0, .ref (a 0)), (1, .int (x))]) hx hb dX1_cycles_34 hl (k := 2) rfl (nI_1 _) (by decide) rfl (fun ls hl => ?_)
      refine lv_goto (tgt := 6) hx hb dX1_cycles_37 (by decide) ?_
      exact ih (i + 1) (by omega) _ _ _ _ _ (by rw [er]; exact hf) w (lv_sub hl [1, 2, 0] rfl)
    · have er : cd_rims (cd_P x) (i + 1) = cd_rims (cd_P x) i ++ [cd_P x i] := if_pos (Nat.pos_of_ne_zero (fun h => hc17 (by rw [h]; decide)))
      refine lv_aload_n hx hb dX1_cycles_20 rfl (lv_at hl 0 rfl) ?_
      refine lv_aload_n hx hb dX1_cycles_21 rfl (lv_at hl 0 rfl) ?_
      refine lv_iload_n hx hb dX1_cycles_22 rfl (lv_at hl 1 rfl) ?_
      refine lv_iload_n hx hb dX1_cycles_23 rfl (lv_at hl 2 rfl) ?_
      refine gCalli C w (mM_part l D a dJ ch fn ft x (nI i)) (cwV 2 hts (lw_V q155 q157 qs7 q16 q158) rfl rfl rfl (by decide +kernel) ⟨Nat.le_of_ble_eq_true rfl, Nat.le_of_ble_eq_true rfl⟩) rfl rfl rfl hl.1 rfl (Nat.le_of_ble_eq_true rfl) dX1_cycles_24 ⟨Nat.zero_le _, Nat.zero_le _⟩ (fun r u H locs hq w => ?_)
      obtain ⟨rfl, rfl⟩ := hq
      refine cd_top (y := nI (cd_P x i)) (cd_pt_P x i) ?_
      refine lv_iconst (v := 1) hx hb dX1_cycles_27 (by decide) ?_
      refine lv_iconst (v := 1) hx hb dX1_cycles_28 (by decide) ?_
      refine lv_iconst (v := 1) hx hb dX1_cycles_29 (by decide) ?_
      refine lv_iconst (v := 1) hx hb dX1_cycles_30 (by decide) ?_
      refine gCallv C w (mM_times l D a dJ ch fn ft (cd_P x i) 1 1 1 1 (by omega)) (cwV 5 hts (lw_V q180 q182 qs10 q16 q183) rfl rfl rfl (by decide +kernel) ⟨Nat.le_of_ble_eq_true rfl, Nat.le_of_ble_eq_true rfl⟩) rfl rfl rfl hl.1 rfl (Nat.le_of_ble_eq_true rfl) dX1_cycles_31 ⟨Nat.zero_le _, Nat.zero_le _⟩ (fun u H locs hq w => ?_)
      obtain ⟨fn1, ft1, rfl, hq1⟩ := hq
      refine lv_iinc (v := nI (i + 1)) (lv' := [(2, .int (nI (i + 1))), (0, .ref (a 0)), (1, .int (x))]) hx hb dX1_cycles_34 hl (k := 2) rfl (nI_1 _) (by decide) rfl (fun ls hl => ?_)
      refine lv_goto (tgt := 6) hx hb dX1_cycles_37 (by decide) ?_
      exact ih (i + 1) (by omega) _ _ _ _ _ (fun j hj => by rw [er, List.reverse_append]; exact (hq1 j hj).trans (cd_tm_congr hf hj)) w (lv_sub hl [1, 2, 0] rfl)
set_option maxHeartbeats 4000000 in
set_option maxRecDepth 100000 in
theorem mM_cycles (l : Launch) (D : va_G) (a : Nat → Nat) (dJ : ClassId) (ch : Int32) (fn ft : Nat → Int32) (x : Int32) : gMv l yX1_cycles cX1_cycles 3 (rmv 3) [.ref (a 0), .int x] D (tyM dJ) (wM a dJ) (ch, fn, ft) (fun u => ∃ fn' ft' : Nat → Int32, u = (ch, fn', ft') ∧ ∀ j, j < 2744 → fn' j = cd_po (cd_rims (cd_P x) 4).reverse j) := by
  refine gMv.of RX1 (by decide) rfl (Nat.le_of_ble_eq_true rfl) (fun p e s m below meth c A ls C w hl => ?_)
  obtain ⟨hx, hb, hr, hml, hown, hts, hA, hK, hlocks⟩ := id C
  refine lv_aload_n hx hb dX1_cycles_0 rfl (lv_at hl 0 rfl) ?_
  refine gCallv C w (mM_begin l D a dJ ch fn ft) (cwV 0 hts (lw_V q176 q178 qs9 q16 q179) rfl rfl rfl (by decide +kernel) ⟨Nat.le_of_ble_eq_true rfl, Nat.le_of_ble_eq_true rfl⟩) rfl rfl rfl hl.1 rfl (Nat.le_of_ble_eq_true rfl) dX1_cycles_1 ⟨Nat.zero_le _, Nat.zero_le _⟩ (fun u H locs hq w => ?_)
  obtain ⟨fn1, ft1, rfl, hf1⟩ := hq
  refine lv_iconst (v := 0) hx hb dX1_cycles_4 (by decide) ?_
  refine lv_istore_n (lv' := [(2, .int (0)), (0, .ref (a 0)), (1, .int (x))]) hx hb dX1_cycles_5 rfl hl (by decide) rfl (fun ls hl => ?_)
  refine lp_cycles C (fun fn ft H locs ls hf w => ?_) 4 0 rfl _ _ _ _ _ hf1 w (lv_sub hl [1, 2, 0] rfl)
  exact gVret C w (⟨_, _, rfl, hf⟩) dX1_cycles_40
set_option maxHeartbeats 4000000 in
set_option maxRecDepth 100000 in
theorem lp_ones {p : Program} {l : Launch} {e : Env} {s : State} {m : MethodId} {args : Array Value} {below : List Frame} {meth : Method} {c : Code} {D : va_G} {A : Nat → Prop} {a : Nat → Nat} {dJ : ClassId} {Q : State → Prop} {ch : Int32} (C : gC RX1 cX1_ones 3 none D (tyM dJ) A p s m args meth c) (k : Nat) (hk : k ≤ 7)
    (K : ∀ (fn ft : Nat → Int32) (H : Heap) (locs : List Loc) (ls : Array Slot), (∀ j, j < 2744 → fn j = cd_po (List.replicate k 1) j) → gW D A s (wM a dJ (ch, fn, ft)) H locs → W p l e (rmv 3) s m args below meth c H locs 0 0 Q (F0 m 26 ls [])) :
    ∀ (n i : Nat), i + n = k → ∀ (fn ft : Nat → Int32) (H : Heap) (locs : List Loc) (ls : Array Slot), (∀ j, j < 2744 → fn j = cd_po (List.replicate i 1) j) → gW D A s (wM a dJ (ch, fn, ft)) H locs → lv_has ls 3 [(0, .ref (a 0)), (1, .int (nI k)), (2, .int (nI i))] → W p l e (rmv 3) s m args below meth c H locs 0 0 Q (F0 m 6 ls []) := by
  obtain ⟨hx, hb, hr, hml, hown, hts, hA, hK, hlocks⟩ := id C
  intro n
  induction n with
  | zero =>
    intro i hi fn ft H locs ls hf w hl
    obtain rfl : i = k := by omega
    refine lv_iload_n hx hb dX1_ones_6 rfl (lv_at hl 2 rfl) ?_
    refine lv_iload_n hx hb dX1_ones_7 rfl (lv_at hl 1 rfl) ?_
    refine lv_icmp_ge (tgt := 26) hx hb dX1_ones_8 (by decide) (fun _ => ?_) (fun hc => absurd (nI_le (Nat.le_refl _) (by omega)) hc)
    exact K _ _ _ _ _ hf w
  | succ n ih =>
    intro i hi fn ft H locs ls hf w hl
    refine lv_iload_n hx hb dX1_ones_6 rfl (lv_at hl 2 rfl) ?_
    refine lv_iload_n hx hb dX1_ones_7 rfl (lv_at hl 1 rfl) ?_
    refine lv_icmp_ge (tgt := 26) hx hb dX1_ones_8 (by decide) (fun hc => absurd hc (nI_ge (by omega) (by omega))) (fun _ => ?_)
    refine lv_aload_n hx hb dX1_ones_11 rfl (lv_at hl 0 rfl) ?_
    refine lv_iconst (v := 1) hx hb dX1_ones_12 (by decide) ?_
    refine lv_iconst (v := 1) hx hb dX1_ones_13 (by decide) ?_
    refine lv_iconst (v := 1) hx hb dX1_ones_14 (by decide) ?_
    refine lv_iconst (v := 1) hx hb dX1_ones_15 (by decide) ?_
    refine lv_iconst (v := 1) hx hb dX1_ones_16 (by decide) ?_
    refine gCallv C w (mM_times l D a dJ ch fn ft 1 1 1 1 1 (by decide)) (cwV 5 hts (lw_V q180 q182 qs10 q16 q183) rfl rfl rfl (by decide +kernel) ⟨Nat.le_of_ble_eq_true rfl, Nat.le_of_ble_eq_true rfl⟩) rfl rfl rfl hl.1 rfl (Nat.le_of_ble_eq_true rfl) dX1_ones_17 ⟨Nat.zero_le _, Nat.zero_le _⟩ (fun u H locs hq w => ?_)
    obtain ⟨fn1, ft1, rfl, hq1⟩ := hq
    refine lv_iinc (v := nI (i + 1)) (lv' := [(2, .int (nI (i + 1))), (0, .ref (a 0)), (1, .int (nI k))]) hx hb dX1_ones_20 hl (k := 2) rfl (nI_1 _) (by decide) rfl (fun ls hl => ?_)
    refine lv_goto (tgt := 6) hx hb dX1_ones_23 (by decide) ?_
    exact ih (i + 1) (by omega) _ _ _ _ _ (fun j hj => (hq1 j hj).trans (cd_tm_congr hf hj)) w (lv_sub hl [1, 2, 0] rfl)
set_option maxHeartbeats 4000000 in
set_option maxRecDepth 100000 in
theorem mM_ones (l : Launch) (D : va_G) (a : Nat → Nat) (dJ : ClassId) (ch : Int32) (fn ft : Nat → Int32) (k : Nat) (hk : k ≤ 7) : gMv l yX1_ones cX1_ones 3 (rmv 3) [.ref (a 0), .int (nI k)] D (tyM dJ) (wM a dJ) (ch, fn, ft) (fun u => ∃ fn' ft' : Nat → Int32, u = (ch, fn', ft') ∧ ∀ j, j < 2744 → fn' j = cd_po (List.replicate k 1) j) := by
  refine gMv.of RX1 (by decide) rfl (Nat.le_of_ble_eq_true rfl) (fun p e s m below meth c A ls C w hl => ?_)
  obtain ⟨hx, hb, hr, hml, hown, hts, hA, hK, hlocks⟩ := id C
  refine lv_aload_n hx hb dX1_ones_0 rfl (lv_at hl 0 rfl) ?_
  refine gCallv C w (mM_begin l D a dJ ch fn ft) (cwV 0 hts (lw_V q176 q178 qs9 q16 q179) rfl rfl rfl (by decide +kernel) ⟨Nat.le_of_ble_eq_true rfl, Nat.le_of_ble_eq_true rfl⟩) rfl rfl rfl hl.1 rfl (Nat.le_of_ble_eq_true rfl) dX1_ones_1 ⟨Nat.zero_le _, Nat.zero_le _⟩ (fun u H locs hq w => ?_)
  obtain ⟨fn1, ft1, rfl, hf1⟩ := hq
  refine lv_iconst (v := 0) hx hb dX1_ones_4 (by decide) ?_
  refine lv_istore_n (lv' := [(2, .int (0)), (0, .ref (a 0)), (1, .int (nI k))]) hx hb dX1_ones_5 rfl hl (by decide) rfl (fun ls hl => ?_)
  refine lp_ones C k hk (fun fn ft H locs ls hf w => ?_) k 0 (Nat.zero_add k) _ _ _ _ _ hf1 w (lv_sub hl [1, 2, 0] rfl)
  exact gVret C w (⟨_, _, rfl, hf⟩) dX1_ones_26
set_option maxHeartbeats 4000000 in
set_option maxRecDepth 100000 in
theorem mM_coefficient (l : Launch) (D : va_G) (a : Nat → Nat) (dJ : ClassId) (ch : Int32) (fn ft : Nat → Int32) (x : Int32) : gMi l yX1_coefficient cX1_coefficient 2 (some .int) (rmv 1) [.ref (a 0), .int x] D (tyM dJ) (wM a dJ) (ch, fn, ft) (fun r u => r = fn (cd_ix x) ∧ u = (ch, fn, ft)) := by
  refine gMi.of RX1 (by decide) rfl (Nat.le_of_ble_eq_true rfl) (fun p e s m below meth c A ls C w hl => ?_)
  obtain ⟨hx, hb, hr, hml, hown, hts, hA, hK, hlocks⟩ := id C
  refine lv_aload_n hx hb dX1_coefficient_0 rfl (lv_at hl 0 rfl) ?_
  refine mg_p C w dX1_coefficient_1 ?_
  refine lv_aload_n hx hb dX1_coefficient_4 rfl (lv_at hl 0 rfl) ?_
  refine lv_iload_n hx hb dX1_coefficient_5 rfl (lv_at hl 1 rfl) ?_
  refine lv_iconst (v := 0) hx hb dX1_coefficient_6 (by decide) ?_
  refine gCalli C w (mM_part l D a dJ ch fn ft x 0) (cwV 2 hts (lw_V q155 q157 qs7 q16 q158) rfl rfl rfl (by decide +kernel) ⟨Nat.le_of_ble_eq_true rfl, Nat.le_of_ble_eq_true rfl⟩) rfl rfl rfl hl.1 rfl (Nat.le_of_ble_eq_true rfl) dX1_coefficient_7 ⟨Nat.zero_le _, Nat.zero_le _⟩ (fun r u H locs hq w => ?_)
  obtain ⟨rfl, rfl⟩ := hq
  refine cd_top (y := nI (cd_P x 0)) (cd_pt_P x 0) ?_
  refine lv_iconst (v := 3) hx hb dX1_coefficient_10 (by decide) ?_
  refine lv_iadd hx hb dX1_coefficient_11 ?_
  refine cd_top (y := nI (cd_P x 0 + 3)) (nI_add _ 3) ?_
  refine lv_bipush (v := 14) hx hb dX1_coefficient_12 (by decide) ?_
  refine lv_aload_n hx hb dX1_coefficient_14 rfl (lv_at hl 0 rfl) ?_
  refine lv_iload_n hx hb dX1_coefficient_15 rfl (lv_at hl 1 rfl) ?_
  refine lv_iconst (v := 1) hx hb dX1_coefficient_16 (by decide) ?_
  refine gCalli C w (mM_part l D a dJ ch fn ft x 1) (cwV 2 hts (lw_V q155 q157 qs7 q16 q158) rfl rfl rfl (by decide +kernel) ⟨Nat.le_of_ble_eq_true rfl, Nat.le_of_ble_eq_true rfl⟩) rfl rfl rfl hl.1 rfl (Nat.le_of_ble_eq_true rfl) dX1_coefficient_17 ⟨Nat.zero_le _, Nat.zero_le _⟩ (fun r u H locs hq w => ?_)
  obtain ⟨rfl, rfl⟩ := hq
  refine cd_top (y := nI (cd_P x 1)) (cd_pt_P x 1) ?_
  refine lv_iconst (v := 2) hx hb dX1_coefficient_20 (by decide) ?_
  refine lv_iadd hx hb dX1_coefficient_21 ?_
  refine cd_top (y := nI (cd_P x 1 + 2)) (nI_add _ 2) ?_
  refine lv_imul hx hb dX1_coefficient_22 ?_
  refine cd_top (y := nI (14 * (cd_P x 1 + 2))) (pk_mul 14 _) ?_
  refine lv_iadd hx hb dX1_coefficient_23 ?_
  refine cd_top (y := nI (cd_P x 0 + 3 + 14 * (cd_P x 1 + 2))) (nI_add _ _) ?_
  refine lv_sipush (v := 196) hx hb dX1_coefficient_24 (by decide) ?_
  refine lv_aload_n hx hb dX1_coefficient_27 rfl (lv_at hl 0 rfl) ?_
  refine lv_iload_n hx hb dX1_coefficient_28 rfl (lv_at hl 1 rfl) ?_
  refine lv_iconst (v := 2) hx hb dX1_coefficient_29 (by decide) ?_
  refine gCalli C w (mM_part l D a dJ ch fn ft x 2) (cwV 2 hts (lw_V q155 q157 qs7 q16 q158) rfl rfl rfl (by decide +kernel) ⟨Nat.le_of_ble_eq_true rfl, Nat.le_of_ble_eq_true rfl⟩) rfl rfl rfl hl.1 rfl (Nat.le_of_ble_eq_true rfl) dX1_coefficient_30 ⟨Nat.zero_le _, Nat.zero_le _⟩ (fun r u H locs hq w => ?_)
  obtain ⟨rfl, rfl⟩ := hq
  refine cd_top (y := nI (cd_P x 2)) (cd_pt_P x 2) ?_
  refine lv_iconst (v := 1) hx hb dX1_coefficient_33 (by decide) ?_
  refine lv_iadd hx hb dX1_coefficient_34 ?_
  refine cd_top (y := nI (cd_P x 2 + 1)) (nI_add _ 1) ?_
  refine lv_imul hx hb dX1_coefficient_35 ?_
  refine cd_top (y := nI (196 * (cd_P x 2 + 1))) (pk_mul 196 _) ?_
  refine lv_iadd hx hb dX1_coefficient_36 ?_
  refine cd_top (y := nI (cd_ix x)) (nI_add _ _) ?_
  refine ml_p C w (cd_ix x) (cd_ix_lt x) dX1_coefficient_37 ?_
  exact gIret C w (⟨rfl, rfl⟩) dX1_coefficient_38
end
section
/-! CharacterDeskModel: its public methods (printed by gen_M2.py) -/
set_option maxRecDepth 100000
def cd_coM (x : Int32) : Int32 := if x ≤ 0 then 0 else cd_cn x 4095
def cd_paM (x k : Int32) : Int32 := if x ≤ 0 then cd_BAD else cd_pa x k 4095 0
def cd_vM (L : List Nat) (s : Int32) : Int32 := cd_po L (cd_ix s)
def cd_sqM (x : Int32) : Int32 := if x < 1 ∨ 7 < x then cd_BAD else cd_sq (cd_vM (List.replicate x.toNatClampNeg 1)) x 4095
def cd_vaM (s m : Int32) : Int32 := if cd_chM s m = 0 then 1 else 0
def cd_grM (x : Int32) : Int32 := if cd_sum x = 0 then cd_BAD else cd_gr (cd_vM (cd_rims (cd_P x) 4).reverse) (cd_sum x) 4095
def cd_suM (x : Int32) : Int32 := if cd_sum x = 0 then cd_BAD else cd_su (cd_vM (cd_rims (cd_P x) 4).reverse) (cd_sum x) 4095
theorem cd_17 {x : Int32} (h1 : ¬ x < 1) (h7 : x ≤ 7) : x = nI x.toNatClampNeg ∧ x.toNatClampNeg ≤ 7 := by
  obtain ⟨j, hj, e⟩ := nI_of2 (x := x) (M := 7) (n := 7) (by decide) (fun h => h1 (Int32.lt_trans h (by decide))) h7
  subst e
  rw [nI_clamp (by omega)]
  exact ⟨rfl, hj⟩
theorem cd_clM_no {P : Nat → Nat} {col i : Nat} (h : ¬ col ≤ P i) : nI (cd_cl P col i) = nI (cd_cl P col (i + 1)) := by
  show _ = nI (cd_cl P col i + (if col ≤ P i then 1 else 0))
  rw [if_neg h]
  rfl
theorem cd_clM_b {P : Nat → Nat} {col i : Nat} (h : i ≤ 3) : cd_cl P col 4 * 2 ^ (3 * i) < 4294967296 := by
  have h1 := cd_cl_le P col 4
  have h2 : 2 ^ (3 * i) ≤ 2 ^ 9 := Nat.pow_le_pow_right (by decide) (by omega)
  exact Nat.lt_of_le_of_lt (Nat.mul_le_mul h1 h2) (by decide)
set_option maxHeartbeats 4000000 in
set_option maxRecDepth 100000 in
theorem mM_choose (l : Launch) (D : va_G) (a : Nat → Nat) (dJ : ClassId) (ch : Int32) (fn ft : Nat → Int32) (x : Int32) : gMi l yX1_choose cX1_choose 3 (some .int) (rmv 2) [.ref (a 0), .int x] D (tyM dJ) (wM a dJ) (ch, fn, ft) (fun r u => r = cd_cho x ∧ u.1 = cd_chn ch x) := by
  refine gMi.of RX1 (by decide) rfl (Nat.le_of_ble_eq_true rfl) (fun p e s m below meth c A ls C w hl => ?_)
  obtain ⟨hx, hb, hr, hml, hown, hts, hA, hK, hlocks⟩ := id C
  refine lv_aload_n hx hb dX1_choose_0 rfl (lv_at hl 0 rfl) ?_
  refine lv_iload_n hx hb dX1_choose_1 rfl (lv_at hl 1 rfl) ?_
  refine gCalli C w (mM_sumOf l D a dJ ch fn ft x) (cwV 1 hts (lw_V q151 q153 qs6 q16 q154) rfl rfl rfl (by decide +kernel) ⟨Nat.le_of_ble_eq_true rfl, Nat.le_of_ble_eq_true rfl⟩) rfl rfl rfl hl.1 rfl (Nat.le_of_ble_eq_true rfl) dX1_choose_2 ⟨Nat.zero_le _, Nat.zero_le _⟩ (fun r u H locs hq w => ?_)
  obtain ⟨rfl, rfl⟩ := hq
  refine lv_istore_n (lv' := [(2, .int (cd_sum x)), (0, .ref (a 0)), (1, .int (x))]) hx hb dX1_choose_5 rfl hl (by decide) rfl (fun ls hl => ?_)
  refine lv_iload_n hx hb dX1_choose_6 rfl (lv_at hl 0 rfl) ?_
  refine lv_if_ne (tgt := 13) hx hb dX1_choose_7 (by decide) (fun hc7 => ?_) (fun hc7 => ?_)
  · refine lv_aload_n hx hb dX1_choose_13 rfl (lv_at hl 1 rfl) ?_
    refine lv_iload_n hx hb dX1_choose_14 rfl (lv_at hl 2 rfl) ?_
    refine mp_ch C w dX1_choose_15 (fun H locs w => ?_)
    refine lv_iload_n hx hb dX1_choose_18 rfl (lv_at hl 0 rfl) ?_
    exact gIret C w (⟨(if_neg hc7).symm, (if_neg hc7).symm⟩) dX1_choose_19
  · refine lv_ldc (v := cd_BAD) hx hb hown (hts _ q159) dX1_choose_10 ?_
    exact gIret C w (⟨(if_pos hc7).symm, (if_pos hc7).symm⟩) dX1_choose_12
set_option maxHeartbeats 4000000 in
set_option maxRecDepth 100000 in
theorem mM_shape (l : Launch) (D : va_G) (a : Nat → Nat) (dJ : ClassId) (ch : Int32) (fn ft : Nat → Int32) : gMi l yX1_shape cX1_shape 1 (some .int) (rmv 0) [.ref (a 0)] D (tyM dJ) (wM a dJ) (ch, fn, ft) (fun r u => r = ch ∧ u.1 = ch) := by
  refine gMi.of RX1 (by decide) rfl (Nat.le_of_ble_eq_true rfl) (fun p e s m below meth c A ls C w hl => ?_)
  obtain ⟨hx, hb, hr, hml, hown, hts, hA, hK, hlocks⟩ := id C
  refine lv_aload_n hx hb dX1_shape_0 rfl (lv_at hl 0 rfl) ?_
  refine mg_ch C w dX1_shape_1 ?_
  exact gIret C w (⟨rfl, rfl⟩) dX1_shape_4
set_option maxHeartbeats 4000000 in
set_option maxRecDepth 100000 in
theorem mM_character (l : Launch) (D : va_G) (a : Nat → Nat) (dJ : ClassId) (ch : Int32) (fn ft : Nat → Int32) (xs xm : Int32) : gMi l yX1_character cX1_character 4 (some .int) (rmv 4) [.ref (a 0), .int xs, .int xm] D (tyM dJ) (wM a dJ) (ch, fn, ft) (fun r u => r = cd_chM xs xm ∧ u.1 = ch) := by
  refine gMi.of RX1 (by decide) rfl (Nat.le_of_ble_eq_true rfl) (fun p e s m below meth c A ls C w hl => ?_)
  obtain ⟨hx, hb, hr, hml, hown, hts, hA, hK, hlocks⟩ := id C
  refine lv_aload_n hx hb dX1_character_0 rfl (lv_at hl 0 rfl) ?_
  refine lv_iload_n hx hb dX1_character_1 rfl (lv_at hl 1 rfl) ?_
  refine gCalli C w (mM_sumOf l D a dJ ch fn ft xs) (cwV 1 hts (lw_V q151 q153 qs6 q16 q154) rfl rfl rfl (by decide +kernel) ⟨Nat.le_of_ble_eq_true rfl, Nat.le_of_ble_eq_true rfl⟩) rfl rfl rfl hl.1 rfl (Nat.le_of_ble_eq_true rfl) dX1_character_2 ⟨Nat.zero_le _, Nat.zero_le _⟩ (fun r u H locs hq w => ?_)
  obtain ⟨rfl, rfl⟩ := hq
  refine lv_istore_n (lv' := [(3, .int (cd_sum xs)), (0, .ref (a 0)), (1, .int (xs)), (2, .int (xm))]) hx hb dX1_character_5 rfl hl (by decide) rfl (fun ls hl => ?_)
  refine lv_iload_n hx hb dX1_character_6 rfl (lv_at hl 0 rfl) ?_
  refine lv_if_eq (tgt := 19) hx hb dX1_character_7 (by decide) (fun hc7 => ?_) (fun hc7 => ?_)
  · refine lv_ldc (v := cd_BAD) hx hb hown (hts _ q159) dX1_character_19 ?_
    exact gIret C w (⟨(if_pos (Or.inl hc7)).symm, rfl⟩) dX1_character_21
  · refine lv_iload_n hx hb dX1_character_10 rfl (lv_at hl 0 rfl) ?_
    refine lv_aload_n hx hb dX1_character_11 rfl (lv_at hl 1 rfl) ?_
    refine lv_iload_n hx hb dX1_character_12 rfl (lv_at hl 3 rfl) ?_
    refine gCalli C w (mM_sumOf l D a dJ ch fn ft xm) (cwV 1 hts (lw_V q151 q153 qs6 q16 q154) rfl rfl rfl (by decide +kernel) ⟨Nat.le_of_ble_eq_true rfl, Nat.le_of_ble_eq_true rfl⟩) rfl rfl rfl hl.1 rfl (Nat.le_of_ble_eq_true rfl) dX1_character_13 ⟨Nat.zero_le _, Nat.zero_le _⟩ (fun r u H locs hq w => ?_)
    obtain ⟨rfl, rfl⟩ := hq
    refine lv_icmp_eq (tgt := 22) hx hb dX1_character_16 (by decide) (fun hc16 => ?_) (fun hc16 => ?_)
    · have hn : ¬ (cd_sum xs = 0 ∨ cd_sum xs ≠ cd_sum xm) := fun h => h.elim hc7 (fun h => h hc16)
      refine lv_aload_n hx hb dX1_character_22 rfl (lv_at hl 1 rfl) ?_
      refine lv_iload_n hx hb dX1_character_23 rfl (lv_at hl 3 rfl) ?_
      refine gCallv C w (mM_cycles l D a dJ ch fn ft xm) (cwV 1 hts (lw_V q172 q174 qs8 q16 q175) rfl rfl rfl (by decide +kernel) ⟨Nat.le_of_ble_eq_true rfl, Nat.le_of_ble_eq_true rfl⟩) rfl rfl rfl hl.1 rfl (Nat.le_of_ble_eq_true rfl) dX1_character_24 ⟨Nat.zero_le _, Nat.zero_le _⟩ (fun u H locs hq w => ?_)
      obtain ⟨fn, ft, rfl, hf1⟩ := hq
      refine lv_aload_n hx hb dX1_character_27 rfl (lv_at hl 1 rfl) ?_
      refine lv_iload_n hx hb dX1_character_28 rfl (lv_at hl 2 rfl) ?_
      refine gCalli C w (mM_coefficient l D a dJ ch fn ft xs) (cwV 1 hts (lw_V q188 q190 qs12 q16 q191) rfl rfl rfl (by decide +kernel) ⟨Nat.le_of_ble_eq_true rfl, Nat.le_of_ble_eq_true rfl⟩) rfl rfl rfl hl.1 rfl (Nat.le_of_ble_eq_true rfl) dX1_character_29 ⟨Nat.zero_le _, Nat.zero_le _⟩ (fun r u H locs hq w => ?_)
      obtain ⟨rfl, rfl⟩ := hq
      exact gIret C w (⟨(hf1 _ (cd_ix_lt xs)).trans (if_neg hn).symm, rfl⟩) dX1_character_32
    · refine lv_ldc (v := cd_BAD) hx hb hown (hts _ q159) dX1_character_19 ?_
      exact gIret C w (⟨(if_pos (Or.inr hc16)).symm, rfl⟩) dX1_character_21
set_option maxHeartbeats 4000000 in
set_option maxRecDepth 100000 in
theorem mM_at (l : Launch) (D : va_G) (a : Nat → Nat) (dJ : ClassId) (ch : Int32) (fn ft : Nat → Int32) (x : Int32) : gMi l yX1_at cX1_at 2 (some .int) (rmv 5) [.ref (a 0), .int x] D (tyM dJ) (wM a dJ) (ch, fn, ft) (fun r u => r = cd_chM ch x ∧ u.1 = ch) := by
  refine gMi.of RX1 (by decide) rfl (Nat.le_of_ble_eq_true rfl) (fun p e s m below meth c A ls C w hl => ?_)
  obtain ⟨hx, hb, hr, hml, hown, hts, hA, hK, hlocks⟩ := id C
  refine lv_aload_n hx hb dX1_at_0 rfl (lv_at hl 0 rfl) ?_
  refine lv_aload_n hx hb dX1_at_1 rfl (lv_at hl 0 rfl) ?_
  refine mg_ch C w dX1_at_2 ?_
  refine lv_iload_n hx hb dX1_at_5 rfl (lv_at hl 1 rfl) ?_
  refine gCalli C w (mM_character l D a dJ ch fn ft ch x) (cwV 2 hts (lw_V q168 q169 q170 q16 q171) rfl rfl rfl (by decide +kernel) ⟨Nat.le_of_ble_eq_true rfl, Nat.le_of_ble_eq_true rfl⟩) rfl rfl rfl hl.1 rfl (Nat.le_of_ble_eq_true rfl) dX1_at_6 ⟨Nat.zero_le _, Nat.zero_le _⟩ (fun r u H locs hq w => ?_)
  obtain ⟨ch9, fn, ft⟩ := u
  obtain ⟨rfl, h9⟩ := hq
  have h9 : ch = ch9 := (show ch9 = ch from h9).symm
  subst h9
  exact gIret C w (⟨rfl, rfl⟩) dX1_at_9
set_option maxHeartbeats 4000000 in
set_option maxRecDepth 100000 in
theorem mM_vanishes (l : Launch) (D : va_G) (a : Nat → Nat) (dJ : ClassId) (ch : Int32) (fn ft : Nat → Int32) (xs xm : Int32) : gMi l yX1_vanishes cX1_vanishes 3 (some .boolean) (rmv 5) [.ref (a 0), .int xs, .int xm] D (tyM dJ) (wM a dJ) (ch, fn, ft) (fun r u => r = cd_vaM xs xm ∧ u.1 = ch) := by
  refine gMi.of RX1 (by decide) rfl (Nat.le_of_ble_eq_true rfl) (fun p e s m below meth c A ls C w hl => ?_)
  obtain ⟨hx, hb, hr, hml, hown, hts, hA, hK, hlocks⟩ := id C
  refine lv_aload_n hx hb dX1_vanishes_0 rfl (lv_at hl 0 rfl) ?_
  refine lv_iload_n hx hb dX1_vanishes_1 rfl (lv_at hl 1 rfl) ?_
  refine lv_iload_n hx hb dX1_vanishes_2 rfl (lv_at hl 2 rfl) ?_
  refine gCalli C w (mM_character l D a dJ ch fn ft xs xm) (cwV 2 hts (lw_V q168 q169 q170 q16 q171) rfl rfl rfl (by decide +kernel) ⟨Nat.le_of_ble_eq_true rfl, Nat.le_of_ble_eq_true rfl⟩) rfl rfl rfl hl.1 rfl (Nat.le_of_ble_eq_true rfl) dX1_vanishes_3 ⟨Nat.zero_le _, Nat.zero_le _⟩ (fun r u H locs hq w => ?_)
  obtain ⟨ch9, fn, ft⟩ := u
  obtain ⟨rfl, h9⟩ := hq
  have h9 : ch = ch9 := (show ch9 = ch from h9).symm
  subst h9
  refine lv_if_ne (tgt := 13) hx hb dX1_vanishes_6 (by decide) (fun hc6 => ?_) (fun hc6 => ?_)
  · refine lv_iconst (v := 0) hx hb dX1_vanishes_13 (by decide) ?_
    exact gZret C w (rfl) (⟨(if_neg hc6).symm, rfl⟩) dX1_vanishes_14
  · refine lv_iconst (v := 1) hx hb dX1_vanishes_9 (by decide) ?_
    refine lv_goto (tgt := 14) hx hb dX1_vanishes_10 (by decide) ?_
    exact gZret C w (rfl) (⟨(if_pos hc6).symm, rfl⟩) dX1_vanishes_14
set_option maxHeartbeats 4000000 in
set_option maxRecDepth 100000 in
theorem mM_degree (l : Launch) (D : va_G) (a : Nat → Nat) (dJ : ClassId) (ch : Int32) (fn ft : Nat → Int32) (x : Int32) : gMi l yX1_degree cX1_degree 3 (some .int) (rmv 4) [.ref (a 0), .int x] D (tyM dJ) (wM a dJ) (ch, fn, ft) (fun r u => r = cd_dgM x ∧ u.1 = ch) := by
  refine gMi.of RX1 (by decide) rfl (Nat.le_of_ble_eq_true rfl) (fun p e s m below meth c A ls C w hl => ?_)
  obtain ⟨hx, hb, hr, hml, hown, hts, hA, hK, hlocks⟩ := id C
  have hk := cd_sum_k x
  refine lv_aload_n hx hb dX1_degree_0 rfl (lv_at hl 0 rfl) ?_
  refine lv_iload_n hx hb dX1_degree_1 rfl (lv_at hl 1 rfl) ?_
  refine gCalli C w (mM_sumOf l D a dJ ch fn ft x) (cwV 1 hts (lw_V q151 q153 qs6 q16 q154) rfl rfl rfl (by decide +kernel) ⟨Nat.le_of_ble_eq_true rfl, Nat.le_of_ble_eq_true rfl⟩) rfl rfl rfl hl.1 rfl (Nat.le_of_ble_eq_true rfl) dX1_degree_2 ⟨Nat.zero_le _, Nat.zero_le _⟩ (fun r u H locs hq w => ?_)
  obtain ⟨rfl, rfl⟩ := hq
  refine lv_istore_n (lv' := [(2, .int (cd_sum x)), (0, .ref (a 0)), (1, .int (x))]) hx hb dX1_degree_5 rfl hl (by decide) rfl (fun ls hl => ?_)
  refine lv_iload_n hx hb dX1_degree_6 rfl (lv_at hl 0 rfl) ?_
  refine lv_if_ne (tgt := 13) hx hb dX1_degree_7 (by decide) (fun hc7 => ?_) (fun hc7 => ?_)
  · refine lv_aload_n hx hb dX1_degree_13 rfl (lv_at hl 1 rfl) ?_
    refine lv_iload_n hx hb dX1_degree_14 rfl (lv_at hl 0 rfl) ?_
    refine cd_top (y := nI (cd_sum x).toNatClampNeg) (hk.1) ?_
    refine gCallv C w (mM_ones l D a dJ ch fn ft ((cd_sum x).toNatClampNeg) hk.2) (cwV 1 hts (lw_V q197 q199 qs13 q16 q200) rfl rfl rfl (by decide +kernel) ⟨Nat.le_of_ble_eq_true rfl, Nat.le_of_ble_eq_true rfl⟩) rfl rfl rfl hl.1 rfl (Nat.le_of_ble_eq_true rfl) dX1_degree_15 ⟨Nat.zero_le _, Nat.zero_le _⟩ (fun u H locs hq w => ?_)
    obtain ⟨fn, ft, rfl, hf1⟩ := hq
    refine lv_aload_n hx hb dX1_degree_18 rfl (lv_at hl 1 rfl) ?_
    refine lv_iload_n hx hb dX1_degree_19 rfl (lv_at hl 2 rfl) ?_
    refine gCalli C w (mM_coefficient l D a dJ ch fn ft x) (cwV 1 hts (lw_V q188 q190 qs12 q16 q191) rfl rfl rfl (by decide +kernel) ⟨Nat.le_of_ble_eq_true rfl, Nat.le_of_ble_eq_true rfl⟩) rfl rfl rfl hl.1 rfl (Nat.le_of_ble_eq_true rfl) dX1_degree_20 ⟨Nat.zero_le _, Nat.zero_le _⟩ (fun r u H locs hq w => ?_)
    obtain ⟨rfl, rfl⟩ := hq
    exact gIret C w (⟨(hf1 _ (cd_ix_lt x)).trans (if_neg hc7).symm, rfl⟩) dX1_degree_23
  · refine lv_ldc (v := cd_BAD) hx hb hown (hts _ q159) dX1_degree_10 ?_
    exact gIret C w (⟨(if_pos hc7).symm, rfl⟩) dX1_degree_12
set_option maxHeartbeats 4000000 in
set_option maxRecDepth 100000 in
theorem lm_count {p : Program} {l : Launch} {e : Env} {s : State} {m : MethodId} {args : Array Value} {below : List Frame} {meth : Method} {c : Code} {D : va_G} {A : Nat → Prop} {a : Nat → Nat} {dJ : ClassId} {ch x : Int32} {fn ft : Nat → Int32} (C : gC RX1 cX1_count 4 (some .int) D (tyM dJ) A p s m args meth c) (hn : ¬ x ≤ 0) :
    ∀ (n i : Nat), i + n = 4095 → ∀ (H : Heap) (locs : List Loc) (ls : Array Slot), gW D A s (wM a dJ (ch, fn, ft)) H locs → lv_has ls 4 [(0, .ref (a 0)), (1, .int x), (2, .int (cd_cn x i)), (3, .int (nI (i + 1)))] → W p l e (rmv 2) s m args below meth c H locs 0 0 (MQ below (va_Qi (fun r u => r = cd_cn x 4095 ∧ u.1 = ch) (gB D (tyM dJ) A (wM a dJ)) A) args s 0 0 A) (F0 m 4 ls []) := by
  obtain ⟨hx, hb, hr, hml, hown, hts, hA, hK, hlocks⟩ := id C
  intro n
  induction n with
  | zero =>
    intro i hi H locs ls w hl
    obtain rfl : i = 4095 := by omega
    refine lv_iload_n hx hb dX1_count_4 rfl (lv_at hl 3 rfl) ?_
    refine lv_sipush (v := 4096) hx hb dX1_count_5 (by decide) ?_
    refine lv_icmp_ge (tgt := 38) hx hb dX1_count_8 (by decide) (fun _ => ?_) (fun hc => absurd (nI_le (a := 4096) (b := 4095 + 1) (Nat.le_refl 4096) (by decide)) hc)
    refine lv_iload_n hx hb dX1_count_38 rfl (lv_at hl 2 rfl) ?_
    exact gIret C w (⟨rfl, rfl⟩) dX1_count_39
  | succ n ih =>
    intro i hi H locs ls w hl
    refine lv_iload_n hx hb dX1_count_4 rfl (lv_at hl 3 rfl) ?_
    refine lv_sipush (v := 4096) hx hb dX1_count_5 (by decide) ?_
    refine lv_icmp_ge (tgt := 38) hx hb dX1_count_8 (by decide) (fun hc => absurd hc (nI_ge (b := 4096) (by omega) (by decide))) (fun _ => ?_)
    refine lv_iload_n hx hb dX1_count_11 rfl (lv_at hl 1 rfl) ?_
    refine lv_if_le (tgt := 38) hx hb dX1_count_12 (by decide) (fun hc => absurd hc (hn)) (fun _ => ?_)
    refine lv_aload_n hx hb dX1_count_15 rfl (lv_at hl 0 rfl) ?_
    refine lv_iload_n hx hb dX1_count_16 rfl (lv_at hl 3 rfl) ?_
    refine gCalli C w (mM_sumOf l D a dJ ch fn ft (nI (i + 1))) (cwV 1 hts (lw_V q151 q153 qs6 q16 q154) rfl rfl rfl (by decide +kernel) ⟨Nat.le_of_ble_eq_true rfl, Nat.le_of_ble_eq_true rfl⟩) rfl rfl rfl hl.1 rfl (Nat.le_of_ble_eq_true rfl) dX1_count_17 ⟨Nat.zero_le _, Nat.zero_le _⟩ (fun r u H locs hq w => ?_)
    obtain ⟨rfl, rfl⟩ := hq
    refine lv_iload_n hx hb dX1_count_20 rfl (lv_at hl 1 rfl) ?_
    refine lv_icmp_ne (tgt := 30) hx hb dX1_count_21 (by decide) (fun hc21 => ?_) (fun hc21 => ?_)
    · refine lv_iload_n hx hb dX1_count_30 rfl (lv_at hl 2 rfl) ?_
      refine cd_top (y := cd_cn x (i + 1)) ((if_neg hc21).symm) ?_
      refine lv_istore_n (lv' := [(2, .int (cd_cn x (i + 1))), (0, .ref (a 0)), (1, .int (x)), (3, .int (nI (i + 1)))]) hx hb dX1_count_31 rfl hl (by decide) rfl (fun ls hl => ?_)
      refine lv_iinc (v := nI ((i + 1) + 1)) (lv' := [(3, .int (nI ((i + 1) + 1))), (2, .int (cd_cn x (i + 1))), (0, .ref (a 0)), (1, .int (x))]) hx hb dX1_count_32 hl (k := 3) rfl (nI_1 _) (by decide) rfl (fun ls hl => ?_)
      refine lv_goto (tgt := 4) hx hb dX1_count_35 (by decide) ?_
      exact ih (i + 1) (by omega) _ _ _ w (lv_sub hl [2, 3, 1, 0] rfl)
    · refine lv_iload_n hx hb dX1_count_24 rfl (lv_at hl 2 rfl) ?_
      refine lv_iconst (v := 1) hx hb dX1_count_25 (by decide) ?_
      refine lv_iadd hx hb dX1_count_26 ?_
      refine cd_top (y := cd_cn x (i + 1)) ((if_pos hc21).symm) ?_
      refine lv_goto (tgt := 31) hx hb dX1_count_27 (by decide) ?_
      refine lv_istore_n (lv' := [(2, .int (cd_cn x (i + 1))), (0, .ref (a 0)), (1, .int (x)), (3, .int (nI (i + 1)))]) hx hb dX1_count_31 rfl hl (by decide) rfl (fun ls hl => ?_)
      refine lv_iinc (v := nI ((i + 1) + 1)) (lv' := [(3, .int (nI ((i + 1) + 1))), (2, .int (cd_cn x (i + 1))), (0, .ref (a 0)), (1, .int (x))]) hx hb dX1_count_32 hl (k := 3) rfl (nI_1 _) (by decide) rfl (fun ls hl => ?_)
      refine lv_goto (tgt := 4) hx hb dX1_count_35 (by decide) ?_
      exact ih (i + 1) (by omega) _ _ _ w (lv_sub hl [2, 3, 1, 0] rfl)
set_option maxHeartbeats 4000000 in
set_option maxRecDepth 100000 in
theorem mM_count (l : Launch) (D : va_G) (a : Nat → Nat) (dJ : ClassId) (ch : Int32) (fn ft : Nat → Int32) (x : Int32) : gMi l yX1_count cX1_count 4 (some .int) (rmv 2) [.ref (a 0), .int x] D (tyM dJ) (wM a dJ) (ch, fn, ft) (fun r u => r = cd_coM x ∧ u.1 = ch) := by
  refine gMi.of RX1 (by decide) rfl (Nat.le_of_ble_eq_true rfl) (fun p e s m below meth c A ls C w hl => ?_)
  obtain ⟨hx, hb, hr, hml, hown, hts, hA, hK, hlocks⟩ := id C
  by_cases hn : x ≤ 0
  · refine lv_iconst (v := 0) hx hb dX1_count_0 (by decide) ?_
    refine lv_istore_n (lv' := [(2, .int (0)), (0, .ref (a 0)), (1, .int (x))]) hx hb dX1_count_1 rfl hl (by decide) rfl (fun ls hl => ?_)
    refine lv_iconst (v := 1) hx hb dX1_count_2 (by decide) ?_
    refine lv_istore_n (lv' := [(3, .int (1)), (2, .int (0)), (0, .ref (a 0)), (1, .int (x))]) hx hb dX1_count_3 rfl hl (by decide) rfl (fun ls hl => ?_)
    refine lv_iload_n hx hb dX1_count_4 rfl (lv_at hl 0 rfl) ?_
    refine lv_sipush (v := 4096) hx hb dX1_count_5 (by decide) ?_
    refine lv_icmp_ge (tgt := 38) hx hb dX1_count_8 (by decide) (fun hc => absurd hc (by decide)) (fun _ => ?_)
    refine lv_iload_n hx hb dX1_count_11 rfl (lv_at hl 3 rfl) ?_
    refine lv_if_le (tgt := 38) hx hb dX1_count_12 (by decide) (fun _ => ?_) (fun hc => absurd (hn) hc)
    refine lv_iload_n hx hb dX1_count_38 rfl (lv_at hl 1 rfl) ?_
    exact gIret C w (⟨(if_pos hn).symm, rfl⟩) dX1_count_39
  · rw [show cd_coM x = cd_cn x 4095 from if_neg hn]
    refine lv_iconst (v := 0) hx hb dX1_count_0 (by decide) ?_
    refine lv_istore_n (lv' := [(2, .int (0)), (0, .ref (a 0)), (1, .int (x))]) hx hb dX1_count_1 rfl hl (by decide) rfl (fun ls hl => ?_)
    refine lv_iconst (v := 1) hx hb dX1_count_2 (by decide) ?_
    refine lv_istore_n (lv' := [(3, .int (1)), (2, .int (0)), (0, .ref (a 0)), (1, .int (x))]) hx hb dX1_count_3 rfl hl (by decide) rfl (fun ls hl => ?_)
    exact lm_count C hn 4095 0 rfl _ _ _ w (lv_sub hl [2, 3, 1, 0] rfl)
set_option maxHeartbeats 4000000 in
set_option maxRecDepth 100000 in
theorem lm_partition {p : Program} {l : Launch} {e : Env} {s : State} {m : MethodId} {args : Array Value} {below : List Frame} {meth : Method} {c : Code} {D : va_G} {A : Nat → Prop} {a : Nat → Nat} {dJ : ClassId} {ch x k V : Int32} {fn ft : Nat → Int32} (C : gC RX1 cX1_partition 5 (some .int) D (tyM dJ) A p s m args meth c) (hn : ¬ x ≤ 0) :
    ∀ (t : Nat) (seen : Int32), t ≤ 4095 → cd_pa x k t seen = V → ∀ (H : Heap) (locs : List Loc) (ls : Array Slot), gW D A s (wM a dJ (ch, fn, ft)) H locs → lv_has ls 5 [(0, .ref (a 0)), (1, .int x), (2, .int k), (3, .int seen), (4, .int (nI t))] → W p l e (rmv 2) s m args below meth c H locs 0 0 (MQ below (va_Qi (fun r u => r = V ∧ u.1 = ch) (gB D (tyM dJ) A (wM a dJ)) A) args s 0 0 A) (F0 m 7 ls []) := by
  obtain ⟨hx, hb, hr, hml, hown, hts, hA, hK, hlocks⟩ := id C
  intro t
  induction t with
  | zero =>
    intro seen ht hV H locs ls w hl
    refine lv_iload hx hb dX1_partition_7 (lv_at hl 4 rfl) ?_
    refine lv_if_le (tgt := 43) hx hb dX1_partition_9 (by decide) (fun _ => ?_) (fun hc => absurd (by decide) hc)
    refine lv_ldc (v := cd_BAD) hx hb hown (hts _ q159) dX1_partition_43 ?_
    exact gIret C w (⟨hV, rfl⟩) dX1_partition_45
  | succ t ih =>
    intro seen ht hV H locs ls w hl
    refine lv_iload hx hb dX1_partition_7 (lv_at hl 4 rfl) ?_
    refine lv_if_le (tgt := 43) hx hb dX1_partition_9 (by decide) (fun hc => absurd hc (nI_nle (by omega) (by omega))) (fun _ => ?_)
    refine lv_iload_n hx hb dX1_partition_12 rfl (lv_at hl 1 rfl) ?_
    refine lv_if_le (tgt := 43) hx hb dX1_partition_13 (by decide) (fun hc => absurd hc (hn)) (fun _ => ?_)
    refine lv_aload_n hx hb dX1_partition_16 rfl (lv_at hl 0 rfl) ?_
    refine lv_iload hx hb dX1_partition_17 (lv_at hl 4 rfl) ?_
    refine gCalli C w (mM_sumOf l D a dJ ch fn ft (nI (t + 1))) (cwV 1 hts (lw_V q151 q153 qs6 q16 q154) rfl rfl rfl (by decide +kernel) ⟨Nat.le_of_ble_eq_true rfl, Nat.le_of_ble_eq_true rfl⟩) rfl rfl rfl hl.1 rfl (Nat.le_of_ble_eq_true rfl) dX1_partition_19 ⟨Nat.zero_le _, Nat.zero_le _⟩ (fun r u H locs hq w => ?_)
    obtain ⟨rfl, rfl⟩ := hq
    refine lv_iload_n hx hb dX1_partition_22 rfl (lv_at hl 1 rfl) ?_
    refine lv_icmp_ne (tgt := 37) hx hb dX1_partition_23 (by decide) (fun hc23 => ?_) (fun hc23 => ?_)
    · refine lv_iinc (v := nI t) (lv' := [(4, .int (nI t)), (0, .ref (a 0)), (1, .int (x)), (2, .int (k)), (3, .int (seen))]) hx hb dX1_partition_37 hl (k := 4) rfl (pk_m1 t) (by decide) rfl (fun ls hl => ?_)
      refine lv_goto (tgt := 7) hx hb dX1_partition_40 (by decide) ?_
      exact ih _ (by omega) ((if_neg hc23).symm.trans hV) _ _ _ w (lv_sub hl [1, 2, 3, 4, 0] rfl)
    · refine lv_iload_n hx hb dX1_partition_26 rfl (lv_at hl 3 rfl) ?_
      refine lv_iload_n hx hb dX1_partition_27 rfl (lv_at hl 2 rfl) ?_
      refine lv_icmp_ne (tgt := 34) hx hb dX1_partition_28 (by decide) (fun hc28 => ?_) (fun hc28 => ?_)
      · refine lv_iinc (v := seen + 1) (lv' := [(3, .int (seen + 1)), (0, .ref (a 0)), (1, .int (x)), (2, .int (k)), (4, .int (nI (t + 1)))]) hx hb dX1_partition_34 hl (k := 3) rfl (rfl) (by decide) rfl (fun ls hl => ?_)
        refine lv_iinc (v := nI t) (lv' := [(4, .int (nI t)), (3, .int (seen + 1)), (0, .ref (a 0)), (1, .int (x)), (2, .int (k))]) hx hb dX1_partition_37 hl (k := 4) rfl (pk_m1 t) (by decide) rfl (fun ls hl => ?_)
        refine lv_goto (tgt := 7) hx hb dX1_partition_40 (by decide) ?_
        exact ih _ (by omega) (((if_pos hc23).trans (if_neg hc28)).symm.trans hV) _ _ _ w (lv_sub hl [2, 3, 4, 1, 0] rfl)
      · refine lv_iload hx hb dX1_partition_31 (lv_at hl 4 rfl) ?_
        exact gIret C w (⟨((if_pos hc23).trans (if_pos hc28)).symm.trans hV, rfl⟩) dX1_partition_33
set_option maxHeartbeats 4000000 in
set_option maxRecDepth 100000 in
theorem mM_partition (l : Launch) (D : va_G) (a : Nat → Nat) (dJ : ClassId) (ch : Int32) (fn ft : Nat → Int32) (x k : Int32) : gMi l yX1_partition cX1_partition 5 (some .int) (rmv 2) [.ref (a 0), .int x, .int k] D (tyM dJ) (wM a dJ) (ch, fn, ft) (fun r u => r = cd_paM x k ∧ u.1 = ch) := by
  refine gMi.of RX1 (by decide) rfl (Nat.le_of_ble_eq_true rfl) (fun p e s m below meth c A ls C w hl => ?_)
  obtain ⟨hx, hb, hr, hml, hown, hts, hA, hK, hlocks⟩ := id C
  by_cases hn : x ≤ 0
  · refine lv_iconst (v := 0) hx hb dX1_partition_0 (by decide) ?_
    refine lv_istore_n (lv' := [(3, .int (0)), (0, .ref (a 0)), (1, .int (x)), (2, .int (k))]) hx hb dX1_partition_1 rfl hl (by decide) rfl (fun ls hl => ?_)
    refine lv_sipush (v := 4095) hx hb dX1_partition_2 (by decide) ?_
    refine lv_istore (lv' := [(4, .int (4095)), (3, .int (0)), (0, .ref (a 0)), (1, .int (x)), (2, .int (k))]) hx hb dX1_partition_5 hl (by decide) rfl (fun ls hl => ?_)
    refine lv_iload hx hb dX1_partition_7 (lv_at hl 0 rfl) ?_
    refine lv_if_le (tgt := 43) hx hb dX1_partition_9 (by decide) (fun hc => absurd hc (by decide)) (fun _ => ?_)
    refine lv_iload_n hx hb dX1_partition_12 rfl (lv_at hl 3 rfl) ?_
    refine lv_if_le (tgt := 43) hx hb dX1_partition_13 (by decide) (fun _ => ?_) (fun hc => absurd (hn) hc)
    refine lv_ldc (v := cd_BAD) hx hb hown (hts _ q159) dX1_partition_43 ?_
    exact gIret C w (⟨(if_pos hn).symm, rfl⟩) dX1_partition_45
  · rw [show cd_paM x k = cd_pa x k 4095 0 from if_neg hn]
    refine lv_iconst (v := 0) hx hb dX1_partition_0 (by decide) ?_
    refine lv_istore_n (lv' := [(3, .int (0)), (0, .ref (a 0)), (1, .int (x)), (2, .int (k))]) hx hb dX1_partition_1 rfl hl (by decide) rfl (fun ls hl => ?_)
    refine lv_sipush (v := 4095) hx hb dX1_partition_2 (by decide) ?_
    refine lv_istore (lv' := [(4, .int (4095)), (3, .int (0)), (0, .ref (a 0)), (1, .int (x)), (2, .int (k))]) hx hb dX1_partition_5 hl (by decide) rfl (fun ls hl => ?_)
    exact lm_partition C hn 4095 0 (Nat.le_refl _) rfl _ _ _ w (lv_sub hl [2, 3, 4, 1, 0] rfl)
set_option maxHeartbeats 4000000 in
set_option maxRecDepth 100000 in
theorem lm_turned1 {p : Program} {l : Launch} {e : Env} {s : State} {m : MethodId} {args : Array Value} {below : List Frame} {meth : Method} {c : Code} {D : va_G} {A : Nat → Prop} {a : Nat → Nat} {dJ : ClassId} {Q : State → Prop} {ch x y : Int32} {fn ft : Nat → Int32} (C : gC RX1 cX1_turned 6 (some .int) D (tyM dJ) A p s m args meth c) (col : Nat) (hcol : col ≤ 3)
    (K : ∀ (H : Heap) (locs : List Loc) (ls : Array Slot), gW D A s (wM a dJ (ch, fn, ft)) H locs → lv_has ls 6 [(0, .ref (a 0)), (1, .int x), (2, .int y), (3, .int (nI col)), (4, .int (nI (cd_cl (cd_P x) (col + 1) 4)))] → W p l e (rmv 2) s m args below meth c H locs 0 0 Q (F0 m 70 ls [])) :
    ∀ (n i : Nat), i + n = 4 → ∀ (H : Heap) (locs : List Loc) (ls : Array Slot), gW D A s (wM a dJ (ch, fn, ft)) H locs → lv_has ls 6 [(0, .ref (a 0)), (1, .int x), (2, .int y), (3, .int (nI col)), (4, .int (nI (cd_cl (cd_P x) (col + 1) i))), (5, .int (nI i))] → W p l e (rmv 2) s m args below meth c H locs 0 0 Q (F0 m 36 ls []) := by
  obtain ⟨hx, hb, hr, hml, hown, hts, hA, hK, hlocks⟩ := id C
  intro n
  induction n with
  | zero =>
    intro i hi H locs ls w hl
    obtain rfl : i = 4 := by omega
    refine lv_iload hx hb dX1_turned_36 (lv_at hl 5 rfl) ?_
    refine lv_iconst (v := 4) hx hb dX1_turned_38 (by decide) ?_
    refine lv_icmp_ge (tgt := 70) hx hb dX1_turned_39 (by decide) (fun _ => ?_) (fun hc => absurd (nI_le (a := 4) (Nat.le_refl 4) (by decide)) hc)
    exact K _ _ _ w (lv_sub hl [0, 1, 2, 3, 4] rfl)
  | succ n ih =>
    intro i hi H locs ls w hl
    have hp8 := cd_P_lt x i
    refine lv_iload hx hb dX1_turned_36 (lv_at hl 5 rfl) ?_
    refine lv_iconst (v := 4) hx hb dX1_turned_38 (by decide) ?_
    refine lv_icmp_ge (tgt := 70) hx hb dX1_turned_39 (by decide) (fun hc => absurd hc (nI_ge (b := 4) (by omega) (by decide))) (fun _ => ?_)
    refine lv_aload_n hx hb dX1_turned_42 rfl (lv_at hl 0 rfl) ?_
    refine lv_iload_n hx hb dX1_turned_43 rfl (lv_at hl 1 rfl) ?_
    refine lv_iload hx hb dX1_turned_44 (lv_at hl 5 rfl) ?_
    refine gCalli C w (mM_part l D a dJ ch fn ft x (nI i)) (cwV 2 hts (lw_V q155 q157 qs7 q16 q158) rfl rfl rfl (by decide +kernel) ⟨Nat.le_of_ble_eq_true rfl, Nat.le_of_ble_eq_true rfl⟩) rfl rfl rfl hl.1 rfl (Nat.le_of_ble_eq_true rfl) dX1_turned_46 ⟨Nat.zero_le _, Nat.zero_le _⟩ (fun r u H locs hq w => ?_)
    obtain ⟨rfl, rfl⟩ := hq
    refine cd_top (y := nI (cd_P x i)) (cd_pt_P x i) ?_
    refine lv_iload_n hx hb dX1_turned_49 rfl (lv_at hl 3 rfl) ?_
    refine lv_icmp_le (tgt := 60) hx hb dX1_turned_50 (by decide) (fun hc50 => ?_) (fun hc50 => ?_)
    · have hle := (nI_leI (by omega) (by omega)).mp hc50
      refine lv_iload hx hb dX1_turned_60 (lv_at hl 4 rfl) ?_
      refine cd_top (y := nI (cd_cl (cd_P x) (col + 1) (i + 1))) (cd_clM_no (by omega)) ?_
      refine lv_istore (lv' := [(4, .int (nI (cd_cl (cd_P x) (col + 1) (i + 1)))), (0, .ref (a 0)), (1, .int (x)), (2, .int (y)), (3, .int (nI col)), (5, .int (nI i))]) hx hb dX1_turned_62 hl (by decide) rfl (fun ls hl => ?_)
      refine lv_iinc (v := nI (i + 1)) (lv' := [(5, .int (nI (i + 1))), (4, .int (nI (cd_cl (cd_P x) (col + 1) (i + 1)))), (0, .ref (a 0)), (1, .int (x)), (2, .int (y)), (3, .int (nI col))]) hx hb dX1_turned_64 hl (k := 5) rfl (nI_1 _) (by decide) rfl (fun ls hl => ?_)
      refine lv_goto (tgt := 36) hx hb dX1_turned_67 (by decide) ?_
      exact ih (i + 1) (by omega) _ _ _ w (lv_sub hl [2, 3, 4, 5, 1, 0] rfl)
    · have hlt : ¬ cd_P x i ≤ col := fun h => hc50 ((nI_leI (by omega) (by omega)).mpr h)
      refine lv_iload hx hb dX1_turned_53 (lv_at hl 4 rfl) ?_
      refine lv_iconst (v := 1) hx hb dX1_turned_55 (by decide) ?_
      refine lv_iadd hx hb dX1_turned_56 ?_
      refine cd_top (y := nI (cd_cl (cd_P x) (col + 1) (i + 1))) (cd_cl_yes (by omega)) ?_
      refine lv_goto (tgt := 62) hx hb dX1_turned_57 (by decide) ?_
      refine lv_istore (lv' := [(4, .int (nI (cd_cl (cd_P x) (col + 1) (i + 1)))), (0, .ref (a 0)), (1, .int (x)), (2, .int (y)), (3, .int (nI col)), (5, .int (nI i))]) hx hb dX1_turned_62 hl (by decide) rfl (fun ls hl => ?_)
      refine lv_iinc (v := nI (i + 1)) (lv' := [(5, .int (nI (i + 1))), (4, .int (nI (cd_cl (cd_P x) (col + 1) (i + 1)))), (0, .ref (a 0)), (1, .int (x)), (2, .int (y)), (3, .int (nI col))]) hx hb dX1_turned_64 hl (k := 5) rfl (nI_1 _) (by decide) rfl (fun ls hl => ?_)
      refine lv_goto (tgt := 36) hx hb dX1_turned_67 (by decide) ?_
      exact ih (i + 1) (by omega) _ _ _ w (lv_sub hl [2, 3, 4, 5, 1, 0] rfl)
set_option maxHeartbeats 4000000 in
set_option maxRecDepth 100000 in
theorem lm_turned2 {p : Program} {l : Launch} {e : Env} {s : State} {m : MethodId} {args : Array Value} {below : List Frame} {meth : Method} {c : Code} {D : va_G} {A : Nat → Prop} {a : Nat → Nat} {dJ : ClassId} {Q : State → Prop} {ch x : Int32} {fn ft : Nat → Int32} (C : gC RX1 cX1_turned 6 (some .int) D (tyM dJ) A p s m args meth c)
    (K : ∀ (H : Heap) (locs : List Loc) (ls : Array Slot), gW D A s (wM a dJ (ch, fn, ft)) H locs → lv_has ls 6 [(0, .ref (a 0)), (2, .int (nI (cd_tM (cd_P x) 4)))] → W p l e (rmv 2) s m args below meth c H locs 0 0 Q (F0 m 85 ls [])) :
    ∀ (n j : Nat), j + n = 4 → ∀ (H : Heap) (locs : List Loc) (ls : Array Slot), gW D A s (wM a dJ (ch, fn, ft)) H locs → lv_has ls 6 [(0, .ref (a 0)), (1, .int x), (2, .int (nI (cd_tM (cd_P x) j))), (3, .int (nI j))] → W p l e (rmv 2) s m args below meth c H locs 0 0 Q (F0 m 25 ls []) := by
  obtain ⟨hx, hb, hr, hml, hown, hts, hA, hK, hlocks⟩ := id C
  intro n
  induction n with
  | zero =>
    intro j hj H locs ls w hl
    obtain rfl : j = 4 := by omega
    refine lv_iload_n hx hb dX1_turned_25 rfl (lv_at hl 3 rfl) ?_
    refine lv_iconst (v := 4) hx hb dX1_turned_26 (by decide) ?_
    refine lv_icmp_ge (tgt := 85) hx hb dX1_turned_27 (by decide) (fun _ => ?_) (fun hc => absurd (by decide) hc)
    exact K _ _ _ w (lv_sub hl [0, 2] rfl)
  | succ n ih =>
    intro j hj H locs ls w hl
    refine lv_iload_n hx hb dX1_turned_25 rfl (lv_at hl 3 rfl) ?_
    refine lv_iconst (v := 4) hx hb dX1_turned_26 (by decide) ?_
    refine lv_icmp_ge (tgt := 85) hx hb dX1_turned_27 (by decide) (fun hc => absurd hc (nI_ge (b := 4) (by omega) (by decide))) (fun _ => ?_)
    refine lv_iconst (v := 0) hx hb dX1_turned_30 (by decide) ?_
    refine lv_istore (lv' := [(4, .int (0)), (0, .ref (a 0)), (1, .int (x)), (2, .int (nI (cd_tM (cd_P x) j))), (3, .int (nI j))]) hx hb dX1_turned_31 hl (by decide) rfl (fun ls hl => ?_)
    refine lv_iconst (v := 0) hx hb dX1_turned_33 (by decide) ?_
    refine lv_istore (lv' := [(5, .int (0)), (4, .int (0)), (0, .ref (a 0)), (1, .int (x)), (2, .int (nI (cd_tM (cd_P x) j))), (3, .int (nI j))]) hx hb dX1_turned_34 hl (by decide) rfl (fun ls hl => ?_)
    refine lm_turned1 C j (by omega) (fun H locs ls w hl => ?_) 4 0 rfl _ _ _ w (lv_sub hl [2, 3, 4, 5, 1, 0] rfl)
    refine lv_iload_n hx hb dX1_turned_70 rfl (lv_at hl 2 rfl) ?_
    refine lv_iload hx hb dX1_turned_71 (lv_at hl 4 rfl) ?_
    refine lv_iconst (v := 3) hx hb dX1_turned_73 (by decide) ?_
    refine lv_iload_n hx hb dX1_turned_74 rfl (lv_at hl 3 rfl) ?_
    refine lv_imul hx hb dX1_turned_75 ?_
    refine cd_top (y := nI (3 * j)) (pk_mul 3 _) ?_
    refine lv_ishl hx hb dX1_turned_76 ?_
    refine cd_top (y := nI (cd_cl (cd_P x) (j + 1) 4 * 2 ^ (3 * j))) (pk_shlN _ (3 * j) (cd_sl _ (by omega)) (cd_clM_b (by omega))) ?_
    refine lv_ior hx hb dX1_turned_77 ?_
    refine cd_top (y := nI (cd_tM (cd_P x) (j + 1))) (cd_or _ _) ?_
    refine lv_istore_n (lv' := [(2, .int (nI (cd_tM (cd_P x) (j + 1)))), (0, .ref (a 0)), (1, .int (x)), (3, .int (nI j)), (4, .int (nI (cd_cl (cd_P x) (j + 1) 4)))]) hx hb dX1_turned_78 rfl hl (by decide) rfl (fun ls hl => ?_)
    refine lv_iinc (v := nI (j + 1)) (lv' := [(3, .int (nI (j + 1))), (2, .int (nI (cd_tM (cd_P x) (j + 1)))), (0, .ref (a 0)), (1, .int (x)), (4, .int (nI (cd_cl (cd_P x) (j + 1) 4)))]) hx hb dX1_turned_79 hl (k := 3) rfl (nI_1 _) (by decide) rfl (fun ls hl => ?_)
    refine lv_goto (tgt := 25) hx hb dX1_turned_82 (by decide) ?_
    exact ih (j + 1) (by omega) _ _ _ w (lv_sub hl [2, 3, 1, 0] rfl)
set_option maxHeartbeats 4000000 in
set_option maxRecDepth 100000 in
theorem mM_turned (l : Launch) (D : va_G) (a : Nat → Nat) (dJ : ClassId) (ch : Int32) (fn ft : Nat → Int32) (x : Int32) : gMi l yX1_turned cX1_turned 6 (some .int) (rmv 2) [.ref (a 0), .int x] D (tyM dJ) (wM a dJ) (ch, fn, ft) (fun r u => r = cd_tuM x ∧ u.1 = ch) := by
  refine gMi.of RX1 (by decide) rfl (Nat.le_of_ble_eq_true rfl) (fun p e s m below meth c A ls C w hl => ?_)
  obtain ⟨hx, hb, hr, hml, hown, hts, hA, hK, hlocks⟩ := id C
  refine lv_aload_n hx hb dX1_turned_0 rfl (lv_at hl 0 rfl) ?_
  refine lv_iload_n hx hb dX1_turned_1 rfl (lv_at hl 1 rfl) ?_
  refine gCalli C w (mM_sumOf l D a dJ ch fn ft x) (cwV 1 hts (lw_V q151 q153 qs6 q16 q154) rfl rfl rfl (by decide +kernel) ⟨Nat.le_of_ble_eq_true rfl, Nat.le_of_ble_eq_true rfl⟩) rfl rfl rfl hl.1 rfl (Nat.le_of_ble_eq_true rfl) dX1_turned_2 ⟨Nat.zero_le _, Nat.zero_le _⟩ (fun r u H locs hq w => ?_)
  obtain ⟨rfl, rfl⟩ := hq
  refine lv_if_eq (tgt := 18) hx hb dX1_turned_5 (by decide) (fun hc5 => ?_) (fun hc5 => ?_)
  · refine lv_ldc (v := cd_BAD) hx hb hown (hts _ q159) dX1_turned_18 ?_
    exact gIret C w (⟨(if_pos (Or.inl hc5)).symm, rfl⟩) dX1_turned_20
  · refine lv_aload_n hx hb dX1_turned_8 rfl (lv_at hl 0 rfl) ?_
    refine lv_iload_n hx hb dX1_turned_9 rfl (lv_at hl 1 rfl) ?_
    refine lv_iconst (v := 0) hx hb dX1_turned_10 (by decide) ?_
    refine gCalli C w (mM_part l D a dJ ch fn ft x 0) (cwV 2 hts (lw_V q155 q157 qs7 q16 q158) rfl rfl rfl (by decide +kernel) ⟨Nat.le_of_ble_eq_true rfl, Nat.le_of_ble_eq_true rfl⟩) rfl rfl rfl hl.1 rfl (Nat.le_of_ble_eq_true rfl) dX1_turned_11 ⟨Nat.zero_le _, Nat.zero_le _⟩ (fun r u H locs hq w => ?_)
    obtain ⟨rfl, rfl⟩ := hq
    refine lv_iconst (v := 4) hx hb dX1_turned_14 (by decide) ?_
    refine lv_icmp_le (tgt := 21) hx hb dX1_turned_15 (by decide) (fun hc15 => ?_) (fun hc15 => ?_)
    · have hn : ¬ (cd_sum x = 0 ∨ ¬ cd_pt x 0 ≤ 4) := fun h => h.elim hc5 (fun h => h hc15)
      refine lv_iconst (v := 0) hx hb dX1_turned_21 (by decide) ?_
      refine lv_istore_n (lv' := [(2, .int (0)), (0, .ref (a 0)), (1, .int (x))]) hx hb dX1_turned_22 rfl hl (by decide) rfl (fun ls hl => ?_)
      refine lv_iconst (v := 0) hx hb dX1_turned_23 (by decide) ?_
      refine lv_istore_n (lv' := [(3, .int (0)), (2, .int (0)), (0, .ref (a 0)), (1, .int (x))]) hx hb dX1_turned_24 rfl hl (by decide) rfl (fun ls hl => ?_)
      refine lm_turned2 C (fun H locs ls w hl => ?_) 4 0 rfl _ _ _ w (lv_sub hl [2, 3, 1, 0] rfl)
      refine lv_iload_n hx hb dX1_turned_85 rfl (lv_at hl 1 rfl) ?_
      exact gIret C w ⟨(if_neg hn).symm, rfl⟩ dX1_turned_86
    · refine lv_ldc (v := cd_BAD) hx hb hown (hts _ q159) dX1_turned_18 ?_
      exact gIret C w (⟨(if_pos (Or.inr hc15)).symm, rfl⟩) dX1_turned_20
set_option maxHeartbeats 4000000 in
set_option maxRecDepth 100000 in
theorem lm_perm1 {p : Program} {l : Launch} {e : Env} {s : State} {m : MethodId} {args : Array Value} {below : List Frame} {meth : Method} {c : Code} {D : va_G} {A : Nat → Prop} {a : Nat → Nat} {dJ : ClassId} {Q : State → Prop} {cells slots : Nat} {R : Room} {x : Int32} (C : gC RX1 cX1_permutations 8 (some .int) D (tyM dJ) A p s m args meth c) (k : Nat) (h1 : 1 ≤ k) (hk : k ≤ 7) {H : Heap} {locs : List Loc}
    (K : ∀ ls : Array Slot, lv_has ls 8 [(0, .ref (a 0)), (1, .int x), (3, .int (cd_fc (k - 1)))] → W p l e R s m args below meth c H locs cells slots Q (F0 m 35 ls [])) :
    ∀ (n i : Nat), i + n = k - 1 → ∀ ls : Array Slot, lv_has ls 8 [(0, .ref (a 0)), (1, .int x), (2, .int (nI k)), (3, .int (cd_fc i)), (4, .int (nI (i + 2)))] → W p l e R s m args below meth c H locs cells slots Q (F0 m 18 ls []) := by
  obtain ⟨hx, hb, hr, hml, hown, hts, hA, hK, hlocks⟩ := id C
  intro n
  induction n with
  | zero =>
    intro i hi ls hl
    obtain rfl : i = k - 1 := by omega
    refine lv_iload hx hb dX1_permutations_18 (lv_at hl 4 rfl) ?_
    refine lv_iload_n hx hb dX1_permutations_20 rfl (lv_at hl 2 rfl) ?_
    refine lv_icmp_gt (tgt := 35) hx hb dX1_permutations_21 (by decide) (fun _ => ?_) (fun hc => absurd (nI_lt (by omega) (by omega)) hc)
    exact K _ (lv_sub hl [0, 1, 3] rfl)
  | succ n ih =>
    intro i hi ls hl
    refine lv_iload hx hb dX1_permutations_18 (lv_at hl 4 rfl) ?_
    refine lv_iload_n hx hb dX1_permutations_20 rfl (lv_at hl 2 rfl) ?_
    refine lv_icmp_gt (tgt := 35) hx hb dX1_permutations_21 (by decide) (fun hc => absurd hc (nI_nlt (by omega) (by omega))) (fun _ => ?_)
    refine lv_iload_n hx hb dX1_permutations_24 rfl (lv_at hl 3 rfl) ?_
    refine lv_iload hx hb dX1_permutations_25 (lv_at hl 4 rfl) ?_
    refine lv_imul hx hb dX1_permutations_27 ?_
    refine cd_top (y := cd_fc (i + 1)) (rfl) ?_
    refine lv_istore_n (lv' := [(3, .int (cd_fc (i + 1))), (0, .ref (a 0)), (1, .int (x)), (2, .int (nI k)), (4, .int (nI (i + 2)))]) hx hb dX1_permutations_28 rfl hl (by decide) rfl (fun ls hl => ?_)
    refine lv_iinc (v := nI (i + 1 + 2)) (lv' := [(4, .int (nI (i + 1 + 2))), (3, .int (cd_fc (i + 1))), (0, .ref (a 0)), (1, .int (x)), (2, .int (nI k))]) hx hb dX1_permutations_29 hl (k := 4) rfl (by rw [show i + 1 + 2 = (i + 2) + 1 by omega]; exact nI_1 _) (by decide) rfl (fun ls hl => ?_)
    refine lv_goto (tgt := 18) hx hb dX1_permutations_32 (by decide) ?_
    exact ih (i + 1) (by omega) _ (lv_sub hl [2, 3, 4, 1, 0] rfl)
set_option maxHeartbeats 4000000 in
set_option maxRecDepth 100000 in
theorem lm_perm2 {p : Program} {l : Launch} {e : Env} {s : State} {m : MethodId} {args : Array Value} {below : List Frame} {meth : Method} {c : Code} {D : va_G} {A : Nat → Prop} {a : Nat → Nat} {dJ : ClassId} {Q : State → Prop} {ch x v : Int32} {fn ft : Nat → Int32} (C : gC RX1 cX1_permutations 8 (some .int) D (tyM dJ) A p s m args meth c)
    (K : ∀ (H : Heap) (locs : List Loc) (ls : Array Slot), gW D A s (wM a dJ (ch, fn, ft)) H locs → lv_has ls 8 [(0, .ref (a 0)), (3, .int v), (4, .int (cd_saM x 4))] → W p l e (rmv 2) s m args below meth c H locs 0 0 Q (F0 m 114 ls [])) :
    ∀ (n i : Nat), i + n = 4 → ∀ (H : Heap) (locs : List Loc) (ls : Array Slot), gW D A s (wM a dJ (ch, fn, ft)) H locs → lv_has ls 8 [(0, .ref (a 0)), (1, .int x), (3, .int v), (4, .int (cd_saM x i)), (5, .int (cd_agM x i)), (6, .int (nI i))] → W p l e (rmv 2) s m args below meth c H locs 0 0 Q (F0 m 44 ls []) := by
  obtain ⟨hx, hb, hr, hml, hown, hts, hA, hK, hlocks⟩ := id C
  intro n
  induction n with
  | zero =>
    intro i hi H locs ls w hl
    obtain rfl : i = 4 := by omega
    refine lv_iload hx hb dX1_permutations_44 (lv_at hl 5 rfl) ?_
    refine lv_iconst (v := 4) hx hb dX1_permutations_46 (by decide) ?_
    refine lv_icmp_ge (tgt := 114) hx hb dX1_permutations_47 (by decide) (fun _ => ?_) (fun hc => absurd (nI_le (a := 4) (Nat.le_refl 4) (by decide)) hc)
    exact K _ _ _ w (lv_sub hl [0, 2, 3] rfl)
  | succ n ih =>
    intro i hi H locs ls w hl
    refine lv_iload hx hb dX1_permutations_44 (lv_at hl 5 rfl) ?_
    refine lv_iconst (v := 4) hx hb dX1_permutations_46 (by decide) ?_
    refine lv_icmp_ge (tgt := 114) hx hb dX1_permutations_47 (by decide) (fun hc => absurd hc (nI_ge (b := 4) (by omega) (by decide))) (fun _ => ?_)
    refine lv_aload_n hx hb dX1_permutations_50 rfl (lv_at hl 0 rfl) ?_
    refine lv_iload_n hx hb dX1_permutations_51 rfl (lv_at hl 1 rfl) ?_
    refine lv_iload hx hb dX1_permutations_52 (lv_at hl 5 rfl) ?_
    refine gCalli C w (mM_part l D a dJ ch fn ft x (nI i)) (cwV 2 hts (lw_V q155 q157 qs7 q16 q158) rfl rfl rfl (by decide +kernel) ⟨Nat.le_of_ble_eq_true rfl, Nat.le_of_ble_eq_true rfl⟩) rfl rfl rfl hl.1 rfl (Nat.le_of_ble_eq_true rfl) dX1_permutations_54 ⟨Nat.zero_le _, Nat.zero_le _⟩ (fun r u H locs hq w => ?_)
    obtain ⟨rfl, rfl⟩ := hq
    refine lv_istore (lv' := [(7, .int (cd_pt x (nI i))), (0, .ref (a 0)), (1, .int (x)), (3, .int (v)), (4, .int (cd_saM x i)), (5, .int (cd_agM x i)), (6, .int (nI i))]) hx hb dX1_permutations_57 hl (by decide) rfl (fun ls hl => ?_)
    refine lv_iload hx hb dX1_permutations_59 (lv_at hl 6 rfl) ?_
    refine lv_if_le (tgt := 85) hx hb dX1_permutations_61 (by decide) (fun hc61 => ?_) (fun hc61 => ?_)
    · refine lv_iconst (v := 1) hx hb dX1_permutations_85 (by decide) ?_
      refine cd_top (y := cd_agM x (i + 1)) ((if_neg (fun h => nI_nle h.1 (by omega) hc61)).symm) ?_
      refine lv_istore (lv' := [(5, .int (cd_agM x (i + 1))), (7, .int (cd_pt x (nI i))), (0, .ref (a 0)), (1, .int (x)), (3, .int (v)), (4, .int (cd_saM x i)), (6, .int (nI i))]) hx hb dX1_permutations_86 hl (by decide) rfl (fun ls hl => ?_)
      refine lv_iload hx hb dX1_permutations_88 (lv_at hl 1 rfl) ?_
      refine lv_if_le (tgt := 104) hx hb dX1_permutations_90 (by decide) (fun hc90 => ?_) (fun hc90 => ?_)
      · refine lv_iload hx hb dX1_permutations_104 (lv_at hl 5 rfl) ?_
        refine cd_top (y := cd_saM x (i + 1)) ((if_pos hc90).symm) ?_
        refine lv_istore (lv' := [(4, .int (cd_saM x (i + 1))), (5, .int (cd_agM x (i + 1))), (7, .int (cd_pt x (nI i))), (0, .ref (a 0)), (1, .int (x)), (3, .int (v)), (6, .int (nI i))]) hx hb dX1_permutations_106 hl (by decide) rfl (fun ls hl => ?_)
        refine lv_iinc (v := nI (i + 1)) (lv' := [(6, .int (nI (i + 1))), (4, .int (cd_saM x (i + 1))), (5, .int (cd_agM x (i + 1))), (7, .int (cd_pt x (nI i))), (0, .ref (a 0)), (1, .int (x)), (3, .int (v))]) hx hb dX1_permutations_108 hl (k := 6) rfl (nI_1 _) (by decide) rfl (fun ls hl => ?_)
        refine lv_goto (tgt := 44) hx hb dX1_permutations_111 (by decide) ?_
        exact ih (i + 1) (by omega) _ _ _ w (lv_sub hl [4, 5, 6, 1, 2, 0] rfl)
      · refine lv_iload hx hb dX1_permutations_93 (lv_at hl 5 rfl) ?_
        refine lv_iload hx hb dX1_permutations_95 (lv_at hl 1 rfl) ?_
        refine lv_imul hx hb dX1_permutations_97 ?_
        refine lv_iload hx hb dX1_permutations_98 (lv_at hl 0 rfl) ?_
        refine lv_imul hx hb dX1_permutations_100 ?_
        refine cd_top (y := cd_saM x (i + 1)) ((if_neg hc90).symm) ?_
        refine lv_goto (tgt := 106) hx hb dX1_permutations_101 (by decide) ?_
        refine lv_istore (lv' := [(4, .int (cd_saM x (i + 1))), (5, .int (cd_agM x (i + 1))), (7, .int (cd_pt x (nI i))), (0, .ref (a 0)), (1, .int (x)), (3, .int (v)), (6, .int (nI i))]) hx hb dX1_permutations_106 hl (by decide) rfl (fun ls hl => ?_)
        refine lv_iinc (v := nI (i + 1)) (lv' := [(6, .int (nI (i + 1))), (4, .int (cd_saM x (i + 1))), (5, .int (cd_agM x (i + 1))), (7, .int (cd_pt x (nI i))), (0, .ref (a 0)), (1, .int (x)), (3, .int (v))]) hx hb dX1_permutations_108 hl (k := 6) rfl (nI_1 _) (by decide) rfl (fun ls hl => ?_)
        refine lv_goto (tgt := 44) hx hb dX1_permutations_111 (by decide) ?_
        exact ih (i + 1) (by omega) _ _ _ w (lv_sub hl [4, 5, 6, 1, 2, 0] rfl)
    · have h0 : 0 < i := Nat.pos_of_ne_zero (fun h => hc61 (by subst h; decide))
      refine lv_iload hx hb dX1_permutations_64 (lv_at hl 0 rfl) ?_
      refine lv_aload_n hx hb dX1_permutations_66 rfl (lv_at hl 1 rfl) ?_
      refine lv_iload_n hx hb dX1_permutations_67 rfl (lv_at hl 2 rfl) ?_
      refine lv_iload hx hb dX1_permutations_68 (lv_at hl 6 rfl) ?_
      refine lv_iconst (v := 1) hx hb dX1_permutations_70 (by decide) ?_
      refine lv_isub hx hb dX1_permutations_71 ?_
      refine gCalli C w (mM_part l D a dJ ch fn ft x (nI i - 1)) (cwV 2 hts (lw_V q155 q157 qs7 q16 q158) rfl rfl rfl (by decide +kernel) ⟨Nat.le_of_ble_eq_true rfl, Nat.le_of_ble_eq_true rfl⟩) rfl rfl rfl hl.1 rfl (Nat.le_of_ble_eq_true rfl) dX1_permutations_72 ⟨Nat.zero_le _, Nat.zero_le _⟩ (fun r u H locs hq w => ?_)
      obtain ⟨rfl, rfl⟩ := hq
      refine lv_icmp_ne (tgt := 85) hx hb dX1_permutations_75 (by decide) (fun hc75 => ?_) (fun hc75 => ?_)
      · refine lv_iconst (v := 1) hx hb dX1_permutations_85 (by decide) ?_
        refine cd_top (y := cd_agM x (i + 1)) ((if_neg (fun h => hc75 h.2)).symm) ?_
        refine lv_istore (lv' := [(5, .int (cd_agM x (i + 1))), (7, .int (cd_pt x (nI i))), (0, .ref (a 0)), (1, .int (x)), (3, .int (v)), (4, .int (cd_saM x i)), (6, .int (nI i))]) hx hb dX1_permutations_86 hl (by decide) rfl (fun ls hl => ?_)
        refine lv_iload hx hb dX1_permutations_88 (lv_at hl 1 rfl) ?_
        refine lv_if_le (tgt := 104) hx hb dX1_permutations_90 (by decide) (fun hc90 => ?_) (fun hc90 => ?_)
        · refine lv_iload hx hb dX1_permutations_104 (lv_at hl 5 rfl) ?_
          refine cd_top (y := cd_saM x (i + 1)) ((if_pos hc90).symm) ?_
          refine lv_istore (lv' := [(4, .int (cd_saM x (i + 1))), (5, .int (cd_agM x (i + 1))), (7, .int (cd_pt x (nI i))), (0, .ref (a 0)), (1, .int (x)), (3, .int (v)), (6, .int (nI i))]) hx hb dX1_permutations_106 hl (by decide) rfl (fun ls hl => ?_)
          refine lv_iinc (v := nI (i + 1)) (lv' := [(6, .int (nI (i + 1))), (4, .int (cd_saM x (i + 1))), (5, .int (cd_agM x (i + 1))), (7, .int (cd_pt x (nI i))), (0, .ref (a 0)), (1, .int (x)), (3, .int (v))]) hx hb dX1_permutations_108 hl (k := 6) rfl (nI_1 _) (by decide) rfl (fun ls hl => ?_)
          refine lv_goto (tgt := 44) hx hb dX1_permutations_111 (by decide) ?_
          exact ih (i + 1) (by omega) _ _ _ w (lv_sub hl [4, 5, 6, 1, 2, 0] rfl)
        · refine lv_iload hx hb dX1_permutations_93 (lv_at hl 5 rfl) ?_
          refine lv_iload hx hb dX1_permutations_95 (lv_at hl 1 rfl) ?_
          refine lv_imul hx hb dX1_permutations_97 ?_
          refine lv_iload hx hb dX1_permutations_98 (lv_at hl 0 rfl) ?_
          refine lv_imul hx hb dX1_permutations_100 ?_
          refine cd_top (y := cd_saM x (i + 1)) ((if_neg hc90).symm) ?_
          refine lv_goto (tgt := 106) hx hb dX1_permutations_101 (by decide) ?_
          refine lv_istore (lv' := [(4, .int (cd_saM x (i + 1))), (5, .int (cd_agM x (i + 1))), (7, .int (cd_pt x (nI i))), (0, .ref (a 0)), (1, .int (x)), (3, .int (v)), (6, .int (nI i))]) hx hb dX1_permutations_106 hl (by decide) rfl (fun ls hl => ?_)
          refine lv_iinc (v := nI (i + 1)) (lv' := [(6, .int (nI (i + 1))), (4, .int (cd_saM x (i + 1))), (5, .int (cd_agM x (i + 1))), (7, .int (cd_pt x (nI i))), (0, .ref (a 0)), (1, .int (x)), (3, .int (v))]) hx hb dX1_permutations_108 hl (k := 6) rfl (nI_1 _) (by decide) rfl (fun ls hl => ?_)
          refine lv_goto (tgt := 44) hx hb dX1_permutations_111 (by decide) ?_
          exact ih (i + 1) (by omega) _ _ _ w (lv_sub hl [4, 5, 6, 1, 2, 0] rfl)
      · refine lv_iload hx hb dX1_permutations_78 (lv_at hl 5 rfl) ?_
        refine lv_iconst (v := 1) hx hb dX1_permutations_80 (by decide) ?_
        refine lv_iadd hx hb dX1_permutations_81 ?_
        refine cd_top (y := cd_agM x (i + 1)) ((if_pos ⟨h0, hc75⟩).symm) ?_
        refine lv_goto (tgt := 86) hx hb dX1_permutations_82 (by decide) ?_
        refine lv_istore (lv' := [(5, .int (cd_agM x (i + 1))), (7, .int (cd_pt x (nI i))), (0, .ref (a 0)), (1, .int (x)), (3, .int (v)), (4, .int (cd_saM x i)), (6, .int (nI i))]) hx hb dX1_permutations_86 hl (by decide) rfl (fun ls hl => ?_)
        refine lv_iload hx hb dX1_permutations_88 (lv_at hl 1 rfl) ?_
        refine lv_if_le (tgt := 104) hx hb dX1_permutations_90 (by decide) (fun hc90 => ?_) (fun hc90 => ?_)
        · refine lv_iload hx hb dX1_permutations_104 (lv_at hl 5 rfl) ?_
          refine cd_top (y := cd_saM x (i + 1)) ((if_pos hc90).symm) ?_
          refine lv_istore (lv' := [(4, .int (cd_saM x (i + 1))), (5, .int (cd_agM x (i + 1))), (7, .int (cd_pt x (nI i))), (0, .ref (a 0)), (1, .int (x)), (3, .int (v)), (6, .int (nI i))]) hx hb dX1_permutations_106 hl (by decide) rfl (fun ls hl => ?_)
          refine lv_iinc (v := nI (i + 1)) (lv' := [(6, .int (nI (i + 1))), (4, .int (cd_saM x (i + 1))), (5, .int (cd_agM x (i + 1))), (7, .int (cd_pt x (nI i))), (0, .ref (a 0)), (1, .int (x)), (3, .int (v))]) hx hb dX1_permutations_108 hl (k := 6) rfl (nI_1 _) (by decide) rfl (fun ls hl => ?_)
          refine lv_goto (tgt := 44) hx hb dX1_permutations_111 (by decide) ?_
          exact ih (i + 1) (by omega) _ _ _ w (lv_sub hl [4, 5, 6, 1, 2, 0] rfl)
        · refine lv_iload hx hb dX1_permutations_93 (lv_at hl 5 rfl) ?_
          refine lv_iload hx hb dX1_permutations_95 (lv_at hl 1 rfl) ?_
          refine lv_imul hx hb dX1_permutations_97 ?_
          refine lv_iload hx hb dX1_permutations_98 (lv_at hl 0 rfl) ?_
          refine lv_imul hx hb dX1_permutations_100 ?_
          refine cd_top (y := cd_saM x (i + 1)) ((if_neg hc90).symm) ?_
          refine lv_goto (tgt := 106) hx hb dX1_permutations_101 (by decide) ?_
          refine lv_istore (lv' := [(4, .int (cd_saM x (i + 1))), (5, .int (cd_agM x (i + 1))), (7, .int (cd_pt x (nI i))), (0, .ref (a 0)), (1, .int (x)), (3, .int (v)), (6, .int (nI i))]) hx hb dX1_permutations_106 hl (by decide) rfl (fun ls hl => ?_)
          refine lv_iinc (v := nI (i + 1)) (lv' := [(6, .int (nI (i + 1))), (4, .int (cd_saM x (i + 1))), (5, .int (cd_agM x (i + 1))), (7, .int (cd_pt x (nI i))), (0, .ref (a 0)), (1, .int (x)), (3, .int (v))]) hx hb dX1_permutations_108 hl (k := 6) rfl (nI_1 _) (by decide) rfl (fun ls hl => ?_)
          refine lv_goto (tgt := 44) hx hb dX1_permutations_111 (by decide) ?_
          exact ih (i + 1) (by omega) _ _ _ w (lv_sub hl [4, 5, 6, 1, 2, 0] rfl)
set_option maxHeartbeats 4000000 in
set_option maxRecDepth 100000 in
theorem mM_permutations (l : Launch) (D : va_G) (a : Nat → Nat) (dJ : ClassId) (ch : Int32) (fn ft : Nat → Int32) (x : Int32) : gMi l yX1_permutations cX1_permutations 8 (some .int) (rmv 2) [.ref (a 0), .int x] D (tyM dJ) (wM a dJ) (ch, fn, ft) (fun r u => r = cd_prM x ∧ u.1 = ch) := by
  refine gMi.of RX1 (by decide) rfl (Nat.le_of_ble_eq_true rfl) (fun p e s m below meth c A ls C w hl => ?_)
  obtain ⟨hx, hb, hr, hml, hown, hts, hA, hK, hlocks⟩ := id C
  have hk := cd_sum_k x
  refine lv_aload_n hx hb dX1_permutations_0 rfl (lv_at hl 0 rfl) ?_
  refine lv_iload_n hx hb dX1_permutations_1 rfl (lv_at hl 1 rfl) ?_
  refine gCalli C w (mM_sumOf l D a dJ ch fn ft x) (cwV 1 hts (lw_V q151 q153 qs6 q16 q154) rfl rfl rfl (by decide +kernel) ⟨Nat.le_of_ble_eq_true rfl, Nat.le_of_ble_eq_true rfl⟩) rfl rfl rfl hl.1 rfl (Nat.le_of_ble_eq_true rfl) dX1_permutations_2 ⟨Nat.zero_le _, Nat.zero_le _⟩ (fun r u H locs hq w => ?_)
  obtain ⟨rfl, rfl⟩ := hq
  refine lv_istore_n (lv' := [(2, .int (cd_sum x)), (0, .ref (a 0)), (1, .int (x))]) hx hb dX1_permutations_5 rfl hl (by decide) rfl (fun ls hl => ?_)
  refine lv_iload_n hx hb dX1_permutations_6 rfl (lv_at hl 0 rfl) ?_
  refine lv_if_ne (tgt := 13) hx hb dX1_permutations_7 (by decide) (fun hc7 => ?_) (fun hc7 => ?_)
  · refine lv_iconst (v := 1) hx hb dX1_permutations_13 (by decide) ?_
    refine lv_istore_n (lv' := [(3, .int (1)), (2, .int (cd_sum x)), (0, .ref (a 0)), (1, .int (x))]) hx hb dX1_permutations_14 rfl hl (by decide) rfl (fun ls hl => ?_)
    refine lv_iconst (v := 2) hx hb dX1_permutations_15 (by decide) ?_
    refine lv_istore (lv' := [(4, .int (2)), (3, .int (1)), (2, .int (cd_sum x)), (0, .ref (a 0)), (1, .int (x))]) hx hb dX1_permutations_16 hl (by decide) rfl (fun ls hl => ?_)
    refine lm_perm1 C (cd_sum x).toNatClampNeg (cd_sum_pos hc7) hk.2 (fun ls hl => ?_) ((cd_sum x).toNatClampNeg - 1) 0 (Nat.zero_add _) _ (by rw [← hk.1]; exact (lv_sub hl [3, 4, 2, 1, 0] rfl))
    refine lv_iconst (v := 1) hx hb dX1_permutations_35 (by decide) ?_
    refine lv_istore (lv' := [(4, .int (1)), (0, .ref (a 0)), (1, .int (x)), (3, .int (cd_fc ((cd_sum x).toNatClampNeg - 1)))]) hx hb dX1_permutations_36 hl (by decide) rfl (fun ls hl => ?_)
    refine lv_iconst (v := 0) hx hb dX1_permutations_38 (by decide) ?_
    refine lv_istore (lv' := [(5, .int (0)), (4, .int (1)), (0, .ref (a 0)), (1, .int (x)), (3, .int (cd_fc ((cd_sum x).toNatClampNeg - 1)))]) hx hb dX1_permutations_39 hl (by decide) rfl (fun ls hl => ?_)
    refine lv_iconst (v := 0) hx hb dX1_permutations_41 (by decide) ?_
    refine lv_istore (lv' := [(6, .int (0)), (5, .int (0)), (4, .int (1)), (0, .ref (a 0)), (1, .int (x)), (3, .int (cd_fc ((cd_sum x).toNatClampNeg - 1)))]) hx hb dX1_permutations_42 hl (by decide) rfl (fun ls hl => ?_)
    refine lm_perm2 C (fun H locs ls w hl => ?_) 4 0 rfl _ _ _ w (lv_sub hl [3, 4, 5, 2, 1, 0] rfl)
    refine lv_iload_n hx hb dX1_permutations_114 rfl (lv_at hl 1 rfl) ?_
    refine lv_iload hx hb dX1_permutations_115 (lv_at hl 2 rfl) ?_
    refine lv_if_le (tgt := 125) hx hb dX1_permutations_117 (by decide) (fun hc117 => ?_) (fun hc117 => ?_)
    · refine lv_iconst (v := 1) hx hb dX1_permutations_125 (by decide) ?_
      refine lv_idiv hx hb dX1_permutations_126 (by decide) ?_
      exact gIret C w (⟨by unfold cd_prM; rw [if_neg hc7, if_pos hc117], rfl⟩) dX1_permutations_127
    · refine lv_iload hx hb dX1_permutations_120 (lv_at hl 2 rfl) ?_
      refine lv_goto (tgt := 126) hx hb dX1_permutations_122 (by decide) ?_
      refine lv_idiv hx hb dX1_permutations_126 (fun h => hc117 (by rw [h]; decide)) ?_
      exact gIret C w (⟨by unfold cd_prM; rw [if_neg hc7, if_neg hc117], rfl⟩) dX1_permutations_127
  · refine lv_ldc (v := cd_BAD) hx hb hown (hts _ q159) dX1_permutations_10 ?_
    exact gIret C w (⟨(if_pos hc7).symm, rfl⟩) dX1_permutations_12
set_option maxHeartbeats 4000000 in
set_option maxRecDepth 100000 in
theorem lm_squares {p : Program} {l : Launch} {e : Env} {s : State} {m : MethodId} {args : Array Value} {below : List Frame} {meth : Method} {c : Code} {D : va_G} {A : Nat → Prop} {a : Nat → Nat} {dJ : ClassId} {ch x : Int32} {fn ft : Nat → Int32} {L : List Nat} (C : gC RX1 cX1_squares 5 (some .int) D (tyM dJ) A p s m args meth c) (hf : ∀ j, j < 2744 → fn j = cd_po L j) :
    ∀ (n i : Nat), i + n = 4095 → ∀ (H : Heap) (locs : List Loc) (ls : Array Slot), gW D A s (wM a dJ (ch, fn, ft)) H locs → lv_has ls 5 [(0, .ref (a 0)), (1, .int x), (2, .int (cd_sq (cd_vM L) x i)), (3, .int (nI (i + 1)))] → W p l e (rmv 4) s m args below meth c H locs 0 0 (MQ below (va_Qi (fun r u => r = cd_sq (cd_vM L) x 4095 ∧ u.1 = ch) (gB D (tyM dJ) A (wM a dJ)) A) args s 0 0 A) (F0 m 23 ls []) := by
  obtain ⟨hx, hb, hr, hml, hown, hts, hA, hK, hlocks⟩ := id C
  intro n
  induction n with
  | zero =>
    intro i hi H locs ls w hl
    obtain rfl : i = 4095 := by omega
    refine lv_iload_n hx hb dX1_squares_23 rfl (lv_at hl 3 rfl) ?_
    refine lv_sipush (v := 4096) hx hb dX1_squares_24 (by decide) ?_
    refine lv_icmp_ge (tgt := 60) hx hb dX1_squares_27 (by decide) (fun _ => ?_) (fun hc => absurd (nI_le (a := 4096) (b := 4095 + 1) (Nat.le_refl 4096) (by decide)) hc)
    refine lv_iload_n hx hb dX1_squares_60 rfl (lv_at hl 2 rfl) ?_
    exact gIret C w (⟨rfl, rfl⟩) dX1_squares_61
  | succ n ih =>
    intro i hi H locs ls w hl
    refine lv_iload_n hx hb dX1_squares_23 rfl (lv_at hl 3 rfl) ?_
    refine lv_sipush (v := 4096) hx hb dX1_squares_24 (by decide) ?_
    refine lv_icmp_ge (tgt := 60) hx hb dX1_squares_27 (by decide) (fun hc => absurd hc (nI_ge (b := 4096) (by omega) (by decide))) (fun _ => ?_)
    refine lv_aload_n hx hb dX1_squares_30 rfl (lv_at hl 0 rfl) ?_
    refine lv_iload_n hx hb dX1_squares_31 rfl (lv_at hl 3 rfl) ?_
    refine gCalli C w (mM_sumOf l D a dJ ch fn ft (nI (i + 1))) (cwV 1 hts (lw_V q151 q153 qs6 q16 q154) rfl rfl rfl (by decide +kernel) ⟨Nat.le_of_ble_eq_true rfl, Nat.le_of_ble_eq_true rfl⟩) rfl rfl rfl hl.1 rfl (Nat.le_of_ble_eq_true rfl) dX1_squares_32 ⟨Nat.zero_le _, Nat.zero_le _⟩ (fun r u H locs hq w => ?_)
    obtain ⟨rfl, rfl⟩ := hq
    refine lv_iload_n hx hb dX1_squares_35 rfl (lv_at hl 1 rfl) ?_
    refine lv_icmp_ne (tgt := 54) hx hb dX1_squares_36 (by decide) (fun hc36 => ?_) (fun hc36 => ?_)
    · have e9 : cd_sq (cd_vM L) x (i + 1) = cd_sq (cd_vM L) x i := if_neg hc36
      refine lv_iinc (v := nI ((i + 1) + 1)) (lv' := [(3, .int (nI ((i + 1) + 1))), (0, .ref (a 0)), (1, .int (x)), (2, .int (cd_sq (cd_vM L) x i))]) hx hb dX1_squares_54 hl (k := 3) rfl (nI_1 _) (by decide) rfl (fun ls hl => ?_)
      refine lv_goto (tgt := 23) hx hb dX1_squares_57 (by decide) ?_
      exact ih (i + 1) (by omega) _ _ _ w (by rw [e9]; exact (lv_sub hl [1, 2, 3, 0] rfl))
    · refine lv_aload_n hx hb dX1_squares_39 rfl (lv_at hl 0 rfl) ?_
      refine lv_iload_n hx hb dX1_squares_40 rfl (lv_at hl 3 rfl) ?_
      refine gCalli C w (mM_coefficient l D a dJ ch fn ft (nI (i + 1))) (cwV 1 hts (lw_V q188 q190 qs12 q16 q191) rfl rfl rfl (by decide +kernel) ⟨Nat.le_of_ble_eq_true rfl, Nat.le_of_ble_eq_true rfl⟩) rfl rfl rfl hl.1 rfl (Nat.le_of_ble_eq_true rfl) dX1_squares_41 ⟨Nat.zero_le _, Nat.zero_le _⟩ (fun r u H locs hq w => ?_)
      obtain ⟨rfl, rfl⟩ := hq
      refine cd_top (y := cd_vM L (nI (i + 1))) (hf _ (cd_ix_lt _)) ?_
      refine lv_istore (lv' := [(4, .int (cd_vM L (nI (i + 1)))), (0, .ref (a 0)), (1, .int (x)), (2, .int (cd_sq (cd_vM L) x i)), (3, .int (nI (i + 1)))]) hx hb dX1_squares_44 hl (by decide) rfl (fun ls hl => ?_)
      refine lv_iload_n hx hb dX1_squares_46 rfl (lv_at hl 3 rfl) ?_
      refine lv_iload hx hb dX1_squares_47 (lv_at hl 0 rfl) ?_
      refine lv_iload hx hb dX1_squares_49 (lv_at hl 0 rfl) ?_
      refine lv_imul hx hb dX1_squares_51 ?_
      refine lv_iadd hx hb dX1_squares_52 ?_
      refine cd_top (y := cd_sq (cd_vM L) x (i + 1)) ((if_pos hc36).symm) ?_
      refine lv_istore_n (lv' := [(2, .int (cd_sq (cd_vM L) x (i + 1))), (4, .int (cd_vM L (nI (i + 1)))), (0, .ref (a 0)), (1, .int (x)), (3, .int (nI (i + 1)))]) hx hb dX1_squares_53 rfl hl (by decide) rfl (fun ls hl => ?_)
      refine lv_iinc (v := nI ((i + 1) + 1)) (lv' := [(3, .int (nI ((i + 1) + 1))), (2, .int (cd_sq (cd_vM L) x (i + 1))), (4, .int (cd_vM L (nI (i + 1)))), (0, .ref (a 0)), (1, .int (x))]) hx hb dX1_squares_54 hl (k := 4) rfl (nI_1 _) (by decide) rfl (fun ls hl => ?_)
      refine lv_goto (tgt := 23) hx hb dX1_squares_57 (by decide) ?_
      exact ih (i + 1) (by omega) _ _ _ w (lv_sub hl [3, 4, 1, 0] rfl)
set_option maxHeartbeats 4000000 in
set_option maxRecDepth 100000 in
theorem mM_squares (l : Launch) (D : va_G) (a : Nat → Nat) (dJ : ClassId) (ch : Int32) (fn ft : Nat → Int32) (x : Int32) : gMi l yX1_squares cX1_squares 5 (some .int) (rmv 4) [.ref (a 0), .int x] D (tyM dJ) (wM a dJ) (ch, fn, ft) (fun r u => r = cd_sqM x ∧ u.1 = ch) := by
  refine gMi.of RX1 (by decide) rfl (Nat.le_of_ble_eq_true rfl) (fun p e s m below meth c A ls C w hl => ?_)
  obtain ⟨hx, hb, hr, hml, hown, hts, hA, hK, hlocks⟩ := id C
  refine lv_iload_n hx hb dX1_squares_0 rfl (lv_at hl 1 rfl) ?_
  refine lv_iconst (v := 1) hx hb dX1_squares_1 (by decide) ?_
  refine lv_icmp_lt (tgt := 11) hx hb dX1_squares_2 (by decide) (fun hc2 => ?_) (fun hc2 => ?_)
  · refine lv_ldc (v := cd_BAD) hx hb hown (hts _ q159) dX1_squares_11 ?_
    exact gIret C w (⟨(if_pos (Or.inl hc2)).symm, rfl⟩) dX1_squares_13
  · refine lv_iload_n hx hb dX1_squares_5 rfl (lv_at hl 1 rfl) ?_
    refine lv_bipush (v := 7) hx hb dX1_squares_6 (by decide) ?_
    refine lv_icmp_le (tgt := 14) hx hb dX1_squares_8 (by decide) (fun hc8 => ?_) (fun hc8 => ?_)
    · have hk := cd_17 hc2 hc8
      rw [show cd_sqM x = cd_sq (cd_vM (List.replicate x.toNatClampNeg 1)) x 4095 from if_neg (fun h => h.elim hc2 (fun h => absurd hc8 (Int32.not_le.mpr h)))]
      refine lv_aload_n hx hb dX1_squares_14 rfl (lv_at hl 0 rfl) ?_
      refine lv_iload_n hx hb dX1_squares_15 rfl (lv_at hl 1 rfl) ?_
      refine cd_top (y := nI x.toNatClampNeg) (hk.1) ?_
      refine gCallv C w (mM_ones l D a dJ ch fn ft x.toNatClampNeg hk.2) (cwV 1 hts (lw_V q197 q199 qs13 q16 q200) rfl rfl rfl (by decide +kernel) ⟨Nat.le_of_ble_eq_true rfl, Nat.le_of_ble_eq_true rfl⟩) rfl rfl rfl hl.1 rfl (Nat.le_of_ble_eq_true rfl) dX1_squares_16 ⟨Nat.zero_le _, Nat.zero_le _⟩ (fun u H locs hq w => ?_)
      obtain ⟨fn, ft, rfl, hf1⟩ := hq
      refine lv_iconst (v := 0) hx hb dX1_squares_19 (by decide) ?_
      refine lv_istore_n (lv' := [(2, .int (0)), (0, .ref (a 0)), (1, .int (x))]) hx hb dX1_squares_20 rfl hl (by decide) rfl (fun ls hl => ?_)
      refine lv_iconst (v := 1) hx hb dX1_squares_21 (by decide) ?_
      refine lv_istore_n (lv' := [(3, .int (1)), (2, .int (0)), (0, .ref (a 0)), (1, .int (x))]) hx hb dX1_squares_22 rfl hl (by decide) rfl (fun ls hl => ?_)
      exact lm_squares C hf1 4095 0 rfl _ _ _ w (lv_sub hl [2, 3, 1, 0] rfl)
    · refine lv_ldc (v := cd_BAD) hx hb hown (hts _ q159) dX1_squares_11 ?_
      exact gIret C w (⟨(if_pos (Or.inr (Int32.not_le.mp hc8))).symm, rfl⟩) dX1_squares_13
set_option maxHeartbeats 4000000 in
set_option maxRecDepth 100000 in
theorem lm_greatest {p : Program} {l : Launch} {e : Env} {s : State} {m : MethodId} {args : Array Value} {below : List Frame} {meth : Method} {c : Code} {D : va_G} {A : Nat → Prop} {a : Nat → Nat} {dJ : ClassId} {ch x : Int32} {fn ft : Nat → Int32} {L : List Nat} (C : gC RX1 cX1_greatest 6 (some .int) D (tyM dJ) A p s m args meth c) (hf : ∀ j, j < 2744 → fn j = cd_po L j) :
    ∀ (n i : Nat), i + n = 4095 → ∀ (H : Heap) (locs : List Loc) (ls : Array Slot), gW D A s (wM a dJ (ch, fn, ft)) H locs → lv_has ls 6 [(0, .ref (a 0)), (2, .int (cd_sum x)), (3, .int (cd_gr (cd_vM L) (cd_sum x) i)), (4, .int (nI (i + 1)))] → W p l e (rmv 4) s m args below meth c H locs 0 0 (MQ below (va_Qi (fun r u => r = cd_gr (cd_vM L) (cd_sum x) 4095 ∧ u.1 = ch) (gB D (tyM dJ) A (wM a dJ)) A) args s 0 0 A) (F0 m 24 ls []) := by
  obtain ⟨hx, hb, hr, hml, hown, hts, hA, hK, hlocks⟩ := id C
  intro n
  induction n with
  | zero =>
    intro i hi H locs ls w hl
    obtain rfl : i = 4095 := by omega
    refine lv_iload hx hb dX1_greatest_24 (lv_at hl 3 rfl) ?_
    refine lv_sipush (v := 4096) hx hb dX1_greatest_26 (by decide) ?_
    refine lv_icmp_ge (tgt := 69) hx hb dX1_greatest_29 (by decide) (fun _ => ?_) (fun hc => absurd (nI_le (a := 4096) (b := 4095 + 1) (Nat.le_refl 4096) (by decide)) hc)
    refine lv_iload_n hx hb dX1_greatest_69 rfl (lv_at hl 2 rfl) ?_
    exact gIret C w (⟨rfl, rfl⟩) dX1_greatest_70
  | succ n ih =>
    intro i hi H locs ls w hl
    refine lv_iload hx hb dX1_greatest_24 (lv_at hl 3 rfl) ?_
    refine lv_sipush (v := 4096) hx hb dX1_greatest_26 (by decide) ?_
    refine lv_icmp_ge (tgt := 69) hx hb dX1_greatest_29 (by decide) (fun hc => absurd hc (nI_ge (b := 4096) (by omega) (by decide))) (fun _ => ?_)
    refine lv_aload_n hx hb dX1_greatest_32 rfl (lv_at hl 0 rfl) ?_
    refine lv_iload hx hb dX1_greatest_33 (lv_at hl 3 rfl) ?_
    refine gCalli C w (mM_sumOf l D a dJ ch fn ft (nI (i + 1))) (cwV 1 hts (lw_V q151 q153 qs6 q16 q154) rfl rfl rfl (by decide +kernel) ⟨Nat.le_of_ble_eq_true rfl, Nat.le_of_ble_eq_true rfl⟩) rfl rfl rfl hl.1 rfl (Nat.le_of_ble_eq_true rfl) dX1_greatest_35 ⟨Nat.zero_le _, Nat.zero_le _⟩ (fun r u H locs hq w => ?_)
    obtain ⟨rfl, rfl⟩ := hq
    refine lv_iload_n hx hb dX1_greatest_38 rfl (lv_at hl 1 rfl) ?_
    refine lv_icmp_ne (tgt := 63) hx hb dX1_greatest_39 (by decide) (fun hc39 => ?_) (fun hc39 => ?_)
    · have e9 : cd_gr (cd_vM L) (cd_sum x) (i + 1) = cd_gr (cd_vM L) (cd_sum x) i := if_neg hc39
      refine lv_iinc (v := nI ((i + 1) + 1)) (lv' := [(4, .int (nI ((i + 1) + 1))), (0, .ref (a 0)), (2, .int (cd_sum x)), (3, .int (cd_gr (cd_vM L) (cd_sum x) i))]) hx hb dX1_greatest_63 hl (k := 3) rfl (nI_1 _) (by decide) rfl (fun ls hl => ?_)
      refine lv_goto (tgt := 24) hx hb dX1_greatest_66 (by decide) ?_
      exact ih (i + 1) (by omega) _ _ _ w (by rw [e9]; exact (lv_sub hl [1, 2, 3, 0] rfl))
    · refine lv_aload_n hx hb dX1_greatest_42 rfl (lv_at hl 0 rfl) ?_
      refine lv_iload hx hb dX1_greatest_43 (lv_at hl 3 rfl) ?_
      refine gCalli C w (mM_coefficient l D a dJ ch fn ft (nI (i + 1))) (cwV 1 hts (lw_V q188 q190 qs12 q16 q191) rfl rfl rfl (by decide +kernel) ⟨Nat.le_of_ble_eq_true rfl, Nat.le_of_ble_eq_true rfl⟩) rfl rfl rfl hl.1 rfl (Nat.le_of_ble_eq_true rfl) dX1_greatest_45 ⟨Nat.zero_le _, Nat.zero_le _⟩ (fun r u H locs hq w => ?_)
      obtain ⟨rfl, rfl⟩ := hq
      refine cd_top (y := cd_vM L (nI (i + 1))) (hf _ (cd_ix_lt _)) ?_
      refine lv_istore (lv' := [(5, .int (cd_vM L (nI (i + 1)))), (0, .ref (a 0)), (2, .int (cd_sum x)), (3, .int (cd_gr (cd_vM L) (cd_sum x) i)), (4, .int (nI (i + 1)))]) hx hb dX1_greatest_48 hl (by decide) rfl (fun ls hl => ?_)
      refine lv_iload hx hb dX1_greatest_50 (lv_at hl 0 rfl) ?_
      refine lv_iload_n hx hb dX1_greatest_52 rfl (lv_at hl 3 rfl) ?_
      refine lv_icmp_le (tgt := 61) hx hb dX1_greatest_53 (by decide) (fun hc53 => ?_) (fun hc53 => ?_)
      · refine lv_iload_n hx hb dX1_greatest_61 rfl (lv_at hl 3 rfl) ?_
        refine cd_top (y := cd_gr (cd_vM L) (cd_sum x) (i + 1)) (((if_pos hc39).trans (if_pos hc53)).symm) ?_
        refine lv_istore_n (lv' := [(3, .int (cd_gr (cd_vM L) (cd_sum x) (i + 1))), (5, .int (cd_vM L (nI (i + 1)))), (0, .ref (a 0)), (2, .int (cd_sum x)), (4, .int (nI (i + 1)))]) hx hb dX1_greatest_62 rfl hl (by decide) rfl (fun ls hl => ?_)
        refine lv_iinc (v := nI ((i + 1) + 1)) (lv' := [(4, .int (nI ((i + 1) + 1))), (3, .int (cd_gr (cd_vM L) (cd_sum x) (i + 1))), (5, .int (cd_vM L (nI (i + 1)))), (0, .ref (a 0)), (2, .int (cd_sum x))]) hx hb dX1_greatest_63 hl (k := 4) rfl (nI_1 _) (by decide) rfl (fun ls hl => ?_)
        refine lv_goto (tgt := 24) hx hb dX1_greatest_66 (by decide) ?_
        exact ih (i + 1) (by omega) _ _ _ w (lv_sub hl [3, 4, 1, 0] rfl)
      · refine lv_iload hx hb dX1_greatest_56 (lv_at hl 0 rfl) ?_
        refine cd_top (y := cd_gr (cd_vM L) (cd_sum x) (i + 1)) (((if_pos hc39).trans (if_neg hc53)).symm) ?_
        refine lv_goto (tgt := 62) hx hb dX1_greatest_58 (by decide) ?_
        refine lv_istore_n (lv' := [(3, .int (cd_gr (cd_vM L) (cd_sum x) (i + 1))), (5, .int (cd_vM L (nI (i + 1)))), (0, .ref (a 0)), (2, .int (cd_sum x)), (4, .int (nI (i + 1)))]) hx hb dX1_greatest_62 rfl hl (by decide) rfl (fun ls hl => ?_)
        refine lv_iinc (v := nI ((i + 1) + 1)) (lv' := [(4, .int (nI ((i + 1) + 1))), (3, .int (cd_gr (cd_vM L) (cd_sum x) (i + 1))), (5, .int (cd_vM L (nI (i + 1)))), (0, .ref (a 0)), (2, .int (cd_sum x))]) hx hb dX1_greatest_63 hl (k := 4) rfl (nI_1 _) (by decide) rfl (fun ls hl => ?_)
        refine lv_goto (tgt := 24) hx hb dX1_greatest_66 (by decide) ?_
        exact ih (i + 1) (by omega) _ _ _ w (lv_sub hl [3, 4, 1, 0] rfl)
set_option maxHeartbeats 4000000 in
set_option maxRecDepth 100000 in
theorem mM_greatest (l : Launch) (D : va_G) (a : Nat → Nat) (dJ : ClassId) (ch : Int32) (fn ft : Nat → Int32) (x : Int32) : gMi l yX1_greatest cX1_greatest 6 (some .int) (rmv 4) [.ref (a 0), .int x] D (tyM dJ) (wM a dJ) (ch, fn, ft) (fun r u => r = cd_grM x ∧ u.1 = ch) := by
  refine gMi.of RX1 (by decide) rfl (Nat.le_of_ble_eq_true rfl) (fun p e s m below meth c A ls C w hl => ?_)
  obtain ⟨hx, hb, hr, hml, hown, hts, hA, hK, hlocks⟩ := id C
  refine lv_aload_n hx hb dX1_greatest_0 rfl (lv_at hl 0 rfl) ?_
  refine lv_iload_n hx hb dX1_greatest_1 rfl (lv_at hl 1 rfl) ?_
  refine gCalli C w (mM_sumOf l D a dJ ch fn ft x) (cwV 1 hts (lw_V q151 q153 qs6 q16 q154) rfl rfl rfl (by decide +kernel) ⟨Nat.le_of_ble_eq_true rfl, Nat.le_of_ble_eq_true rfl⟩) rfl rfl rfl hl.1 rfl (Nat.le_of_ble_eq_true rfl) dX1_greatest_2 ⟨Nat.zero_le _, Nat.zero_le _⟩ (fun r u H locs hq w => ?_)
  obtain ⟨rfl, rfl⟩ := hq
  refine lv_istore_n (lv' := [(2, .int (cd_sum x)), (0, .ref (a 0)), (1, .int (x))]) hx hb dX1_greatest_5 rfl hl (by decide) rfl (fun ls hl => ?_)
  refine lv_iload_n hx hb dX1_greatest_6 rfl (lv_at hl 0 rfl) ?_
  refine lv_if_ne (tgt := 13) hx hb dX1_greatest_7 (by decide) (fun hc7 => ?_) (fun hc7 => ?_)
  · rw [show cd_grM x = cd_gr (cd_vM (cd_rims (cd_P x) 4).reverse) (cd_sum x) 4095 from if_neg hc7]
    refine lv_aload_n hx hb dX1_greatest_13 rfl (lv_at hl 1 rfl) ?_
    refine lv_iload_n hx hb dX1_greatest_14 rfl (lv_at hl 2 rfl) ?_
    refine gCallv C w (mM_cycles l D a dJ ch fn ft x) (cwV 1 hts (lw_V q172 q174 qs8 q16 q175) rfl rfl rfl (by decide +kernel) ⟨Nat.le_of_ble_eq_true rfl, Nat.le_of_ble_eq_true rfl⟩) rfl rfl rfl hl.1 rfl (Nat.le_of_ble_eq_true rfl) dX1_greatest_15 ⟨Nat.zero_le _, Nat.zero_le _⟩ (fun u H locs hq w => ?_)
    obtain ⟨fn, ft, rfl, hf1⟩ := hq
    refine lv_ldc (v := cd_BAD) hx hb hown (hts _ q159) dX1_greatest_18 ?_
    refine lv_istore_n (lv' := [(3, .int (cd_BAD)), (2, .int (cd_sum x)), (0, .ref (a 0)), (1, .int (x))]) hx hb dX1_greatest_20 rfl hl (by decide) rfl (fun ls hl => ?_)
    refine lv_iconst (v := 1) hx hb dX1_greatest_21 (by decide) ?_
    refine lv_istore (lv' := [(4, .int (1)), (3, .int (cd_BAD)), (2, .int (cd_sum x)), (0, .ref (a 0)), (1, .int (x))]) hx hb dX1_greatest_22 hl (by decide) rfl (fun ls hl => ?_)
    exact lm_greatest C hf1 4095 0 rfl _ _ _ w (lv_sub hl [3, 2, 1, 0] rfl)
  · refine lv_ldc (v := cd_BAD) hx hb hown (hts _ q159) dX1_greatest_10 ?_
    exact gIret C w (⟨(if_pos hc7).symm, rfl⟩) dX1_greatest_12
set_option maxHeartbeats 4000000 in
set_option maxRecDepth 100000 in
theorem lm_support {p : Program} {l : Launch} {e : Env} {s : State} {m : MethodId} {args : Array Value} {below : List Frame} {meth : Method} {c : Code} {D : va_G} {A : Nat → Prop} {a : Nat → Nat} {dJ : ClassId} {ch x : Int32} {fn ft : Nat → Int32} {L : List Nat} (C : gC RX1 cX1_support 5 (some .int) D (tyM dJ) A p s m args meth c) (hf : ∀ j, j < 2744 → fn j = cd_po L j) :
    ∀ (n i : Nat), i + n = 4095 → ∀ (H : Heap) (locs : List Loc) (ls : Array Slot), gW D A s (wM a dJ (ch, fn, ft)) H locs → lv_has ls 5 [(0, .ref (a 0)), (2, .int (cd_sum x)), (3, .int (cd_su (cd_vM L) (cd_sum x) i)), (4, .int (nI (i + 1)))] → W p l e (rmv 4) s m args below meth c H locs 0 0 (MQ below (va_Qi (fun r u => r = cd_su (cd_vM L) (cd_sum x) 4095 ∧ u.1 = ch) (gB D (tyM dJ) A (wM a dJ)) A) args s 0 0 A) (F0 m 23 ls []) := by
  obtain ⟨hx, hb, hr, hml, hown, hts, hA, hK, hlocks⟩ := id C
  intro n
  induction n with
  | zero =>
    intro i hi H locs ls w hl
    obtain rfl : i = 4095 := by omega
    refine lv_iload hx hb dX1_support_23 (lv_at hl 3 rfl) ?_
    refine lv_sipush (v := 4096) hx hb dX1_support_25 (by decide) ?_
    refine lv_icmp_ge (tgt := 64) hx hb dX1_support_28 (by decide) (fun _ => ?_) (fun hc => absurd (nI_le (a := 4096) (b := 4095 + 1) (Nat.le_refl 4096) (by decide)) hc)
    refine lv_iload_n hx hb dX1_support_64 rfl (lv_at hl 2 rfl) ?_
    exact gIret C w (⟨rfl, rfl⟩) dX1_support_65
  | succ n ih =>
    intro i hi H locs ls w hl
    refine lv_iload hx hb dX1_support_23 (lv_at hl 3 rfl) ?_
    refine lv_sipush (v := 4096) hx hb dX1_support_25 (by decide) ?_
    refine lv_icmp_ge (tgt := 64) hx hb dX1_support_28 (by decide) (fun hc => absurd hc (nI_ge (b := 4096) (by omega) (by decide))) (fun _ => ?_)
    refine lv_aload_n hx hb dX1_support_31 rfl (lv_at hl 0 rfl) ?_
    refine lv_iload hx hb dX1_support_32 (lv_at hl 3 rfl) ?_
    refine gCalli C w (mM_sumOf l D a dJ ch fn ft (nI (i + 1))) (cwV 1 hts (lw_V q151 q153 qs6 q16 q154) rfl rfl rfl (by decide +kernel) ⟨Nat.le_of_ble_eq_true rfl, Nat.le_of_ble_eq_true rfl⟩) rfl rfl rfl hl.1 rfl (Nat.le_of_ble_eq_true rfl) dX1_support_34 ⟨Nat.zero_le _, Nat.zero_le _⟩ (fun r u H locs hq w => ?_)
    obtain ⟨rfl, rfl⟩ := hq
    refine lv_iload_n hx hb dX1_support_37 rfl (lv_at hl 1 rfl) ?_
    refine lv_icmp_ne (tgt := 56) hx hb dX1_support_38 (by decide) (fun hc38 => ?_) (fun hc38 => ?_)
    · refine lv_iload_n hx hb dX1_support_56 rfl (lv_at hl 2 rfl) ?_
      refine cd_top (y := cd_su (cd_vM L) (cd_sum x) (i + 1)) ((if_neg (fun h => hc38 h.1)).symm) ?_
      refine lv_istore_n (lv' := [(3, .int (cd_su (cd_vM L) (cd_sum x) (i + 1))), (0, .ref (a 0)), (2, .int (cd_sum x)), (4, .int (nI (i + 1)))]) hx hb dX1_support_57 rfl hl (by decide) rfl (fun ls hl => ?_)
      refine lv_iinc (v := nI ((i + 1) + 1)) (lv' := [(4, .int (nI ((i + 1) + 1))), (3, .int (cd_su (cd_vM L) (cd_sum x) (i + 1))), (0, .ref (a 0)), (2, .int (cd_sum x))]) hx hb dX1_support_58 hl (k := 3) rfl (nI_1 _) (by decide) rfl (fun ls hl => ?_)
      refine lv_goto (tgt := 23) hx hb dX1_support_61 (by decide) ?_
      exact ih (i + 1) (by omega) _ _ _ w (lv_sub hl [2, 3, 1, 0] rfl)
    · refine lv_aload_n hx hb dX1_support_41 rfl (lv_at hl 0 rfl) ?_
      refine lv_iload hx hb dX1_support_42 (lv_at hl 3 rfl) ?_
      refine gCalli C w (mM_coefficient l D a dJ ch fn ft (nI (i + 1))) (cwV 1 hts (lw_V q188 q190 qs12 q16 q191) rfl rfl rfl (by decide +kernel) ⟨Nat.le_of_ble_eq_true rfl, Nat.le_of_ble_eq_true rfl⟩) rfl rfl rfl hl.1 rfl (Nat.le_of_ble_eq_true rfl) dX1_support_44 ⟨Nat.zero_le _, Nat.zero_le _⟩ (fun r u H locs hq w => ?_)
      obtain ⟨rfl, rfl⟩ := hq
      refine cd_top (y := cd_vM L (nI (i + 1))) (hf _ (cd_ix_lt _)) ?_
      refine lv_if_eq (tgt := 56) hx hb dX1_support_47 (by decide) (fun hc47 => ?_) (fun hc47 => ?_)
      · refine lv_iload_n hx hb dX1_support_56 rfl (lv_at hl 2 rfl) ?_
        refine cd_top (y := cd_su (cd_vM L) (cd_sum x) (i + 1)) ((if_neg (fun h => h.2 hc47)).symm) ?_
        refine lv_istore_n (lv' := [(3, .int (cd_su (cd_vM L) (cd_sum x) (i + 1))), (0, .ref (a 0)), (2, .int (cd_sum x)), (4, .int (nI (i + 1)))]) hx hb dX1_support_57 rfl hl (by decide) rfl (fun ls hl => ?_)
        refine lv_iinc (v := nI ((i + 1) + 1)) (lv' := [(4, .int (nI ((i + 1) + 1))), (3, .int (cd_su (cd_vM L) (cd_sum x) (i + 1))), (0, .ref (a 0)), (2, .int (cd_sum x))]) hx hb dX1_support_58 hl (k := 3) rfl (nI_1 _) (by decide) rfl (fun ls hl => ?_)
        refine lv_goto (tgt := 23) hx hb dX1_support_61 (by decide) ?_
        exact ih (i + 1) (by omega) _ _ _ w (lv_sub hl [2, 3, 1, 0] rfl)
      · refine lv_iload_n hx hb dX1_support_50 rfl (lv_at hl 2 rfl) ?_
        refine lv_iconst (v := 1) hx hb dX1_support_51 (by decide) ?_
        refine lv_iadd hx hb dX1_support_52 ?_
        refine cd_top (y := cd_su (cd_vM L) (cd_sum x) (i + 1)) ((if_pos ⟨hc38, hc47⟩).symm) ?_
        refine lv_goto (tgt := 57) hx hb dX1_support_53 (by decide) ?_
        refine lv_istore_n (lv' := [(3, .int (cd_su (cd_vM L) (cd_sum x) (i + 1))), (0, .ref (a 0)), (2, .int (cd_sum x)), (4, .int (nI (i + 1)))]) hx hb dX1_support_57 rfl hl (by decide) rfl (fun ls hl => ?_)
        refine lv_iinc (v := nI ((i + 1) + 1)) (lv' := [(4, .int (nI ((i + 1) + 1))), (3, .int (cd_su (cd_vM L) (cd_sum x) (i + 1))), (0, .ref (a 0)), (2, .int (cd_sum x))]) hx hb dX1_support_58 hl (k := 3) rfl (nI_1 _) (by decide) rfl (fun ls hl => ?_)
        refine lv_goto (tgt := 23) hx hb dX1_support_61 (by decide) ?_
        exact ih (i + 1) (by omega) _ _ _ w (lv_sub hl [2, 3, 1, 0] rfl)
set_option maxHeartbeats 4000000 in
set_option maxRecDepth 100000 in
theorem mM_support (l : Launch) (D : va_G) (a : Nat → Nat) (dJ : ClassId) (ch : Int32) (fn ft : Nat → Int32) (x : Int32) : gMi l yX1_support cX1_support 5 (some .int) (rmv 4) [.ref (a 0), .int x] D (tyM dJ) (wM a dJ) (ch, fn, ft) (fun r u => r = cd_suM x ∧ u.1 = ch) := by
  refine gMi.of RX1 (by decide) rfl (Nat.le_of_ble_eq_true rfl) (fun p e s m below meth c A ls C w hl => ?_)
  obtain ⟨hx, hb, hr, hml, hown, hts, hA, hK, hlocks⟩ := id C
  refine lv_aload_n hx hb dX1_support_0 rfl (lv_at hl 0 rfl) ?_
  refine lv_iload_n hx hb dX1_support_1 rfl (lv_at hl 1 rfl) ?_
  refine gCalli C w (mM_sumOf l D a dJ ch fn ft x) (cwV 1 hts (lw_V q151 q153 qs6 q16 q154) rfl rfl rfl (by decide +kernel) ⟨Nat.le_of_ble_eq_true rfl, Nat.le_of_ble_eq_true rfl⟩) rfl rfl rfl hl.1 rfl (Nat.le_of_ble_eq_true rfl) dX1_support_2 ⟨Nat.zero_le _, Nat.zero_le _⟩ (fun r u H locs hq w => ?_)
  obtain ⟨rfl, rfl⟩ := hq
  refine lv_istore_n (lv' := [(2, .int (cd_sum x)), (0, .ref (a 0)), (1, .int (x))]) hx hb dX1_support_5 rfl hl (by decide) rfl (fun ls hl => ?_)
  refine lv_iload_n hx hb dX1_support_6 rfl (lv_at hl 0 rfl) ?_
  refine lv_if_ne (tgt := 13) hx hb dX1_support_7 (by decide) (fun hc7 => ?_) (fun hc7 => ?_)
  · rw [show cd_suM x = cd_su (cd_vM (cd_rims (cd_P x) 4).reverse) (cd_sum x) 4095 from if_neg hc7]
    refine lv_aload_n hx hb dX1_support_13 rfl (lv_at hl 1 rfl) ?_
    refine lv_iload_n hx hb dX1_support_14 rfl (lv_at hl 2 rfl) ?_
    refine gCallv C w (mM_cycles l D a dJ ch fn ft x) (cwV 1 hts (lw_V q172 q174 qs8 q16 q175) rfl rfl rfl (by decide +kernel) ⟨Nat.le_of_ble_eq_true rfl, Nat.le_of_ble_eq_true rfl⟩) rfl rfl rfl hl.1 rfl (Nat.le_of_ble_eq_true rfl) dX1_support_15 ⟨Nat.zero_le _, Nat.zero_le _⟩ (fun u H locs hq w => ?_)
    obtain ⟨fn, ft, rfl, hf1⟩ := hq
    refine lv_iconst (v := 0) hx hb dX1_support_18 (by decide) ?_
    refine lv_istore_n (lv' := [(3, .int (0)), (2, .int (cd_sum x)), (0, .ref (a 0)), (1, .int (x))]) hx hb dX1_support_19 rfl hl (by decide) rfl (fun ls hl => ?_)
    refine lv_iconst (v := 1) hx hb dX1_support_20 (by decide) ?_
    refine lv_istore (lv' := [(4, .int (1)), (3, .int (0)), (2, .int (cd_sum x)), (0, .ref (a 0)), (1, .int (x))]) hx hb dX1_support_21 hl (by decide) rfl (fun ls hl => ?_)
    exact lm_support C hf1 4095 0 rfl _ _ _ w (lv_sub hl [3, 2, 1, 0] rfl)
  · refine lv_ldc (v := cd_BAD) hx hb hown (hts _ q159) dX1_support_10 ?_
    exact gIret C w (⟨(if_pos hc7).symm, rfl⟩) dX1_support_12
end
section
/-! the two constructors (printed by gen_law.py) -/
set_option maxRecDepth 100000
abbrev XI : Type := (Nat → Nat) × ClassId × ClassId × XS
def bX (D : va_G) (A : Nat → Prop) (u : XI) (t : State) : Prop := va_P D vwCl (wX u.1 u.2.1 u.2.2.1 u.2.2.2) t.heap ∧ va_K D vwCl (tyX u.2.1 u.2.2.1) t ∧ va_D A (wX u.1 u.2.1 u.2.2.1 u.2.2.2)
abbrev MI : Type := (Nat → Nat) × ClassId × MS
def bM (D : va_G) (A : Nat → Prop) (u : MI) (t : State) : Prop := va_P D vwCl (wM u.1 u.2.1 u.2.2) t.heap ∧ va_K D vwCl (tyM u.2.1) t ∧ va_D A (wM u.1 u.2.1 u.2.2)
theorem cd_same {D : va_G} {cl : List vw_C} {tys : List (ClassId × FieldType)} {U : State} (h : va_K D cl tys U) (i j : Nat) {c1 c2 : ClassId} (h1 : tys[i]? = some (c1, .byte)) (h2 : tys[j]? = some (c2, .byte)) : c2 = c1 := by
  have e1 : U.vm.findClass ("[" ++ FieldType.byte.toString) = some c1 := (h.2 i _ h1).2
  have e2 : U.vm.findClass ("[" ++ FieldType.byte.toString) = some c2 := (h.2 j _ h2).2
  exact Option.some.inj (e2.symm.trans e1)
theorem cd_sameI {D : va_G} {cl : List vw_C} {tys : List (ClassId × FieldType)} {U : State} (h : va_K D cl tys U) (i j : Nat) {c1 c2 : ClassId} (h1 : tys[i]? = some (c1, .int)) (h2 : tys[j]? = some (c2, .int)) : c2 = c1 := by
  have e1 : U.vm.findClass ("[" ++ FieldType.int.toString) = some c1 := (h.2 i _ h1).2
  have e2 : U.vm.findClass ("[" ++ FieldType.int.toString) = some c2 := (h.2 j _ h2).2
  exact Option.some.inj (e2.symm.trans e1)
abbrev o0X (q : Nat) : va_W := [(q, .inr (0, [.int 0, .null, .null, .int 0, .null, .null]))]
set_option maxHeartbeats 4000000 in
set_option maxRecDepth 100000 in
theorem mX_init (l : Launch) (D : va_G) (q sz : Nat) : Met l yX0_init (ws_ yX0_init cX0_init 1 none) { frames := 1, cells := 4, slots := 4108, locals := 30 } (gPre [.ref q] D [] (o0X q) sz) (va_Qv (fun u : XI => u.1 0 = q ∧ u.2.2.2.1 = 0) (bX D (va_A (o0X q) sz)) (va_A (o0X q) sz)) 4 4108 (va_A (o0X q) sz) := by
  refine Met.ofW (cc := cX0_init) (maxL := 1) (ret := none) (by decide) rfl ?_
  intro p e s m args below meth c s₁ B hml hv
  obtain ⟨rfl, hsz, hP, hK, hD0⟩ := hv
  have hx := B.exec
  have hb := B.bytes
  have hr := B.returns
  have hts := atoms_spec (ws := ws_ yX0_init cX0_init 1 none) B.pre
  have hts : ∀ w ∈ lw_all, w.before _ s = true := fun w h => hts w (List.mem_cons_of_mem _ h)
  have hown : s.vm.findClass RX0 = some m.cls := findClass_of_methodNamed B.named
  have hlocks := B.notSynchronized
  have hin : meth.name = "<init>" := (name_of_methodNamed B.named B.method).1
  subst hsz
  have hD := hD0.self (sz := s.heap.size)
  generalize hAe : va_A (o0X q) s.heap.size = A at hD ⊢
  have hA : ∀ q : Nat, s.heap.size ≤ q → A q := fun q h => by rw [← hAe]; exact Or.inr h
  have hS : va_S A s.heap s.heap [] := va_S.rf
  have hl := lv_entry ([.ref q]) (n := 1) (Nat.le_of_ble_eq_true rfl)
  rw [lg_entry_eq]
  generalize (lg_sl ([.ref q]) ++ List.replicate (1 - (lg_sl ([.ref q])).length) Slot.unset).toArray = ls at hl ⊢
  have hl : lv_has ls 1 [(0, .ref q)] := hl
  refine lv_aload_n hx hb dX0_init_0 rfl (lv_at hl 0 rfl) ?_
  refine W.objInit hx hb hown (hts _ q22) (hts _ q23) (hts _ q24) rfl (by rw [hml]; exact hl.1) rfl dX0_init_1 (Nat.le_of_ble_eq_true rfl) (Nat.le_of_ble_eq_true rfl) ?_
  refine W.eq (g2 := F0 m 4 ls []) rfl ?_
  refine lv_aload_n hx hb dX0_init_4 rfl (lv_at hl 0 rfl) ?_
  refine lv_iconst (v := 4) hx hb dX0_init_5 (by decide) ?_
  refine va_newa (atype := .byte) (ty := .byte) (a0 := (4, .inl (fun _ => 0))) (N' := 4) hx hb (hts _ q44) rfl hK hP hD hS hA (fun _ => rfl) (by decide) (by decide) (by decide) (Nat.le_of_ble_eq_true rfl) (Nat.le_of_ble_eq_true rfl) dX0_init_6 (fun q1 d1 H hK hP hD hS => ?_)
  have hP : va_P D vwCl [(q, .inr (0, [.int 0, .null, .null, .int 0, .null, .null])), (q1, .inl (d1, 4, .inl (fun _ => 0)))] H := hP
  have hD : va_D A [(q, .inr (0, [.int 0, .null, .null, .int 0, .null, .null])), (q1, .inl (d1, 4, .inl (fun _ => 0)))] := hD
  have hK : va_K D vwCl [(d1, .byte)] s := hK
  refine W.widen (k := 1) (n := 4) (by decide) (by decide) ?_
  refine va_putF (D := D) (ci := 0) (v := .ref q1) (ty := .array .byte) (C := RX0) (T := TX0) (N := 6) hx hb hts in_X0 tyX0 tyX0_ok nmX0 hown hK hP hD hS 0 rfl rfl 1 (by decide) (hts _ q26) (fun _ h9 => h9) rfl hin rfl (by decide +kernel) rfl rfl (Nat.le_of_ble_eq_true rfl) dX0_init_8 (fun H locs hP hD hS => ?_)
  have hP : va_P D vwCl [(q, .inr (0, [.int 0, .ref q1, .null, .int 0, .null, .null])), (q1, .inl (d1, 4, .inl (fun _ => 0)))] H := hP
  have hD : va_D A [(q, .inr (0, [.int 0, .ref q1, .null, .int 0, .null, .null])), (q1, .inl (d1, 4, .inl (fun _ => 0)))] := hD
  refine lv_aload_n hx hb dX0_init_11 rfl (lv_at hl 0 rfl) ?_
  refine lv_bipush (v := 8) hx hb dX0_init_12 (by decide) ?_
  refine va_newa (atype := .byte) (ty := .byte) (a0 := (8, .inl (fun _ => 0))) (N' := 8) hx hb (hts _ q44) rfl hK hP hD hS hA (fun _ => rfl) (by decide) (by decide) (by decide) (Nat.le_of_ble_eq_true rfl) (Nat.le_of_ble_eq_true rfl) dX0_init_14 (fun q2 d2 H hK hP hD hS => ?_)
  have hP : va_P D vwCl [(q, .inr (0, [.int 0, .ref q1, .null, .int 0, .null, .null])), (q1, .inl (d1, 4, .inl (fun _ => 0))), (q2, .inl (d2, 8, .inl (fun _ => 0)))] H := hP
  have hD : va_D A [(q, .inr (0, [.int 0, .ref q1, .null, .int 0, .null, .null])), (q1, .inl (d1, 4, .inl (fun _ => 0))), (q2, .inl (d2, 8, .inl (fun _ => 0)))] := hD
  have hK : va_K D vwCl [(d1, .byte), (d2, .byte)] s := hK
  refine W.widen (k := 2) (n := 12) (by decide) (by decide) ?_
  refine va_putF (D := D) (ci := 0) (v := .ref q2) (ty := .array .byte) (C := RX0) (T := TX0) (N := 6) hx hb hts in_X0 tyX0 tyX0_ok nmX0 hown hK hP hD hS 0 rfl rfl 2 (by decide) (hts _ q27) (fun _ h9 => h9) rfl hin rfl (by decide +kernel) rfl rfl (Nat.le_of_ble_eq_true rfl) dX0_init_16 (fun H locs hP hD hS => ?_)
  have hP : va_P D vwCl [(q, .inr (0, [.int 0, .ref q1, .ref q2, .int 0, .null, .null])), (q1, .inl (d1, 4, .inl (fun _ => 0))), (q2, .inl (d2, 8, .inl (fun _ => 0)))] H := hP
  have hD : va_D A [(q, .inr (0, [.int 0, .ref q1, .ref q2, .int 0, .null, .null])), (q1, .inl (d1, 4, .inl (fun _ => 0))), (q2, .inl (d2, 8, .inl (fun _ => 0)))] := hD
  refine lv_aload_n hx hb dX0_init_19 rfl (lv_at hl 0 rfl) ?_
  refine lv_sipush (v := 2048) hx hb dX0_init_20 (by decide) ?_
  refine va_newa (atype := .int) (ty := .int) (a0 := (2048, .inl (fun _ => 0))) (N' := 2048) hx hb (hts _ q45) rfl hK hP hD hS hA (fun _ => rfl) (by decide) (by decide) (by decide) (Nat.le_of_ble_eq_true rfl) (Nat.le_of_ble_eq_true rfl) dX0_init_23 (fun q3 d3 H hK hP hD hS => ?_)
  have hP : va_P D vwCl [(q, .inr (0, [.int 0, .ref q1, .ref q2, .int 0, .null, .null])), (q1, .inl (d1, 4, .inl (fun _ => 0))), (q2, .inl (d2, 8, .inl (fun _ => 0))), (q3, .inl (d3, 2048, .inl (fun _ => 0)))] H := hP
  have hD : va_D A [(q, .inr (0, [.int 0, .ref q1, .ref q2, .int 0, .null, .null])), (q1, .inl (d1, 4, .inl (fun _ => 0))), (q2, .inl (d2, 8, .inl (fun _ => 0))), (q3, .inl (d3, 2048, .inl (fun _ => 0)))] := hD
  have hK : va_K D vwCl [(d1, .byte), (d2, .byte), (d3, .int)] s := hK
  refine W.widen (k := 3) (n := 2060) (by decide) (by decide) ?_
  refine va_putF (D := D) (ci := 0) (v := .ref q3) (ty := .array .int) (C := RX0) (T := TX0) (N := 6) hx hb hts in_X0 tyX0 tyX0_ok nmX0 hown hK hP hD hS 0 rfl rfl 4 (by decide) (hts _ q29) (fun _ h9 => h9) rfl hin rfl (by decide +kernel) rfl rfl (Nat.le_of_ble_eq_true rfl) dX0_init_25 (fun H locs hP hD hS => ?_)
  have hP : va_P D vwCl [(q, .inr (0, [.int 0, .ref q1, .ref q2, .int 0, .ref q3, .null])), (q1, .inl (d1, 4, .inl (fun _ => 0))), (q2, .inl (d2, 8, .inl (fun _ => 0))), (q3, .inl (d3, 2048, .inl (fun _ => 0)))] H := hP
  have hD : va_D A [(q, .inr (0, [.int 0, .ref q1, .ref q2, .int 0, .ref q3, .null])), (q1, .inl (d1, 4, .inl (fun _ => 0))), (q2, .inl (d2, 8, .inl (fun _ => 0))), (q3, .inl (d3, 2048, .inl (fun _ => 0)))] := hD
  refine lv_aload_n hx hb dX0_init_28 rfl (lv_at hl 0 rfl) ?_
  refine lv_sipush (v := 2048) hx hb dX0_init_29 (by decide) ?_
  refine va_newa (atype := .int) (ty := .int) (a0 := (2048, .inl (fun _ => 0))) (N' := 2048) hx hb (hts _ q45) rfl hK hP hD hS hA (fun _ => rfl) (by decide) (by decide) (by decide) (Nat.le_of_ble_eq_true rfl) (Nat.le_of_ble_eq_true rfl) dX0_init_32 (fun q4 d4 H hK hP hD hS => ?_)
  have hP : va_P D vwCl [(q, .inr (0, [.int 0, .ref q1, .ref q2, .int 0, .ref q3, .null])), (q1, .inl (d1, 4, .inl (fun _ => 0))), (q2, .inl (d2, 8, .inl (fun _ => 0))), (q3, .inl (d3, 2048, .inl (fun _ => 0))), (q4, .inl (d4, 2048, .inl (fun _ => 0)))] H := hP
  have hD : va_D A [(q, .inr (0, [.int 0, .ref q1, .ref q2, .int 0, .ref q3, .null])), (q1, .inl (d1, 4, .inl (fun _ => 0))), (q2, .inl (d2, 8, .inl (fun _ => 0))), (q3, .inl (d3, 2048, .inl (fun _ => 0))), (q4, .inl (d4, 2048, .inl (fun _ => 0)))] := hD
  have hK : va_K D vwCl [(d1, .byte), (d2, .byte), (d3, .int), (d4, .int)] s := hK
  refine W.widen (k := 4) (n := 4108) (by decide) (by decide) ?_
  refine va_putF (D := D) (ci := 0) (v := .ref q4) (ty := .array .int) (C := RX0) (T := TX0) (N := 6) hx hb hts in_X0 tyX0 tyX0_ok nmX0 hown hK hP hD hS 0 rfl rfl 5 (by decide) (hts _ q30) (fun _ h9 => h9) rfl hin rfl (by decide +kernel) rfl rfl (Nat.le_of_ble_eq_true rfl) dX0_init_34 (fun H locs hP hD hS => ?_)
  have hP : va_P D vwCl [(q, .inr (0, [.int 0, .ref q1, .ref q2, .int 0, .ref q3, .ref q4])), (q1, .inl (d1, 4, .inl (fun _ => 0))), (q2, .inl (d2, 8, .inl (fun _ => 0))), (q3, .inl (d3, 2048, .inl (fun _ => 0))), (q4, .inl (d4, 2048, .inl (fun _ => 0)))] H := hP
  have hD : va_D A [(q, .inr (0, [.int 0, .ref q1, .ref q2, .int 0, .ref q3, .ref q4])), (q1, .inl (d1, 4, .inl (fun _ => 0))), (q2, .inl (d2, 8, .inl (fun _ => 0))), (q3, .inl (d3, 2048, .inl (fun _ => 0))), (q4, .inl (d4, 2048, .inl (fun _ => 0)))] := hD
  obtain rfl : d2 = d1 := cd_same hK 0 1 rfl rfl
  obtain rfl : d4 = d3 := cd_sameI hK 2 3 rfl rfl
  exact W.vret hx hb hr (fun t ht hW => ⟨⟨(fun k => match k with | 0 => q | 1 => q1 | 2 => q2 | 3 => q3 | _ => q4, d2, d4, (0, fun _ => 0, fun _ => 0, 0, fun _ => 0, fun _ => 0)), rfl, ⟨rfl, rfl⟩, by rw [ht]; exact hP, va_K.moved hW.alike (hK.sub [0, 2] rfl), hD⟩, hS.F ht⟩) hS.2.2 dX0_init_37 hlocks
abbrev o0M (q : Nat) : va_W := [(q, .inr (1, [.int 0, .null, .null]))]
set_option maxHeartbeats 4000000 in
set_option maxRecDepth 100000 in
theorem mM_init (l : Launch) (D : va_G) (q sz : Nat) : Met l yX1_init (ws_ yX1_init cX1_init 1 none) { frames := 1, cells := 2, slots := 5488, locals := 30 } (gPre [.ref q] D [] (o0M q) sz) (va_Qv (fun u : MI => u.1 0 = q ∧ u.2.2.1 = 0) (bM D (va_A (o0M q) sz)) (va_A (o0M q) sz)) 2 5488 (va_A (o0M q) sz) := by
  refine Met.ofW (cc := cX1_init) (maxL := 1) (ret := none) (by decide) rfl ?_
  intro p e s m args below meth c s₁ B hml hv
  obtain ⟨rfl, hsz, hP, hK, hD0⟩ := hv
  have hx := B.exec
  have hb := B.bytes
  have hr := B.returns
  have hts := atoms_spec (ws := ws_ yX1_init cX1_init 1 none) B.pre
  have hts : ∀ w ∈ lw_all, w.before _ s = true := fun w h => hts w (List.mem_cons_of_mem _ h)
  have hown : s.vm.findClass RX1 = some m.cls := findClass_of_methodNamed B.named
  have hlocks := B.notSynchronized
  have hin : meth.name = "<init>" := (name_of_methodNamed B.named B.method).1
  subst hsz
  have hD := hD0.self (sz := s.heap.size)
  generalize hAe : va_A (o0M q) s.heap.size = A at hD ⊢
  have hA : ∀ q : Nat, s.heap.size ≤ q → A q := fun q h => by rw [← hAe]; exact Or.inr h
  have hS : va_S A s.heap s.heap [] := va_S.rf
  have hl := lv_entry ([.ref q]) (n := 1) (Nat.le_of_ble_eq_true rfl)
  rw [lg_entry_eq]
  generalize (lg_sl ([.ref q]) ++ List.replicate (1 - (lg_sl ([.ref q])).length) Slot.unset).toArray = ls at hl ⊢
  have hl : lv_has ls 1 [(0, .ref q)] := hl
  refine lv_aload_n hx hb dX1_init_0 rfl (lv_at hl 0 rfl) ?_
  refine W.objInit hx hb hown (hts _ q136) (hts _ q23) (hts _ q24) rfl (by rw [hml]; exact hl.1) rfl dX1_init_1 (Nat.le_of_ble_eq_true rfl) (Nat.le_of_ble_eq_true rfl) ?_
  refine W.eq (g2 := F0 m 4 ls []) rfl ?_
  refine lv_aload_n hx hb dX1_init_4 rfl (lv_at hl 0 rfl) ?_
  refine lv_sipush (v := 2744) hx hb dX1_init_5 (by decide) ?_
  refine va_newa (atype := .int) (ty := .int) (a0 := (2744, .inl (fun _ => 0))) (N' := 2744) hx hb (hts _ q45) rfl hK hP hD hS hA (fun _ => rfl) (by decide) (by decide) (by decide) (Nat.le_of_ble_eq_true rfl) (Nat.le_of_ble_eq_true rfl) dX1_init_8 (fun q1 d1 H hK hP hD hS => ?_)
  have hP : va_P D vwCl [(q, .inr (1, [.int 0, .null, .null])), (q1, .inl (d1, 2744, .inl (fun _ => 0)))] H := hP
  have hD : va_D A [(q, .inr (1, [.int 0, .null, .null])), (q1, .inl (d1, 2744, .inl (fun _ => 0)))] := hD
  have hK : va_K D vwCl [(d1, .int)] s := hK
  refine W.widen (k := 1) (n := 2744) (by decide) (by decide) ?_
  refine va_put (D := D) (ci := 1) (v := .ref q1) (ty := .array .int) (C := RX1) (T := TX1) (N := 3) hx hb hts in_X1 tyX1 tyX1_ok nmX1 hown hK hP hD hS 0 rfl rfl 1 (by decide) (hts _ q138) (fun _ h9 => h9) rfl (by decide +kernel) rfl rfl (Nat.le_of_ble_eq_true rfl) dX1_init_10 (fun H locs hP hD hS => ?_)
  have hP : va_P D vwCl [(q, .inr (1, [.int 0, .ref q1, .null])), (q1, .inl (d1, 2744, .inl (fun _ => 0)))] H := hP
  have hD : va_D A [(q, .inr (1, [.int 0, .ref q1, .null])), (q1, .inl (d1, 2744, .inl (fun _ => 0)))] := hD
  refine lv_aload_n hx hb dX1_init_13 rfl (lv_at hl 0 rfl) ?_
  refine lv_sipush (v := 2744) hx hb dX1_init_14 (by decide) ?_
  refine va_newa (atype := .int) (ty := .int) (a0 := (2744, .inl (fun _ => 0))) (N' := 2744) hx hb (hts _ q45) rfl hK hP hD hS hA (fun _ => rfl) (by decide) (by decide) (by decide) (Nat.le_of_ble_eq_true rfl) (Nat.le_of_ble_eq_true rfl) dX1_init_17 (fun q2 d2 H hK hP hD hS => ?_)
  have hP : va_P D vwCl [(q, .inr (1, [.int 0, .ref q1, .null])), (q1, .inl (d1, 2744, .inl (fun _ => 0))), (q2, .inl (d2, 2744, .inl (fun _ => 0)))] H := hP
  have hD : va_D A [(q, .inr (1, [.int 0, .ref q1, .null])), (q1, .inl (d1, 2744, .inl (fun _ => 0))), (q2, .inl (d2, 2744, .inl (fun _ => 0)))] := hD
  have hK : va_K D vwCl [(d1, .int), (d2, .int)] s := hK
  refine W.widen (k := 2) (n := 5488) (by decide) (by decide) ?_
  refine va_put (D := D) (ci := 1) (v := .ref q2) (ty := .array .int) (C := RX1) (T := TX1) (N := 3) hx hb hts in_X1 tyX1 tyX1_ok nmX1 hown hK hP hD hS 0 rfl rfl 2 (by decide) (hts _ q139) (fun _ h9 => h9) rfl (by decide +kernel) rfl rfl (Nat.le_of_ble_eq_true rfl) dX1_init_19 (fun H locs hP hD hS => ?_)
  have hP : va_P D vwCl [(q, .inr (1, [.int 0, .ref q1, .ref q2])), (q1, .inl (d1, 2744, .inl (fun _ => 0))), (q2, .inl (d2, 2744, .inl (fun _ => 0)))] H := hP
  have hD : va_D A [(q, .inr (1, [.int 0, .ref q1, .ref q2])), (q1, .inl (d1, 2744, .inl (fun _ => 0))), (q2, .inl (d2, 2744, .inl (fun _ => 0)))] := hD
  obtain rfl : d2 = d1 := cd_sameI hK 0 1 rfl rfl
  exact W.vret hx hb hr (fun t ht hW => ⟨⟨(fun k => match k with | 0 => q | 1 => q1 | _ => q2, d2, (0, fun _ => 0, fun _ => 0)), rfl, ⟨rfl, rfl⟩, by rw [ht]; exact hP, va_K.moved hW.alike (hK.sub [0] rfl), hD⟩, hS.F ht⟩) hS.2.2 dX1_init_22 hlocks
end
section
/-! the plain law: what the two classes answer is the same (tables printed by gen_pure.py) -/
set_option maxRecDepth 100000
def cd_M : Nat := 4294967296
theorem cd_nI_mod (a : Nat) : nI a = nI (a % cd_M) := by
  apply Int32.toBitVec_inj.1
  show BitVec.ofNat 32 a = BitVec.ofNat 32 (a % 4294967296)
  apply BitVec.eq_of_toNat_eq
  simp [BitVec.toNat_ofNat]
theorem cd_nI_m {a b : Nat} (h : a % cd_M = b % cd_M) : nI a = nI b := by rw [cd_nI_mod a, cd_nI_mod b, h]
theorem cd_neg (a : Nat) : -nI a = nI (a * 4294967295) := by
  rw [← pk_mul, show nI 4294967295 = -1 from by decide]
  grind
/-- f holds on all numbers of d bits behind the bits o -/
def cd_all (f : Nat → Bool) : Nat → Nat → Bool
  | 0, q => f q
  | d + 1, q => cd_all f d (2 * q) && cd_all f d (2 * q + 1)
theorem cd_all_at {f : Nat → Bool} : ∀ (d q : Nat), cd_all f d q = true → ∀ j, j < 2 ^ d → f (q * 2 ^ d + j) = true := by
  intro d
  induction d with
  | zero =>
    intro q h j hj
    obtain rfl : j = 0 := by omega
    rw [Nat.pow_zero, Nat.mul_one]
    exact h
  | succ d ih =>
    intro q h j hj
    have h' : cd_all f d (2 * q) = true ∧ cd_all f d (2 * q + 1) = true := by
      have h2 : (cd_all f d (2 * q) && cd_all f d (2 * q + 1)) = true := h
      exact Bool.and_eq_true_iff.mp h2
    have e : 2 ^ (d + 1) = 2 * 2 ^ d := by rw [Nat.pow_succ, Nat.mul_comm]
    rcases Nat.lt_or_ge j (2 ^ d) with h1 | h1
    · have h3 := ih (2 * q) h'.1 j h1
      rw [show q * 2 ^ (d + 1) + j = 2 * q * 2 ^ d + j by rw [e, ← Nat.mul_assoc, Nat.mul_comm q 2]]
      exact h3
    · have h3 := ih (2 * q + 1) h'.2 (j - 2 ^ d) (by omega)
      rw [show q * 2 ^ (d + 1) + j = (2 * q + 1) * 2 ^ d + (j - 2 ^ d) by
        rw [e, Nat.add_mul, Nat.one_mul, ← Nat.mul_assoc, Nat.mul_comm q 2]; omega]
      exact h3
theorem cd_all_12 {f : Nat → Bool} (h : cd_all f 12 0 = true) {j : Nat} (hj : j < 4096) : f j = true := by
  have h1 := cd_all_at 12 0 h j hj
  rw [Nat.zero_mul, Nat.zero_add] at h1
  exact h1
/-! the polynomials in Nat -/
def cd_tmN (p w x y z : Nat) (f : Nat → Nat) (c : Nat) : Nat :=
  (if p ≤ c then w * f (c - p) else 0) + (if 14 * p ≤ c then x * f (c - 14 * p) else 0) + (if 196 * p ≤ c then y * f (c - 196 * p) else 0) + z * f c
theorem cd_ifN {q : Prop} [Decidable q] {a : Int32} {b : Nat} (h : q → a = nI b) : (if q then a else 0) = nI (if q then b else 0) := by
  by_cases hq : q
  · rw [if_pos hq, if_pos hq]; exact h hq
  · rw [if_neg hq, if_neg hq]; rfl
theorem cd_tm_N {p w x y z N c : Nat} {w1 x1 y1 z1 : Int32} {f : Nat → Int32} {g : Nat → Nat} (hw : w1 = nI w) (hx : x1 = nI x) (hy : y1 = nI y) (hz : z1 = nI z) (h : ∀ j, j < N → f j = nI (g j)) (hc : c < N) : cd_tm p w1 x1 y1 z1 f c = nI (cd_tmN p w x y z g c) := by
  subst hw hx hy hz
  unfold cd_tm cd_tmN
  rw [cd_ifN (b := w * g (c - p)) (fun _ => by rw [h _ (by omega), pk_mul]), cd_ifN (b := x * g (c - 14 * p)) (fun _ => by rw [h _ (by omega), pk_mul]), cd_ifN (b := y * g (c - 196 * p)) (fun _ => by rw [h _ (by omega), pk_mul]), h c hc, pk_mul, nI_add, nI_add, nI_add]
/-- +1 on the places of a, -1 on those of b -/
def cd_sg (a b c : Nat) : Nat := (a >>> c) % 2 + ((b >>> c) % 2) * 4294967295
def cd_g0 : Nat → Nat := cd_sg 1 0
def cd_g1 : Nat → Nat := cd_sg 2 16384
def cd_g2 : Nat → Nat := cd_sg 1645504557321206042154969182557350504982735865633579863348609028 200867255532373784442745261542645325315275374222849104445440
def cd_g3 : Nat → Nat := cd_sg 3291209981897944458094381110376243655290787006641382575801663496 1645906291832270789723854673080435795633366416382025561557499908
def cd_g4 : Nat → Nat := cd_sg 165304339851907257684692200745255307017637572394083261492470071607083186082253448659493175251138762841145882401223880081408 330548158222296853449314340884916793444470542308647087977978334634045531351864832342428326168398589184245768378543817949184
def cd_g5 : Nat → Nat := cd_sg 2708346324307475682459970373697131481450504254305486662770965307147447763407374211996566017035606031336094587424018082318843904 5415535800669568429871774895605205613581308800415785832083047180318171865959417510874092594513073766315100019390450624406618112
def cd_g6 : Nat → Nat := cd_sg 272009046597417499284077703304319647964117656183752235594368152229096991619514642409486905324096345907083076870480120217460387519557163287027425381418447521906312606659366422316065095680 543901906758906330765317059188455943416006963873001682822448281726606268095710863166382755055310838320616507252829467928570300613167250054810576326258800670861300579181506797551772303360
theorem cd_step {p w x y z : Nat} {w1 x1 y1 z1 : Int32} {f : Nat → Int32} {g g' : Nat → Nat} (hw : w1 = nI w) (hx : x1 = nI x) (hy : y1 = nI y) (hz : z1 = nI z) (hk : cd_all (fun c => Nat.ble 2744 c || Nat.beq (cd_tmN p w x y z g c % cd_M) (g' c)) 12 0 = true) (h : ∀ j, j < 2744 → f j = nI (g j)) : ∀ c, c < 2744 → cd_tm p w1 x1 y1 z1 f c = nI (g' c) := by
  intro c hc
  rw [cd_tm_N hw hx hy hz h hc, cd_nI_mod]
  have h1 := cd_all_12 hk (j := c) (by omega)
  rw [Bool.or_eq_true] at h1
  rcases h1 with h2 | h2
  · exact absurd (Nat.le_of_ble_eq_true h2) (by omega)
  · rw [Nat.eq_of_beq_eq_true h2]
theorem cd_g0_ok : ∀ j, j < 2744 → cd_d0 j = nI (cd_g0 j) := by
  intro j hj
  unfold cd_d0
  by_cases h : j = 0
  · subst h; decide
  · rw [if_neg h]
    obtain ⟨k, rfl⟩ : ∃ k, j = k + 1 := ⟨j - 1, by omega⟩
    have e : cd_g0 (k + 1) = 0 := by
      show (1 >>> (k + 1)) % 2 + (0 >>> (k + 1)) % 2 * 4294967295 = 0
      rw [Nat.zero_shiftRight, Nat.shiftRight_eq_div_pow, Nat.div_eq_of_lt (Nat.one_lt_two_pow (by omega))]
    rw [e]
    rfl
theorem cd_k1 : cd_all (fun c => Nat.ble 2744 c || Nat.beq (cd_tmN 1 1 4294967295 0 0 cd_g0 c % cd_M) (cd_g1 c)) 12 0 = true := by decide +kernel
theorem cd_g1_ok : ∀ j, j < 2744 → cd_b1 j = nI (cd_g1 j) := cd_step (by decide) (by decide) (by decide) (by decide) cd_k1 cd_g0_ok
theorem cd_k2 : cd_all (fun c => Nat.ble 2744 c || Nat.beq (cd_tmN 1 1 0 4294967295 0 cd_g1 c % cd_M) (cd_g2 c)) 12 0 = true := by decide +kernel
theorem cd_g2_ok : ∀ j, j < 2744 → cd_b2 j = nI (cd_g2 j) := cd_step (by decide) (by decide) (by decide) (by decide) cd_k2 cd_g1_ok
theorem cd_k3 : cd_all (fun c => Nat.ble 2744 c || Nat.beq (cd_tmN 1 1 0 0 4294967295 cd_g2 c % cd_M) (cd_g3 c)) 12 0 = true := by decide +kernel
theorem cd_g3_ok : ∀ j, j < 2744 → cd_b3 j = nI (cd_g3 j) := cd_step (by decide) (by decide) (by decide) (by decide) cd_k3 cd_g2_ok
theorem cd_k4 : cd_all (fun c => Nat.ble 2744 c || Nat.beq (cd_tmN 1 0 1 4294967295 0 cd_g3 c % cd_M) (cd_g4 c)) 12 0 = true := by decide +kernel
theorem cd_g4_ok : ∀ j, j < 2744 → cd_b4 j = nI (cd_g4 j) := cd_step (by decide) (by decide) (by decide) (by decide) cd_k4 cd_g3_ok
theorem cd_k5 : cd_all (fun c => Nat.ble 2744 c || Nat.beq (cd_tmN 1 0 1 0 4294967295 cd_g4 c % cd_M) (cd_g5 c)) 12 0 = true := by decide +kernel
theorem cd_g5_ok : ∀ j, j < 2744 → cd_b5 j = nI (cd_g5 j) := cd_step (by decide) (by decide) (by decide) (by decide) cd_k5 cd_g4_ok
theorem cd_k6 : cd_all (fun c => Nat.ble 2744 c || Nat.beq (cd_tmN 1 0 0 1 4294967295 cd_g5 c % cd_M) (cd_g6 c)) 12 0 = true := by decide +kernel
theorem cd_g6_ok : ∀ j, j < 2744 → cd_b6 j = nI (cd_g6 j) := cd_step (by decide) (by decide) (by decide) (by decide) cd_k6 cd_g5_ok
def cd_poN : List Nat → Nat → Nat
  | [] => cd_g6
  | p :: ps => fun c => (if p ≤ c then cd_poN ps (c - p) else 0) + (if 14 * p ≤ c then cd_poN ps (c - 14 * p) else 0) + (if 196 * p ≤ c then cd_poN ps (c - 196 * p) else 0) + cd_poN ps c
theorem cd_po_N : ∀ (L : List Nat) (c : Nat), c < 2744 → cd_po L c = nI (cd_poN L c) := by
  intro L
  induction L with
  | nil => exact cd_g6_ok
  | cons p ps ih =>
    intro c hc
    show cd_tm p 1 1 1 1 (cd_po ps) c = _
    rw [cd_tm_N (w1 := 1) (x1 := 1) (y1 := 1) (z1 := 1) (w := 1) (x := 1) (y := 1) (z := 1) rfl rfl rfl rfl ih hc]
    unfold cd_tmN
    simp only [Nat.one_mul]
    rfl
def cd_mvN (g : Nat → Nat) (set len : Nat) : Nat → Nat
  | 0 => 0
  | k + 1 => cd_mvN g set len k + (if cd_bit set (len + k) = 1 ∧ cd_bit set k = 0 then (if cd_btw set k (len - 1) % 2 = 0 then g (cd_nx set (len + k) k) else g (cd_nx set (len + k) k) * 4294967295) else 0)
def cd_SN : List Nat → Nat → Nat
  | [], set => if set = 15 then 1 else 0
  | r :: rs, set => cd_mvN (cd_SN rs) set r (11 - r)
theorem cd_mv_N {g : Nat → Int32} {f : Nat → Nat} (h : ∀ j, g j = nI (f j)) (set len : Nat) : ∀ k, cd_mv g set len k = nI (cd_mvN f set len k) := by
  intro k
  induction k with
  | zero => rfl
  | succ k ih =>
    show cd_mv g set len k + (if cd_bit set (len + k) = 1 ∧ cd_bit set k = 0 then (if cd_btw set k (len - 1) % 2 = 0 then g (cd_nx set (len + k) k) else - g (cd_nx set (len + k) k)) else 0) = nI (cd_mvN f set len k + (if cd_bit set (len + k) = 1 ∧ cd_bit set k = 0 then (if cd_btw set k (len - 1) % 2 = 0 then f (cd_nx set (len + k) k) else f (cd_nx set (len + k) k) * 4294967295) else 0))
    rw [ih, ← nI_add]
    congr 1
    refine cd_ifN (fun _ => ?_)
    by_cases hb : cd_btw set k (len - 1) % 2 = 0
    · rw [if_pos hb, if_pos hb]; exact h _
    · rw [if_neg hb, if_neg hb, h, cd_neg]
theorem cd_S_N : ∀ (L : List Nat) (set : Nat), cd_S L set = nI (cd_SN L set) := by
  intro L
  induction L with
  | nil =>
    intro set
    show (if set = 15 then (1 : Int32) else 0) = nI (if set = 15 then 1 else 0)
    exact cd_ifN (fun _ => rfl)
  | cons r rs ih =>
    intro set
    exact cd_mv_N ih set r (11 - r)
/-! the partitions: code, parts, marks, place, number -/
abbrev cd_E : Type := Nat × List Nat × Nat × Nat × Nat
def cd_V : List cd_E := [(1, [1], 23, 228, 1), (2, [2], 39, 229, 2), (3, [3], 71, 230, 3), (4, [4], 135, 231, 4), (5, [5], 263, 232, 5), (6, [6], 519, 233, 6), (7, [7], 1031, 234, 7), (9, [1, 1], 27, 242, 2), (10, [2, 1], 43, 243, 3), (11, [3, 1], 75, 244, 4), (12, [4, 1], 139, 245, 5), (13, [5, 1], 267, 246, 6), (14, [6, 1], 523, 247, 7), (18, [2, 2], 51, 257, 4), (19, [3, 2], 83, 258, 5), (20, [4, 2], 147, 259, 6), (21, [5, 2], 275, 260, 7), (27, [3, 3], 99, 272, 6), (28, [4, 3], 163, 273, 7), (73, [1, 1, 1], 29, 438, 3), (74, [2, 1, 1], 45, 439, 4), (75, [3, 1, 1], 77, 440, 5), (76, [4, 1, 1], 141, 441, 6), (77, [5, 1, 1], 269, 442, 7), (82, [2, 2, 1], 53, 453, 5), (83, [3, 2, 1], 85, 454, 6), (84, [4, 2, 1], 149, 455, 7), (91, [3, 3, 1], 101, 468, 7), (146, [2, 2, 2], 57, 649, 6), (147, [3, 2, 2], 89, 650, 7), (585, [1, 1, 1, 1], 30, 438, 4), (586, [2, 1, 1, 1], 46, 439, 5), (587, [3, 1, 1, 1], 78, 440, 6), (588, [4, 1, 1, 1], 142, 441, 7), (594, [2, 2, 1, 1], 54, 453, 6), (595, [3, 2, 1, 1], 86, 454, 7), (658, [2, 2, 2, 1], 58, 649, 7)]
theorem cd_kA : cd_all (fun k => decide (cd_sum (nI k) = 0) || cd_V.any (fun v => Nat.beq v.1 k)) 12 0 = true := by decide +kernel
theorem cd_kB : cd_V.all (fun v => decide (cd_sum (nI v.1) = nI v.2.2.2.2 ∧ v.2.2.2.2 ≤ 7 ∧ cd_rims (cd_P (nI v.1)) 4 = v.2.1 ∧ cd_mk (cd_P (nI v.1)) 4 = v.2.2.1 ∧ cd_ix (nI v.1) = v.2.2.2.1)) = true := by decide +kernel
def cd_eqv (L : List Nat) (R : List Nat) (v : cd_E) : Bool := Nat.beq (cd_SN L v.2.2.1 % cd_M) (cd_poN R v.2.2.2.1 % cd_M)
theorem cd_kC : cd_V.all (fun w => cd_V.all (fun v => !(Nat.beq v.2.2.2.2 w.2.2.2.2) || cd_eqv w.2.1 w.2.1.reverse v)) = true := by decide +kernel
theorem cd_kD : cd_V.all (fun v => cd_eqv (List.replicate v.2.2.2.2 1) (List.replicate v.2.2.2.2 1) v) = true := by decide +kernel
theorem cd_kP : cd_V.all (fun v => decide (cd_prX (nI v.1) = cd_prM (nI v.1))) = true := by decide +kernel
end
section
/-! the plain law, second half: the answers are the same (printed by gen_pure.py) -/
set_option maxRecDepth 100000
theorem cd_sum_in {x : Int32} (h : ¬ cd_sum x = 0) : ¬ x < 0 ∧ x ≤ 4095 := by
  refine ⟨fun h1 => h ?_, Classical.byContradiction (fun h1 => h ?_)⟩
  · unfold cd_sum; rw [if_pos (Or.inl h1)]
  · unfold cd_sum; rw [if_pos (Or.inr (Int32.not_le.mp h1))]
theorem cd_V_of {x : Int32} (h : ¬ cd_sum x = 0) : ∃ v ∈ cd_V, x = nI v.1 := by
  have hx := cd_sum_in h
  obtain ⟨j, hj, e⟩ := nI_of2 (x := x) (M := 4095) (n := 4095) (by decide) hx.1 hx.2
  have h1 := cd_all_12 cd_kA (j := j) (by omega)
  rw [Bool.or_eq_true] at h1
  rcases h1 with h2 | h2
  · exact absurd (by rw [e]; exact of_decide_eq_true h2) h
  · obtain ⟨v, hv, h3⟩ := List.any_eq_true.mp h2
    exact ⟨v, hv, by rw [e, Nat.eq_of_beq_eq_true h3]⟩
theorem cd_core {s m : Int32} (hm : ¬ cd_sum m = 0) (he : cd_sum s = cd_sum m) : cd_S (cd_rims (cd_P m) 4) (cd_mk (cd_P s) 4) = cd_po (cd_rims (cd_P m) 4).reverse (cd_ix s) := by
  obtain ⟨w, hw, rfl⟩ := cd_V_of hm
  obtain ⟨v, hv, rfl⟩ := cd_V_of (x := s) (by rw [he]; exact hm)
  obtain ⟨w1, w2, w3, w4, w5⟩ := of_decide_eq_true (List.all_eq_true.mp cd_kB w hw)
  obtain ⟨v1, v2, v3, v4, v5⟩ := of_decide_eq_true (List.all_eq_true.mp cd_kB v hv)
  have h1 := List.all_eq_true.mp (List.all_eq_true.mp cd_kC w hw) v hv
  have hn : v.2.2.2.2 = w.2.2.2.2 := by
    rw [v1, w1] at he
    exact (nI_eq (by omega) (by omega)).mp he
  rw [hn, Bool.or_eq_true] at h1
  rcases h1 with h2 | h2
  · rw [Nat.beq_refl] at h2
    exact absurd h2 (by decide)
  · have hx := cd_ix_lt (nI v.1)
    rw [w3, v4, cd_S_N, cd_po_N _ _ hx, v5]
    exact cd_nI_m (Nat.eq_of_beq_eq_true h2)
theorem cd_deg {x : Int32} (h : ¬ cd_sum x = 0) : cd_S (List.replicate (cd_sum x).toNatClampNeg 1) (cd_mk (cd_P x) 4) = cd_po (List.replicate (cd_sum x).toNatClampNeg 1) (cd_ix x) := by
  obtain ⟨v, hv, rfl⟩ := cd_V_of h
  obtain ⟨v1, v2, v3, v4, v5⟩ := of_decide_eq_true (List.all_eq_true.mp cd_kB v hv)
  have h2 := List.all_eq_true.mp cd_kD v hv
  have hx := cd_ix_lt (nI v.1)
  rw [v1, nI_clamp (by omega), v4, cd_S_N, cd_po_N _ _ hx, v5]
  exact cd_nI_m (Nat.eq_of_beq_eq_true h2)
/-- character -/
theorem pl_ch (s m : Int32) : cd_chX s m = cd_chM s m := by
  unfold cd_chX cd_chM
  by_cases hm : cd_sum m = 0
  · rw [if_pos hm]
    by_cases hs : cd_sum s = 0
    · rw [if_pos (Or.inl hs)]
    · rw [if_pos (Or.inr (by rw [hm]; exact hs))]
  · rw [if_neg hm]
    by_cases he : cd_sum s = cd_sum m
    · rw [if_pos he, if_neg (fun h => h.elim (by rw [he]; exact hm) (fun h => h he)), cd_core hm he]
    · rw [if_neg he, if_pos (Or.inr he)]
theorem pl_at (c m : Int32) : cd_atX c m = cd_chM c m := by
  unfold cd_atX
  by_cases hc : c = 0
  · rw [if_pos hc, hc]
    unfold cd_chM
    rw [if_pos (Or.inl (by decide))]
  · rw [if_neg hc, pl_ch]
theorem pl_dg (x : Int32) : cd_dgX x = cd_dgM x := by
  unfold cd_dgX cd_dgM
  by_cases h : cd_sum x = 0
  · rw [if_pos h, if_pos h]
  · rw [if_neg h, if_neg h, cd_deg h]
theorem pl_va (s m : Int32) : cd_vaX s m = cd_vaM s m := by
  unfold cd_vaX cd_vaM
  rw [pl_ch]
theorem cd_1le {x : Int32} (h : ¬ x ≤ 0) : 1 ≤ x := by
  have h1 := Int32.not_le.mp h
  rw [Int32.lt_iff_toInt_lt] at h1
  rw [Int32.le_iff_toInt_le]
  have e0 : (0 : Int32).toInt = 0 := by decide
  have e1 : (1 : Int32).toInt = 1 := by decide
  omega
theorem cd_le0 {x : Int32} (h : 1 ≤ x) : ¬ x ≤ 0 := by
  intro h1
  exact absurd (Int32.le_trans h h1) (by decide)
theorem cd_cn_big {x : Int32} (h : ¬ x ≤ 7) : ∀ k, cd_cn x k = 0 := by
  intro k
  induction k with
  | zero => rfl
  | succ k ih =>
    show (if cd_sum (nI (k + 1)) = x then cd_cn x k + 1 else cd_cn x k) = 0
    rw [if_neg (fun e => h (by rw [← e]; exact cd_sum_7 _)), ih]
theorem pl_co (x : Int32) : cd_coX x = cd_coM x := by
  unfold cd_coX cd_coM
  by_cases h0 : x ≤ 0
  · rw [if_pos h0, if_neg (fun h => cd_le0 h.1 h0)]
  · rw [if_neg h0]
    by_cases h7 : x ≤ 7
    · rw [if_pos ⟨cd_1le h0, h7⟩]
    · rw [if_neg (fun h => h7 h.2), cd_cn_big h7]
theorem cd_pa_big {x k : Int32} (h : ¬ x ≤ 7) : ∀ t seen, cd_pa x k t seen = cd_BAD := by
  intro t
  induction t with
  | zero => intro seen; rfl
  | succ t ih =>
    intro seen
    show (if cd_sum (nI (t + 1)) = x then (if seen = k then nI (t + 1) else cd_pa x k t (seen + 1)) else cd_pa x k t seen) = cd_BAD
    rw [if_neg (fun e => h (by rw [← e]; exact cd_sum_7 _)), ih]
theorem cd_pa_neg {x k : Int32} (h : ¬ 0 ≤ k) : ∀ t j, t + j ≤ 4095 → cd_pa x k t (nI j) = cd_BAD := by
  intro t
  induction t with
  | zero => intro j hj; rfl
  | succ t ih =>
    intro j hj
    show (if cd_sum (nI (t + 1)) = x then (if nI j = k then nI (t + 1) else cd_pa x k t (nI j + 1)) else cd_pa x k t (nI j)) = cd_BAD
    have e9 : ¬ nI j = k := fun e => h (by rw [← e]; exact nI_pos' (by omega))
    rw [if_neg e9, nI_1, ih (j + 1) (by omega), ih j (by omega), ite_self]
theorem pl_pa (x k : Int32) : cd_paX x k = cd_paM x k := by
  unfold cd_paX cd_paM
  by_cases h0 : x ≤ 0
  · rw [if_pos h0, if_neg (fun h => cd_le0 h.1.1 h0)]
  · rw [if_neg h0]
    by_cases h7 : x ≤ 7
    · by_cases hk : 0 ≤ k
      · rw [if_pos ⟨⟨cd_1le h0, h7⟩, hk⟩]
      · rw [if_neg (fun h => hk h.2)]
        exact (cd_pa_neg hk 4095 0 (Nat.le_refl _)).symm
    · rw [if_neg (fun h => h7 h.1.2), cd_pa_big h7]
theorem cd_tu4 : (List.range 5).all (fun a => (List.range 5).all (fun b => (List.range 5).all (fun c => (List.range 5).all (fun d => Nat.beq (8 * (8 * (8 * (8 * 0 + d) + c) + b) + a) ((((0 ||| a * 2 ^ 0) ||| b * 2 ^ 3) ||| c * 2 ^ 6) ||| d * 2 ^ 9))))) = true := by decide +kernel
theorem cd_tXM (P : Nat → Nat) : cd_tX P 4 = cd_tM P 4 := by
  have h1 := List.all_eq_true.mp (List.all_eq_true.mp (List.all_eq_true.mp (List.all_eq_true.mp cd_tu4 (cd_cl P 1 4) (List.mem_range.mpr (Nat.lt_succ_of_le (cd_cl_le P 1 4)))) (cd_cl P 2 4) (List.mem_range.mpr (Nat.lt_succ_of_le (cd_cl_le P 2 4)))) (cd_cl P 3 4) (List.mem_range.mpr (Nat.lt_succ_of_le (cd_cl_le P 3 4)))) (cd_cl P 4 4) (List.mem_range.mpr (Nat.lt_succ_of_le (cd_cl_le P 4 4)))
  exact Nat.eq_of_beq_eq_true h1
theorem pl_tu (x : Int32) : cd_tuX x = cd_tuM x := by
  unfold cd_tuX cd_tuM
  rw [cd_tXM]
theorem pl_pr (x : Int32) : cd_prX x = cd_prM x := by
  by_cases h : cd_sum x = 0
  · unfold cd_prX cd_prM
    rw [if_pos h, if_pos h]
  · obtain ⟨v, hv, rfl⟩ := cd_V_of h
    exact of_decide_eq_true (List.all_eq_true.mp cd_kP v hv)
theorem cd_sq_eq {v w : Int32 → Int32} {n : Int32} (h : ∀ s, cd_sum s = n → v s = w s) : ∀ k, cd_sq v n k = cd_sq w n k := by
  intro k
  induction k with
  | zero => rfl
  | succ k ih =>
    show (if cd_sum (nI (k + 1)) = n then cd_sq v n k + v (nI (k + 1)) * v (nI (k + 1)) else cd_sq v n k) = (if cd_sum (nI (k + 1)) = n then cd_sq w n k + w (nI (k + 1)) * w (nI (k + 1)) else cd_sq w n k)
    rw [ih]
    by_cases e : cd_sum (nI (k + 1)) = n
    · rw [if_pos e, if_pos e, h _ e]
    · rw [if_neg e, if_neg e]
theorem cd_gr_eq {v w : Int32 → Int32} {n : Int32} (h : ∀ s, cd_sum s = n → v s = w s) : ∀ k, cd_gr v n k = cd_gr w n k := by
  intro k
  induction k with
  | zero => rfl
  | succ k ih =>
    show (if cd_sum (nI (k + 1)) = n then (if v (nI (k + 1)) ≤ cd_gr v n k then cd_gr v n k else v (nI (k + 1))) else cd_gr v n k) = (if cd_sum (nI (k + 1)) = n then (if w (nI (k + 1)) ≤ cd_gr w n k then cd_gr w n k else w (nI (k + 1))) else cd_gr w n k)
    rw [ih]
    by_cases e : cd_sum (nI (k + 1)) = n
    · rw [if_pos e, if_pos e, h _ e]
    · rw [if_neg e, if_neg e]
theorem cd_su_eq {v w : Int32 → Int32} {n : Int32} (h : ∀ s, cd_sum s = n → v s = w s) : ∀ k, cd_su v n k = cd_su w n k := by
  intro k
  induction k with
  | zero => rfl
  | succ k ih =>
    show (if cd_sum (nI (k + 1)) = n ∧ v (nI (k + 1)) ≠ 0 then cd_su v n k + 1 else cd_su v n k) = (if cd_sum (nI (k + 1)) = n ∧ w (nI (k + 1)) ≠ 0 then cd_su w n k + 1 else cd_su w n k)
    rw [ih]
    by_cases e : cd_sum (nI (k + 1)) = n
    · rw [h _ e]
    · rw [if_neg (fun q => e q.1), if_neg (fun q => e q.1)]
theorem pl_sq (x : Int32) : cd_sqX x = cd_sqM x := by
  unfold cd_sqX cd_sqM
  by_cases h : x < 1 ∨ 7 < x
  · rw [if_pos h, if_neg (fun q => h.elim (fun h => absurd q.1 (Int32.not_le.mpr h)) (fun h => absurd q.2 (Int32.not_le.mpr h)))]
  · have h1 : ¬ x < 1 := fun q => h (Or.inl q)
    have h7 : x ≤ 7 := Int32.not_lt.mp (fun q => h (Or.inr q))
    rw [if_neg h, if_pos ⟨Int32.not_lt.mp h1, h7⟩]
    refine cd_sq_eq (fun s e => ?_) 4095
    have hs : ¬ cd_sum s = 0 := fun q => h1 (by rw [← e, q]; decide)
    unfold cd_dgX
    rw [if_neg hs, cd_deg hs, e]
    rfl
theorem cd_chv {x s : Int32} (hx : ¬ cd_sum x = 0) (e : cd_sum s = cd_sum x) : cd_chX s x = cd_vM (cd_rims (cd_P x) 4).reverse s := by
  unfold cd_chX
  rw [if_neg hx, if_pos e, cd_core hx e]
  rfl
theorem pl_gr (x : Int32) : cd_grX x = cd_grM x := by
  unfold cd_grX cd_grM
  by_cases h : cd_sum x = 0
  · rw [if_pos h, if_pos (by rw [h]; decide)]
  · have hk := cd_sum_k x
    have hp := cd_sum_pos h
    rw [if_neg h, if_neg (by rw [hk.1]; exact nI_nle hp (by omega))]
    exact cd_gr_eq (fun s e => cd_chv h e) 4095
theorem pl_su (x : Int32) : cd_suX x = cd_suM x := by
  unfold cd_suX cd_suM
  by_cases h : cd_sum x = 0
  · rw [if_pos h, if_pos h]
  · rw [if_neg h, if_neg h]
    exact cd_su_eq (fun s e => cd_chv h e) 4095
end
section
/-! THE CLAIM OUT OF ONE WALK OF THE LAW'S BODY. Your part is whole_start (and what it stands on); all else here is the same for every law, but numbers. -/
def R_law : String := "CharacterDeskLaw"
def lw_P (b : Addr) (xs : List Int32) (args : Array Value) (s : State) : Prop := args = #[.ref b] ∧ s.IntsAt b xs ∧ xs.length ≤ 192 ∧ (Jvm.Cond.and given_1 narrow_1).before args s = true
def lw_Q (_ : Array Value) (s : State) (o : Outcome) (t : State) : Prop := o = .returned (some (.int 1)) ∧ Framed s o t [] 600000 7290000
def lw_Z (below : List Frame) (a : Array Value) (s : State) : State → Prop := fun t => ∃ o, t.status = .running ∧ Ended t below o ∧ lw_Q a s o t
/-- the law's own end, with 1 on the stack, nothing written that was there before, its room as the claim has it -/
theorem lw_ret {p : Program} {l : Launch} {e : Env} {s : State} {m : MethodId} {below : List Frame} {meth : Method} {c : Code} {b : Nat} (hx : p.tables.exec = Jvm.exec) (hb : c.code = code) (hr : meth.sig.returnType = ret) (hlocks : meth.locks = false) {pc : Nat} {H : Heap} {ls : Array Slot} (hdg : decode code pc = .ok (.ireturn, 1)) : W p l e room_1 s m #[Value.ref b] below meth c H [] 600000 7290000 (lw_Z below #[Value.ref b] s) (F0 m pc ls [.int 1]) := by
  intro T hT X
  obtain ⟨fs, hret, hrun, hended, hW, hframe⟩ := X.leave (v := some (.int 1)) (hlocks := hlocks) (fun h => by rw [hr] at h; cases h)
  have hmeth' : T.vm.method? m = some meth := X.method'
  refine ⟨T.setFrames fs, ?_, .returned (some (.int 1)), hrun, hended, rfl, ⟨_, rfl⟩, hW, hframe⟩
  jvm_step X.here [X.here.top, hx, hb, hdg, hmeth', hr, ret, narrow_b1]
  (try refine ⟨rfl, ?_⟩); (try refine ⟨rfl, ?_⟩)
  first | (intro acts; rw [hret _ acts rfl rfl rfl]) | rw [hret _ _ rfl rfl rfl]
  exact Steps.refl _
/-- what holds at the law's entry: the machine, the code, the tables' words (any of lw_tbl by 'hts w (by decide +kernel)'), the script of L ints xs at the cell b, what the Statement gives of the start (any of its parts by flat_of_before) -/
def lw_At (p : Program) (s : State) (m : MethodId) (meth : Method) (c : Code) (b L : Nat) (xs : Nat → Int32) : Prop :=
  p.tables.exec = Jvm.exec ∧ c.code = code ∧ meth.sig.returnType = ret ∧ c.maxLocals = 4 ∧ s.vm.findClass R_law = some m.cls ∧ (∀ w ∈ lw_tbl, w.before #[Value.ref b] s = true) ∧ va_X b L xs s s.heap ∧ b < s.heap.size ∧ meth.locks = false ∧ (Jvm.Cond.and given_1 narrow_1).before #[Value.ref b] s = true
end
section
/-! the law's own rows and its loop (printed by gen_law.py) -/
set_option maxRecDepth 100000
abbrev tyL (dB dJ dM : ClassId) : List (ClassId × FieldType) := [(dB, .byte), (dJ, .int), (dM, .int)]
def wL (a : Nat → Nat) (dB dJ : ClassId) (u : XS) (b : Nat → Nat) (dM : ClassId) (v : MS) : va_W := wX a dB dJ u ++ wM b dM v
section LR
variable {p : Program} {l : Launch} {e : Env} {R : Room} {s : State} {m : MethodId} {args : Array Value} {below : List Frame} {meth : Method} {c : Code} {H : Heap} {locs : List Loc} {cells slots : Nat} {Q : State → Prop}
variable {cc : ByteArray} {nL : Nat} {ret : Option FieldType} {D : va_G} {A : Nat → Prop} {pc : Nat} {ls : Array Slot} {rest st0 : List Value}
variable {a : Nat → Nat} {dB dJ : ClassId} {u : XS} {b : Nat → Nat} {dM : ClassId} {v : MS}
theorem l_ld {z L : Nat} {xs : Nat → Int32} {tys : List (ClassId × FieldType)} {ws : va_W} (C : gC R_law cc nL ret D tys (fun q => s.heap.size ≤ q) p s m args meth c) (hX : va_X z L xs s s.heap) (hbl : z < s.heap.size) (hL : L ≤ 192) (w : gW D (fun q => s.heap.size ≤ q) s ws H locs) (n : Nat) (hn : n < L) (hdg : decode cc pc = .ok (.iaload, 1)) (k : W p l e R s m args below meth c H locs cells slots Q (F0 m (pc + 1) ls (.int (xs n) :: rest))) : W p l e R s m args below meth c H locs cells slots Q (F0 m pc ls (.int (nI n) :: .ref z :: rest)) := by
  obtain ⟨hx, hb, hr, hml, hown, hts, hA, hK, hlocks⟩ := C
  refine va_sld hx hb hX hbl (Nat.not_le.mpr hbl) w.2.2 (vp_in_nI hn (by omega)) hdg ?_
  rw [nI_clamp (by omega)]
  exact k
theorem l_callX {y : MethodName} {bytes : ByteArray} {nL' n index : Nat} {ret' : Option FieldType} {rm : Room} {As : List Value} {post : Int32 → XS → Prop}
    (C : gC R_law cc nL ret D (tyL dB dJ dM) A p s m args meth c) (w : gW D A s (wL a dB dJ u b dM v) H locs) (hM : gMi l y bytes nL' ret' rm (.ref (a 0) :: As) D (tyX dB dJ) (wX a dB dJ) u post) (cw : CallW R s args R_law RX0 index y bytes nL' ret' (ws_ y bytes nL' ret') rm 0 0 n)
    (hn : As.length = n) (hsz : ls.size = nL) (hst : st0 = As.reverse ++ .ref (a 0) :: rest) (hroom : (rest.map fun v => v.category).sum ≤ 8) (hdg : decode cc pc = .ok (.invokevirtual index, 3)) (hf : cells ≤ R.cells ∧ slots ≤ R.slots)
    (kk : ∀ (r : Int32) (u' : XS) (H1 : Heap) (locs1 : List Loc), post r u' → gW D A s (wL a dB dJ u' b dM v) H1 locs1 → W p l e R s m args below meth c H1 locs1 cells slots Q (F0 m (pc + 3) ls (.int r :: rest))) : W p l e R s m args below meth c H locs cells slots Q (F0 m pc ls st0) := by
  obtain ⟨hx, hb, hr, hml, hown, hts, hA, hK, hlocks⟩ := C
  obtain ⟨hP, hD, hS⟩ := w
  have hPc := hP.sub (ws' := wX a dB dJ u) [0, 1, 2, 3, 4] rfl
  have hDc := hD.sub (ws' := wX a dB dJ u) [0, 1, 2, 3, 4] (by decide) rfl
  have hKc := hK.sub (tys' := tyX dB dJ) [0, 1] rfl
  have hFc := va_free (wc := wX a dB dJ u) hD hS hA [0, 1, 2, 3, 4] rfl
  subst hst
  refine va_calli (va_runV (As := As) (rest := rest) ⟨hx, hb, hml, hown, hts⟩ (hM H.size) cw ⟨gPre_blind, va_recv hKc hPc (ci := 0) (q0 := 0) rfl rfl, gPre_at hPc hDc hKc⟩ rfl hn hsz rfl (lv_room hroom) hdg hf) hS (fun q _ h => hFc q h) hFc (fun r u' t H1 locs1 ht hvm hw hB hz1 hk1 hS => ?_)
  obtain ⟨hP1, hK1, hD1⟩ := hB
  rw [ht] at hP1
  obtain ⟨hP, hD⟩ := va_join (wr := wM b dM v) (w1 := wX a dB dJ u') hP hD [0, 1, 2, 3, 4] [5, 6, 7] rfl rfl (by decide) (by decide) hk1 hFc hP1 hD1
  exact kk r u' H1 locs1 hw ⟨hP.sub [3, 4, 5, 6, 7, 0, 1, 2] rfl, hD.sub [3, 4, 5, 6, 7, 0, 1, 2] (by decide) rfl, hS⟩
theorem l_callM {y : MethodName} {bytes : ByteArray} {nL' n index : Nat} {ret' : Option FieldType} {rm : Room} {As : List Value} {post : Int32 → MS → Prop}
    (C : gC R_law cc nL ret D (tyL dB dJ dM) A p s m args meth c) (w : gW D A s (wL a dB dJ u b dM v) H locs) (hM : gMi l y bytes nL' ret' rm (.ref (b 0) :: As) D (tyM dM) (wM b dM) v post) (cw : CallW R s args R_law RX1 index y bytes nL' ret' (ws_ y bytes nL' ret') rm 0 0 n)
    (hn : As.length = n) (hsz : ls.size = nL) (hst : st0 = As.reverse ++ .ref (b 0) :: rest) (hroom : (rest.map fun v => v.category).sum ≤ 8) (hdg : decode cc pc = .ok (.invokevirtual index, 3)) (hf : cells ≤ R.cells ∧ slots ≤ R.slots)
    (kk : ∀ (r : Int32) (v' : MS) (H1 : Heap) (locs1 : List Loc), post r v' → gW D A s (wL a dB dJ u b dM v') H1 locs1 → W p l e R s m args below meth c H1 locs1 cells slots Q (F0 m (pc + 3) ls (.int r :: rest))) : W p l e R s m args below meth c H locs cells slots Q (F0 m pc ls st0) := by
  obtain ⟨hx, hb, hr, hml, hown, hts, hA, hK, hlocks⟩ := C
  obtain ⟨hP, hD, hS⟩ := w
  have hPc := hP.sub (ws' := wM b dM v) [5, 6, 7] rfl
  have hDc := hD.sub (ws' := wM b dM v) [5, 6, 7] (by decide) rfl
  have hKc := hK.sub (tys' := tyM dM) [2] rfl
  have hFc := va_free (wc := wM b dM v) hD hS hA [5, 6, 7] rfl
  subst hst
  refine va_calli (va_runV (As := As) (rest := rest) ⟨hx, hb, hml, hown, hts⟩ (hM H.size) cw ⟨gPre_blind, va_recv hKc hPc (ci := 1) (q0 := 0) rfl rfl, gPre_at hPc hDc hKc⟩ rfl hn hsz rfl (lv_room hroom) hdg hf) hS (fun q _ h => hFc q h) hFc (fun r u' t H1 locs1 ht hvm hw hB hz1 hk1 hS => ?_)
  obtain ⟨hP1, hK1, hD1⟩ := hB
  rw [ht] at hP1
  obtain ⟨hP, hD⟩ := va_join (wr := wX a dB dJ u) (w1 := wM b dM u') hP hD [5, 6, 7] [0, 1, 2, 3, 4] rfl rfl (by decide) (by decide) hk1 hFc hP1 hD1
  exact kk r u' H1 locs1 hw ⟨hP, hD, hS⟩
end LR
theorem cd_lt3 {L j : Nat} (hL : L ≤ 192) (hj : j ≤ L + 3) : (nI L - 3 < nI j) ↔ L < j + 3 := by
  rw [Int32.lt_iff_toInt_lt, show (nI L - 3).toInt = (L : Int) - 3 from pk_sub_toInt (a := L) (b := 3) (by omega) (by decide), nI_toInt (by omega)]
  omega
set_option maxHeartbeats 4000000 in
set_option maxRecDepth 100000 in
theorem law_choose {p : Program} {l : Launch} {e : Env} {s : State} {m : MethodId} {below : List Frame} {meth : Method} {c : Code} {D : va_G} {a : Nat → Nat} {dB dJ : ClassId} {b : Nat → Nat} {dM : ClassId} {z L : Nat} {xs : Nat → Int32} (hL : L ≤ 192) (C : gC R_law cL_law 4 ret D (tyL dB dJ dM) (fun q => s.heap.size ≤ q) p s m #[Value.ref z] meth c) (hX : va_X z L xs s s.heap) (hbl : z < s.heap.size) {j : Nat} (hj : j + 3 ≤ L) (K : ∀ (ch : Int32) (fp fr : Nat → Int32) (rc : Int32) (fn ft gn gt : Nat → Int32) (H : Heap) (locs : List Loc) (ls : Array Slot), gW D (fun q => s.heap.size ≤ q) s (wL a dB dJ (ch, fp, fr, rc, fn, ft) b dM (ch, gn, gt)) H locs → lv_has ls 4 [(0, .ref z), (1, .ref (a 0)), (2, .ref (b 0)), (3, .int (nI j))] → W p l e room_1 s m #[Value.ref z] below meth c H locs 8 9605 (lw_Z below #[Value.ref z] s) (F0 m 419 ls [])) :
    ∀ (ch : Int32) (fp fr : Nat → Int32) (rc : Int32) (fn ft gn gt : Nat → Int32) (H : Heap) (locs : List Loc) (ls : Array Slot), gW D (fun q => s.heap.size ≤ q) s (wL a dB dJ (ch, fp, fr, rc, fn, ft) b dM (ch, gn, gt)) H locs → lv_has ls 4 [(0, .ref z), (1, .ref (a 0)), (2, .ref (b 0)), (3, .int (nI j))] → W p l e room_1 s m #[Value.ref z] below meth c H locs 8 9605 (lw_Z below #[Value.ref z] s) (F0 m 100 ls []) := by
  obtain ⟨hx, hb, hr, hml, hown, hts, hA, hK, hlocks⟩ := id C
  intro ch fp fr rc fn ft gn gt H locs ls w hl
  refine lv_aload_n hx hb dL_law_100 rfl (lv_at hl 1 rfl) ?_
  refine lv_aload_n hx hb dL_law_101 rfl (lv_at hl 0 rfl) ?_
  refine lv_iload_n hx hb dL_law_102 rfl (lv_at hl 3 rfl) ?_
  refine lv_iconst (v := 1) hx hb dL_law_103 (by decide) ?_
  refine lv_iadd hx hb dL_law_104 ?_
  refine cd_top (y := nI (j + 1)) (nI_add j 1) ?_
  refine l_ld C hX hbl hL w (j + 1) (by omega) dL_law_105 ?_
  refine l_callX C w (mX_choose l D a dB dJ ch rc fp fr fn ft (xs (j + 1))) (cwV 1 hts (lw_V q46 q47 q48 q15 q49) rfl rfl rfl (by decide +kernel) ⟨Nat.le_of_ble_eq_true rfl, Nat.le_of_ble_eq_true rfl⟩) rfl hl.1 rfl (Nat.le_of_ble_eq_true rfl) dL_law_106 ⟨Nat.le_of_ble_eq_true rfl, Nat.le_of_ble_eq_true rfl⟩ (fun r u H locs hq w => ?_)
  obtain ⟨ch8, fp, fr, rc, fn, ft⟩ := u
  obtain ⟨rfl, h9⟩ := hq
  have h9 : cd_chn ch (xs (j + 1)) = ch8 := (show ch8 = cd_chn ch (xs (j + 1)) from h9).symm
  subst h9
  refine lv_aload_n hx hb dL_law_109 rfl (lv_at hl 2 rfl) ?_
  refine lv_aload_n hx hb dL_law_110 rfl (lv_at hl 0 rfl) ?_
  refine lv_iload_n hx hb dL_law_111 rfl (lv_at hl 3 rfl) ?_
  refine lv_iconst (v := 1) hx hb dL_law_112 (by decide) ?_
  refine lv_iadd hx hb dL_law_113 ?_
  refine cd_top (y := nI (j + 1)) (nI_add j 1) ?_
  refine l_ld C hX hbl hL w (j + 1) (by omega) dL_law_114 ?_
  refine l_callM C w (mM_choose l D b dM ch gn gt (xs (j + 1))) (cwV 1 hts (lw_V q147 q148 q149 q16 q150) rfl rfl rfl (by decide +kernel) ⟨Nat.le_of_ble_eq_true rfl, Nat.le_of_ble_eq_true rfl⟩) rfl hl.1 rfl (Nat.le_of_ble_eq_true rfl) dL_law_115 ⟨Nat.le_of_ble_eq_true rfl, Nat.le_of_ble_eq_true rfl⟩ (fun r u H locs hq w => ?_)
  obtain ⟨ch9, gn, gt⟩ := u
  obtain ⟨rfl, h9⟩ := hq
  have h9 : cd_chn ch (xs (j + 1)) = ch9 := (show ch9 = cd_chn ch (xs (j + 1)) from h9).symm
  subst h9
  refine lv_icmp_eq (tgt := 419) hx hb dL_law_118 (by decide) (fun _ => ?_) (fun hc => absurd (rfl) hc)
  exact K _ _ _ _ _ _ _ _ _ _ _ w (lv_sub hl [0, 1, 2, 3] rfl)
set_option maxHeartbeats 4000000 in
set_option maxRecDepth 100000 in
theorem law_shape {p : Program} {l : Launch} {e : Env} {s : State} {m : MethodId} {below : List Frame} {meth : Method} {c : Code} {D : va_G} {a : Nat → Nat} {dB dJ : ClassId} {b : Nat → Nat} {dM : ClassId} {z L : Nat} {xs : Nat → Int32} (hL : L ≤ 192) (C : gC R_law cL_law 4 ret D (tyL dB dJ dM) (fun q => s.heap.size ≤ q) p s m #[Value.ref z] meth c) (hX : va_X z L xs s s.heap) (hbl : z < s.heap.size) {j : Nat} (hj : j + 3 ≤ L) (K : ∀ (ch : Int32) (fp fr : Nat → Int32) (rc : Int32) (fn ft gn gt : Nat → Int32) (H : Heap) (locs : List Loc) (ls : Array Slot), gW D (fun q => s.heap.size ≤ q) s (wL a dB dJ (ch, fp, fr, rc, fn, ft) b dM (ch, gn, gt)) H locs → lv_has ls 4 [(0, .ref z), (1, .ref (a 0)), (2, .ref (b 0)), (3, .int (nI j))] → W p l e room_1 s m #[Value.ref z] below meth c H locs 8 9605 (lw_Z below #[Value.ref z] s) (F0 m 419 ls [])) :
    ∀ (ch : Int32) (fp fr : Nat → Int32) (rc : Int32) (fn ft gn gt : Nat → Int32) (H : Heap) (locs : List Loc) (ls : Array Slot), gW D (fun q => s.heap.size ≤ q) s (wL a dB dJ (ch, fp, fr, rc, fn, ft) b dM (ch, gn, gt)) H locs → lv_has ls 4 [(0, .ref z), (1, .ref (a 0)), (2, .ref (b 0)), (3, .int (nI j))] → W p l e room_1 s m #[Value.ref z] below meth c H locs 8 9605 (lw_Z below #[Value.ref z] s) (F0 m 123 ls []) := by
  obtain ⟨hx, hb, hr, hml, hown, hts, hA, hK, hlocks⟩ := id C
  intro ch fp fr rc fn ft gn gt H locs ls w hl
  refine lv_aload_n hx hb dL_law_123 rfl (lv_at hl 1 rfl) ?_
  refine l_callX C w (mX_shape l D a dB dJ ch rc fp fr fn ft) (cwV 0 hts (lw_V q55 q56 q57 q15 q58) rfl rfl rfl (by decide +kernel) ⟨Nat.le_of_ble_eq_true rfl, Nat.le_of_ble_eq_true rfl⟩) rfl hl.1 rfl (Nat.le_of_ble_eq_true rfl) dL_law_124 ⟨Nat.le_of_ble_eq_true rfl, Nat.le_of_ble_eq_true rfl⟩ (fun r u H locs hq w => ?_)
  obtain ⟨e9, rfl⟩ := hq
  have e9 : ch = r := e9.symm
  subst e9
  refine lv_aload_n hx hb dL_law_127 rfl (lv_at hl 2 rfl) ?_
  refine l_callM C w (mM_shape l D b dM ch gn gt) (cwV 0 hts (lw_V q160 q161 q162 q16 q163) rfl rfl rfl (by decide +kernel) ⟨Nat.le_of_ble_eq_true rfl, Nat.le_of_ble_eq_true rfl⟩) rfl hl.1 rfl (Nat.le_of_ble_eq_true rfl) dL_law_128 ⟨Nat.le_of_ble_eq_true rfl, Nat.le_of_ble_eq_true rfl⟩ (fun r u H locs hq w => ?_)
  obtain ⟨ch9, gn, gt⟩ := u
  obtain ⟨e9, h9⟩ := hq
  have e9 : ch = r := e9.symm
  subst e9
  have h9 : ch = ch9 := (show ch9 = ch from h9).symm
  subst h9
  refine lv_icmp_eq (tgt := 419) hx hb dL_law_131 (by decide) (fun _ => ?_) (fun hc => absurd (rfl) hc)
  exact K _ _ _ _ _ _ _ _ _ _ _ w (lv_sub hl [0, 1, 2, 3] rfl)
set_option maxHeartbeats 4000000 in
set_option maxRecDepth 100000 in
theorem law_at {p : Program} {l : Launch} {e : Env} {s : State} {m : MethodId} {below : List Frame} {meth : Method} {c : Code} {D : va_G} {a : Nat → Nat} {dB dJ : ClassId} {b : Nat → Nat} {dM : ClassId} {z L : Nat} {xs : Nat → Int32} (hL : L ≤ 192) (C : gC R_law cL_law 4 ret D (tyL dB dJ dM) (fun q => s.heap.size ≤ q) p s m #[Value.ref z] meth c) (hX : va_X z L xs s s.heap) (hbl : z < s.heap.size) {j : Nat} (hj : j + 3 ≤ L) (K : ∀ (ch : Int32) (fp fr : Nat → Int32) (rc : Int32) (fn ft gn gt : Nat → Int32) (H : Heap) (locs : List Loc) (ls : Array Slot), gW D (fun q => s.heap.size ≤ q) s (wL a dB dJ (ch, fp, fr, rc, fn, ft) b dM (ch, gn, gt)) H locs → lv_has ls 4 [(0, .ref z), (1, .ref (a 0)), (2, .ref (b 0)), (3, .int (nI j))] → W p l e room_1 s m #[Value.ref z] below meth c H locs 8 9605 (lw_Z below #[Value.ref z] s) (F0 m 419 ls [])) :
    ∀ (ch : Int32) (fp fr : Nat → Int32) (rc : Int32) (fn ft gn gt : Nat → Int32) (H : Heap) (locs : List Loc) (ls : Array Slot), gW D (fun q => s.heap.size ≤ q) s (wL a dB dJ (ch, fp, fr, rc, fn, ft) b dM (ch, gn, gt)) H locs → lv_has ls 4 [(0, .ref z), (1, .ref (a 0)), (2, .ref (b 0)), (3, .int (nI j))] → W p l e room_1 s m #[Value.ref z] below meth c H locs 8 9605 (lw_Z below #[Value.ref z] s) (F0 m 136 ls []) := by
  obtain ⟨hx, hb, hr, hml, hown, hts, hA, hK, hlocks⟩ := id C
  intro ch fp fr rc fn ft gn gt H locs ls w hl
  refine lv_aload_n hx hb dL_law_136 rfl (lv_at hl 1 rfl) ?_
  refine lv_aload_n hx hb dL_law_137 rfl (lv_at hl 0 rfl) ?_
  refine lv_iload_n hx hb dL_law_138 rfl (lv_at hl 3 rfl) ?_
  refine lv_iconst (v := 1) hx hb dL_law_139 (by decide) ?_
  refine lv_iadd hx hb dL_law_140 ?_
  refine cd_top (y := nI (j + 1)) (nI_add j 1) ?_
  refine l_ld C hX hbl hL w (j + 1) (by omega) dL_law_141 ?_
  refine l_callX C w (mX_at l D a dB dJ ch rc fp fr fn ft (xs (j + 1))) (cwV 1 hts (lw_V q59 q60 q61 q15 q62) rfl rfl rfl (by decide +kernel) ⟨Nat.le_of_ble_eq_true rfl, Nat.le_of_ble_eq_true rfl⟩) rfl hl.1 rfl (Nat.le_of_ble_eq_true rfl) dL_law_142 ⟨Nat.le_of_ble_eq_true rfl, Nat.le_of_ble_eq_true rfl⟩ (fun r u H locs hq w => ?_)
  obtain ⟨ch8, fp, fr, rc, fn, ft⟩ := u
  obtain ⟨rfl, h9⟩ := hq
  have h9 : ch = ch8 := (show ch8 = ch from h9).symm
  subst h9
  refine lv_aload_n hx hb dL_law_145 rfl (lv_at hl 2 rfl) ?_
  refine lv_aload_n hx hb dL_law_146 rfl (lv_at hl 0 rfl) ?_
  refine lv_iload_n hx hb dL_law_147 rfl (lv_at hl 3 rfl) ?_
  refine lv_iconst (v := 1) hx hb dL_law_148 (by decide) ?_
  refine lv_iadd hx hb dL_law_149 ?_
  refine cd_top (y := nI (j + 1)) (nI_add j 1) ?_
  refine l_ld C hX hbl hL w (j + 1) (by omega) dL_law_150 ?_
  refine l_callM C w (mM_at l D b dM ch gn gt (xs (j + 1))) (cwV 1 hts (lw_V q164 q165 q166 q16 q167) rfl rfl rfl (by decide +kernel) ⟨Nat.le_of_ble_eq_true rfl, Nat.le_of_ble_eq_true rfl⟩) rfl hl.1 rfl (Nat.le_of_ble_eq_true rfl) dL_law_151 ⟨Nat.le_of_ble_eq_true rfl, Nat.le_of_ble_eq_true rfl⟩ (fun r u H locs hq w => ?_)
  obtain ⟨ch9, gn, gt⟩ := u
  obtain ⟨rfl, h9⟩ := hq
  have h9 : ch = ch9 := (show ch9 = ch from h9).symm
  subst h9
  refine lv_icmp_eq (tgt := 419) hx hb dL_law_154 (by decide) (fun _ => ?_) (fun hc => absurd (pl_at _ _) hc)
  exact K _ _ _ _ _ _ _ _ _ _ _ w (lv_sub hl [0, 1, 2, 3] rfl)
set_option maxHeartbeats 4000000 in
set_option maxRecDepth 100000 in
theorem law_character {p : Program} {l : Launch} {e : Env} {s : State} {m : MethodId} {below : List Frame} {meth : Method} {c : Code} {D : va_G} {a : Nat → Nat} {dB dJ : ClassId} {b : Nat → Nat} {dM : ClassId} {z L : Nat} {xs : Nat → Int32} (hL : L ≤ 192) (C : gC R_law cL_law 4 ret D (tyL dB dJ dM) (fun q => s.heap.size ≤ q) p s m #[Value.ref z] meth c) (hX : va_X z L xs s s.heap) (hbl : z < s.heap.size) {j : Nat} (hj : j + 3 ≤ L) (K : ∀ (ch : Int32) (fp fr : Nat → Int32) (rc : Int32) (fn ft gn gt : Nat → Int32) (H : Heap) (locs : List Loc) (ls : Array Slot), gW D (fun q => s.heap.size ≤ q) s (wL a dB dJ (ch, fp, fr, rc, fn, ft) b dM (ch, gn, gt)) H locs → lv_has ls 4 [(0, .ref z), (1, .ref (a 0)), (2, .ref (b 0)), (3, .int (nI j))] → W p l e room_1 s m #[Value.ref z] below meth c H locs 8 9605 (lw_Z below #[Value.ref z] s) (F0 m 419 ls [])) :
    ∀ (ch : Int32) (fp fr : Nat → Int32) (rc : Int32) (fn ft gn gt : Nat → Int32) (H : Heap) (locs : List Loc) (ls : Array Slot), gW D (fun q => s.heap.size ≤ q) s (wL a dB dJ (ch, fp, fr, rc, fn, ft) b dM (ch, gn, gt)) H locs → lv_has ls 4 [(0, .ref z), (1, .ref (a 0)), (2, .ref (b 0)), (3, .int (nI j))] → W p l e room_1 s m #[Value.ref z] below meth c H locs 8 9605 (lw_Z below #[Value.ref z] s) (F0 m 159 ls []) := by
  obtain ⟨hx, hb, hr, hml, hown, hts, hA, hK, hlocks⟩ := id C
  intro ch fp fr rc fn ft gn gt H locs ls w hl
  refine lv_aload_n hx hb dL_law_159 rfl (lv_at hl 1 rfl) ?_
  refine lv_aload_n hx hb dL_law_160 rfl (lv_at hl 0 rfl) ?_
  refine lv_iload_n hx hb dL_law_161 rfl (lv_at hl 3 rfl) ?_
  refine lv_iconst (v := 1) hx hb dL_law_162 (by decide) ?_
  refine lv_iadd hx hb dL_law_163 ?_
  refine cd_top (y := nI (j + 1)) (nI_add j 1) ?_
  refine l_ld C hX hbl hL w (j + 1) (by omega) dL_law_164 ?_
  refine lv_aload_n hx hb dL_law_165 rfl (lv_at hl 0 rfl) ?_
  refine lv_iload_n hx hb dL_law_166 rfl (lv_at hl 3 rfl) ?_
  refine lv_iconst (v := 2) hx hb dL_law_167 (by decide) ?_
  refine lv_iadd hx hb dL_law_168 ?_
  refine cd_top (y := nI (j + 2)) (nI_add j 2) ?_
  refine l_ld C hX hbl hL w (j + 2) (by omega) dL_law_169 ?_
  refine l_callX C w (mX_character l D a dB dJ ch rc fp fr fn ft (xs (j + 1)) (xs (j + 2))) (cwV 2 hts (lw_V q86 q64 q65 q15 q66) rfl rfl rfl (by decide +kernel) ⟨Nat.le_of_ble_eq_true rfl, Nat.le_of_ble_eq_true rfl⟩) rfl hl.1 rfl (Nat.le_of_ble_eq_true rfl) dL_law_170 ⟨Nat.le_of_ble_eq_true rfl, Nat.le_of_ble_eq_true rfl⟩ (fun r u H locs hq w => ?_)
  obtain ⟨ch8, fp, fr, rc, fn, ft⟩ := u
  obtain ⟨rfl, h9⟩ := hq
  have h9 : ch = ch8 := (show ch8 = ch from h9).symm
  subst h9
  refine lv_aload_n hx hb dL_law_173 rfl (lv_at hl 2 rfl) ?_
  refine lv_aload_n hx hb dL_law_174 rfl (lv_at hl 0 rfl) ?_
  refine lv_iload_n hx hb dL_law_175 rfl (lv_at hl 3 rfl) ?_
  refine lv_iconst (v := 1) hx hb dL_law_176 (by decide) ?_
  refine lv_iadd hx hb dL_law_177 ?_
  refine cd_top (y := nI (j + 1)) (nI_add j 1) ?_
  refine l_ld C hX hbl hL w (j + 1) (by omega) dL_law_178 ?_
  refine lv_aload_n hx hb dL_law_179 rfl (lv_at hl 0 rfl) ?_
  refine lv_iload_n hx hb dL_law_180 rfl (lv_at hl 3 rfl) ?_
  refine lv_iconst (v := 2) hx hb dL_law_181 (by decide) ?_
  refine lv_iadd hx hb dL_law_182 ?_
  refine cd_top (y := nI (j + 2)) (nI_add j 2) ?_
  refine l_ld C hX hbl hL w (j + 2) (by omega) dL_law_183 ?_
  refine l_callM C w (mM_character l D b dM ch gn gt (xs (j + 1)) (xs (j + 2))) (cwV 2 hts (lw_V q192 q169 q170 q16 q171) rfl rfl rfl (by decide +kernel) ⟨Nat.le_of_ble_eq_true rfl, Nat.le_of_ble_eq_true rfl⟩) rfl hl.1 rfl (Nat.le_of_ble_eq_true rfl) dL_law_184 ⟨Nat.le_of_ble_eq_true rfl, Nat.le_of_ble_eq_true rfl⟩ (fun r u H locs hq w => ?_)
  obtain ⟨ch9, gn, gt⟩ := u
  obtain ⟨rfl, h9⟩ := hq
  have h9 : ch = ch9 := (show ch9 = ch from h9).symm
  subst h9
  refine lv_icmp_eq (tgt := 419) hx hb dL_law_187 (by decide) (fun _ => ?_) (fun hc => absurd (pl_ch _ _) hc)
  exact K _ _ _ _ _ _ _ _ _ _ _ w (lv_sub hl [0, 1, 2, 3] rfl)
set_option maxHeartbeats 4000000 in
set_option maxRecDepth 100000 in
theorem law_degree {p : Program} {l : Launch} {e : Env} {s : State} {m : MethodId} {below : List Frame} {meth : Method} {c : Code} {D : va_G} {a : Nat → Nat} {dB dJ : ClassId} {b : Nat → Nat} {dM : ClassId} {z L : Nat} {xs : Nat → Int32} (hL : L ≤ 192) (C : gC R_law cL_law 4 ret D (tyL dB dJ dM) (fun q => s.heap.size ≤ q) p s m #[Value.ref z] meth c) (hX : va_X z L xs s s.heap) (hbl : z < s.heap.size) {j : Nat} (hj : j + 3 ≤ L) (K : ∀ (ch : Int32) (fp fr : Nat → Int32) (rc : Int32) (fn ft gn gt : Nat → Int32) (H : Heap) (locs : List Loc) (ls : Array Slot), gW D (fun q => s.heap.size ≤ q) s (wL a dB dJ (ch, fp, fr, rc, fn, ft) b dM (ch, gn, gt)) H locs → lv_has ls 4 [(0, .ref z), (1, .ref (a 0)), (2, .ref (b 0)), (3, .int (nI j))] → W p l e room_1 s m #[Value.ref z] below meth c H locs 8 9605 (lw_Z below #[Value.ref z] s) (F0 m 419 ls [])) :
    ∀ (ch : Int32) (fp fr : Nat → Int32) (rc : Int32) (fn ft gn gt : Nat → Int32) (H : Heap) (locs : List Loc) (ls : Array Slot), gW D (fun q => s.heap.size ≤ q) s (wL a dB dJ (ch, fp, fr, rc, fn, ft) b dM (ch, gn, gt)) H locs → lv_has ls 4 [(0, .ref z), (1, .ref (a 0)), (2, .ref (b 0)), (3, .int (nI j))] → W p l e room_1 s m #[Value.ref z] below meth c H locs 8 9605 (lw_Z below #[Value.ref z] s) (F0 m 192 ls []) := by
  obtain ⟨hx, hb, hr, hml, hown, hts, hA, hK, hlocks⟩ := id C
  intro ch fp fr rc fn ft gn gt H locs ls w hl
  refine lv_aload_n hx hb dL_law_192 rfl (lv_at hl 1 rfl) ?_
  refine lv_aload_n hx hb dL_law_193 rfl (lv_at hl 0 rfl) ?_
  refine lv_iload_n hx hb dL_law_194 rfl (lv_at hl 3 rfl) ?_
  refine lv_iconst (v := 1) hx hb dL_law_195 (by decide) ?_
  refine lv_iadd hx hb dL_law_196 ?_
  refine cd_top (y := nI (j + 1)) (nI_add j 1) ?_
  refine l_ld C hX hbl hL w (j + 1) (by omega) dL_law_197 ?_
  refine l_callX C w (mX_degree l D a dB dJ ch rc fp fr fn ft (xs (j + 1))) (cwV 1 hts (lw_V q87 q88 q89 q15 q90) rfl rfl rfl (by decide +kernel) ⟨Nat.le_of_ble_eq_true rfl, Nat.le_of_ble_eq_true rfl⟩) rfl hl.1 rfl (Nat.le_of_ble_eq_true rfl) dL_law_198 ⟨Nat.le_of_ble_eq_true rfl, Nat.le_of_ble_eq_true rfl⟩ (fun r u H locs hq w => ?_)
  obtain ⟨ch8, fp, fr, rc, fn, ft⟩ := u
  obtain ⟨rfl, h9⟩ := hq
  have h9 : ch = ch8 := (show ch8 = ch from h9).symm
  subst h9
  refine lv_aload_n hx hb dL_law_201 rfl (lv_at hl 2 rfl) ?_
  refine lv_aload_n hx hb dL_law_202 rfl (lv_at hl 0 rfl) ?_
  refine lv_iload_n hx hb dL_law_203 rfl (lv_at hl 3 rfl) ?_
  refine lv_iconst (v := 1) hx hb dL_law_204 (by decide) ?_
  refine lv_iadd hx hb dL_law_205 ?_
  refine cd_top (y := nI (j + 1)) (nI_add j 1) ?_
  refine l_ld C hX hbl hL w (j + 1) (by omega) dL_law_206 ?_
  refine l_callM C w (mM_degree l D b dM ch gn gt (xs (j + 1))) (cwV 1 hts (lw_V q193 q194 q195 q16 q196) rfl rfl rfl (by decide +kernel) ⟨Nat.le_of_ble_eq_true rfl, Nat.le_of_ble_eq_true rfl⟩) rfl hl.1 rfl (Nat.le_of_ble_eq_true rfl) dL_law_207 ⟨Nat.le_of_ble_eq_true rfl, Nat.le_of_ble_eq_true rfl⟩ (fun r u H locs hq w => ?_)
  obtain ⟨ch9, gn, gt⟩ := u
  obtain ⟨rfl, h9⟩ := hq
  have h9 : ch = ch9 := (show ch9 = ch from h9).symm
  subst h9
  refine lv_icmp_eq (tgt := 419) hx hb dL_law_210 (by decide) (fun _ => ?_) (fun hc => absurd (pl_dg _) hc)
  exact K _ _ _ _ _ _ _ _ _ _ _ w (lv_sub hl [0, 1, 2, 3] rfl)
set_option maxHeartbeats 4000000 in
set_option maxRecDepth 100000 in
theorem law_count {p : Program} {l : Launch} {e : Env} {s : State} {m : MethodId} {below : List Frame} {meth : Method} {c : Code} {D : va_G} {a : Nat → Nat} {dB dJ : ClassId} {b : Nat → Nat} {dM : ClassId} {z L : Nat} {xs : Nat → Int32} (hL : L ≤ 192) (C : gC R_law cL_law 4 ret D (tyL dB dJ dM) (fun q => s.heap.size ≤ q) p s m #[Value.ref z] meth c) (hX : va_X z L xs s s.heap) (hbl : z < s.heap.size) {j : Nat} (hj : j + 3 ≤ L) (K : ∀ (ch : Int32) (fp fr : Nat → Int32) (rc : Int32) (fn ft gn gt : Nat → Int32) (H : Heap) (locs : List Loc) (ls : Array Slot), gW D (fun q => s.heap.size ≤ q) s (wL a dB dJ (ch, fp, fr, rc, fn, ft) b dM (ch, gn, gt)) H locs → lv_has ls 4 [(0, .ref z), (1, .ref (a 0)), (2, .ref (b 0)), (3, .int (nI j))] → W p l e room_1 s m #[Value.ref z] below meth c H locs 8 9605 (lw_Z below #[Value.ref z] s) (F0 m 419 ls [])) :
    ∀ (ch : Int32) (fp fr : Nat → Int32) (rc : Int32) (fn ft gn gt : Nat → Int32) (H : Heap) (locs : List Loc) (ls : Array Slot), gW D (fun q => s.heap.size ≤ q) s (wL a dB dJ (ch, fp, fr, rc, fn, ft) b dM (ch, gn, gt)) H locs → lv_has ls 4 [(0, .ref z), (1, .ref (a 0)), (2, .ref (b 0)), (3, .int (nI j))] → W p l e room_1 s m #[Value.ref z] below meth c H locs 8 9605 (lw_Z below #[Value.ref z] s) (F0 m 215 ls []) := by
  obtain ⟨hx, hb, hr, hml, hown, hts, hA, hK, hlocks⟩ := id C
  intro ch fp fr rc fn ft gn gt H locs ls w hl
  refine lv_aload_n hx hb dL_law_215 rfl (lv_at hl 1 rfl) ?_
  refine lv_aload_n hx hb dL_law_216 rfl (lv_at hl 0 rfl) ?_
  refine lv_iload_n hx hb dL_law_217 rfl (lv_at hl 3 rfl) ?_
  refine lv_iconst (v := 1) hx hb dL_law_218 (by decide) ?_
  refine lv_iadd hx hb dL_law_219 ?_
  refine cd_top (y := nI (j + 1)) (nI_add j 1) ?_
  refine l_ld C hX hbl hL w (j + 1) (by omega) dL_law_220 ?_
  refine l_callX C w (mX_count l D a dB dJ ch rc fp fr fn ft (xs (j + 1))) (cwV 1 hts (lw_V q95 q96 q97 q15 q98) rfl rfl rfl (by decide +kernel) ⟨Nat.le_of_ble_eq_true rfl, Nat.le_of_ble_eq_true rfl⟩) rfl hl.1 rfl (Nat.le_of_ble_eq_true rfl) dL_law_221 ⟨Nat.le_of_ble_eq_true rfl, Nat.le_of_ble_eq_true rfl⟩ (fun r u H locs hq w => ?_)
  obtain ⟨ch8, fp, fr, rc, fn, ft⟩ := u
  obtain ⟨rfl, h9⟩ := hq
  have h9 : ch = ch8 := (show ch8 = ch from h9).symm
  subst h9
  refine lv_aload_n hx hb dL_law_224 rfl (lv_at hl 2 rfl) ?_
  refine lv_aload_n hx hb dL_law_225 rfl (lv_at hl 0 rfl) ?_
  refine lv_iload_n hx hb dL_law_226 rfl (lv_at hl 3 rfl) ?_
  refine lv_iconst (v := 1) hx hb dL_law_227 (by decide) ?_
  refine lv_iadd hx hb dL_law_228 ?_
  refine cd_top (y := nI (j + 1)) (nI_add j 1) ?_
  refine l_ld C hX hbl hL w (j + 1) (by omega) dL_law_229 ?_
  refine l_callM C w (mM_count l D b dM ch gn gt (xs (j + 1))) (cwV 1 hts (lw_V q201 q202 q203 q16 q204) rfl rfl rfl (by decide +kernel) ⟨Nat.le_of_ble_eq_true rfl, Nat.le_of_ble_eq_true rfl⟩) rfl hl.1 rfl (Nat.le_of_ble_eq_true rfl) dL_law_230 ⟨Nat.le_of_ble_eq_true rfl, Nat.le_of_ble_eq_true rfl⟩ (fun r u H locs hq w => ?_)
  obtain ⟨ch9, gn, gt⟩ := u
  obtain ⟨rfl, h9⟩ := hq
  have h9 : ch = ch9 := (show ch9 = ch from h9).symm
  subst h9
  refine lv_icmp_eq (tgt := 419) hx hb dL_law_233 (by decide) (fun _ => ?_) (fun hc => absurd (pl_co _) hc)
  exact K _ _ _ _ _ _ _ _ _ _ _ w (lv_sub hl [0, 1, 2, 3] rfl)
set_option maxHeartbeats 4000000 in
set_option maxRecDepth 100000 in
theorem law_partition {p : Program} {l : Launch} {e : Env} {s : State} {m : MethodId} {below : List Frame} {meth : Method} {c : Code} {D : va_G} {a : Nat → Nat} {dB dJ : ClassId} {b : Nat → Nat} {dM : ClassId} {z L : Nat} {xs : Nat → Int32} (hL : L ≤ 192) (C : gC R_law cL_law 4 ret D (tyL dB dJ dM) (fun q => s.heap.size ≤ q) p s m #[Value.ref z] meth c) (hX : va_X z L xs s s.heap) (hbl : z < s.heap.size) {j : Nat} (hj : j + 3 ≤ L) (K : ∀ (ch : Int32) (fp fr : Nat → Int32) (rc : Int32) (fn ft gn gt : Nat → Int32) (H : Heap) (locs : List Loc) (ls : Array Slot), gW D (fun q => s.heap.size ≤ q) s (wL a dB dJ (ch, fp, fr, rc, fn, ft) b dM (ch, gn, gt)) H locs → lv_has ls 4 [(0, .ref z), (1, .ref (a 0)), (2, .ref (b 0)), (3, .int (nI j))] → W p l e room_1 s m #[Value.ref z] below meth c H locs 8 9605 (lw_Z below #[Value.ref z] s) (F0 m 419 ls [])) :
    ∀ (ch : Int32) (fp fr : Nat → Int32) (rc : Int32) (fn ft gn gt : Nat → Int32) (H : Heap) (locs : List Loc) (ls : Array Slot), gW D (fun q => s.heap.size ≤ q) s (wL a dB dJ (ch, fp, fr, rc, fn, ft) b dM (ch, gn, gt)) H locs → lv_has ls 4 [(0, .ref z), (1, .ref (a 0)), (2, .ref (b 0)), (3, .int (nI j))] → W p l e room_1 s m #[Value.ref z] below meth c H locs 8 9605 (lw_Z below #[Value.ref z] s) (F0 m 238 ls []) := by
  obtain ⟨hx, hb, hr, hml, hown, hts, hA, hK, hlocks⟩ := id C
  intro ch fp fr rc fn ft gn gt H locs ls w hl
  refine lv_aload_n hx hb dL_law_238 rfl (lv_at hl 1 rfl) ?_
  refine lv_aload_n hx hb dL_law_239 rfl (lv_at hl 0 rfl) ?_
  refine lv_iload_n hx hb dL_law_240 rfl (lv_at hl 3 rfl) ?_
  refine lv_iconst (v := 1) hx hb dL_law_241 (by decide) ?_
  refine lv_iadd hx hb dL_law_242 ?_
  refine cd_top (y := nI (j + 1)) (nI_add j 1) ?_
  refine l_ld C hX hbl hL w (j + 1) (by omega) dL_law_243 ?_
  refine lv_aload_n hx hb dL_law_244 rfl (lv_at hl 0 rfl) ?_
  refine lv_iload_n hx hb dL_law_245 rfl (lv_at hl 3 rfl) ?_
  refine lv_iconst (v := 2) hx hb dL_law_246 (by decide) ?_
  refine lv_iadd hx hb dL_law_247 ?_
  refine cd_top (y := nI (j + 2)) (nI_add j 2) ?_
  refine l_ld C hX hbl hL w (j + 2) (by omega) dL_law_248 ?_
  refine l_callX C w (mX_partition l D a dB dJ ch rc fp fr fn ft (xs (j + 1)) (xs (j + 2))) (cwV 2 hts (lw_V q102 q103 q104 q15 q105) rfl rfl rfl (by decide +kernel) ⟨Nat.le_of_ble_eq_true rfl, Nat.le_of_ble_eq_true rfl⟩) rfl hl.1 rfl (Nat.le_of_ble_eq_true rfl) dL_law_249 ⟨Nat.le_of_ble_eq_true rfl, Nat.le_of_ble_eq_true rfl⟩ (fun r u H locs hq w => ?_)
  obtain ⟨ch8, fp, fr, rc, fn, ft⟩ := u
  obtain ⟨rfl, h9⟩ := hq
  have h9 : ch = ch8 := (show ch8 = ch from h9).symm
  subst h9
  refine lv_aload_n hx hb dL_law_252 rfl (lv_at hl 2 rfl) ?_
  refine lv_aload_n hx hb dL_law_253 rfl (lv_at hl 0 rfl) ?_
  refine lv_iload_n hx hb dL_law_254 rfl (lv_at hl 3 rfl) ?_
  refine lv_iconst (v := 1) hx hb dL_law_255 (by decide) ?_
  refine lv_iadd hx hb dL_law_256 ?_
  refine cd_top (y := nI (j + 1)) (nI_add j 1) ?_
  refine l_ld C hX hbl hL w (j + 1) (by omega) dL_law_257 ?_
  refine lv_aload_n hx hb dL_law_258 rfl (lv_at hl 0 rfl) ?_
  refine lv_iload_n hx hb dL_law_259 rfl (lv_at hl 3 rfl) ?_
  refine lv_iconst (v := 2) hx hb dL_law_260 (by decide) ?_
  refine lv_iadd hx hb dL_law_261 ?_
  refine cd_top (y := nI (j + 2)) (nI_add j 2) ?_
  refine l_ld C hX hbl hL w (j + 2) (by omega) dL_law_262 ?_
  refine l_callM C w (mM_partition l D b dM ch gn gt (xs (j + 1)) (xs (j + 2))) (cwV 2 hts (lw_V q205 q206 q207 q16 q208) rfl rfl rfl (by decide +kernel) ⟨Nat.le_of_ble_eq_true rfl, Nat.le_of_ble_eq_true rfl⟩) rfl hl.1 rfl (Nat.le_of_ble_eq_true rfl) dL_law_263 ⟨Nat.le_of_ble_eq_true rfl, Nat.le_of_ble_eq_true rfl⟩ (fun r u H locs hq w => ?_)
  obtain ⟨ch9, gn, gt⟩ := u
  obtain ⟨rfl, h9⟩ := hq
  have h9 : ch = ch9 := (show ch9 = ch from h9).symm
  subst h9
  refine lv_icmp_eq (tgt := 419) hx hb dL_law_266 (by decide) (fun _ => ?_) (fun hc => absurd (pl_pa _ _) hc)
  exact K _ _ _ _ _ _ _ _ _ _ _ w (lv_sub hl [0, 1, 2, 3] rfl)
set_option maxHeartbeats 4000000 in
set_option maxRecDepth 100000 in
theorem law_turned {p : Program} {l : Launch} {e : Env} {s : State} {m : MethodId} {below : List Frame} {meth : Method} {c : Code} {D : va_G} {a : Nat → Nat} {dB dJ : ClassId} {b : Nat → Nat} {dM : ClassId} {z L : Nat} {xs : Nat → Int32} (hL : L ≤ 192) (C : gC R_law cL_law 4 ret D (tyL dB dJ dM) (fun q => s.heap.size ≤ q) p s m #[Value.ref z] meth c) (hX : va_X z L xs s s.heap) (hbl : z < s.heap.size) {j : Nat} (hj : j + 3 ≤ L) (K : ∀ (ch : Int32) (fp fr : Nat → Int32) (rc : Int32) (fn ft gn gt : Nat → Int32) (H : Heap) (locs : List Loc) (ls : Array Slot), gW D (fun q => s.heap.size ≤ q) s (wL a dB dJ (ch, fp, fr, rc, fn, ft) b dM (ch, gn, gt)) H locs → lv_has ls 4 [(0, .ref z), (1, .ref (a 0)), (2, .ref (b 0)), (3, .int (nI j))] → W p l e room_1 s m #[Value.ref z] below meth c H locs 8 9605 (lw_Z below #[Value.ref z] s) (F0 m 419 ls [])) :
    ∀ (ch : Int32) (fp fr : Nat → Int32) (rc : Int32) (fn ft gn gt : Nat → Int32) (H : Heap) (locs : List Loc) (ls : Array Slot), gW D (fun q => s.heap.size ≤ q) s (wL a dB dJ (ch, fp, fr, rc, fn, ft) b dM (ch, gn, gt)) H locs → lv_has ls 4 [(0, .ref z), (1, .ref (a 0)), (2, .ref (b 0)), (3, .int (nI j))] → W p l e room_1 s m #[Value.ref z] below meth c H locs 8 9605 (lw_Z below #[Value.ref z] s) (F0 m 271 ls []) := by
  obtain ⟨hx, hb, hr, hml, hown, hts, hA, hK, hlocks⟩ := id C
  intro ch fp fr rc fn ft gn gt H locs ls w hl
  refine lv_aload_n hx hb dL_law_271 rfl (lv_at hl 1 rfl) ?_
  refine lv_aload_n hx hb dL_law_272 rfl (lv_at hl 0 rfl) ?_
  refine lv_iload_n hx hb dL_law_273 rfl (lv_at hl 3 rfl) ?_
  refine lv_iconst (v := 1) hx hb dL_law_274 (by decide) ?_
  refine lv_iadd hx hb dL_law_275 ?_
  refine cd_top (y := nI (j + 1)) (nI_add j 1) ?_
  refine l_ld C hX hbl hL w (j + 1) (by omega) dL_law_276 ?_
  refine l_callX C w (mX_turned l D a dB dJ ch rc fp fr fn ft (xs (j + 1))) (cwV 1 hts (lw_V q106 q107 q108 q15 q109) rfl rfl rfl (by decide +kernel) ⟨Nat.le_of_ble_eq_true rfl, Nat.le_of_ble_eq_true rfl⟩) rfl hl.1 rfl (Nat.le_of_ble_eq_true rfl) dL_law_277 ⟨Nat.le_of_ble_eq_true rfl, Nat.le_of_ble_eq_true rfl⟩ (fun r u H locs hq w => ?_)
  obtain ⟨ch8, fp, fr, rc, fn, ft⟩ := u
  obtain ⟨rfl, h9⟩ := hq
  have h9 : ch = ch8 := (show ch8 = ch from h9).symm
  subst h9
  refine lv_aload_n hx hb dL_law_280 rfl (lv_at hl 2 rfl) ?_
  refine lv_aload_n hx hb dL_law_281 rfl (lv_at hl 0 rfl) ?_
  refine lv_iload_n hx hb dL_law_282 rfl (lv_at hl 3 rfl) ?_
  refine lv_iconst (v := 1) hx hb dL_law_283 (by decide) ?_
  refine lv_iadd hx hb dL_law_284 ?_
  refine cd_top (y := nI (j + 1)) (nI_add j 1) ?_
  refine l_ld C hX hbl hL w (j + 1) (by omega) dL_law_285 ?_
  refine l_callM C w (mM_turned l D b dM ch gn gt (xs (j + 1))) (cwV 1 hts (lw_V q209 q210 q211 q16 q212) rfl rfl rfl (by decide +kernel) ⟨Nat.le_of_ble_eq_true rfl, Nat.le_of_ble_eq_true rfl⟩) rfl hl.1 rfl (Nat.le_of_ble_eq_true rfl) dL_law_286 ⟨Nat.le_of_ble_eq_true rfl, Nat.le_of_ble_eq_true rfl⟩ (fun r u H locs hq w => ?_)
  obtain ⟨ch9, gn, gt⟩ := u
  obtain ⟨rfl, h9⟩ := hq
  have h9 : ch = ch9 := (show ch9 = ch from h9).symm
  subst h9
  refine lv_icmp_eq (tgt := 419) hx hb dL_law_289 (by decide) (fun _ => ?_) (fun hc => absurd (pl_tu _) hc)
  exact K _ _ _ _ _ _ _ _ _ _ _ w (lv_sub hl [0, 1, 2, 3] rfl)
set_option maxHeartbeats 4000000 in
set_option maxRecDepth 100000 in
theorem law_permutations {p : Program} {l : Launch} {e : Env} {s : State} {m : MethodId} {below : List Frame} {meth : Method} {c : Code} {D : va_G} {a : Nat → Nat} {dB dJ : ClassId} {b : Nat → Nat} {dM : ClassId} {z L : Nat} {xs : Nat → Int32} (hL : L ≤ 192) (C : gC R_law cL_law 4 ret D (tyL dB dJ dM) (fun q => s.heap.size ≤ q) p s m #[Value.ref z] meth c) (hX : va_X z L xs s s.heap) (hbl : z < s.heap.size) {j : Nat} (hj : j + 3 ≤ L) (K : ∀ (ch : Int32) (fp fr : Nat → Int32) (rc : Int32) (fn ft gn gt : Nat → Int32) (H : Heap) (locs : List Loc) (ls : Array Slot), gW D (fun q => s.heap.size ≤ q) s (wL a dB dJ (ch, fp, fr, rc, fn, ft) b dM (ch, gn, gt)) H locs → lv_has ls 4 [(0, .ref z), (1, .ref (a 0)), (2, .ref (b 0)), (3, .int (nI j))] → W p l e room_1 s m #[Value.ref z] below meth c H locs 8 9605 (lw_Z below #[Value.ref z] s) (F0 m 419 ls [])) :
    ∀ (ch : Int32) (fp fr : Nat → Int32) (rc : Int32) (fn ft gn gt : Nat → Int32) (H : Heap) (locs : List Loc) (ls : Array Slot), gW D (fun q => s.heap.size ≤ q) s (wL a dB dJ (ch, fp, fr, rc, fn, ft) b dM (ch, gn, gt)) H locs → lv_has ls 4 [(0, .ref z), (1, .ref (a 0)), (2, .ref (b 0)), (3, .int (nI j))] → W p l e room_1 s m #[Value.ref z] below meth c H locs 8 9605 (lw_Z below #[Value.ref z] s) (F0 m 294 ls []) := by
  obtain ⟨hx, hb, hr, hml, hown, hts, hA, hK, hlocks⟩ := id C
  intro ch fp fr rc fn ft gn gt H locs ls w hl
  refine lv_aload_n hx hb dL_law_294 rfl (lv_at hl 1 rfl) ?_
  refine lv_aload_n hx hb dL_law_295 rfl (lv_at hl 0 rfl) ?_
  refine lv_iload_n hx hb dL_law_296 rfl (lv_at hl 3 rfl) ?_
  refine lv_iconst (v := 1) hx hb dL_law_297 (by decide) ?_
  refine lv_iadd hx hb dL_law_298 ?_
  refine cd_top (y := nI (j + 1)) (nI_add j 1) ?_
  refine l_ld C hX hbl hL w (j + 1) (by omega) dL_law_299 ?_
  refine l_callX C w (mX_permutations l D a dB dJ ch rc fp fr fn ft (xs (j + 1))) (cwV 1 hts (lw_V q110 q111 q112 q15 q113) rfl rfl rfl (by decide +kernel) ⟨Nat.le_of_ble_eq_true rfl, Nat.le_of_ble_eq_true rfl⟩) rfl hl.1 rfl (Nat.le_of_ble_eq_true rfl) dL_law_300 ⟨Nat.le_of_ble_eq_true rfl, Nat.le_of_ble_eq_true rfl⟩ (fun r u H locs hq w => ?_)
  obtain ⟨ch8, fp, fr, rc, fn, ft⟩ := u
  obtain ⟨rfl, h9⟩ := hq
  have h9 : ch = ch8 := (show ch8 = ch from h9).symm
  subst h9
  refine lv_aload_n hx hb dL_law_303 rfl (lv_at hl 2 rfl) ?_
  refine lv_aload_n hx hb dL_law_304 rfl (lv_at hl 0 rfl) ?_
  refine lv_iload_n hx hb dL_law_305 rfl (lv_at hl 3 rfl) ?_
  refine lv_iconst (v := 1) hx hb dL_law_306 (by decide) ?_
  refine lv_iadd hx hb dL_law_307 ?_
  refine cd_top (y := nI (j + 1)) (nI_add j 1) ?_
  refine l_ld C hX hbl hL w (j + 1) (by omega) dL_law_308 ?_
  refine l_callM C w (mM_permutations l D b dM ch gn gt (xs (j + 1))) (cwV 1 hts (lw_V q213 q214 q215 q16 q216) rfl rfl rfl (by decide +kernel) ⟨Nat.le_of_ble_eq_true rfl, Nat.le_of_ble_eq_true rfl⟩) rfl hl.1 rfl (Nat.le_of_ble_eq_true rfl) dL_law_309 ⟨Nat.le_of_ble_eq_true rfl, Nat.le_of_ble_eq_true rfl⟩ (fun r u H locs hq w => ?_)
  obtain ⟨ch9, gn, gt⟩ := u
  obtain ⟨rfl, h9⟩ := hq
  have h9 : ch = ch9 := (show ch9 = ch from h9).symm
  subst h9
  refine lv_icmp_eq (tgt := 419) hx hb dL_law_312 (by decide) (fun _ => ?_) (fun hc => absurd (pl_pr _) hc)
  exact K _ _ _ _ _ _ _ _ _ _ _ w (lv_sub hl [0, 1, 2, 3] rfl)
set_option maxHeartbeats 4000000 in
set_option maxRecDepth 100000 in
theorem law_squares {p : Program} {l : Launch} {e : Env} {s : State} {m : MethodId} {below : List Frame} {meth : Method} {c : Code} {D : va_G} {a : Nat → Nat} {dB dJ : ClassId} {b : Nat → Nat} {dM : ClassId} {z L : Nat} {xs : Nat → Int32} (hL : L ≤ 192) (C : gC R_law cL_law 4 ret D (tyL dB dJ dM) (fun q => s.heap.size ≤ q) p s m #[Value.ref z] meth c) (hX : va_X z L xs s s.heap) (hbl : z < s.heap.size) {j : Nat} (hj : j + 3 ≤ L) (K : ∀ (ch : Int32) (fp fr : Nat → Int32) (rc : Int32) (fn ft gn gt : Nat → Int32) (H : Heap) (locs : List Loc) (ls : Array Slot), gW D (fun q => s.heap.size ≤ q) s (wL a dB dJ (ch, fp, fr, rc, fn, ft) b dM (ch, gn, gt)) H locs → lv_has ls 4 [(0, .ref z), (1, .ref (a 0)), (2, .ref (b 0)), (3, .int (nI j))] → W p l e room_1 s m #[Value.ref z] below meth c H locs 8 9605 (lw_Z below #[Value.ref z] s) (F0 m 419 ls [])) :
    ∀ (ch : Int32) (fp fr : Nat → Int32) (rc : Int32) (fn ft gn gt : Nat → Int32) (H : Heap) (locs : List Loc) (ls : Array Slot), gW D (fun q => s.heap.size ≤ q) s (wL a dB dJ (ch, fp, fr, rc, fn, ft) b dM (ch, gn, gt)) H locs → lv_has ls 4 [(0, .ref z), (1, .ref (a 0)), (2, .ref (b 0)), (3, .int (nI j))] → W p l e room_1 s m #[Value.ref z] below meth c H locs 8 9605 (lw_Z below #[Value.ref z] s) (F0 m 317 ls []) := by
  obtain ⟨hx, hb, hr, hml, hown, hts, hA, hK, hlocks⟩ := id C
  intro ch fp fr rc fn ft gn gt H locs ls w hl
  refine lv_aload_n hx hb dL_law_317 rfl (lv_at hl 1 rfl) ?_
  refine lv_aload_n hx hb dL_law_318 rfl (lv_at hl 0 rfl) ?_
  refine lv_iload_n hx hb dL_law_319 rfl (lv_at hl 3 rfl) ?_
  refine lv_iconst (v := 1) hx hb dL_law_320 (by decide) ?_
  refine lv_iadd hx hb dL_law_321 ?_
  refine cd_top (y := nI (j + 1)) (nI_add j 1) ?_
  refine l_ld C hX hbl hL w (j + 1) (by omega) dL_law_322 ?_
  refine l_callX C w (mX_squares l D a dB dJ ch rc fp fr fn ft (xs (j + 1))) (cwV 1 hts (lw_V q114 q115 q116 q15 q117) rfl rfl rfl (by decide +kernel) ⟨Nat.le_of_ble_eq_true rfl, Nat.le_of_ble_eq_true rfl⟩) rfl hl.1 rfl (Nat.le_of_ble_eq_true rfl) dL_law_323 ⟨Nat.le_of_ble_eq_true rfl, Nat.le_of_ble_eq_true rfl⟩ (fun r u H locs hq w => ?_)
  obtain ⟨ch8, fp, fr, rc, fn, ft⟩ := u
  obtain ⟨rfl, h9⟩ := hq
  have h9 : ch = ch8 := (show ch8 = ch from h9).symm
  subst h9
  refine lv_aload_n hx hb dL_law_326 rfl (lv_at hl 2 rfl) ?_
  refine lv_aload_n hx hb dL_law_327 rfl (lv_at hl 0 rfl) ?_
  refine lv_iload_n hx hb dL_law_328 rfl (lv_at hl 3 rfl) ?_
  refine lv_iconst (v := 1) hx hb dL_law_329 (by decide) ?_
  refine lv_iadd hx hb dL_law_330 ?_
  refine cd_top (y := nI (j + 1)) (nI_add j 1) ?_
  refine l_ld C hX hbl hL w (j + 1) (by omega) dL_law_331 ?_
  refine l_callM C w (mM_squares l D b dM ch gn gt (xs (j + 1))) (cwV 1 hts (lw_V q217 q218 q219 q16 q220) rfl rfl rfl (by decide +kernel) ⟨Nat.le_of_ble_eq_true rfl, Nat.le_of_ble_eq_true rfl⟩) rfl hl.1 rfl (Nat.le_of_ble_eq_true rfl) dL_law_332 ⟨Nat.le_of_ble_eq_true rfl, Nat.le_of_ble_eq_true rfl⟩ (fun r u H locs hq w => ?_)
  obtain ⟨ch9, gn, gt⟩ := u
  obtain ⟨rfl, h9⟩ := hq
  have h9 : ch = ch9 := (show ch9 = ch from h9).symm
  subst h9
  refine lv_icmp_eq (tgt := 419) hx hb dL_law_335 (by decide) (fun _ => ?_) (fun hc => absurd (pl_sq _) hc)
  exact K _ _ _ _ _ _ _ _ _ _ _ w (lv_sub hl [0, 1, 2, 3] rfl)
set_option maxHeartbeats 4000000 in
set_option maxRecDepth 100000 in
theorem law_vanishes {p : Program} {l : Launch} {e : Env} {s : State} {m : MethodId} {below : List Frame} {meth : Method} {c : Code} {D : va_G} {a : Nat → Nat} {dB dJ : ClassId} {b : Nat → Nat} {dM : ClassId} {z L : Nat} {xs : Nat → Int32} (hL : L ≤ 192) (C : gC R_law cL_law 4 ret D (tyL dB dJ dM) (fun q => s.heap.size ≤ q) p s m #[Value.ref z] meth c) (hX : va_X z L xs s s.heap) (hbl : z < s.heap.size) {j : Nat} (hj : j + 3 ≤ L) (K : ∀ (ch : Int32) (fp fr : Nat → Int32) (rc : Int32) (fn ft gn gt : Nat → Int32) (H : Heap) (locs : List Loc) (ls : Array Slot), gW D (fun q => s.heap.size ≤ q) s (wL a dB dJ (ch, fp, fr, rc, fn, ft) b dM (ch, gn, gt)) H locs → lv_has ls 4 [(0, .ref z), (1, .ref (a 0)), (2, .ref (b 0)), (3, .int (nI j))] → W p l e room_1 s m #[Value.ref z] below meth c H locs 8 9605 (lw_Z below #[Value.ref z] s) (F0 m 419 ls [])) :
    ∀ (ch : Int32) (fp fr : Nat → Int32) (rc : Int32) (fn ft gn gt : Nat → Int32) (H : Heap) (locs : List Loc) (ls : Array Slot), gW D (fun q => s.heap.size ≤ q) s (wL a dB dJ (ch, fp, fr, rc, fn, ft) b dM (ch, gn, gt)) H locs → lv_has ls 4 [(0, .ref z), (1, .ref (a 0)), (2, .ref (b 0)), (3, .int (nI j))] → W p l e room_1 s m #[Value.ref z] below meth c H locs 8 9605 (lw_Z below #[Value.ref z] s) (F0 m 340 ls []) := by
  obtain ⟨hx, hb, hr, hml, hown, hts, hA, hK, hlocks⟩ := id C
  intro ch fp fr rc fn ft gn gt H locs ls w hl
  refine lv_aload_n hx hb dL_law_340 rfl (lv_at hl 1 rfl) ?_
  refine lv_aload_n hx hb dL_law_341 rfl (lv_at hl 0 rfl) ?_
  refine lv_iload_n hx hb dL_law_342 rfl (lv_at hl 3 rfl) ?_
  refine lv_iconst (v := 1) hx hb dL_law_343 (by decide) ?_
  refine lv_iadd hx hb dL_law_344 ?_
  refine cd_top (y := nI (j + 1)) (nI_add j 1) ?_
  refine l_ld C hX hbl hL w (j + 1) (by omega) dL_law_345 ?_
  refine lv_aload_n hx hb dL_law_346 rfl (lv_at hl 0 rfl) ?_
  refine lv_iload_n hx hb dL_law_347 rfl (lv_at hl 3 rfl) ?_
  refine lv_iconst (v := 2) hx hb dL_law_348 (by decide) ?_
  refine lv_iadd hx hb dL_law_349 ?_
  refine cd_top (y := nI (j + 2)) (nI_add j 2) ?_
  refine l_ld C hX hbl hL w (j + 2) (by omega) dL_law_350 ?_
  refine l_callX C w (mX_vanishes l D a dB dJ ch rc fp fr fn ft (xs (j + 1)) (xs (j + 2))) (cwV 2 hts (lw_V q119 q120 q121 q15 q122) rfl rfl rfl (by decide +kernel) ⟨Nat.le_of_ble_eq_true rfl, Nat.le_of_ble_eq_true rfl⟩) rfl hl.1 rfl (Nat.le_of_ble_eq_true rfl) dL_law_351 ⟨Nat.le_of_ble_eq_true rfl, Nat.le_of_ble_eq_true rfl⟩ (fun r u H locs hq w => ?_)
  obtain ⟨ch8, fp, fr, rc, fn, ft⟩ := u
  obtain ⟨rfl, h9⟩ := hq
  have h9 : ch = ch8 := (show ch8 = ch from h9).symm
  subst h9
  refine lv_aload_n hx hb dL_law_354 rfl (lv_at hl 2 rfl) ?_
  refine lv_aload_n hx hb dL_law_355 rfl (lv_at hl 0 rfl) ?_
  refine lv_iload_n hx hb dL_law_356 rfl (lv_at hl 3 rfl) ?_
  refine lv_iconst (v := 1) hx hb dL_law_357 (by decide) ?_
  refine lv_iadd hx hb dL_law_358 ?_
  refine cd_top (y := nI (j + 1)) (nI_add j 1) ?_
  refine l_ld C hX hbl hL w (j + 1) (by omega) dL_law_359 ?_
  refine lv_aload_n hx hb dL_law_360 rfl (lv_at hl 0 rfl) ?_
  refine lv_iload_n hx hb dL_law_361 rfl (lv_at hl 3 rfl) ?_
  refine lv_iconst (v := 2) hx hb dL_law_362 (by decide) ?_
  refine lv_iadd hx hb dL_law_363 ?_
  refine cd_top (y := nI (j + 2)) (nI_add j 2) ?_
  refine l_ld C hX hbl hL w (j + 2) (by omega) dL_law_364 ?_
  refine l_callM C w (mM_vanishes l D b dM ch gn gt (xs (j + 1)) (xs (j + 2))) (cwV 2 hts (lw_V q221 q222 q223 q16 q224) rfl rfl rfl (by decide +kernel) ⟨Nat.le_of_ble_eq_true rfl, Nat.le_of_ble_eq_true rfl⟩) rfl hl.1 rfl (Nat.le_of_ble_eq_true rfl) dL_law_365 ⟨Nat.le_of_ble_eq_true rfl, Nat.le_of_ble_eq_true rfl⟩ (fun r u H locs hq w => ?_)
  obtain ⟨ch9, gn, gt⟩ := u
  obtain ⟨rfl, h9⟩ := hq
  have h9 : ch = ch9 := (show ch9 = ch from h9).symm
  subst h9
  refine lv_icmp_eq (tgt := 419) hx hb dL_law_368 (by decide) (fun _ => ?_) (fun hc => absurd (pl_va _ _) hc)
  exact K _ _ _ _ _ _ _ _ _ _ _ w (lv_sub hl [0, 1, 2, 3] rfl)
set_option maxHeartbeats 4000000 in
set_option maxRecDepth 100000 in
theorem law_greatest {p : Program} {l : Launch} {e : Env} {s : State} {m : MethodId} {below : List Frame} {meth : Method} {c : Code} {D : va_G} {a : Nat → Nat} {dB dJ : ClassId} {b : Nat → Nat} {dM : ClassId} {z L : Nat} {xs : Nat → Int32} (hL : L ≤ 192) (C : gC R_law cL_law 4 ret D (tyL dB dJ dM) (fun q => s.heap.size ≤ q) p s m #[Value.ref z] meth c) (hX : va_X z L xs s s.heap) (hbl : z < s.heap.size) {j : Nat} (hj : j + 3 ≤ L) (K : ∀ (ch : Int32) (fp fr : Nat → Int32) (rc : Int32) (fn ft gn gt : Nat → Int32) (H : Heap) (locs : List Loc) (ls : Array Slot), gW D (fun q => s.heap.size ≤ q) s (wL a dB dJ (ch, fp, fr, rc, fn, ft) b dM (ch, gn, gt)) H locs → lv_has ls 4 [(0, .ref z), (1, .ref (a 0)), (2, .ref (b 0)), (3, .int (nI j))] → W p l e room_1 s m #[Value.ref z] below meth c H locs 8 9605 (lw_Z below #[Value.ref z] s) (F0 m 419 ls [])) :
    ∀ (ch : Int32) (fp fr : Nat → Int32) (rc : Int32) (fn ft gn gt : Nat → Int32) (H : Heap) (locs : List Loc) (ls : Array Slot), gW D (fun q => s.heap.size ≤ q) s (wL a dB dJ (ch, fp, fr, rc, fn, ft) b dM (ch, gn, gt)) H locs → lv_has ls 4 [(0, .ref z), (1, .ref (a 0)), (2, .ref (b 0)), (3, .int (nI j))] → W p l e room_1 s m #[Value.ref z] below meth c H locs 8 9605 (lw_Z below #[Value.ref z] s) (F0 m 373 ls []) := by
  obtain ⟨hx, hb, hr, hml, hown, hts, hA, hK, hlocks⟩ := id C
  intro ch fp fr rc fn ft gn gt H locs ls w hl
  refine lv_aload_n hx hb dL_law_373 rfl (lv_at hl 1 rfl) ?_
  refine lv_aload_n hx hb dL_law_374 rfl (lv_at hl 0 rfl) ?_
  refine lv_iload_n hx hb dL_law_375 rfl (lv_at hl 3 rfl) ?_
  refine lv_iconst (v := 1) hx hb dL_law_376 (by decide) ?_
  refine lv_iadd hx hb dL_law_377 ?_
  refine cd_top (y := nI (j + 1)) (nI_add j 1) ?_
  refine l_ld C hX hbl hL w (j + 1) (by omega) dL_law_378 ?_
  refine l_callX C w (mX_greatest l D a dB dJ ch rc fp fr fn ft (xs (j + 1))) (cwV 1 hts (lw_V q123 q124 q125 q15 q126) rfl rfl rfl (by decide +kernel) ⟨Nat.le_of_ble_eq_true rfl, Nat.le_of_ble_eq_true rfl⟩) rfl hl.1 rfl (Nat.le_of_ble_eq_true rfl) dL_law_379 ⟨Nat.le_of_ble_eq_true rfl, Nat.le_of_ble_eq_true rfl⟩ (fun r u H locs hq w => ?_)
  obtain ⟨ch8, fp, fr, rc, fn, ft⟩ := u
  obtain ⟨rfl, h9⟩ := hq
  have h9 : ch = ch8 := (show ch8 = ch from h9).symm
  subst h9
  refine lv_aload_n hx hb dL_law_382 rfl (lv_at hl 2 rfl) ?_
  refine lv_aload_n hx hb dL_law_383 rfl (lv_at hl 0 rfl) ?_
  refine lv_iload_n hx hb dL_law_384 rfl (lv_at hl 3 rfl) ?_
  refine lv_iconst (v := 1) hx hb dL_law_385 (by decide) ?_
  refine lv_iadd hx hb dL_law_386 ?_
  refine cd_top (y := nI (j + 1)) (nI_add j 1) ?_
  refine l_ld C hX hbl hL w (j + 1) (by omega) dL_law_387 ?_
  refine l_callM C w (mM_greatest l D b dM ch gn gt (xs (j + 1))) (cwV 1 hts (lw_V q225 q226 q227 q16 q228) rfl rfl rfl (by decide +kernel) ⟨Nat.le_of_ble_eq_true rfl, Nat.le_of_ble_eq_true rfl⟩) rfl hl.1 rfl (Nat.le_of_ble_eq_true rfl) dL_law_388 ⟨Nat.le_of_ble_eq_true rfl, Nat.le_of_ble_eq_true rfl⟩ (fun r u H locs hq w => ?_)
  obtain ⟨ch9, gn, gt⟩ := u
  obtain ⟨rfl, h9⟩ := hq
  have h9 : ch = ch9 := (show ch9 = ch from h9).symm
  subst h9
  refine lv_icmp_eq (tgt := 419) hx hb dL_law_391 (by decide) (fun _ => ?_) (fun hc => absurd (pl_gr _) hc)
  exact K _ _ _ _ _ _ _ _ _ _ _ w (lv_sub hl [0, 1, 2, 3] rfl)
set_option maxHeartbeats 4000000 in
set_option maxRecDepth 100000 in
theorem law_support {p : Program} {l : Launch} {e : Env} {s : State} {m : MethodId} {below : List Frame} {meth : Method} {c : Code} {D : va_G} {a : Nat → Nat} {dB dJ : ClassId} {b : Nat → Nat} {dM : ClassId} {z L : Nat} {xs : Nat → Int32} (hL : L ≤ 192) (C : gC R_law cL_law 4 ret D (tyL dB dJ dM) (fun q => s.heap.size ≤ q) p s m #[Value.ref z] meth c) (hX : va_X z L xs s s.heap) (hbl : z < s.heap.size) {j : Nat} (hj : j + 3 ≤ L) (K : ∀ (ch : Int32) (fp fr : Nat → Int32) (rc : Int32) (fn ft gn gt : Nat → Int32) (H : Heap) (locs : List Loc) (ls : Array Slot), gW D (fun q => s.heap.size ≤ q) s (wL a dB dJ (ch, fp, fr, rc, fn, ft) b dM (ch, gn, gt)) H locs → lv_has ls 4 [(0, .ref z), (1, .ref (a 0)), (2, .ref (b 0)), (3, .int (nI j))] → W p l e room_1 s m #[Value.ref z] below meth c H locs 8 9605 (lw_Z below #[Value.ref z] s) (F0 m 419 ls [])) :
    ∀ (ch : Int32) (fp fr : Nat → Int32) (rc : Int32) (fn ft gn gt : Nat → Int32) (H : Heap) (locs : List Loc) (ls : Array Slot), gW D (fun q => s.heap.size ≤ q) s (wL a dB dJ (ch, fp, fr, rc, fn, ft) b dM (ch, gn, gt)) H locs → lv_has ls 4 [(0, .ref z), (1, .ref (a 0)), (2, .ref (b 0)), (3, .int (nI j))] → W p l e room_1 s m #[Value.ref z] below meth c H locs 8 9605 (lw_Z below #[Value.ref z] s) (F0 m 396 ls []) := by
  obtain ⟨hx, hb, hr, hml, hown, hts, hA, hK, hlocks⟩ := id C
  intro ch fp fr rc fn ft gn gt H locs ls w hl
  refine lv_aload_n hx hb dL_law_396 rfl (lv_at hl 1 rfl) ?_
  refine lv_aload_n hx hb dL_law_397 rfl (lv_at hl 0 rfl) ?_
  refine lv_iload_n hx hb dL_law_398 rfl (lv_at hl 3 rfl) ?_
  refine lv_iconst (v := 1) hx hb dL_law_399 (by decide) ?_
  refine lv_iadd hx hb dL_law_400 ?_
  refine cd_top (y := nI (j + 1)) (nI_add j 1) ?_
  refine l_ld C hX hbl hL w (j + 1) (by omega) dL_law_401 ?_
  refine l_callX C w (mX_support l D a dB dJ ch rc fp fr fn ft (xs (j + 1))) (cwV 1 hts (lw_V q127 q128 q129 q15 q130) rfl rfl rfl (by decide +kernel) ⟨Nat.le_of_ble_eq_true rfl, Nat.le_of_ble_eq_true rfl⟩) rfl hl.1 rfl (Nat.le_of_ble_eq_true rfl) dL_law_402 ⟨Nat.le_of_ble_eq_true rfl, Nat.le_of_ble_eq_true rfl⟩ (fun r u H locs hq w => ?_)
  obtain ⟨ch8, fp, fr, rc, fn, ft⟩ := u
  obtain ⟨rfl, h9⟩ := hq
  have h9 : ch = ch8 := (show ch8 = ch from h9).symm
  subst h9
  refine lv_aload_n hx hb dL_law_405 rfl (lv_at hl 2 rfl) ?_
  refine lv_aload_n hx hb dL_law_406 rfl (lv_at hl 0 rfl) ?_
  refine lv_iload_n hx hb dL_law_407 rfl (lv_at hl 3 rfl) ?_
  refine lv_iconst (v := 1) hx hb dL_law_408 (by decide) ?_
  refine lv_iadd hx hb dL_law_409 ?_
  refine cd_top (y := nI (j + 1)) (nI_add j 1) ?_
  refine l_ld C hX hbl hL w (j + 1) (by omega) dL_law_410 ?_
  refine l_callM C w (mM_support l D b dM ch gn gt (xs (j + 1))) (cwV 1 hts (lw_V q229 q230 q231 q16 q232) rfl rfl rfl (by decide +kernel) ⟨Nat.le_of_ble_eq_true rfl, Nat.le_of_ble_eq_true rfl⟩) rfl hl.1 rfl (Nat.le_of_ble_eq_true rfl) dL_law_411 ⟨Nat.le_of_ble_eq_true rfl, Nat.le_of_ble_eq_true rfl⟩ (fun r u H locs hq w => ?_)
  obtain ⟨ch9, gn, gt⟩ := u
  obtain ⟨rfl, h9⟩ := hq
  have h9 : ch = ch9 := (show ch9 = ch from h9).symm
  subst h9
  refine lv_icmp_eq (tgt := 419) hx hb dL_law_414 (by decide) (fun _ => ?_) (fun hc => absurd (pl_su _) hc)
  exact K _ _ _ _ _ _ _ _ _ _ _ w (lv_sub hl [0, 1, 2, 3] rfl)
set_option maxHeartbeats 4000000 in
set_option maxRecDepth 100000 in
theorem law_loop {p : Program} {l : Launch} {e : Env} {s : State} {m : MethodId} {below : List Frame} {meth : Method} {c : Code} {D : va_G} {a : Nat → Nat} {dB dJ : ClassId} {b : Nat → Nat} {dM : ClassId} {z L : Nat} {xs : Nat → Int32} (hL : L ≤ 192) (C : gC R_law cL_law 4 ret D (tyL dB dJ dM) (fun q => s.heap.size ≤ q) p s m #[Value.ref z] meth c) (hX : va_X z L xs s s.heap) (hbl : z < s.heap.size) :
    ∀ (n j : Nat), L ≤ j + n → j ≤ L + 3 → ∀ (ch : Int32) (fp fr : Nat → Int32) (rc : Int32) (fn ft gn gt : Nat → Int32) (H : Heap) (locs : List Loc) (ls : Array Slot), gW D (fun q => s.heap.size ≤ q) s (wL a dB dJ (ch, fp, fr, rc, fn, ft) b dM (ch, gn, gt)) H locs → lv_has ls 4 [(0, .ref z), (1, .ref (a 0)), (2, .ref (b 0)), (3, .int (nI j))] → W p l e room_1 s m #[Value.ref z] below meth c H locs 8 9605 (lw_Z below #[Value.ref z] s) (F0 m 18 ls []) := by
  obtain ⟨hx, hb, hr, hml, hown, hts, hA, hK, hlocks⟩ := id C
  intro n
  induction n with
  | zero =>
    intro j hj hj3 ch fp fr rc fn ft gn gt H locs ls w hl
    refine lv_iload_n hx hb dL_law_18 rfl (lv_at hl 3 rfl) ?_
    refine lv_aload_n hx hb dL_law_19 rfl (lv_at hl 0 rfl) ?_
    refine va_slen (A := fun q => s.heap.size ≤ q) hx hb hX hbl (Nat.not_le.mpr hbl) w.2.2 dL_law_20 ?_
    refine lv_iconst (v := 3) hx hb dL_law_21 (by decide) ?_
    refine lv_isub hx hb dL_law_22 ?_
    refine lv_icmp_gt (tgt := 425) hx hb dL_law_23 (by decide) (fun _ => ?_) (fun hc => absurd ((cd_lt3 hL hj3).mpr (by omega)) hc)
    refine lv_iconst (v := 1) hx hb dL_law_425 (by decide) ?_
    refine va_forget (fun q hq => w.2.2.2.2 q hq) ?_
    refine W.widen (k := 600000) (n := 7290000) (by decide) (by decide) ?_
    exact lw_ret hx hb hr hlocks dL_law_426
  | succ n ih =>
    intro j hj hj3 ch fp fr rc fn ft gn gt H locs ls w hl
    refine lv_iload_n hx hb dL_law_18 rfl (lv_at hl 3 rfl) ?_
    refine lv_aload_n hx hb dL_law_19 rfl (lv_at hl 0 rfl) ?_
    refine va_slen (A := fun q => s.heap.size ≤ q) hx hb hX hbl (Nat.not_le.mpr hbl) w.2.2 dL_law_20 ?_
    refine lv_iconst (v := 3) hx hb dL_law_21 (by decide) ?_
    refine lv_isub hx hb dL_law_22 ?_
    refine lv_icmp_gt (tgt := 425) hx hb dL_law_23 (by decide) (fun _ => ?_) (fun hc => ?_)
    · refine lv_iconst (v := 1) hx hb dL_law_425 (by decide) ?_
      refine va_forget (fun q hq => w.2.2.2.2 q hq) ?_
      refine W.widen (k := 600000) (n := 7290000) (by decide) (by decide) ?_
      exact lw_ret hx hb hr hlocks dL_law_426
    · have hlt : j + 3 ≤ L := Nat.not_lt.mp (fun h => hc ((cd_lt3 hL hj3).mpr h))
      refine lv_aload_n hx hb dL_law_26 rfl (lv_at hl 0 rfl) ?_
      refine lv_iload_n hx hb dL_law_27 rfl (lv_at hl 3 rfl) ?_
      refine l_ld C hX hbl hL w j (by omega) dL_law_28 ?_
      refine lv_bipush (v := 15) hx hb dL_law_29 (by decide) ?_
      refine lv_iand hx hb dL_law_31 ?_
      obtain ⟨t, ht, et⟩ := pk_andE (xs j) (m := 15) 4 (by decide)
      have ht : t < 16 := ht
      refine cd_top (y := nI t) et ?_
      have K : ∀ (ch : Int32) (fp fr : Nat → Int32) (rc : Int32) (fn ft gn gt : Nat → Int32) (H : Heap) (locs : List Loc) (ls : Array Slot), gW D (fun q => s.heap.size ≤ q) s (wL a dB dJ (ch, fp, fr, rc, fn, ft) b dM (ch, gn, gt)) H locs → lv_has ls 4 [(0, .ref z), (1, .ref (a 0)), (2, .ref (b 0)), (3, .int (nI j))] → W p l e room_1 s m #[Value.ref z] below meth c H locs 8 9605 (lw_Z below #[Value.ref z] s) (F0 m 419 ls []) := by
        intro ch fp fr rc fn ft gn gt H locs ls w hl
        refine lv_iinc (v := nI (j + 3)) (lv' := [(3, .int (nI (j + 3))), (0, .ref z), (1, .ref (a 0)), (2, .ref (b 0))]) hx hb dL_law_419 hl (k := 3) rfl (nI_add j 3) (by decide) rfl (fun ls hl => ?_)
        refine lv_goto (tgt := 18) hx hb dL_law_422 (by decide) ?_
        exact ih (j + 3) (by omega) (by omega) _ _ _ _ _ _ _ _ _ _ _ w (lv_sub hl [1, 2, 3, 0] rfl)
      rcases (show t = 0 ∨ t = 1 ∨ t = 2 ∨ t = 3 ∨ t = 4 ∨ t = 5 ∨ t = 6 ∨ t = 7 ∨ t = 8 ∨ t = 9 ∨ t = 10 ∨ t = 11 ∨ t = 12 ∨ 13 ≤ t by omega) with rfl | rfl | rfl | rfl | rfl | rfl | rfl | rfl | rfl | rfl | rfl | rfl | rfl | h13
      · refine lv_tableIn (tgt := 100) hx hb dL_law_32 (by decide) (by decide) (off := 68) (by decide) (by decide) ?_
        exact law_choose hL C hX hbl hlt K _ _ _ _ _ _ _ _ _ _ _ w hl
      · refine lv_tableIn (tgt := 123) hx hb dL_law_32 (by decide) (by decide) (off := 91) (by decide) (by decide) ?_
        exact law_shape hL C hX hbl hlt K _ _ _ _ _ _ _ _ _ _ _ w hl
      · refine lv_tableIn (tgt := 136) hx hb dL_law_32 (by decide) (by decide) (off := 104) (by decide) (by decide) ?_
        exact law_at hL C hX hbl hlt K _ _ _ _ _ _ _ _ _ _ _ w hl
      · refine lv_tableIn (tgt := 159) hx hb dL_law_32 (by decide) (by decide) (off := 127) (by decide) (by decide) ?_
        exact law_character hL C hX hbl hlt K _ _ _ _ _ _ _ _ _ _ _ w hl
      · refine lv_tableIn (tgt := 192) hx hb dL_law_32 (by decide) (by decide) (off := 160) (by decide) (by decide) ?_
        exact law_degree hL C hX hbl hlt K _ _ _ _ _ _ _ _ _ _ _ w hl
      · refine lv_tableIn (tgt := 215) hx hb dL_law_32 (by decide) (by decide) (off := 183) (by decide) (by decide) ?_
        exact law_count hL C hX hbl hlt K _ _ _ _ _ _ _ _ _ _ _ w hl
      · refine lv_tableIn (tgt := 238) hx hb dL_law_32 (by decide) (by decide) (off := 206) (by decide) (by decide) ?_
        exact law_partition hL C hX hbl hlt K _ _ _ _ _ _ _ _ _ _ _ w hl
      · refine lv_tableIn (tgt := 271) hx hb dL_law_32 (by decide) (by decide) (off := 239) (by decide) (by decide) ?_
        exact law_turned hL C hX hbl hlt K _ _ _ _ _ _ _ _ _ _ _ w hl
      · refine lv_tableIn (tgt := 294) hx hb dL_law_32 (by decide) (by decide) (off := 262) (by decide) (by decide) ?_
        exact law_permutations hL C hX hbl hlt K _ _ _ _ _ _ _ _ _ _ _ w hl
      · refine lv_tableIn (tgt := 317) hx hb dL_law_32 (by decide) (by decide) (off := 285) (by decide) (by decide) ?_
        exact law_squares hL C hX hbl hlt K _ _ _ _ _ _ _ _ _ _ _ w hl
      · refine lv_tableIn (tgt := 340) hx hb dL_law_32 (by decide) (by decide) (off := 308) (by decide) (by decide) ?_
        exact law_vanishes hL C hX hbl hlt K _ _ _ _ _ _ _ _ _ _ _ w hl
      · refine lv_tableIn (tgt := 373) hx hb dL_law_32 (by decide) (by decide) (off := 341) (by decide) (by decide) ?_
        exact law_greatest hL C hX hbl hlt K _ _ _ _ _ _ _ _ _ _ _ w hl
      · refine lv_tableIn (tgt := 396) hx hb dL_law_32 (by decide) (by decide) (off := 364) (by decide) (by decide) ?_
        exact law_support hL C hX hbl hlt K _ _ _ _ _ _ _ _ _ _ _ w hl
      · refine lv_tableOut (tgt := 419) hx hb dL_law_32 (Or.inr (by rw [nI_toInt (by omega)]; omega)) (by decide) ?_
        exact K _ _ _ _ _ _ _ _ _ _ _ w hl
set_option maxHeartbeats 4000000 in
set_option maxRecDepth 100000 in
theorem whole_start {p : Program} {e : Env} {s : State} {m : MethodId} {below : List Frame} {meth : Method} {c : Code} (l : Launch) {b L : Nat} {xs : Nat → Int32} (hL : L ≤ 192) (C0 : lw_At p s m meth c b L xs) : W p l e room_1 s m #[Value.ref b] below meth c s.heap [] 0 0 (lw_Z below #[Value.ref b] s) (entryFrame m ([Value.ref b] : List Value).toArray 4) := by
  obtain ⟨hx, hb, hr, hml, hown, hts0, hX, hbl, hlocks, hgv⟩ := id C0
  have hts : ∀ w ∈ lw_all, w.before #[Value.ref b] s = true := fun w h => hts0 w (lw_all_tbl h)
  have hA : ∀ q : Nat, s.heap.size ≤ q → (fun q : Nat => s.heap.size ≤ q) q := fun _ h => h
  obtain ⟨c0, iS0, hKn0⟩ := u_known (C := RX0) (T := TX0) (N := 6) (n := 6) hts in_X0 (hts _ q18)
  obtain ⟨c1, iS1, hKn1⟩ := u_known (C := RX1) (T := TX1) (N := 3) (n := 3) hts in_X1 (hts _ q132)
  obtain ⟨D, hKc⟩ : ∃ D : va_G, ∀ (k : Nat) (q : vw_C), vwCl[k]? = some q → u_Kn s q.1 q.2.1 q.2.2 (D.1 k) (D.2 k) := by
    refine ⟨(fun k => if k = 0 then c0 else c1, fun k => if k = 0 then iS0 else iS1), ?_⟩
    intro k q hq
    match k, hq with
    | 0, hq => cases hq; exact hKn0
    | 1, hq => cases hq; exact hKn1
    | k + 2, hq => simp [vwCl] at hq
  have hS : va_S (fun q : Nat => s.heap.size ≤ q) s.heap s.heap [] := va_S.rf
  have hK : va_K D vwCl [] s := ⟨hKc, fun k q h => by simp at h⟩
  have hP : va_P D vwCl [] s.heap := fun k q h => by simp at h
  have hD : va_D (fun q : Nat => s.heap.size ≤ q) [] := ⟨fun i j p q h => by simp at h, fun k q h => by simp at h⟩
  have hl := lv_entry ([.ref b]) (n := 4) (Nat.le_of_ble_eq_true rfl)
  rw [lg_entry_eq]
  generalize (lg_sl ([.ref b]) ++ List.replicate (4 - (lg_sl ([.ref b])).length) Slot.unset).toArray = ls at hl ⊢
  have hl : lv_has ls 4 [(0, .ref b)] := hl
  refine va_new (ci := 0) (fs := [.int 0, .null, .null, .int 0, .null, .null]) (C := RX0) (T := TX0) (N := 6) hx hb hts in_X0 tyX0 tyX0_ok hown (hts _ q17) (hts _ q18) (hts _ q15) hK hP hD hS hA rfl (fun j hj => by rcases (show j = 0 ∨ j = 1 ∨ j = 2 ∨ j = 3 ∨ j = 4 ∨ j = 5 by omega) with rfl | rfl | rfl | rfl | rfl | rfl <;> rfl) (Nat.le_of_ble_eq_true rfl) (Nat.le_of_ble_eq_true rfl) dL_law_0 (fun q0 H hP hD hS => ?_)
  have hP : va_P D vwCl (o0X q0) H := hP
  have hD : va_D (fun q : Nat => s.heap.size ≤ q) (o0X q0) := hD
  refine W.widen (k := 1) (n := 6) (by decide) (by decide) ?_
  refine lv_dup hx hb dL_law_3 rfl ?_
  have hFc := va_free (wc := o0X q0) hD hS hA [0] rfl
  refine va_callv (va_runI (As := []) (rest := [.ref q0]) ⟨hx, hb, hml, hown, hts⟩ (mX_init l D q0 H.size) (cwI 0 hts (lw_meth q21) rfl rfl rfl (hts _ q15) (hts _ q19) (hts _ q20) rfl (by decide +kernel) ⟨Nat.le_of_ble_eq_true rfl, Nat.le_of_ble_eq_true rfl⟩) ⟨gPre_blind, gPre_at hP hD hK⟩ rfl rfl hl.1 rfl (lv_room (Nat.le_of_ble_eq_true rfl)) dL_law_4 ⟨Nat.le_of_ble_eq_true rfl, Nat.le_of_ble_eq_true rfl⟩) hS (fun q _ h => hFc q h) hFc (fun u t H1 locs ht hvm hw hB hz1 hk1 hS => ?_)
  obtain ⟨a, dB, dJ, ch, fp, fr, rc, fn, ft⟩ := u
  obtain ⟨hP1, hK1, hD1⟩ := hB
  rw [ht] at hP1
  have hK1 : va_K D vwCl (tyX dB dJ) s := va_K.moved hvm.symm hK1
  obtain ⟨ha0, hc0⟩ := hw
  have ha0 : q0 = a 0 := ha0.symm
  have hc0 : ch = 0 := hc0
  subst ha0
  have hP : va_P D vwCl (wX a dB dJ (ch, fp, fr, rc, fn, ft)) H1 := hP1
  have hD : va_D (fun q : Nat => s.heap.size ≤ q) (wX a dB dJ (ch, fp, fr, rc, fn, ft)) := hD1.weaken (fun _ q _ h => hFc q.1 h)
  refine W.widen (k := 5) (n := 4114) (by decide) (by decide) ?_
  refine lv_astore_n (lv' := [(1, .ref (a 0)), (0, .ref b)]) hx hb dL_law_7 rfl hl (by decide) rfl (fun ls hl => ?_)
  refine va_new (ci := 1) (fs := [.int 0, .null, .null]) (C := RX1) (T := TX1) (N := 3) hx hb hts in_X1 tyX1 tyX1_ok hown (hts _ q131) (hts _ q132) (hts _ q16) hK1 hP hD hS hA rfl (fun j hj => by rcases (show j = 0 ∨ j = 1 ∨ j = 2 by omega) with rfl | rfl | rfl <;> rfl) (Nat.le_of_ble_eq_true rfl) (Nat.le_of_ble_eq_true rfl) dL_law_8 (fun q1 H hP hD hS => ?_)
  refine W.widen (k := 6) (n := 4117) (by decide) (by decide) ?_
  refine lv_dup hx hb dL_law_11 rfl ?_
  have hPc := hP.sub (ws' := o0M q1) [5] rfl
  have hDc := hD.sub (ws' := o0M q1) [5] (by decide) rfl
  have hFc := va_free (wc := o0M q1) hD hS hA [5] rfl
  refine va_callv (va_runI (As := []) (rest := [.ref q1]) ⟨hx, hb, hml, hown, hts⟩ (mM_init l D q1 H.size) (cwI 0 hts (lw_meth q135) rfl rfl rfl (hts _ q16) (hts _ q133) (hts _ q134) rfl (by decide +kernel) ⟨Nat.le_of_ble_eq_true rfl, Nat.le_of_ble_eq_true rfl⟩) ⟨gPre_blind, gPre_at hPc hDc hK⟩ rfl rfl hl.1 rfl (lv_room (Nat.le_of_ble_eq_true rfl)) dL_law_12 ⟨Nat.le_of_ble_eq_true rfl, Nat.le_of_ble_eq_true rfl⟩) hS (fun q _ h => hFc q h) hFc (fun u t H2 locs ht hvm hw hB hz1 hk1 hS => ?_)
  obtain ⟨b1, dM, ch1, gn, gt⟩ := u
  obtain ⟨hP2, hK2, hD2⟩ := hB
  rw [ht] at hP2
  have hK3 : va_K D vwCl (tyM dM) s := va_K.moved hvm.symm hK2
  obtain ⟨hb0, hc1⟩ := hw
  have hb0 : q1 = b1 0 := hb0.symm
  have hc1 : ch = ch1 := hc0.trans (show ch1 = 0 from hc1).symm
  subst hb0
  subst hc1
  obtain ⟨hP, hD⟩ := va_join (wr := wX a dB dJ (ch, fp, fr, rc, fn, ft)) (w1 := wM b1 dM (ch, gn, gt)) hP hD [5] [0, 1, 2, 3, 4] rfl rfl (by decide) (by decide) hk1 hFc hP2 hD2
  have hKL : va_K D vwCl (tyL dB dJ dM) s := hK1.app hK3
  refine W.widen (k := 8) (n := 9605) (by decide) (by decide) ?_
  refine lv_astore_n (lv' := [(2, .ref (b1 0)), (1, .ref (a 0)), (0, .ref b)]) hx hb dL_law_15 rfl hl (by decide) rfl (fun ls hl => ?_)
  refine lv_iconst (v := 0) hx hb dL_law_16 (by decide) ?_
  refine lv_istore_n (lv' := [(3, .int 0), (2, .ref (b1 0)), (1, .ref (a 0)), (0, .ref b)]) hx hb dL_law_17 rfl hl (by decide) rfl (fun ls hl => ?_)
  exact law_loop hL ⟨hx, hb, hr, hml, hown, hts, hA, hKL, hlocks⟩ hX hbl L 0 (by omega) (by omega) _ _ _ _ _ _ _ _ _ _ _ ⟨hP, hD, hS⟩ (lv_sub hl [3, 2, 1, 0] rfl)
end
section
set_option maxHeartbeats 4000000 in
theorem lw_walk (l : Launch) (b : Addr) (xs : List Int32) : MetFree l x (headSpec (Jvm.Cond.code x code maxLocals ret :: tables_1) room_1) (lw_P b xs) (fun _ _ _ _ _ => True) lw_Q := by
  refine MetFree.of_bodyS (code := code) (maxLocals := maxLocals) (ret := ret) (by decide) ?_ ?_
  · intro args s m h hn
    obtain ⟨meth, c, h1, h2, h3, h4, h5, h6, -, -⟩ := Cond.code_spec hn (atoms_spec (ws := Jvm.Cond.code x code maxLocals ret :: tables_1) h _ List.mem_cons_self)
    exact ⟨meth, c, h1, h2, h3, h4, h5, h6⟩
  · intro p e s m args below meth c s₁ B hml0 hP _
    obtain ⟨rfl, hx, hbd, hgv⟩ := hP
    obtain ⟨scr, harrAt, hlist, hof, hsmall⟩ := hx
    obtain ⟨hcb, hkn, -, -⟩ := State.arrayAt?_spec harrAt
    have hown : s.vm.findClass R_law = some m.cls := findClass_of_methodNamed B.named
    have hts0 : ∀ c ∈ (Jvm.Cond.code x code maxLocals ret :: tables_1), c.before #[Value.ref b] s = true := atoms_spec (ws := Jvm.Cond.code x code maxLocals ret :: tables_1) B.pre
    have hts : ∀ w ∈ lw_tbl, w.before #[Value.ref b] s = true := k2_hts_sels lw_privs (fun w hw => hts0 w (List.mem_cons_of_mem _ hw)) lw_privs_ok
    have hml : c.maxLocals = 4 := B.maxLocals_eq (hts0 _ List.mem_cons_self)
    have X₀ : Stand p l e room_1 s m #[Value.ref b] below meth c s₁ [] 0 0 := Stand.of_body B
    have hh0 : s₁.heap = s.heap := by rw [B.state]; rfl
    have hsz : scr.slots.size = xs.length := by rw [← Array.length_toList, hlist, List.length_map]
    have hval : ∀ j : Nat, j < xs.length → scr.slots[j]? = some (.int (xs.getD j 0)) := fun j hj => by
      rw [← Array.getElem?_toList, hlist]
      simp [hj]
    have hbl : b < s.heap.size := (Array.getElem?_eq_some_iff.mp hcb).1
    have hX : va_X b xs.length (fun j => xs.getD j 0) s s.heap := ⟨scr, hcb, hof, hkn, hsz, hval⟩
    have K : W p l e room_1 s m #[Value.ref b] below meth c s₁.heap [] 0 0 (lw_Z below #[Value.ref b] s) (entryFrame m ([Value.ref b] : List Value).toArray 4) := by
      rw [hh0]
      exact whole_start l hbd ⟨B.exec, B.bytes, B.returns, hml, hown, hts, hX, hbl, B.notSynchronized, hgv⟩
    obtain ⟨t, a1, o, b1, b2, b3⟩ := K s₁ rfl X₀
    exact ⟨t, o, a1, b1, b2, b3⟩
theorem lw_pre_spec {args : Array Value} {s : State} (h : (Jvm.Cond.and given_1 narrow_1).before args s = true) (hr : rest_1_c.before args s = true) : ∃ (b : Addr) (xs : List Int32), lw_P b xs args s := by
  have hs := flat_of_before _ h
  have hq := flat_of_before _ hr
  have hc : (Cond.count 1).before args s = true := hs _ (by decide +kernel)
  have harr : (Cond.arrayOf (.arg 0) .int).before args s = true := hs _ (by decide +kernel)
  have hle : (Cond.le (.length (.arg 0)) (.int 192)).before args s = true := hs _ (by decide +kernel)
  have hlen : (Cond.isInt (.length (.arg 0))).before args s = true := hq _ (by decide +kernel)
  have hall : (Cond.all (.arg 0) (.isInt (.elem (.arg 0) (.index 0)))).before args s = true := hq _ (by decide +kernel)
  obtain ⟨b, xs, hb, hx⟩ := State.ints_of_pre rfl harr hlen hall
  have hsm : xs.length < 2 ^ 31 := hx.choose_spec.2.2.2
  have hev : (Term.length (.arg 0)).eval args s none [] s = some (.int xs.length.toInt32) := hx.length_eval hb
  have hv := Cond.le_ints hev (show (Term.int 192).eval args s none [] s = some (.int 192) from rfl)
  have hd : xs.length.toInt32 ≤ 192 := by
    simpa [Cond.before, Cond.holds, hv] using hle
  have hN : xs.length ≤ 192 := (Int32.ofNat_le_ofNat hsm (by decide)).mp (show Int32.ofNat xs.length ≤ Int32.ofNat 192 from hd)
  exact ⟨b, xs, Cond.one_arg hc (show args[0]? = some (.ref b) from hb), hx, hN, h⟩
theorem lw_comes (l : Launch) : Comes l x (Jvm.Cond.code x code maxLocals ret :: tables_1) room_1 (fun tb e args s => Calls_1 tb e args s ∧ rest_1 tb e args s ∧ Pre_1 tb e args s)
    (fun _ _ args s o t => lw_Q args s o t) := by
  intro p e ha hc hk s m args below hf hfit hheap happ hpre
  obtain ⟨b, xs, hP⟩ := lw_pre_spec hpre.2.2 hpre.2.1
  obtain ⟨k, o, h1, h2, h3, hQ⟩ := lw_walk l b xs p e ha hc hk s m args below hf ((Spec.applies_iff_loose hf).mp happ).1 hP trivial
  exact ⟨k, o, h1, h2, h3, hQ⟩
theorem lw_frame {s t : State} {o : Outcome} {args : Array Value} (h : Framed s o t [] 600000 7290000) :
    Framed s o t (fieldLocs frame_1_writes args s ++ arrayLocs frame_1_arrays args s ++ staticLocs frame_1_statics s) 600000 7290000 := h
theorem lw_limb (L : Cond) (hL : ∀ (args : Array Value) (s t : State), L.after args s (.returned (some (.int 1))) t = true) :
    ArmFor flags0 classFile x code maxLocals ret World_1 tables_1 room_1 Calls_1 rest_1 Pre_1
      (fun tb e a s o t => postC L tb e a s o t ∧ Framed s o t (fieldLocs frame_1_writes a s ++ arrayLocs frame_1_arrays a s ++ staticLocs frame_1_statics s) 600000 7290000) := by
  intro l _ _ _ p e ha hc hk s m args below hf hfit hheap happ hpre
  obtain ⟨k, o, h1, h2, h3, rfl, hF⟩ := lw_comes l p e ha hc hk s m args below hf hfit hheap happ hpre
  exact ⟨k, _, h1, h2, h3, hL args s _, lw_frame hF⟩
theorem i_vc : Claimed_1_1 ∧ Claimed_1_2 := ⟨lw_limb limb_1_1 (fun args s t => by simp [limb_1_1, Cond.after, Cond.holds, Cond.value]), lw_limb limb_1_2 (fun args s t => Cond.after_iff.mpr (by
  first | (rw [show limb_1_2 = Cond.eq .result (.int 1) from rfl, Cond.eq_ints (x := 1) (y := 1) rfl rfl]; simp; done) | (simp [limb_1_2, Cond.value, Term.eval]; done)))⟩
end
