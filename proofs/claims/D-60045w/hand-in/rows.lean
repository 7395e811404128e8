section
-- ===== PART A: goes FIRST, ahead of the names: the tables' words, and 'selects' of the private methods out of them =====
/-- a private method of a class that the tables say can be made, by its rows of tables_1 -/
def lw_okq (q : MethodName × Nat) : Prop := (q.1.cls ≠ "java/lang/invoke/MethodHandle" ∧ q.1.cls ≠ "java/lang/invoke/VarHandle") ∧ Cond.instantiable q.1.cls q.2 ∈ tables_1 ∧ Cond.privateMethod q.1 ∈ tables_1 ∧ Cond.instanceMethod q.1 ∈ tables_1
set_option maxRecDepth 100000
theorem lw_t1 {w : Cond} (h : w ∈ tables_1_1) : w ∈ tables_1 := List.mem_append_left _ h
theorem lw_t2 {w : Cond} (h : w ∈ tables_1_2) : w ∈ tables_1 := List.mem_append_right _ h
theorem lw_p0 : lw_okq (⟨"ClauseDesk", "all", "()I"⟩, 5) := ⟨⟨by decide +kernel, by decide +kernel⟩, lw_t1 (List.mem_of_getElem? (i := 9) rfl), lw_t1 (List.mem_of_getElem? (i := 116) rfl), lw_t1 (List.mem_of_getElem? (i := 117) rfl)⟩
theorem lw_p1 : lw_okq (⟨"ClauseDesk$Search", "follow", "()I"⟩, 9) := ⟨⟨by decide +kernel, by decide +kernel⟩, lw_t1 (List.mem_of_getElem? (i := 40) rfl), lw_t1 (List.mem_of_getElem? (i := 136) rfl), lw_t1 (List.mem_of_getElem? (i := 137) rfl)⟩
theorem lw_p2 : lw_okq (⟨"ClauseDesk$Search", "pass", "(LClauseDesk$Clauses;I)I"⟩, 9) := ⟨⟨by decide +kernel, by decide +kernel⟩, lw_t1 (List.mem_of_getElem? (i := 40) rfl), lw_t1 (List.mem_of_getElem? (i := 140) rfl), lw_t1 (List.mem_of_getElem? (i := 141) rfl)⟩
theorem lw_p3 : lw_okq (⟨"ClauseDesk$Search", "assign", "(IZI)V"⟩, 9) := ⟨⟨by decide +kernel, by decide +kernel⟩, lw_t1 (List.mem_of_getElem? (i := 40) rfl), lw_t1 (List.mem_of_getElem? (i := 156) rfl), lw_t1 (List.mem_of_getElem? (i := 157) rfl)⟩
theorem lw_p4 : lw_okq (⟨"ClauseDesk$Search", "learn", "(I)V"⟩, 9) := ⟨⟨by decide +kernel, by decide +kernel⟩, lw_t1 (List.mem_of_getElem? (i := 40) rfl), lw_t1 (List.mem_of_getElem? (i := 160) rfl), lw_t1 (List.mem_of_getElem? (i := 161) rfl)⟩
theorem lw_p5 : lw_okq (⟨"ClauseDesk$Search", "set", "(I)LClauseDesk$Clauses;"⟩, 9) := ⟨⟨by decide +kernel, by decide +kernel⟩, lw_t1 (List.mem_of_getElem? (i := 40) rfl), lw_t1 (List.mem_of_getElem? (i := 164) rfl), lw_t1 (List.mem_of_getElem? (i := 165) rfl)⟩
theorem lw_p6 : lw_okq (⟨"ClauseDesk$Search", "here", "(I)I"⟩, 9) := ⟨⟨by decide +kernel, by decide +kernel⟩, lw_t1 (List.mem_of_getElem? (i := 40) rfl), lw_t1 (List.mem_of_getElem? (i := 168) rfl), lw_t1 (List.mem_of_getElem? (i := 169) rfl)⟩
theorem lw_p7 : lw_okq (⟨"ClauseDesk$Search", "back", "(I)V"⟩, 9) := ⟨⟨by decide +kernel, by decide +kernel⟩, lw_t1 (List.mem_of_getElem? (i := 40) rfl), lw_t1 (List.mem_of_getElem? (i := 176) rfl), lw_t1 (List.mem_of_getElem? (i := 177) rfl)⟩
theorem lw_p8 : lw_okq (⟨"ClauseDesk$Search", "next", "(III)I"⟩, 9) := ⟨⟨by decide +kernel, by decide +kernel⟩, lw_t1 (List.mem_of_getElem? (i := 40) rfl), lw_t1 (List.mem_of_getElem? (i := 180) rfl), lw_t1 (List.mem_of_getElem? (i := 181) rfl)⟩
theorem lw_p9 : lw_okq (⟨"ClauseDesk$Counter", "grown", "(IIII)I"⟩, 1) := ⟨⟨by decide +kernel, by decide +kernel⟩, lw_t1 (List.mem_of_getElem? (i := 77) rfl), lw_t1 (List.mem_of_getElem? (i := 198) rfl), lw_t1 (List.mem_of_getElem? (i := 199) rfl)⟩
theorem lw_p10 : lw_okq (⟨"ClauseDesk$Counter", "touched", "(III)Z"⟩, 1) := ⟨⟨by decide +kernel, by decide +kernel⟩, lw_t1 (List.mem_of_getElem? (i := 77) rfl), lw_t1 (List.mem_of_getElem? (i := 202) rfl), lw_t1 (List.mem_of_getElem? (i := 203) rfl)⟩
theorem lw_p11 : lw_okq (⟨"ClauseDesk$Counter", "split", "(III)I"⟩, 1) := ⟨⟨by decide +kernel, by decide +kernel⟩, lw_t1 (List.mem_of_getElem? (i := 77) rfl), lw_t1 (List.mem_of_getElem? (i := 206) rfl), lw_t1 (List.mem_of_getElem? (i := 207) rfl)⟩
theorem lw_p12 : lw_okq (⟨"ClauseDeskModel", "count", "(II)V"⟩, 6) := ⟨⟨by decide +kernel, by decide +kernel⟩, lw_t1 (List.mem_of_getElem? (i := 215) rfl), lw_t2 (List.mem_of_getElem? (i := 9) rfl), lw_t2 (List.mem_of_getElem? (i := 10) rfl)⟩
def lw_privs_1 : List (MethodName × Nat) := [(⟨"ClauseDesk", "all", "()I"⟩, 5), (⟨"ClauseDesk$Search", "follow", "()I"⟩, 9), (⟨"ClauseDesk$Search", "pass", "(LClauseDesk$Clauses;I)I"⟩, 9), (⟨"ClauseDesk$Search", "assign", "(IZI)V"⟩, 9), (⟨"ClauseDesk$Search", "learn", "(I)V"⟩, 9), (⟨"ClauseDesk$Search", "set", "(I)LClauseDesk$Clauses;"⟩, 9), (⟨"ClauseDesk$Search", "here", "(I)I"⟩, 9), (⟨"ClauseDesk$Search", "back", "(I)V"⟩, 9), (⟨"ClauseDesk$Search", "next", "(III)I"⟩, 9), (⟨"ClauseDesk$Counter", "grown", "(IIII)I"⟩, 1), (⟨"ClauseDesk$Counter", "touched", "(III)Z"⟩, 1), (⟨"ClauseDesk$Counter", "split", "(III)I"⟩, 1), (⟨"ClauseDeskModel", "count", "(II)V"⟩, 6)]
theorem lw_r1 : ∀ q ∈ lw_privs_1, lw_okq q := List.forall_mem_cons.mpr ⟨lw_p0, List.forall_mem_cons.mpr ⟨lw_p1, List.forall_mem_cons.mpr ⟨lw_p2, List.forall_mem_cons.mpr ⟨lw_p3, List.forall_mem_cons.mpr ⟨lw_p4, List.forall_mem_cons.mpr ⟨lw_p5, List.forall_mem_cons.mpr ⟨lw_p6, List.forall_mem_cons.mpr ⟨lw_p7, List.forall_mem_cons.mpr ⟨lw_p8, List.forall_mem_cons.mpr ⟨lw_p9, List.forall_mem_cons.mpr ⟨lw_p10, List.forall_mem_cons.mpr ⟨lw_p11, List.forall_mem_cons.mpr ⟨lw_p12, fun _ h => absurd h List.not_mem_nil⟩⟩⟩⟩⟩⟩⟩⟩⟩⟩⟩⟩⟩
def lw_privs : List (MethodName × Nat) := lw_privs_1
def lw_tbl : List Cond := k2_sels lw_privs ++ tables_1
theorem lw_privs_ok : ∀ q ∈ lw_privs, lw_okq q := lw_r1
-- ===== ONE list of words for every method: the tables' words that hold all through a run =====
def lw_all : List Cond := lw_tbl.filter goodWord
/-- a word of the tables by its place: claim/WORDS.tsv -/
theorem lw_w {w : Cond} (i : Nat) (h : lw_tbl[i]? = some w) (g : goodWord w = true) : w ∈ lw_all := List.mem_filter.mpr ⟨List.mem_of_getElem? h, g⟩
theorem lw_all_tbl {w : Cond} (h : w ∈ lw_all) : w ∈ lw_tbl := (List.mem_filter.mp h).1
theorem lw_self : GoodIn lw_all lw_all := fun w h => ⟨h, good_of_word (List.mem_filter.mp h).2⟩
/-- a class's field words, by their places -/
theorem lw_in (ws : List Cond) (ps : List Nat) (hp : ws = ps.filterMap (fun i => lw_tbl[i]?)) (hg : ws.all goodWord = true) : ∀ w ∈ ws, w ∈ lw_all := by
  intro w h
  have h1 := List.all_eq_true.mp hg w h
  rw [hp] at h
  obtain ⟨i, -, hi⟩ := List.mem_filterMap.mp h
  exact lw_w i hi h1
/-- the words of a contract for the method y with code b, L locals, answer r -/
abbrev ws_ (y : MethodName) (b : ByteArray) (L : Nat) (r : Option FieldType) : List Cond := Cond.code y b L r :: lw_all
theorem lw_meth {y : MethodName} {b : ByteArray} {L : Nat} {r : Option FieldType} (h : Cond.code y b L r ∈ lw_all) : GoodIn lw_all (ws_ y b L r) := by
  intro w hw
  rcases List.mem_cons.mp hw with e | e
  · rw [e]
    exact lw_self _ h
  · exact lw_self _ e
theorem lw_app {a c : List Cond} (ha : ∀ w ∈ a, w ∈ lw_all) (hc : GoodIn lw_all c) : GoodIn lw_all (a ++ c) := by
  intro w hw
  rcases List.mem_append.mp hw with e | e
  · exact lw_self w (ha w e)
  · exact hc w e
/-- what a call through an object asks: cwV n hts (lw_V ..) -/
theorem lw_V {own : String} {idx : Nat} {C : String} {y : MethodName} {b : ByteArray} {L : Nat} {r : Option FieldType} (h1 : Cond.methodLink own idx y ∈ lw_all) (h2 : Cond.instanceMethod y ∈ lw_all) (h3 : Cond.selects C y y ∈ lw_all) (h4 : Cond.initialized C ∈ lw_all) (h5 : Cond.code y b L r ∈ lw_all) : GoodIn lw_all (wsV own idx C y (ws_ y b L r)) := by
  refine lw_app ?_ (lw_meth h5)
  intro w hw
  simp only [List.mem_cons, List.not_mem_nil, or_false] at hw
  rcases hw with e | e | e | e
  · rw [e]; exact h1
  · rw [e]; exact h2
  · rw [e]; exact h3
  · rw [e]; exact h4
/-- what a static call asks: va_cwS n hts (lw_S ..) -/
theorem lw_S {own : String} {idx : Nat} {y : MethodName} {b : ByteArray} {L : Nat} {r : Option FieldType} (h1 : Cond.methodLink own idx y ∈ lw_all) (h2 : Cond.static y ∈ lw_all) (h3 : Cond.initialized y.cls ∈ lw_all) (h4 : Cond.code y b L r ∈ lw_all) : GoodIn lw_all (va_wsS own idx y (ws_ y b L r)) := by
  refine lw_app ?_ (lw_meth h4)
  intro w hw
  simp only [List.mem_cons, List.not_mem_nil, or_false] at hw
  rcases hw with e | e | e
  · rw [e]; exact h1
  · rw [e]; exact h2
  · rw [e]; exact h3
/-- the words of a contract for a method WITH HANDLERS (hh: its table) -/
abbrev wsW_ (y : MethodName) (b : ByteArray) (L : Nat) (r : Option FieldType) (hh : List (Nat × Nat × Nat × Nat)) : List Cond := Cond.codeWith y b L r hh :: lw_all
theorem lw_methW {y : MethodName} {b : ByteArray} {L : Nat} {r : Option FieldType} {hh : List (Nat × Nat × Nat × Nat)} (h : Cond.codeWith y b L r hh ∈ lw_all) : GoodIn lw_all (wsW_ y b L r hh) := by
  intro w hw
  rcases List.mem_cons.mp hw with e | e
  · rw [e]
    exact lw_self _ h
  · exact lw_self _ e
/-- any list of words by their places (lw_in), good -/
theorem lw_good {ws : List Cond} (h : ∀ w ∈ ws, w ∈ lw_all) : GoodIn lw_all ws := fun w hw => lw_self w (h w hw)
/-- what a call of a method with handlers asks: vx_cwVW n hts (lw_VW ..), vx_cwSW n hts (lw_SW ..) -/
theorem lw_VW {own : String} {idx : Nat} {C : String} {y : MethodName} {b : ByteArray} {L : Nat} {r : Option FieldType} {hh : List (Nat × Nat × Nat × Nat)} (h1 : Cond.methodLink own idx y ∈ lw_all) (h2 : Cond.instanceMethod y ∈ lw_all) (h3 : Cond.selects C y y ∈ lw_all) (h4 : Cond.initialized C ∈ lw_all) (h5 : Cond.codeWith y b L r hh ∈ lw_all) : GoodIn lw_all (wsV own idx C y (wsW_ y b L r hh)) := by
  refine lw_app ?_ (lw_methW h5)
  intro w hw
  simp only [List.mem_cons, List.not_mem_nil, or_false] at hw
  rcases hw with e | e | e | e
  · rw [e]; exact h1
  · rw [e]; exact h2
  · rw [e]; exact h3
  · rw [e]; exact h4
theorem lw_SW {own : String} {idx : Nat} {y : MethodName} {b : ByteArray} {L : Nat} {r : Option FieldType} {hh : List (Nat × Nat × Nat × Nat)} (h1 : Cond.methodLink own idx y ∈ lw_all) (h2 : Cond.static y ∈ lw_all) (h3 : Cond.initialized y.cls ∈ lw_all) (h4 : Cond.codeWith y b L r hh ∈ lw_all) : GoodIn lw_all (va_wsS own idx y (wsW_ y b L r hh)) := by
  refine lw_app ?_ (lw_methW h4)
  intro w hw
  simp only [List.mem_cons, List.not_mem_nil, or_false] at hw
  rcases hw with e | e | e
  · rw [e]; exact h1
  · rw [e]; exact h2
  · rw [e]; exact h3
/-- a word by its place in its run of the tables -/
theorem lw_at {r : List Cond} (hr : ∀ w ∈ r, w ∈ lw_tbl) {w : Cond} (i : Nat) (h : r[i]? = some w) : w ∈ lw_tbl := hr w (List.mem_of_getElem? h)
theorem lw_g {w : Cond} (h : w ∈ lw_tbl) (g : goodWord w = true) : w ∈ lw_all := List.mem_filter.mpr ⟨h, g⟩
theorem lw_ms : ∀ w ∈ k2_sels lw_privs, w ∈ lw_tbl := fun w h => show w ∈ k2_sels lw_privs ++ tables_1 from List.mem_append_left _ h
theorem lw_m1 : ∀ w ∈ tables_1_1, w ∈ lw_tbl := fun w h => show w ∈ k2_sels lw_privs ++ tables_1 from List.mem_append_right (k2_sels lw_privs) (show w ∈ tables_1 from List.mem_append_left _ h)
theorem lw_m2 : ∀ w ∈ tables_1_2, w ∈ lw_tbl := fun w h => show w ∈ k2_sels lw_privs ++ tables_1 from List.mem_append_right (k2_sels lw_privs) (show w ∈ tables_1 from List.mem_append_right _ h)
theorem qs0 : (Cond.selects "ClauseDesk" ⟨"ClauseDesk", "all", "()I"⟩ ⟨"ClauseDesk", "all", "()I"⟩) ∈ lw_all := lw_g (lw_at lw_ms 0 rfl) rfl
theorem qs1 : (Cond.selects "ClauseDesk$Search" ⟨"ClauseDesk$Search", "follow", "()I"⟩ ⟨"ClauseDesk$Search", "follow", "()I"⟩) ∈ lw_all := lw_g (lw_at lw_ms 1 rfl) rfl
theorem qs2 : (Cond.selects "ClauseDesk$Search" ⟨"ClauseDesk$Search", "pass", "(LClauseDesk$Clauses;I)I"⟩ ⟨"ClauseDesk$Search", "pass", "(LClauseDesk$Clauses;I)I"⟩) ∈ lw_all := lw_g (lw_at lw_ms 2 rfl) rfl
theorem qs3 : (Cond.selects "ClauseDesk$Search" ⟨"ClauseDesk$Search", "assign", "(IZI)V"⟩ ⟨"ClauseDesk$Search", "assign", "(IZI)V"⟩) ∈ lw_all := lw_g (lw_at lw_ms 3 rfl) rfl
theorem qs4 : (Cond.selects "ClauseDesk$Search" ⟨"ClauseDesk$Search", "learn", "(I)V"⟩ ⟨"ClauseDesk$Search", "learn", "(I)V"⟩) ∈ lw_all := lw_g (lw_at lw_ms 4 rfl) rfl
theorem qs5 : (Cond.selects "ClauseDesk$Search" ⟨"ClauseDesk$Search", "set", "(I)LClauseDesk$Clauses;"⟩ ⟨"ClauseDesk$Search", "set", "(I)LClauseDesk$Clauses;"⟩) ∈ lw_all := lw_g (lw_at lw_ms 5 rfl) rfl
theorem qs6 : (Cond.selects "ClauseDesk$Search" ⟨"ClauseDesk$Search", "here", "(I)I"⟩ ⟨"ClauseDesk$Search", "here", "(I)I"⟩) ∈ lw_all := lw_g (lw_at lw_ms 6 rfl) rfl
theorem qs7 : (Cond.selects "ClauseDesk$Search" ⟨"ClauseDesk$Search", "back", "(I)V"⟩ ⟨"ClauseDesk$Search", "back", "(I)V"⟩) ∈ lw_all := lw_g (lw_at lw_ms 7 rfl) rfl
theorem qs8 : (Cond.selects "ClauseDesk$Search" ⟨"ClauseDesk$Search", "next", "(III)I"⟩ ⟨"ClauseDesk$Search", "next", "(III)I"⟩) ∈ lw_all := lw_g (lw_at lw_ms 8 rfl) rfl
theorem qs9 : (Cond.selects "ClauseDesk$Counter" ⟨"ClauseDesk$Counter", "grown", "(IIII)I"⟩ ⟨"ClauseDesk$Counter", "grown", "(IIII)I"⟩) ∈ lw_all := lw_g (lw_at lw_ms 9 rfl) rfl
theorem qs10 : (Cond.selects "ClauseDesk$Counter" ⟨"ClauseDesk$Counter", "touched", "(III)Z"⟩ ⟨"ClauseDesk$Counter", "touched", "(III)Z"⟩) ∈ lw_all := lw_g (lw_at lw_ms 10 rfl) rfl
theorem qs11 : (Cond.selects "ClauseDesk$Counter" ⟨"ClauseDesk$Counter", "split", "(III)I"⟩ ⟨"ClauseDesk$Counter", "split", "(III)I"⟩) ∈ lw_all := lw_g (lw_at lw_ms 11 rfl) rfl
theorem qs12 : (Cond.selects "ClauseDeskModel" ⟨"ClauseDeskModel", "count", "(II)V"⟩ ⟨"ClauseDeskModel", "count", "(II)V"⟩) ∈ lw_all := lw_g (lw_at lw_ms 12 rfl) rfl
end
section
theorem q51 : (Jvm.Cond.arrayClass Jvm.ClassFile.FieldType.int) ∈ lw_all := lw_g (lw_at lw_m1 38 rfl) rfl
set_option maxRecDepth 100000
/-! java/lang/Object -/
set_option maxRecDepth 100000
def RJ2 : String := "java/lang/Object"
abbrev cJ2_init : ByteArray := object_method_1_code
def yJ2_init : MethodName := ⟨RJ2, "<init>", "()V"⟩
theorem dJ2_init_0 : decode cJ2_init 0 = .ok (.return_, 1) := by decide +kernel
theorem q27 : (Jvm.Cond.instanceMethod ({ cls := "java/lang/Object", name := "<init>", desc := "()V" } : Jvm.MethodName)) ∈ lw_all := lw_g (lw_at lw_m1 14 rfl) rfl
theorem q28 : (Jvm.Cond.code ({ cls := "java/lang/Object", name := "<init>", desc := "()V" } : Jvm.MethodName) object_method_1_code (1 : Nat) (Option.none : Option Jvm.ClassFile.FieldType)) ∈ lw_all := lw_g (lw_at lw_m1 15 rfl) rfl
/-! java/lang/Math -/
set_option maxRecDepth 100000
def RJ1 : String := "java/lang/Math"
abbrev cJ1_max : ByteArray := prog_8_method_65_code
def yJ1_max : MethodName := ⟨RJ1, "max", "(II)I"⟩
theorem dJ1_max_0 : decode cJ1_max 0 = .ok (.iload_n 0, 1) := by decide +kernel
theorem dJ1_max_1 : decode cJ1_max 1 = .ok (.iload_n 1, 1) := by decide +kernel
theorem dJ1_max_2 : decode cJ1_max 2 = .ok (.if_icmp .lt 7, 3) := by decide +kernel
theorem dJ1_max_5 : decode cJ1_max 5 = .ok (.iload_n 0, 1) := by decide +kernel
theorem dJ1_max_6 : decode cJ1_max 6 = .ok (.goto 4, 3) := by decide +kernel
theorem dJ1_max_9 : decode cJ1_max 9 = .ok (.iload_n 1, 1) := by decide +kernel
theorem dJ1_max_10 : decode cJ1_max 10 = .ok (.ireturn, 1) := by decide +kernel
theorem q20 : (Jvm.Cond.initialized "java/lang/Math") ∈ lw_all := lw_g (lw_at lw_m1 7 rfl) rfl
theorem q185 : (Jvm.Cond.static ({ cls := "java/lang/Math", name := "max", desc := "(II)I" } : Jvm.MethodName)) ∈ lw_all := lw_g (lw_at lw_m1 172 rfl) rfl
theorem q186 : (Jvm.Cond.code ({ cls := "java/lang/Math", name := "max", desc := "(II)I" } : Jvm.MethodName) prog_8_method_65_code (2 : Nat) (Option.some Jvm.ClassFile.FieldType.int)) ∈ lw_all := lw_g (lw_at lw_m1 173 rfl) rfl
/-! java/lang/Integer -/
set_option maxRecDepth 100000
def RJ0 : String := "java/lang/Integer"
abbrev cJ0_numberOfTrailingZeros : ByteArray := prog_7_method_48_code
def yJ0_numberOfTrailingZeros : MethodName := ⟨RJ0, "numberOfTrailingZeros", "(I)I"⟩
theorem dJ0_numberOfTrailingZeros_0 : decode cJ0_numberOfTrailingZeros 0 = .ok (.iload_n 0, 1) := by decide +kernel
theorem dJ0_numberOfTrailingZeros_1 : decode cJ0_numberOfTrailingZeros 1 = .ok (.iconst (-1), 1) := by decide +kernel
theorem dJ0_numberOfTrailingZeros_2 : decode cJ0_numberOfTrailingZeros 2 = .ok (.ixor, 1) := by decide +kernel
theorem dJ0_numberOfTrailingZeros_3 : decode cJ0_numberOfTrailingZeros 3 = .ok (.iload_n 0, 1) := by decide +kernel
theorem dJ0_numberOfTrailingZeros_4 : decode cJ0_numberOfTrailingZeros 4 = .ok (.iconst 1, 1) := by decide +kernel
theorem dJ0_numberOfTrailingZeros_5 : decode cJ0_numberOfTrailingZeros 5 = .ok (.isub, 1) := by decide +kernel
theorem dJ0_numberOfTrailingZeros_6 : decode cJ0_numberOfTrailingZeros 6 = .ok (.iand, 1) := by decide +kernel
theorem dJ0_numberOfTrailingZeros_7 : decode cJ0_numberOfTrailingZeros 7 = .ok (.istore_n 0, 1) := by decide +kernel
theorem dJ0_numberOfTrailingZeros_8 : decode cJ0_numberOfTrailingZeros 8 = .ok (.iload_n 0, 1) := by decide +kernel
theorem dJ0_numberOfTrailingZeros_9 : decode cJ0_numberOfTrailingZeros 9 = .ok (.ifCond .gt 8, 3) := by decide +kernel
theorem dJ0_numberOfTrailingZeros_12 : decode cJ0_numberOfTrailingZeros 12 = .ok (.iload_n 0, 1) := by decide +kernel
theorem dJ0_numberOfTrailingZeros_13 : decode cJ0_numberOfTrailingZeros 13 = .ok (.bipush 32, 2) := by decide +kernel
theorem dJ0_numberOfTrailingZeros_15 : decode cJ0_numberOfTrailingZeros 15 = .ok (.iand, 1) := by decide +kernel
theorem dJ0_numberOfTrailingZeros_16 : decode cJ0_numberOfTrailingZeros 16 = .ok (.ireturn, 1) := by decide +kernel
theorem dJ0_numberOfTrailingZeros_17 : decode cJ0_numberOfTrailingZeros 17 = .ok (.iconst 1, 1) := by decide +kernel
theorem dJ0_numberOfTrailingZeros_18 : decode cJ0_numberOfTrailingZeros 18 = .ok (.istore_n 1, 1) := by decide +kernel
theorem dJ0_numberOfTrailingZeros_19 : decode cJ0_numberOfTrailingZeros 19 = .ok (.iload_n 0, 1) := by decide +kernel
theorem dJ0_numberOfTrailingZeros_20 : decode cJ0_numberOfTrailingZeros 20 = .ok (.ldc_w 264, 3) := by decide +kernel
theorem dJ0_numberOfTrailingZeros_23 : decode cJ0_numberOfTrailingZeros 23 = .ok (.if_icmp .le 11, 3) := by decide +kernel
theorem dJ0_numberOfTrailingZeros_26 : decode cJ0_numberOfTrailingZeros 26 = .ok (.iinc 1 16, 3) := by decide +kernel
theorem dJ0_numberOfTrailingZeros_29 : decode cJ0_numberOfTrailingZeros 29 = .ok (.iload_n 0, 1) := by decide +kernel
theorem dJ0_numberOfTrailingZeros_30 : decode cJ0_numberOfTrailingZeros 30 = .ok (.bipush 16, 2) := by decide +kernel
theorem dJ0_numberOfTrailingZeros_32 : decode cJ0_numberOfTrailingZeros 32 = .ok (.iushr, 1) := by decide +kernel
theorem dJ0_numberOfTrailingZeros_33 : decode cJ0_numberOfTrailingZeros 33 = .ok (.istore_n 0, 1) := by decide +kernel
theorem dJ0_numberOfTrailingZeros_34 : decode cJ0_numberOfTrailingZeros 34 = .ok (.iload_n 0, 1) := by decide +kernel
theorem dJ0_numberOfTrailingZeros_35 : decode cJ0_numberOfTrailingZeros 35 = .ok (.sipush 256, 3) := by decide +kernel
theorem dJ0_numberOfTrailingZeros_38 : decode cJ0_numberOfTrailingZeros 38 = .ok (.if_icmp .le 11, 3) := by decide +kernel
theorem dJ0_numberOfTrailingZeros_41 : decode cJ0_numberOfTrailingZeros 41 = .ok (.iinc 1 8, 3) := by decide +kernel
theorem dJ0_numberOfTrailingZeros_44 : decode cJ0_numberOfTrailingZeros 44 = .ok (.iload_n 0, 1) := by decide +kernel
theorem dJ0_numberOfTrailingZeros_45 : decode cJ0_numberOfTrailingZeros 45 = .ok (.bipush 8, 2) := by decide +kernel
theorem dJ0_numberOfTrailingZeros_47 : decode cJ0_numberOfTrailingZeros 47 = .ok (.iushr, 1) := by decide +kernel
theorem dJ0_numberOfTrailingZeros_48 : decode cJ0_numberOfTrailingZeros 48 = .ok (.istore_n 0, 1) := by decide +kernel
theorem dJ0_numberOfTrailingZeros_49 : decode cJ0_numberOfTrailingZeros 49 = .ok (.iload_n 0, 1) := by decide +kernel
theorem dJ0_numberOfTrailingZeros_50 : decode cJ0_numberOfTrailingZeros 50 = .ok (.bipush 16, 2) := by decide +kernel
theorem dJ0_numberOfTrailingZeros_52 : decode cJ0_numberOfTrailingZeros 52 = .ok (.if_icmp .le 10, 3) := by decide +kernel
theorem dJ0_numberOfTrailingZeros_55 : decode cJ0_numberOfTrailingZeros 55 = .ok (.iinc 1 4, 3) := by decide +kernel
theorem dJ0_numberOfTrailingZeros_58 : decode cJ0_numberOfTrailingZeros 58 = .ok (.iload_n 0, 1) := by decide +kernel
theorem dJ0_numberOfTrailingZeros_59 : decode cJ0_numberOfTrailingZeros 59 = .ok (.iconst 4, 1) := by decide +kernel
theorem dJ0_numberOfTrailingZeros_60 : decode cJ0_numberOfTrailingZeros 60 = .ok (.iushr, 1) := by decide +kernel
theorem dJ0_numberOfTrailingZeros_61 : decode cJ0_numberOfTrailingZeros 61 = .ok (.istore_n 0, 1) := by decide +kernel
theorem dJ0_numberOfTrailingZeros_62 : decode cJ0_numberOfTrailingZeros 62 = .ok (.iload_n 0, 1) := by decide +kernel
theorem dJ0_numberOfTrailingZeros_63 : decode cJ0_numberOfTrailingZeros 63 = .ok (.iconst 4, 1) := by decide +kernel
theorem dJ0_numberOfTrailingZeros_64 : decode cJ0_numberOfTrailingZeros 64 = .ok (.if_icmp .le 10, 3) := by decide +kernel
theorem dJ0_numberOfTrailingZeros_67 : decode cJ0_numberOfTrailingZeros 67 = .ok (.iinc 1 2, 3) := by decide +kernel
theorem dJ0_numberOfTrailingZeros_70 : decode cJ0_numberOfTrailingZeros 70 = .ok (.iload_n 0, 1) := by decide +kernel
theorem dJ0_numberOfTrailingZeros_71 : decode cJ0_numberOfTrailingZeros 71 = .ok (.iconst 2, 1) := by decide +kernel
theorem dJ0_numberOfTrailingZeros_72 : decode cJ0_numberOfTrailingZeros 72 = .ok (.iushr, 1) := by decide +kernel
theorem dJ0_numberOfTrailingZeros_73 : decode cJ0_numberOfTrailingZeros 73 = .ok (.istore_n 0, 1) := by decide +kernel
theorem dJ0_numberOfTrailingZeros_74 : decode cJ0_numberOfTrailingZeros 74 = .ok (.iload_n 1, 1) := by decide +kernel
theorem dJ0_numberOfTrailingZeros_75 : decode cJ0_numberOfTrailingZeros 75 = .ok (.iload_n 0, 1) := by decide +kernel
theorem dJ0_numberOfTrailingZeros_76 : decode cJ0_numberOfTrailingZeros 76 = .ok (.iconst 1, 1) := by decide +kernel
theorem dJ0_numberOfTrailingZeros_77 : decode cJ0_numberOfTrailingZeros 77 = .ok (.iushr, 1) := by decide +kernel
theorem dJ0_numberOfTrailingZeros_78 : decode cJ0_numberOfTrailingZeros 78 = .ok (.iadd, 1) := by decide +kernel
theorem dJ0_numberOfTrailingZeros_79 : decode cJ0_numberOfTrailingZeros 79 = .ok (.ireturn, 1) := by decide +kernel
theorem q19 : (Jvm.Cond.initialized "java/lang/Integer") ∈ lw_all := lw_g (lw_at lw_m1 6 rfl) rfl
theorem q165 : (Jvm.Cond.static ({ cls := "java/lang/Integer", name := "numberOfTrailingZeros", desc := "(I)I" } : Jvm.MethodName)) ∈ lw_all := lw_g (lw_at lw_m1 152 rfl) rfl
theorem q166 : (Jvm.Cond.code ({ cls := "java/lang/Integer", name := "numberOfTrailingZeros", desc := "(I)I" } : Jvm.MethodName) prog_7_method_48_code (2 : Nat) (Option.some Jvm.ClassFile.FieldType.int)) ∈ lw_all := lw_g (lw_at lw_m1 153 rfl) rfl
theorem q167 : (Jvm.Cond.constant "java/lang/Integer" (264 : Nat) (65536 : Int32)) ∈ lw_all := lw_g (lw_at lw_m1 154 rfl) rfl
/-! ClauseDesk$Clauses -/
set_option maxRecDepth 100000
def RX1 : String := "ClauseDesk$Clauses"
def TX1 : u_T := fun k => match k with
  | 0 => ("ClauseDesk$Clauses", "yes", "[I", true)
  | 1 => ("ClauseDesk$Clauses", "no", "[I", true)
  | _ => ("ClauseDesk$Clauses", "n", "I", false)
def tyX1 : Nat → FieldType := fun k => match k with
  | 0 => .array .int
  | 1 => .array .int
  | _ => .int
abbrev wsX10 : List Cond := u_ws RX1 TX1 3
theorem nmX1 : ∀ a, a < 3 → ∀ b, b < 3 → a ≠ b → (TX1 a).2.1 ≠ (TX1 b).2.1 := by decide +kernel
theorem tyX1_ok : ∀ k, k < 3 → parseFieldDescriptor (TX1 k).2.2.1 = some (tyX1 k) := by decide +kernel
abbrev cX1_init : ByteArray := prog_2_method_1_code
def yX1_init : MethodName := ⟨RX1, "<init>", "(I)V"⟩
theorem dX1_init_0 : decode cX1_init 0 = .ok (.aload_n 0, 1) := by decide +kernel
theorem dX1_init_1 : decode cX1_init 1 = .ok (.invokespecial 1, 3) := by decide +kernel
theorem dX1_init_4 : decode cX1_init 4 = .ok (.aload_n 0, 1) := by decide +kernel
theorem dX1_init_5 : decode cX1_init 5 = .ok (.iconst 0, 1) := by decide +kernel
theorem dX1_init_6 : decode cX1_init 6 = .ok (.putfield 7, 3) := by decide +kernel
theorem dX1_init_9 : decode cX1_init 9 = .ok (.aload_n 0, 1) := by decide +kernel
theorem dX1_init_10 : decode cX1_init 10 = .ok (.iload_n 1, 1) := by decide +kernel
theorem dX1_init_11 : decode cX1_init 11 = .ok (.newarray .int, 2) := by decide +kernel
theorem dX1_init_13 : decode cX1_init 13 = .ok (.putfield 13, 3) := by decide +kernel
theorem dX1_init_16 : decode cX1_init 16 = .ok (.aload_n 0, 1) := by decide +kernel
theorem dX1_init_17 : decode cX1_init 17 = .ok (.iload_n 1, 1) := by decide +kernel
theorem dX1_init_18 : decode cX1_init 18 = .ok (.newarray .int, 2) := by decide +kernel
theorem dX1_init_20 : decode cX1_init 20 = .ok (.putfield 17, 3) := by decide +kernel
theorem dX1_init_23 : decode cX1_init 23 = .ok (.return_, 1) := by decide +kernel
abbrev cX1_add : ByteArray := prog_2_method_2_code
def yX1_add : MethodName := ⟨RX1, "add", "(II)V"⟩
theorem dX1_add_0 : decode cX1_add 0 = .ok (.aload_n 0, 1) := by decide +kernel
theorem dX1_add_1 : decode cX1_add 1 = .ok (.getfield 13, 3) := by decide +kernel
theorem dX1_add_4 : decode cX1_add 4 = .ok (.aload_n 0, 1) := by decide +kernel
theorem dX1_add_5 : decode cX1_add 5 = .ok (.getfield 7, 3) := by decide +kernel
theorem dX1_add_8 : decode cX1_add 8 = .ok (.iload_n 1, 1) := by decide +kernel
theorem dX1_add_9 : decode cX1_add 9 = .ok (.iastore, 1) := by decide +kernel
theorem dX1_add_10 : decode cX1_add 10 = .ok (.aload_n 0, 1) := by decide +kernel
theorem dX1_add_11 : decode cX1_add 11 = .ok (.getfield 17, 3) := by decide +kernel
theorem dX1_add_14 : decode cX1_add 14 = .ok (.aload_n 0, 1) := by decide +kernel
theorem dX1_add_15 : decode cX1_add 15 = .ok (.dup, 1) := by decide +kernel
theorem dX1_add_16 : decode cX1_add 16 = .ok (.getfield 7, 3) := by decide +kernel
theorem dX1_add_19 : decode cX1_add 19 = .ok (.dup_x1, 1) := by decide +kernel
theorem dX1_add_20 : decode cX1_add 20 = .ok (.iconst 1, 1) := by decide +kernel
theorem dX1_add_21 : decode cX1_add 21 = .ok (.iadd, 1) := by decide +kernel
theorem dX1_add_22 : decode cX1_add 22 = .ok (.putfield 7, 3) := by decide +kernel
theorem dX1_add_25 : decode cX1_add 25 = .ok (.iload_n 2, 1) := by decide +kernel
theorem dX1_add_26 : decode cX1_add 26 = .ok (.iastore, 1) := by decide +kernel
theorem dX1_add_27 : decode cX1_add 27 = .ok (.return_, 1) := by decide +kernel
abbrev cX1_holds : ByteArray := prog_2_method_3_code
def yX1_holds : MethodName := ⟨RX1, "holds", "(III)Z"⟩
theorem dX1_holds_0 : decode cX1_holds 0 = .ok (.aload_n 0, 1) := by decide +kernel
theorem dX1_holds_1 : decode cX1_holds 1 = .ok (.getfield 13, 3) := by decide +kernel
theorem dX1_holds_4 : decode cX1_holds 4 = .ok (.iload_n 1, 1) := by decide +kernel
theorem dX1_holds_5 : decode cX1_holds 5 = .ok (.iaload, 1) := by decide +kernel
theorem dX1_holds_6 : decode cX1_holds 6 = .ok (.aload_n 0, 1) := by decide +kernel
theorem dX1_holds_7 : decode cX1_holds 7 = .ok (.getfield 17, 3) := by decide +kernel
theorem dX1_holds_10 : decode cX1_holds 10 = .ok (.iload_n 1, 1) := by decide +kernel
theorem dX1_holds_11 : decode cX1_holds 11 = .ok (.iaload, 1) := by decide +kernel
theorem dX1_holds_12 : decode cX1_holds 12 = .ok (.iload_n 2, 1) := by decide +kernel
theorem dX1_holds_13 : decode cX1_holds 13 = .ok (.iload_n 3, 1) := by decide +kernel
theorem dX1_holds_14 : decode cX1_holds 14 = .ok (.iand, 1) := by decide +kernel
theorem dX1_holds_15 : decode cX1_holds 15 = .ok (.ior, 1) := by decide +kernel
theorem dX1_holds_16 : decode cX1_holds 16 = .ok (.iand, 1) := by decide +kernel
theorem dX1_holds_17 : decode cX1_holds 17 = .ok (.aload_n 0, 1) := by decide +kernel
theorem dX1_holds_18 : decode cX1_holds 18 = .ok (.getfield 17, 3) := by decide +kernel
theorem dX1_holds_21 : decode cX1_holds 21 = .ok (.iload_n 1, 1) := by decide +kernel
theorem dX1_holds_22 : decode cX1_holds 22 = .ok (.iaload, 1) := by decide +kernel
theorem dX1_holds_23 : decode cX1_holds 23 = .ok (.iload_n 2, 1) := by decide +kernel
theorem dX1_holds_24 : decode cX1_holds 24 = .ok (.iand, 1) := by decide +kernel
theorem dX1_holds_25 : decode cX1_holds 25 = .ok (.iload_n 3, 1) := by decide +kernel
theorem dX1_holds_26 : decode cX1_holds 26 = .ok (.iconst (-1), 1) := by decide +kernel
theorem dX1_holds_27 : decode cX1_holds 27 = .ok (.ixor, 1) := by decide +kernel
theorem dX1_holds_28 : decode cX1_holds 28 = .ok (.iand, 1) := by decide +kernel
theorem dX1_holds_29 : decode cX1_holds 29 = .ok (.ior, 1) := by decide +kernel
theorem dX1_holds_30 : decode cX1_holds 30 = .ok (.ifCond .eq 7, 3) := by decide +kernel
theorem dX1_holds_33 : decode cX1_holds 33 = .ok (.iconst 1, 1) := by decide +kernel
theorem dX1_holds_34 : decode cX1_holds 34 = .ok (.goto 4, 3) := by decide +kernel
theorem dX1_holds_37 : decode cX1_holds 37 = .ok (.iconst 0, 1) := by decide +kernel
theorem dX1_holds_38 : decode cX1_holds 38 = .ok (.ireturn, 1) := by decide +kernel
abbrev cX1_open : ByteArray := prog_2_method_4_code
def yX1_open : MethodName := ⟨RX1, "open", "(II)I"⟩
theorem dX1_open_0 : decode cX1_open 0 = .ok (.aload_n 0, 1) := by decide +kernel
theorem dX1_open_1 : decode cX1_open 1 = .ok (.getfield 13, 3) := by decide +kernel
theorem dX1_open_4 : decode cX1_open 4 = .ok (.iload_n 1, 1) := by decide +kernel
theorem dX1_open_5 : decode cX1_open 5 = .ok (.iaload, 1) := by decide +kernel
theorem dX1_open_6 : decode cX1_open 6 = .ok (.aload_n 0, 1) := by decide +kernel
theorem dX1_open_7 : decode cX1_open 7 = .ok (.getfield 17, 3) := by decide +kernel
theorem dX1_open_10 : decode cX1_open 10 = .ok (.iload_n 1, 1) := by decide +kernel
theorem dX1_open_11 : decode cX1_open 11 = .ok (.iaload, 1) := by decide +kernel
theorem dX1_open_12 : decode cX1_open 12 = .ok (.ior, 1) := by decide +kernel
theorem dX1_open_13 : decode cX1_open 13 = .ok (.iload_n 2, 1) := by decide +kernel
theorem dX1_open_14 : decode cX1_open 14 = .ok (.iconst (-1), 1) := by decide +kernel
theorem dX1_open_15 : decode cX1_open 15 = .ok (.ixor, 1) := by decide +kernel
theorem dX1_open_16 : decode cX1_open 16 = .ok (.iand, 1) := by decide +kernel
theorem dX1_open_17 : decode cX1_open 17 = .ok (.ireturn, 1) := by decide +kernel
theorem q15 : (Jvm.Cond.initialized "ClauseDesk$Clauses") ∈ lw_all := lw_g (lw_at lw_m1 2 rfl) rfl
theorem q30 : (Jvm.Cond.instantiable "ClauseDesk$Clauses" (3 : Nat)) ∈ lw_all := lw_g (lw_at lw_m1 17 rfl) rfl
theorem q32 : (Jvm.Cond.instanceMethod ({ cls := "ClauseDesk$Clauses", name := "<init>", desc := "(I)V" } : Jvm.MethodName)) ∈ lw_all := lw_g (lw_at lw_m1 19 rfl) rfl
theorem q33 : (Jvm.Cond.code ({ cls := "ClauseDesk$Clauses", name := "<init>", desc := "(I)V" } : Jvm.MethodName) prog_2_method_1_code (2 : Nat) (Option.none : Option Jvm.ClassFile.FieldType)) ∈ lw_all := lw_g (lw_at lw_m1 20 rfl) rfl
theorem q34 : (Jvm.Cond.methodLink "ClauseDesk$Clauses" (1 : Nat) ({ cls := "java/lang/Object", name := "<init>", desc := "()V" } : Jvm.MethodName)) ∈ lw_all := lw_g (lw_at lw_m1 21 rfl) rfl
theorem q35 : (Jvm.Cond.fieldLink "ClauseDesk$Clauses" (13 : Nat) "ClauseDesk$Clauses" "yes" "[I") ∈ lw_all := lw_g (lw_at lw_m1 22 rfl) rfl
theorem q38 : (Jvm.Cond.fieldLink "ClauseDesk$Clauses" (17 : Nat) "ClauseDesk$Clauses" "no" "[I") ∈ lw_all := lw_g (lw_at lw_m1 25 rfl) rfl
theorem q40 : (Jvm.Cond.fieldLink "ClauseDesk$Clauses" (7 : Nat) "ClauseDesk$Clauses" "n" "I") ∈ lw_all := lw_g (lw_at lw_m1 27 rfl) rfl
theorem q44 : (Jvm.Cond.laysFinal "ClauseDesk$Clauses" "ClauseDesk$Clauses" "yes" "[I") ∈ lw_all := lw_g (lw_at lw_m1 31 rfl) rfl
theorem q45 : (Jvm.Cond.soleField "ClauseDesk$Clauses" "yes") ∈ lw_all := lw_g (lw_at lw_m1 32 rfl) rfl
theorem q46 : (Jvm.Cond.laysFinal "ClauseDesk$Clauses" "ClauseDesk$Clauses" "no" "[I") ∈ lw_all := lw_g (lw_at lw_m1 33 rfl) rfl
theorem q47 : (Jvm.Cond.soleField "ClauseDesk$Clauses" "no") ∈ lw_all := lw_g (lw_at lw_m1 34 rfl) rfl
theorem q48 : (Jvm.Cond.lays "ClauseDesk$Clauses" "ClauseDesk$Clauses" "n" "I") ∈ lw_all := lw_g (lw_at lw_m1 35 rfl) rfl
theorem q49 : (Jvm.Cond.soleField "ClauseDesk$Clauses" "n") ∈ lw_all := lw_g (lw_at lw_m1 36 rfl) rfl
theorem q50 : (Jvm.Cond.superclass "ClauseDesk$Clauses" "java/lang/Object") ∈ lw_all := lw_g (lw_at lw_m1 37 rfl) rfl
theorem q133 : (Jvm.Cond.instanceMethod ({ cls := "ClauseDesk$Clauses", name := "add", desc := "(II)V" } : Jvm.MethodName)) ∈ lw_all := lw_g (lw_at lw_m1 120 rfl) rfl
theorem q134 : (Jvm.Cond.selects "ClauseDesk$Clauses" ({ cls := "ClauseDesk$Clauses", name := "add", desc := "(II)V" } : Jvm.MethodName) ({ cls := "ClauseDesk$Clauses", name := "add", desc := "(II)V" } : Jvm.MethodName)) ∈ lw_all := lw_g (lw_at lw_m1 121 rfl) rfl
theorem q135 : (Jvm.Cond.code ({ cls := "ClauseDesk$Clauses", name := "add", desc := "(II)V" } : Jvm.MethodName) prog_2_method_2_code (3 : Nat) (Option.none : Option Jvm.ClassFile.FieldType)) ∈ lw_all := lw_g (lw_at lw_m1 122 rfl) rfl
theorem q157 : (Jvm.Cond.instanceMethod ({ cls := "ClauseDesk$Clauses", name := "holds", desc := "(III)Z" } : Jvm.MethodName)) ∈ lw_all := lw_g (lw_at lw_m1 144 rfl) rfl
theorem q158 : (Jvm.Cond.selects "ClauseDesk$Clauses" ({ cls := "ClauseDesk$Clauses", name := "holds", desc := "(III)Z" } : Jvm.MethodName) ({ cls := "ClauseDesk$Clauses", name := "holds", desc := "(III)Z" } : Jvm.MethodName)) ∈ lw_all := lw_g (lw_at lw_m1 145 rfl) rfl
theorem q159 : (Jvm.Cond.code ({ cls := "ClauseDesk$Clauses", name := "holds", desc := "(III)Z" } : Jvm.MethodName) prog_2_method_3_code (4 : Nat) (Option.some Jvm.ClassFile.FieldType.boolean)) ∈ lw_all := lw_g (lw_at lw_m1 146 rfl) rfl
theorem q161 : (Jvm.Cond.instanceMethod ({ cls := "ClauseDesk$Clauses", name := "open", desc := "(II)I" } : Jvm.MethodName)) ∈ lw_all := lw_g (lw_at lw_m1 148 rfl) rfl
theorem q162 : (Jvm.Cond.selects "ClauseDesk$Clauses" ({ cls := "ClauseDesk$Clauses", name := "open", desc := "(II)I" } : Jvm.MethodName) ({ cls := "ClauseDesk$Clauses", name := "open", desc := "(II)I" } : Jvm.MethodName)) ∈ lw_all := lw_g (lw_at lw_m1 149 rfl) rfl
theorem q163 : (Jvm.Cond.code ({ cls := "ClauseDesk$Clauses", name := "open", desc := "(II)I" } : Jvm.MethodName) prog_2_method_4_code (3 : Nat) (Option.some Jvm.ClassFile.FieldType.int)) ∈ lw_all := lw_g (lw_at lw_m1 150 rfl) rfl
theorem in_X1 : ∀ w ∈ wsX10, w ∈ lw_all := lw_in wsX10 [44, 46, 48] (by decide +kernel) (by decide +kernel)
end
section
/-! ClauseDesk$Search -/
set_option maxRecDepth 100000
def RX2 : String := "ClauseDesk$Search"
def TX2 : u_T := fun k => match k with
  | 0 => ("ClauseDesk$Search", "given", "LClauseDesk$Clauses;", true)
  | 1 => ("ClauseDesk$Search", "learnt", "LClauseDesk$Clauses;", true)
  | 2 => ("ClauseDesk$Search", "level", "[I", true)
  | 3 => ("ClauseDesk$Search", "why", "[I", true)
  | 4 => ("ClauseDesk$Search", "trail", "[I", true)
  | 5 => ("ClauseDesk$Search", "trailed", "I", false)
  | 6 => ("ClauseDesk$Search", "levels", "I", false)
  | 7 => ("ClauseDesk$Search", "known", "I", false)
  | _ => ("ClauseDesk$Search", "truth", "I", false)
def tyX2 : Nat → FieldType := fun k => match k with
  | 0 => .object "ClauseDesk$Clauses"
  | 1 => .object "ClauseDesk$Clauses"
  | 2 => .array .int
  | 3 => .array .int
  | 4 => .array .int
  | 5 => .int
  | 6 => .int
  | 7 => .int
  | _ => .int
abbrev wsX20 : List Cond := u_ws RX2 TX2 9
theorem nmX2 : ∀ a, a < 9 → ∀ b, b < 9 → a ≠ b → (TX2 a).2.1 ≠ (TX2 b).2.1 := by decide +kernel
theorem tyX2_ok : ∀ k, k < 9 → parseFieldDescriptor (TX2 k).2.2.1 = some (tyX2 k) := by decide +kernel
abbrev cX2_init : ByteArray := prog_4_method_1_code
def yX2_init : MethodName := ⟨RX2, "<init>", "(LClauseDesk$Clauses;)V"⟩
theorem dX2_init_0 : decode cX2_init 0 = .ok (.aload_n 0, 1) := by decide +kernel
theorem dX2_init_1 : decode cX2_init 1 = .ok (.invokespecial 1, 3) := by decide +kernel
theorem dX2_init_4 : decode cX2_init 4 = .ok (.aload_n 0, 1) := by decide +kernel
theorem dX2_init_5 : decode cX2_init 5 = .ok (.new 7, 3) := by decide +kernel
theorem dX2_init_8 : decode cX2_init 8 = .ok (.dup, 1) := by decide +kernel
theorem dX2_init_9 : decode cX2_init 9 = .ok (.sipush 6200, 3) := by decide +kernel
theorem dX2_init_12 : decode cX2_init 12 = .ok (.invokespecial 9, 3) := by decide +kernel
theorem dX2_init_15 : decode cX2_init 15 = .ok (.putfield 12, 3) := by decide +kernel
theorem dX2_init_18 : decode cX2_init 18 = .ok (.aload_n 0, 1) := by decide +kernel
theorem dX2_init_19 : decode cX2_init 19 = .ok (.bipush 12, 2) := by decide +kernel
theorem dX2_init_21 : decode cX2_init 21 = .ok (.newarray .int, 2) := by decide +kernel
theorem dX2_init_23 : decode cX2_init 23 = .ok (.putfield 18, 3) := by decide +kernel
theorem dX2_init_26 : decode cX2_init 26 = .ok (.aload_n 0, 1) := by decide +kernel
theorem dX2_init_27 : decode cX2_init 27 = .ok (.bipush 12, 2) := by decide +kernel
theorem dX2_init_29 : decode cX2_init 29 = .ok (.newarray .int, 2) := by decide +kernel
theorem dX2_init_31 : decode cX2_init 31 = .ok (.putfield 22, 3) := by decide +kernel
theorem dX2_init_34 : decode cX2_init 34 = .ok (.aload_n 0, 1) := by decide +kernel
theorem dX2_init_35 : decode cX2_init 35 = .ok (.bipush 12, 2) := by decide +kernel
theorem dX2_init_37 : decode cX2_init 37 = .ok (.newarray .int, 2) := by decide +kernel
theorem dX2_init_39 : decode cX2_init 39 = .ok (.putfield 25, 3) := by decide +kernel
theorem dX2_init_42 : decode cX2_init 42 = .ok (.aload_n 0, 1) := by decide +kernel
theorem dX2_init_43 : decode cX2_init 43 = .ok (.iconst 0, 1) := by decide +kernel
theorem dX2_init_44 : decode cX2_init 44 = .ok (.putfield 28, 3) := by decide +kernel
theorem dX2_init_47 : decode cX2_init 47 = .ok (.aload_n 0, 1) := by decide +kernel
theorem dX2_init_48 : decode cX2_init 48 = .ok (.iconst 0, 1) := by decide +kernel
theorem dX2_init_49 : decode cX2_init 49 = .ok (.putfield 32, 3) := by decide +kernel
theorem dX2_init_52 : decode cX2_init 52 = .ok (.aload_n 0, 1) := by decide +kernel
theorem dX2_init_53 : decode cX2_init 53 = .ok (.iconst 0, 1) := by decide +kernel
theorem dX2_init_54 : decode cX2_init 54 = .ok (.putfield 35, 3) := by decide +kernel
theorem dX2_init_57 : decode cX2_init 57 = .ok (.aload_n 0, 1) := by decide +kernel
theorem dX2_init_58 : decode cX2_init 58 = .ok (.iconst 0, 1) := by decide +kernel
theorem dX2_init_59 : decode cX2_init 59 = .ok (.putfield 38, 3) := by decide +kernel
theorem dX2_init_62 : decode cX2_init 62 = .ok (.aload_n 0, 1) := by decide +kernel
theorem dX2_init_63 : decode cX2_init 63 = .ok (.aload_n 1, 1) := by decide +kernel
theorem dX2_init_64 : decode cX2_init 64 = .ok (.putfield 41, 3) := by decide +kernel
theorem dX2_init_67 : decode cX2_init 67 = .ok (.return_, 1) := by decide +kernel
abbrev cX2_forget : ByteArray := prog_4_method_2_code
def yX2_forget : MethodName := ⟨RX2, "forget", "()V"⟩
theorem dX2_forget_0 : decode cX2_forget 0 = .ok (.aload_n 0, 1) := by decide +kernel
theorem dX2_forget_1 : decode cX2_forget 1 = .ok (.getfield 12, 3) := by decide +kernel
theorem dX2_forget_4 : decode cX2_forget 4 = .ok (.iconst 0, 1) := by decide +kernel
theorem dX2_forget_5 : decode cX2_forget 5 = .ok (.putfield 44, 3) := by decide +kernel
theorem dX2_forget_8 : decode cX2_forget 8 = .ok (.return_, 1) := by decide +kernel
abbrev cX2_run : ByteArray := prog_4_method_11_code
def yX2_run : MethodName := ⟨RX2, "run", "(III)Z"⟩
theorem dX2_run_0 : decode cX2_run 0 = .ok (.aload_n 0, 1) := by decide +kernel
theorem dX2_run_1 : decode cX2_run 1 = .ok (.getfield 12, 3) := by decide +kernel
theorem dX2_run_4 : decode cX2_run 4 = .ok (.getfield 44, 3) := by decide +kernel
theorem dX2_run_7 : decode cX2_run 7 = .ok (.sipush 2000, 3) := by decide +kernel
theorem dX2_run_10 : decode cX2_run 10 = .ok (.if_icmp .le 11, 3) := by decide +kernel
theorem dX2_run_13 : decode cX2_run 13 = .ok (.aload_n 0, 1) := by decide +kernel
theorem dX2_run_14 : decode cX2_run 14 = .ok (.getfield 12, 3) := by decide +kernel
theorem dX2_run_17 : decode cX2_run 17 = .ok (.iconst 0, 1) := by decide +kernel
theorem dX2_run_18 : decode cX2_run 18 = .ok (.putfield 44, 3) := by decide +kernel
theorem dX2_run_21 : decode cX2_run 21 = .ok (.aload_n 0, 1) := by decide +kernel
theorem dX2_run_22 : decode cX2_run 22 = .ok (.iconst 0, 1) := by decide +kernel
theorem dX2_run_23 : decode cX2_run 23 = .ok (.putfield 28, 3) := by decide +kernel
theorem dX2_run_26 : decode cX2_run 26 = .ok (.aload_n 0, 1) := by decide +kernel
theorem dX2_run_27 : decode cX2_run 27 = .ok (.iconst 0, 1) := by decide +kernel
theorem dX2_run_28 : decode cX2_run 28 = .ok (.putfield 32, 3) := by decide +kernel
theorem dX2_run_31 : decode cX2_run 31 = .ok (.aload_n 0, 1) := by decide +kernel
theorem dX2_run_32 : decode cX2_run 32 = .ok (.iconst 0, 1) := by decide +kernel
theorem dX2_run_33 : decode cX2_run 33 = .ok (.putfield 35, 3) := by decide +kernel
theorem dX2_run_36 : decode cX2_run 36 = .ok (.aload_n 0, 1) := by decide +kernel
theorem dX2_run_37 : decode cX2_run 37 = .ok (.iconst 0, 1) := by decide +kernel
theorem dX2_run_38 : decode cX2_run 38 = .ok (.putfield 38, 3) := by decide +kernel
theorem dX2_run_41 : decode cX2_run 41 = .ok (.aload_n 0, 1) := by decide +kernel
theorem dX2_run_42 : decode cX2_run 42 = .ok (.invokevirtual 94, 3) := by decide +kernel
theorem dX2_run_45 : decode cX2_run 45 = .ok (.istore 4, 2) := by decide +kernel
theorem dX2_run_47 : decode cX2_run 47 = .ok (.iload 4, 2) := by decide +kernel
theorem dX2_run_49 : decode cX2_run 49 = .ok (.ifCond .lt 21, 3) := by decide +kernel
theorem dX2_run_52 : decode cX2_run 52 = .ok (.aload_n 0, 1) := by decide +kernel
theorem dX2_run_53 : decode cX2_run 53 = .ok (.getfield 32, 3) := by decide +kernel
theorem dX2_run_56 : decode cX2_run 56 = .ok (.ifCond .ne 5, 3) := by decide +kernel
theorem dX2_run_59 : decode cX2_run 59 = .ok (.iconst 0, 1) := by decide +kernel
theorem dX2_run_60 : decode cX2_run 60 = .ok (.ireturn, 1) := by decide +kernel
theorem dX2_run_61 : decode cX2_run 61 = .ok (.aload_n 0, 1) := by decide +kernel
theorem dX2_run_62 : decode cX2_run 62 = .ok (.iload 4, 2) := by decide +kernel
theorem dX2_run_64 : decode cX2_run 64 = .ok (.invokevirtual 98, 3) := by decide +kernel
theorem dX2_run_67 : decode cX2_run 67 = .ok (.goto (-26), 3) := by decide +kernel
theorem dX2_run_70 : decode cX2_run 70 = .ok (.aload_n 0, 1) := by decide +kernel
theorem dX2_run_71 : decode cX2_run 71 = .ok (.iload_n 1, 1) := by decide +kernel
theorem dX2_run_72 : decode cX2_run 72 = .ok (.iload_n 2, 1) := by decide +kernel
theorem dX2_run_73 : decode cX2_run 73 = .ok (.iload_n 3, 1) := by decide +kernel
theorem dX2_run_74 : decode cX2_run 74 = .ok (.invokevirtual 101, 3) := by decide +kernel
theorem dX2_run_77 : decode cX2_run 77 = .ok (.istore 5, 2) := by decide +kernel
theorem dX2_run_79 : decode cX2_run 79 = .ok (.iload 5, 2) := by decide +kernel
theorem dX2_run_81 : decode cX2_run 81 = .ok (.bipush (-2), 2) := by decide +kernel
theorem dX2_run_83 : decode cX2_run 83 = .ok (.if_icmp .ne 5, 3) := by decide +kernel
theorem dX2_run_86 : decode cX2_run 86 = .ok (.iconst 0, 1) := by decide +kernel
theorem dX2_run_87 : decode cX2_run 87 = .ok (.ireturn, 1) := by decide +kernel
theorem dX2_run_88 : decode cX2_run 88 = .ok (.iload 5, 2) := by decide +kernel
theorem dX2_run_90 : decode cX2_run 90 = .ok (.iconst (-1), 1) := by decide +kernel
theorem dX2_run_91 : decode cX2_run 91 = .ok (.if_icmp .ne 5, 3) := by decide +kernel
theorem dX2_run_94 : decode cX2_run 94 = .ok (.iconst 1, 1) := by decide +kernel
theorem dX2_run_95 : decode cX2_run 95 = .ok (.ireturn, 1) := by decide +kernel
theorem dX2_run_96 : decode cX2_run 96 = .ok (.aload_n 0, 1) := by decide +kernel
theorem dX2_run_97 : decode cX2_run 97 = .ok (.dup, 1) := by decide +kernel
theorem dX2_run_98 : decode cX2_run 98 = .ok (.getfield 32, 3) := by decide +kernel
theorem dX2_run_101 : decode cX2_run 101 = .ok (.iconst 1, 1) := by decide +kernel
theorem dX2_run_102 : decode cX2_run 102 = .ok (.iadd, 1) := by decide +kernel
theorem dX2_run_103 : decode cX2_run 103 = .ok (.putfield 32, 3) := by decide +kernel
theorem dX2_run_106 : decode cX2_run 106 = .ok (.aload_n 0, 1) := by decide +kernel
theorem dX2_run_107 : decode cX2_run 107 = .ok (.iload 5, 2) := by decide +kernel
theorem dX2_run_109 : decode cX2_run 109 = .ok (.iload_n 2, 1) := by decide +kernel
theorem dX2_run_110 : decode cX2_run 110 = .ok (.iload 5, 2) := by decide +kernel
theorem dX2_run_112 : decode cX2_run 112 = .ok (.ishr, 1) := by decide +kernel
theorem dX2_run_113 : decode cX2_run 113 = .ok (.iconst 1, 1) := by decide +kernel
theorem dX2_run_114 : decode cX2_run 114 = .ok (.iand, 1) := by decide +kernel
theorem dX2_run_115 : decode cX2_run 115 = .ok (.iconst 1, 1) := by decide +kernel
theorem dX2_run_116 : decode cX2_run 116 = .ok (.if_icmp .ne 17, 3) := by decide +kernel
theorem dX2_run_119 : decode cX2_run 119 = .ok (.iload_n 3, 1) := by decide +kernel
theorem dX2_run_120 : decode cX2_run 120 = .ok (.iload 5, 2) := by decide +kernel
theorem dX2_run_122 : decode cX2_run 122 = .ok (.ishr, 1) := by decide +kernel
theorem dX2_run_123 : decode cX2_run 123 = .ok (.iconst 1, 1) := by decide +kernel
theorem dX2_run_124 : decode cX2_run 124 = .ok (.iand, 1) := by decide +kernel
theorem dX2_run_125 : decode cX2_run 125 = .ok (.iconst 1, 1) := by decide +kernel
theorem dX2_run_126 : decode cX2_run 126 = .ok (.if_icmp .ne 7, 3) := by decide +kernel
theorem dX2_run_129 : decode cX2_run 129 = .ok (.iconst 1, 1) := by decide +kernel
theorem dX2_run_130 : decode cX2_run 130 = .ok (.goto 4, 3) := by decide +kernel
theorem dX2_run_133 : decode cX2_run 133 = .ok (.iconst 0, 1) := by decide +kernel
theorem dX2_run_134 : decode cX2_run 134 = .ok (.iconst (-1), 1) := by decide +kernel
theorem dX2_run_135 : decode cX2_run 135 = .ok (.invokevirtual 68, 3) := by decide +kernel
theorem dX2_run_138 : decode cX2_run 138 = .ok (.goto (-97), 3) := by decide +kernel
abbrev cX2_follow : ByteArray := prog_4_method_6_code
def yX2_follow : MethodName := ⟨RX2, "follow", "()I"⟩
theorem dX2_follow_0 : decode cX2_follow 0 = .ok (.iconst 1, 1) := by decide +kernel
theorem dX2_follow_1 : decode cX2_follow 1 = .ok (.istore_n 1, 1) := by decide +kernel
theorem dX2_follow_2 : decode cX2_follow 2 = .ok (.iload_n 1, 1) := by decide +kernel
theorem dX2_follow_3 : decode cX2_follow 3 = .ok (.ifCond .eq 53, 3) := by decide +kernel
theorem dX2_follow_6 : decode cX2_follow 6 = .ok (.iconst 0, 1) := by decide +kernel
theorem dX2_follow_7 : decode cX2_follow 7 = .ok (.istore_n 1, 1) := by decide +kernel
theorem dX2_follow_8 : decode cX2_follow 8 = .ok (.aload_n 0, 1) := by decide +kernel
theorem dX2_follow_9 : decode cX2_follow 9 = .ok (.aload_n 0, 1) := by decide +kernel
theorem dX2_follow_10 : decode cX2_follow 10 = .ok (.getfield 41, 3) := by decide +kernel
theorem dX2_follow_13 : decode cX2_follow 13 = .ok (.iconst 0, 1) := by decide +kernel
theorem dX2_follow_14 : decode cX2_follow 14 = .ok (.invokevirtual 47, 3) := by decide +kernel
theorem dX2_follow_17 : decode cX2_follow 17 = .ok (.istore_n 2, 1) := by decide +kernel
theorem dX2_follow_18 : decode cX2_follow 18 = .ok (.iload_n 2, 1) := by decide +kernel
theorem dX2_follow_19 : decode cX2_follow 19 = .ok (.iconst (-1), 1) := by decide +kernel
theorem dX2_follow_20 : decode cX2_follow 20 = .ok (.if_icmp .ne 15, 3) := by decide +kernel
theorem dX2_follow_23 : decode cX2_follow 23 = .ok (.aload_n 0, 1) := by decide +kernel
theorem dX2_follow_24 : decode cX2_follow 24 = .ok (.aload_n 0, 1) := by decide +kernel
theorem dX2_follow_25 : decode cX2_follow 25 = .ok (.getfield 12, 3) := by decide +kernel
theorem dX2_follow_28 : decode cX2_follow 28 = .ok (.sipush 256, 3) := by decide +kernel
theorem dX2_follow_31 : decode cX2_follow 31 = .ok (.invokevirtual 47, 3) := by decide +kernel
theorem dX2_follow_34 : decode cX2_follow 34 = .ok (.istore_n 2, 1) := by decide +kernel
theorem dX2_follow_35 : decode cX2_follow 35 = .ok (.iload_n 2, 1) := by decide +kernel
theorem dX2_follow_36 : decode cX2_follow 36 = .ok (.ifCond .lt 5, 3) := by decide +kernel
theorem dX2_follow_39 : decode cX2_follow 39 = .ok (.iload_n 2, 1) := by decide +kernel
theorem dX2_follow_40 : decode cX2_follow 40 = .ok (.ireturn, 1) := by decide +kernel
theorem dX2_follow_41 : decode cX2_follow 41 = .ok (.iload_n 2, 1) := by decide +kernel
theorem dX2_follow_42 : decode cX2_follow 42 = .ok (.bipush (-2), 2) := by decide +kernel
theorem dX2_follow_44 : decode cX2_follow 44 = .ok (.if_icmp .ne 7, 3) := by decide +kernel
theorem dX2_follow_47 : decode cX2_follow 47 = .ok (.iconst 1, 1) := by decide +kernel
theorem dX2_follow_48 : decode cX2_follow 48 = .ok (.goto 4, 3) := by decide +kernel
theorem dX2_follow_51 : decode cX2_follow 51 = .ok (.iconst 0, 1) := by decide +kernel
theorem dX2_follow_52 : decode cX2_follow 52 = .ok (.istore_n 1, 1) := by decide +kernel
theorem dX2_follow_53 : decode cX2_follow 53 = .ok (.goto (-51), 3) := by decide +kernel
theorem dX2_follow_56 : decode cX2_follow 56 = .ok (.iconst (-1), 1) := by decide +kernel
theorem dX2_follow_57 : decode cX2_follow 57 = .ok (.ireturn, 1) := by decide +kernel
abbrev cX2_pass : ByteArray := prog_4_method_7_code
def yX2_pass : MethodName := ⟨RX2, "pass", "(LClauseDesk$Clauses;I)I"⟩
theorem dX2_pass_0 : decode cX2_pass 0 = .ok (.iconst (-1), 1) := by decide +kernel
theorem dX2_pass_1 : decode cX2_pass 1 = .ok (.istore_n 3, 1) := by decide +kernel
theorem dX2_pass_2 : decode cX2_pass 2 = .ok (.iconst 0, 1) := by decide +kernel
theorem dX2_pass_3 : decode cX2_pass 3 = .ok (.istore 4, 2) := by decide +kernel
theorem dX2_pass_5 : decode cX2_pass 5 = .ok (.iload 4, 2) := by decide +kernel
theorem dX2_pass_7 : decode cX2_pass 7 = .ok (.aload_n 1, 1) := by decide +kernel
theorem dX2_pass_8 : decode cX2_pass 8 = .ok (.getfield 44, 3) := by decide +kernel
theorem dX2_pass_11 : decode cX2_pass 11 = .ok (.if_icmp .ge 98, 3) := by decide +kernel
theorem dX2_pass_14 : decode cX2_pass 14 = .ok (.aload_n 1, 1) := by decide +kernel
theorem dX2_pass_15 : decode cX2_pass 15 = .ok (.iload 4, 2) := by decide +kernel
theorem dX2_pass_17 : decode cX2_pass 17 = .ok (.aload_n 0, 1) := by decide +kernel
theorem dX2_pass_18 : decode cX2_pass 18 = .ok (.getfield 35, 3) := by decide +kernel
theorem dX2_pass_21 : decode cX2_pass 21 = .ok (.aload_n 0, 1) := by decide +kernel
theorem dX2_pass_22 : decode cX2_pass 22 = .ok (.getfield 38, 3) := by decide +kernel
theorem dX2_pass_25 : decode cX2_pass 25 = .ok (.invokevirtual 51, 3) := by decide +kernel
theorem dX2_pass_28 : decode cX2_pass 28 = .ok (.ifCond .eq 6, 3) := by decide +kernel
theorem dX2_pass_31 : decode cX2_pass 31 = .ok (.goto 72, 3) := by decide +kernel
theorem dX2_pass_34 : decode cX2_pass 34 = .ok (.aload_n 1, 1) := by decide +kernel
theorem dX2_pass_35 : decode cX2_pass 35 = .ok (.iload 4, 2) := by decide +kernel
theorem dX2_pass_37 : decode cX2_pass 37 = .ok (.aload_n 0, 1) := by decide +kernel
theorem dX2_pass_38 : decode cX2_pass 38 = .ok (.getfield 35, 3) := by decide +kernel
theorem dX2_pass_41 : decode cX2_pass 41 = .ok (.invokevirtual 55, 3) := by decide +kernel
theorem dX2_pass_44 : decode cX2_pass 44 = .ok (.istore 5, 2) := by decide +kernel
theorem dX2_pass_46 : decode cX2_pass 46 = .ok (.iload 5, 2) := by decide +kernel
theorem dX2_pass_48 : decode cX2_pass 48 = .ok (.ifCond .ne 8, 3) := by decide +kernel
theorem dX2_pass_51 : decode cX2_pass 51 = .ok (.iload_n 2, 1) := by decide +kernel
theorem dX2_pass_52 : decode cX2_pass 52 = .ok (.iload 4, 2) := by decide +kernel
theorem dX2_pass_54 : decode cX2_pass 54 = .ok (.iadd, 1) := by decide +kernel
theorem dX2_pass_55 : decode cX2_pass 55 = .ok (.ireturn, 1) := by decide +kernel
theorem dX2_pass_56 : decode cX2_pass 56 = .ok (.iload 5, 2) := by decide +kernel
theorem dX2_pass_58 : decode cX2_pass 58 = .ok (.iload 5, 2) := by decide +kernel
theorem dX2_pass_60 : decode cX2_pass 60 = .ok (.iconst 1, 1) := by decide +kernel
theorem dX2_pass_61 : decode cX2_pass 61 = .ok (.isub, 1) := by decide +kernel
theorem dX2_pass_62 : decode cX2_pass 62 = .ok (.iand, 1) := by decide +kernel
theorem dX2_pass_63 : decode cX2_pass 63 = .ok (.ifCond .eq 6, 3) := by decide +kernel
theorem dX2_pass_66 : decode cX2_pass 66 = .ok (.goto 37, 3) := by decide +kernel
theorem dX2_pass_69 : decode cX2_pass 69 = .ok (.aload_n 0, 1) := by decide +kernel
theorem dX2_pass_70 : decode cX2_pass 70 = .ok (.iload 5, 2) := by decide +kernel
theorem dX2_pass_72 : decode cX2_pass 72 = .ok (.invokestatic 59, 3) := by decide +kernel
theorem dX2_pass_75 : decode cX2_pass 75 = .ok (.aload_n 1, 1) := by decide +kernel
theorem dX2_pass_76 : decode cX2_pass 76 = .ok (.getfield 65, 3) := by decide +kernel
theorem dX2_pass_79 : decode cX2_pass 79 = .ok (.iload 4, 2) := by decide +kernel
theorem dX2_pass_81 : decode cX2_pass 81 = .ok (.iaload, 1) := by decide +kernel
theorem dX2_pass_82 : decode cX2_pass 82 = .ok (.iload 5, 2) := by decide +kernel
theorem dX2_pass_84 : decode cX2_pass 84 = .ok (.iand, 1) := by decide +kernel
theorem dX2_pass_85 : decode cX2_pass 85 = .ok (.ifCond .eq 7, 3) := by decide +kernel
theorem dX2_pass_88 : decode cX2_pass 88 = .ok (.iconst 1, 1) := by decide +kernel
theorem dX2_pass_89 : decode cX2_pass 89 = .ok (.goto 4, 3) := by decide +kernel
theorem dX2_pass_92 : decode cX2_pass 92 = .ok (.iconst 0, 1) := by decide +kernel
theorem dX2_pass_93 : decode cX2_pass 93 = .ok (.iload_n 2, 1) := by decide +kernel
theorem dX2_pass_94 : decode cX2_pass 94 = .ok (.iload 4, 2) := by decide +kernel
theorem dX2_pass_96 : decode cX2_pass 96 = .ok (.iadd, 1) := by decide +kernel
theorem dX2_pass_97 : decode cX2_pass 97 = .ok (.invokevirtual 68, 3) := by decide +kernel
theorem dX2_pass_100 : decode cX2_pass 100 = .ok (.bipush (-2), 2) := by decide +kernel
theorem dX2_pass_102 : decode cX2_pass 102 = .ok (.istore_n 3, 1) := by decide +kernel
theorem dX2_pass_103 : decode cX2_pass 103 = .ok (.iinc 4 1, 3) := by decide +kernel
theorem dX2_pass_106 : decode cX2_pass 106 = .ok (.goto (-101), 3) := by decide +kernel
theorem dX2_pass_109 : decode cX2_pass 109 = .ok (.iload_n 3, 1) := by decide +kernel
theorem dX2_pass_110 : decode cX2_pass 110 = .ok (.ireturn, 1) := by decide +kernel
abbrev cX2_assign : ByteArray := prog_4_method_3_code
def yX2_assign : MethodName := ⟨RX2, "assign", "(IZI)V"⟩
theorem dX2_assign_0 : decode cX2_assign 0 = .ok (.aload_n 0, 1) := by decide +kernel
theorem dX2_assign_1 : decode cX2_assign 1 = .ok (.dup, 1) := by decide +kernel
theorem dX2_assign_2 : decode cX2_assign 2 = .ok (.getfield 35, 3) := by decide +kernel
theorem dX2_assign_5 : decode cX2_assign 5 = .ok (.iconst 1, 1) := by decide +kernel
theorem dX2_assign_6 : decode cX2_assign 6 = .ok (.iload_n 1, 1) := by decide +kernel
theorem dX2_assign_7 : decode cX2_assign 7 = .ok (.ishl, 1) := by decide +kernel
theorem dX2_assign_8 : decode cX2_assign 8 = .ok (.ior, 1) := by decide +kernel
theorem dX2_assign_9 : decode cX2_assign 9 = .ok (.putfield 35, 3) := by decide +kernel
theorem dX2_assign_12 : decode cX2_assign 12 = .ok (.aload_n 0, 1) := by decide +kernel
theorem dX2_assign_13 : decode cX2_assign 13 = .ok (.iload_n 2, 1) := by decide +kernel
theorem dX2_assign_14 : decode cX2_assign 14 = .ok (.ifCond .eq 14, 3) := by decide +kernel
theorem dX2_assign_17 : decode cX2_assign 17 = .ok (.aload_n 0, 1) := by decide +kernel
theorem dX2_assign_18 : decode cX2_assign 18 = .ok (.getfield 38, 3) := by decide +kernel
theorem dX2_assign_21 : decode cX2_assign 21 = .ok (.iconst 1, 1) := by decide +kernel
theorem dX2_assign_22 : decode cX2_assign 22 = .ok (.iload_n 1, 1) := by decide +kernel
theorem dX2_assign_23 : decode cX2_assign 23 = .ok (.ishl, 1) := by decide +kernel
theorem dX2_assign_24 : decode cX2_assign 24 = .ok (.ior, 1) := by decide +kernel
theorem dX2_assign_25 : decode cX2_assign 25 = .ok (.goto 13, 3) := by decide +kernel
theorem dX2_assign_28 : decode cX2_assign 28 = .ok (.aload_n 0, 1) := by decide +kernel
theorem dX2_assign_29 : decode cX2_assign 29 = .ok (.getfield 38, 3) := by decide +kernel
theorem dX2_assign_32 : decode cX2_assign 32 = .ok (.iconst 1, 1) := by decide +kernel
theorem dX2_assign_33 : decode cX2_assign 33 = .ok (.iload_n 1, 1) := by decide +kernel
theorem dX2_assign_34 : decode cX2_assign 34 = .ok (.ishl, 1) := by decide +kernel
theorem dX2_assign_35 : decode cX2_assign 35 = .ok (.iconst (-1), 1) := by decide +kernel
theorem dX2_assign_36 : decode cX2_assign 36 = .ok (.ixor, 1) := by decide +kernel
theorem dX2_assign_37 : decode cX2_assign 37 = .ok (.iand, 1) := by decide +kernel
theorem dX2_assign_38 : decode cX2_assign 38 = .ok (.putfield 38, 3) := by decide +kernel
theorem dX2_assign_41 : decode cX2_assign 41 = .ok (.aload_n 0, 1) := by decide +kernel
theorem dX2_assign_42 : decode cX2_assign 42 = .ok (.getfield 18, 3) := by decide +kernel
theorem dX2_assign_45 : decode cX2_assign 45 = .ok (.iload_n 1, 1) := by decide +kernel
theorem dX2_assign_46 : decode cX2_assign 46 = .ok (.aload_n 0, 1) := by decide +kernel
theorem dX2_assign_47 : decode cX2_assign 47 = .ok (.getfield 32, 3) := by decide +kernel
theorem dX2_assign_50 : decode cX2_assign 50 = .ok (.iastore, 1) := by decide +kernel
theorem dX2_assign_51 : decode cX2_assign 51 = .ok (.aload_n 0, 1) := by decide +kernel
theorem dX2_assign_52 : decode cX2_assign 52 = .ok (.getfield 22, 3) := by decide +kernel
theorem dX2_assign_55 : decode cX2_assign 55 = .ok (.iload_n 1, 1) := by decide +kernel
theorem dX2_assign_56 : decode cX2_assign 56 = .ok (.iload_n 3, 1) := by decide +kernel
theorem dX2_assign_57 : decode cX2_assign 57 = .ok (.iastore, 1) := by decide +kernel
theorem dX2_assign_58 : decode cX2_assign 58 = .ok (.aload_n 0, 1) := by decide +kernel
theorem dX2_assign_59 : decode cX2_assign 59 = .ok (.getfield 25, 3) := by decide +kernel
theorem dX2_assign_62 : decode cX2_assign 62 = .ok (.aload_n 0, 1) := by decide +kernel
theorem dX2_assign_63 : decode cX2_assign 63 = .ok (.dup, 1) := by decide +kernel
theorem dX2_assign_64 : decode cX2_assign 64 = .ok (.getfield 28, 3) := by decide +kernel
theorem dX2_assign_67 : decode cX2_assign 67 = .ok (.dup_x1, 1) := by decide +kernel
theorem dX2_assign_68 : decode cX2_assign 68 = .ok (.iconst 1, 1) := by decide +kernel
theorem dX2_assign_69 : decode cX2_assign 69 = .ok (.iadd, 1) := by decide +kernel
theorem dX2_assign_70 : decode cX2_assign 70 = .ok (.putfield 28, 3) := by decide +kernel
theorem dX2_assign_73 : decode cX2_assign 73 = .ok (.iload_n 1, 1) := by decide +kernel
theorem dX2_assign_74 : decode cX2_assign 74 = .ok (.iastore, 1) := by decide +kernel
theorem dX2_assign_75 : decode cX2_assign 75 = .ok (.return_, 1) := by decide +kernel
abbrev cX2_learn : ByteArray := prog_4_method_9_code
def yX2_learn : MethodName := ⟨RX2, "learn", "(I)V"⟩
theorem dX2_learn_0 : decode cX2_learn 0 = .ok (.iload_n 1, 1) := by decide +kernel
theorem dX2_learn_1 : decode cX2_learn 1 = .ok (.sipush 256, 3) := by decide +kernel
theorem dX2_learn_4 : decode cX2_learn 4 = .ok (.if_icmp .ge 7, 3) := by decide +kernel
theorem dX2_learn_7 : decode cX2_learn 7 = .ok (.iload_n 1, 1) := by decide +kernel
theorem dX2_learn_8 : decode cX2_learn 8 = .ok (.goto 8, 3) := by decide +kernel
theorem dX2_learn_11 : decode cX2_learn 11 = .ok (.iload_n 1, 1) := by decide +kernel
theorem dX2_learn_12 : decode cX2_learn 12 = .ok (.sipush 256, 3) := by decide +kernel
theorem dX2_learn_15 : decode cX2_learn 15 = .ok (.isub, 1) := by decide +kernel
theorem dX2_learn_16 : decode cX2_learn 16 = .ok (.istore_n 2, 1) := by decide +kernel
theorem dX2_learn_17 : decode cX2_learn 17 = .ok (.aload_n 0, 1) := by decide +kernel
theorem dX2_learn_18 : decode cX2_learn 18 = .ok (.iload_n 1, 1) := by decide +kernel
theorem dX2_learn_19 : decode cX2_learn 19 = .ok (.invokevirtual 72, 3) := by decide +kernel
theorem dX2_learn_22 : decode cX2_learn 22 = .ok (.getfield 65, 3) := by decide +kernel
theorem dX2_learn_25 : decode cX2_learn 25 = .ok (.iload_n 2, 1) := by decide +kernel
theorem dX2_learn_26 : decode cX2_learn 26 = .ok (.iaload, 1) := by decide +kernel
theorem dX2_learn_27 : decode cX2_learn 27 = .ok (.istore_n 3, 1) := by decide +kernel
theorem dX2_learn_28 : decode cX2_learn 28 = .ok (.aload_n 0, 1) := by decide +kernel
theorem dX2_learn_29 : decode cX2_learn 29 = .ok (.iload_n 1, 1) := by decide +kernel
theorem dX2_learn_30 : decode cX2_learn 30 = .ok (.invokevirtual 72, 3) := by decide +kernel
theorem dX2_learn_33 : decode cX2_learn 33 = .ok (.getfield 76, 3) := by decide +kernel
theorem dX2_learn_36 : decode cX2_learn 36 = .ok (.iload_n 2, 1) := by decide +kernel
theorem dX2_learn_37 : decode cX2_learn 37 = .ok (.iaload, 1) := by decide +kernel
theorem dX2_learn_38 : decode cX2_learn 38 = .ok (.istore 4, 2) := by decide +kernel
theorem dX2_learn_40 : decode cX2_learn 40 = .ok (.aload_n 0, 1) := by decide +kernel
theorem dX2_learn_41 : decode cX2_learn 41 = .ok (.getfield 28, 3) := by decide +kernel
theorem dX2_learn_44 : decode cX2_learn 44 = .ok (.iconst 1, 1) := by decide +kernel
theorem dX2_learn_45 : decode cX2_learn 45 = .ok (.isub, 1) := by decide +kernel
theorem dX2_learn_46 : decode cX2_learn 46 = .ok (.istore 5, 2) := by decide +kernel
theorem dX2_learn_48 : decode cX2_learn 48 = .ok (.aload_n 0, 1) := by decide +kernel
theorem dX2_learn_49 : decode cX2_learn 49 = .ok (.iload_n 3, 1) := by decide +kernel
theorem dX2_learn_50 : decode cX2_learn 50 = .ok (.iload 4, 2) := by decide +kernel
theorem dX2_learn_52 : decode cX2_learn 52 = .ok (.ior, 1) := by decide +kernel
theorem dX2_learn_53 : decode cX2_learn 53 = .ok (.invokevirtual 79, 3) := by decide +kernel
theorem dX2_learn_56 : decode cX2_learn 56 = .ok (.iconst 1, 1) := by decide +kernel
theorem dX2_learn_57 : decode cX2_learn 57 = .ok (.if_icmp .le 109, 3) := by decide +kernel
theorem dX2_learn_60 : decode cX2_learn 60 = .ok (.aload_n 0, 1) := by decide +kernel
theorem dX2_learn_61 : decode cX2_learn 61 = .ok (.getfield 25, 3) := by decide +kernel
theorem dX2_learn_64 : decode cX2_learn 64 = .ok (.iload 5, 2) := by decide +kernel
theorem dX2_learn_66 : decode cX2_learn 66 = .ok (.iaload, 1) := by decide +kernel
theorem dX2_learn_67 : decode cX2_learn 67 = .ok (.istore 6, 2) := by decide +kernel
theorem dX2_learn_69 : decode cX2_learn 69 = .ok (.iload_n 3, 1) := by decide +kernel
theorem dX2_learn_70 : decode cX2_learn 70 = .ok (.iload 4, 2) := by decide +kernel
theorem dX2_learn_72 : decode cX2_learn 72 = .ok (.ior, 1) := by decide +kernel
theorem dX2_learn_73 : decode cX2_learn 73 = .ok (.iload 6, 2) := by decide +kernel
theorem dX2_learn_75 : decode cX2_learn 75 = .ok (.ishr, 1) := by decide +kernel
theorem dX2_learn_76 : decode cX2_learn 76 = .ok (.iconst 1, 1) := by decide +kernel
theorem dX2_learn_77 : decode cX2_learn 77 = .ok (.iand, 1) := by decide +kernel
theorem dX2_learn_78 : decode cX2_learn 78 = .ok (.ifCond .ne 6, 3) := by decide +kernel
theorem dX2_learn_81 : decode cX2_learn 81 = .ok (.goto 79, 3) := by decide +kernel
theorem dX2_learn_84 : decode cX2_learn 84 = .ok (.aload_n 0, 1) := by decide +kernel
theorem dX2_learn_85 : decode cX2_learn 85 = .ok (.getfield 22, 3) := by decide +kernel
theorem dX2_learn_88 : decode cX2_learn 88 = .ok (.iload 6, 2) := by decide +kernel
theorem dX2_learn_90 : decode cX2_learn 90 = .ok (.iaload, 1) := by decide +kernel
theorem dX2_learn_91 : decode cX2_learn 91 = .ok (.istore 7, 2) := by decide +kernel
theorem dX2_learn_93 : decode cX2_learn 93 = .ok (.iload 7, 2) := by decide +kernel
theorem dX2_learn_95 : decode cX2_learn 95 = .ok (.sipush 256, 3) := by decide +kernel
theorem dX2_learn_98 : decode cX2_learn 98 = .ok (.if_icmp .ge 8, 3) := by decide +kernel
theorem dX2_learn_101 : decode cX2_learn 101 = .ok (.iload 7, 2) := by decide +kernel
theorem dX2_learn_103 : decode cX2_learn 103 = .ok (.goto 9, 3) := by decide +kernel
theorem dX2_learn_106 : decode cX2_learn 106 = .ok (.iload 7, 2) := by decide +kernel
theorem dX2_learn_108 : decode cX2_learn 108 = .ok (.sipush 256, 3) := by decide +kernel
theorem dX2_learn_111 : decode cX2_learn 111 = .ok (.isub, 1) := by decide +kernel
theorem dX2_learn_112 : decode cX2_learn 112 = .ok (.istore 8, 2) := by decide +kernel
theorem dX2_learn_114 : decode cX2_learn 114 = .ok (.iload_n 3, 1) := by decide +kernel
theorem dX2_learn_115 : decode cX2_learn 115 = .ok (.aload_n 0, 1) := by decide +kernel
theorem dX2_learn_116 : decode cX2_learn 116 = .ok (.iload 7, 2) := by decide +kernel
theorem dX2_learn_118 : decode cX2_learn 118 = .ok (.invokevirtual 72, 3) := by decide +kernel
theorem dX2_learn_121 : decode cX2_learn 121 = .ok (.getfield 65, 3) := by decide +kernel
theorem dX2_learn_124 : decode cX2_learn 124 = .ok (.iload 8, 2) := by decide +kernel
theorem dX2_learn_126 : decode cX2_learn 126 = .ok (.iaload, 1) := by decide +kernel
theorem dX2_learn_127 : decode cX2_learn 127 = .ok (.ior, 1) := by decide +kernel
theorem dX2_learn_128 : decode cX2_learn 128 = .ok (.iconst 1, 1) := by decide +kernel
theorem dX2_learn_129 : decode cX2_learn 129 = .ok (.iload 6, 2) := by decide +kernel
theorem dX2_learn_131 : decode cX2_learn 131 = .ok (.ishl, 1) := by decide +kernel
theorem dX2_learn_132 : decode cX2_learn 132 = .ok (.iconst (-1), 1) := by decide +kernel
theorem dX2_learn_133 : decode cX2_learn 133 = .ok (.ixor, 1) := by decide +kernel
theorem dX2_learn_134 : decode cX2_learn 134 = .ok (.iand, 1) := by decide +kernel
theorem dX2_learn_135 : decode cX2_learn 135 = .ok (.istore_n 3, 1) := by decide +kernel
theorem dX2_learn_136 : decode cX2_learn 136 = .ok (.iload 4, 2) := by decide +kernel
theorem dX2_learn_138 : decode cX2_learn 138 = .ok (.aload_n 0, 1) := by decide +kernel
theorem dX2_learn_139 : decode cX2_learn 139 = .ok (.iload 7, 2) := by decide +kernel
theorem dX2_learn_141 : decode cX2_learn 141 = .ok (.invokevirtual 72, 3) := by decide +kernel
theorem dX2_learn_144 : decode cX2_learn 144 = .ok (.getfield 76, 3) := by decide +kernel
theorem dX2_learn_147 : decode cX2_learn 147 = .ok (.iload 8, 2) := by decide +kernel
theorem dX2_learn_149 : decode cX2_learn 149 = .ok (.iaload, 1) := by decide +kernel
theorem dX2_learn_150 : decode cX2_learn 150 = .ok (.ior, 1) := by decide +kernel
theorem dX2_learn_151 : decode cX2_learn 151 = .ok (.iconst 1, 1) := by decide +kernel
theorem dX2_learn_152 : decode cX2_learn 152 = .ok (.iload 6, 2) := by decide +kernel
theorem dX2_learn_154 : decode cX2_learn 154 = .ok (.ishl, 1) := by decide +kernel
theorem dX2_learn_155 : decode cX2_learn 155 = .ok (.iconst (-1), 1) := by decide +kernel
theorem dX2_learn_156 : decode cX2_learn 156 = .ok (.ixor, 1) := by decide +kernel
theorem dX2_learn_157 : decode cX2_learn 157 = .ok (.iand, 1) := by decide +kernel
theorem dX2_learn_158 : decode cX2_learn 158 = .ok (.istore 4, 2) := by decide +kernel
theorem dX2_learn_160 : decode cX2_learn 160 = .ok (.iinc 5 (-1), 3) := by decide +kernel
theorem dX2_learn_163 : decode cX2_learn 163 = .ok (.goto (-115), 3) := by decide +kernel
theorem dX2_learn_166 : decode cX2_learn 166 = .ok (.iconst 0, 1) := by decide +kernel
theorem dX2_learn_167 : decode cX2_learn 167 = .ok (.istore 5, 2) := by decide +kernel
theorem dX2_learn_169 : decode cX2_learn 169 = .ok (.iconst 0, 1) := by decide +kernel
theorem dX2_learn_170 : decode cX2_learn 170 = .ok (.istore 6, 2) := by decide +kernel
theorem dX2_learn_172 : decode cX2_learn 172 = .ok (.iload 6, 2) := by decide +kernel
theorem dX2_learn_174 : decode cX2_learn 174 = .ok (.bipush 12, 2) := by decide +kernel
theorem dX2_learn_176 : decode cX2_learn 176 = .ok (.if_icmp .ge 50, 3) := by decide +kernel
theorem dX2_learn_179 : decode cX2_learn 179 = .ok (.iload_n 3, 1) := by decide +kernel
theorem dX2_learn_180 : decode cX2_learn 180 = .ok (.iload 4, 2) := by decide +kernel
theorem dX2_learn_182 : decode cX2_learn 182 = .ok (.ior, 1) := by decide +kernel
theorem dX2_learn_183 : decode cX2_learn 183 = .ok (.iload 6, 2) := by decide +kernel
theorem dX2_learn_185 : decode cX2_learn 185 = .ok (.ishr, 1) := by decide +kernel
theorem dX2_learn_186 : decode cX2_learn 186 = .ok (.iconst 1, 1) := by decide +kernel
theorem dX2_learn_187 : decode cX2_learn 187 = .ok (.iand, 1) := by decide +kernel
theorem dX2_learn_188 : decode cX2_learn 188 = .ok (.iconst 1, 1) := by decide +kernel
theorem dX2_learn_189 : decode cX2_learn 189 = .ok (.if_icmp .ne 31, 3) := by decide +kernel
theorem dX2_learn_192 : decode cX2_learn 192 = .ok (.aload_n 0, 1) := by decide +kernel
theorem dX2_learn_193 : decode cX2_learn 193 = .ok (.getfield 18, 3) := by decide +kernel
theorem dX2_learn_196 : decode cX2_learn 196 = .ok (.iload 6, 2) := by decide +kernel
theorem dX2_learn_198 : decode cX2_learn 198 = .ok (.iaload, 1) := by decide +kernel
theorem dX2_learn_199 : decode cX2_learn 199 = .ok (.aload_n 0, 1) := by decide +kernel
theorem dX2_learn_200 : decode cX2_learn 200 = .ok (.getfield 32, 3) := by decide +kernel
theorem dX2_learn_203 : decode cX2_learn 203 = .ok (.if_icmp .ge 17, 3) := by decide +kernel
theorem dX2_learn_206 : decode cX2_learn 206 = .ok (.iload 5, 2) := by decide +kernel
theorem dX2_learn_208 : decode cX2_learn 208 = .ok (.aload_n 0, 1) := by decide +kernel
theorem dX2_learn_209 : decode cX2_learn 209 = .ok (.getfield 18, 3) := by decide +kernel
theorem dX2_learn_212 : decode cX2_learn 212 = .ok (.iload 6, 2) := by decide +kernel
theorem dX2_learn_214 : decode cX2_learn 214 = .ok (.iaload, 1) := by decide +kernel
theorem dX2_learn_215 : decode cX2_learn 215 = .ok (.invokestatic 82, 3) := by decide +kernel
theorem dX2_learn_218 : decode cX2_learn 218 = .ok (.istore 5, 2) := by decide +kernel
theorem dX2_learn_220 : decode cX2_learn 220 = .ok (.iinc 6 1, 3) := by decide +kernel
theorem dX2_learn_223 : decode cX2_learn 223 = .ok (.goto (-51), 3) := by decide +kernel
theorem dX2_learn_226 : decode cX2_learn 226 = .ok (.aload_n 0, 1) := by decide +kernel
theorem dX2_learn_227 : decode cX2_learn 227 = .ok (.getfield 12, 3) := by decide +kernel
theorem dX2_learn_230 : decode cX2_learn 230 = .ok (.iload_n 3, 1) := by decide +kernel
theorem dX2_learn_231 : decode cX2_learn 231 = .ok (.iload 4, 2) := by decide +kernel
theorem dX2_learn_233 : decode cX2_learn 233 = .ok (.invokevirtual 87, 3) := by decide +kernel
theorem dX2_learn_236 : decode cX2_learn 236 = .ok (.aload_n 0, 1) := by decide +kernel
theorem dX2_learn_237 : decode cX2_learn 237 = .ok (.iload 5, 2) := by decide +kernel
theorem dX2_learn_239 : decode cX2_learn 239 = .ok (.invokevirtual 91, 3) := by decide +kernel
theorem dX2_learn_242 : decode cX2_learn 242 = .ok (.return_, 1) := by decide +kernel
abbrev cX2_set : ByteArray := prog_4_method_5_code
def yX2_set : MethodName := ⟨RX2, "set", "(I)LClauseDesk$Clauses;"⟩
theorem dX2_set_0 : decode cX2_set 0 = .ok (.iload_n 1, 1) := by decide +kernel
theorem dX2_set_1 : decode cX2_set 1 = .ok (.sipush 256, 3) := by decide +kernel
theorem dX2_set_4 : decode cX2_set 4 = .ok (.if_icmp .ge 10, 3) := by decide +kernel
theorem dX2_set_7 : decode cX2_set 7 = .ok (.aload_n 0, 1) := by decide +kernel
theorem dX2_set_8 : decode cX2_set 8 = .ok (.getfield 41, 3) := by decide +kernel
theorem dX2_set_11 : decode cX2_set 11 = .ok (.goto 7, 3) := by decide +kernel
theorem dX2_set_14 : decode cX2_set 14 = .ok (.aload_n 0, 1) := by decide +kernel
theorem dX2_set_15 : decode cX2_set 15 = .ok (.getfield 12, 3) := by decide +kernel
theorem dX2_set_18 : decode cX2_set 18 = .ok (.areturn, 1) := by decide +kernel
abbrev cX2_here : ByteArray := prog_4_method_8_code
def yX2_here : MethodName := ⟨RX2, "here", "(I)I"⟩
theorem dX2_here_0 : decode cX2_here 0 = .ok (.iconst 0, 1) := by decide +kernel
theorem dX2_here_1 : decode cX2_here 1 = .ok (.istore_n 2, 1) := by decide +kernel
theorem dX2_here_2 : decode cX2_here 2 = .ok (.iconst 0, 1) := by decide +kernel
theorem dX2_here_3 : decode cX2_here 3 = .ok (.istore_n 3, 1) := by decide +kernel
theorem dX2_here_4 : decode cX2_here 4 = .ok (.iload_n 3, 1) := by decide +kernel
theorem dX2_here_5 : decode cX2_here 5 = .ok (.bipush 12, 2) := by decide +kernel
theorem dX2_here_7 : decode cX2_here 7 = .ok (.if_icmp .ge 34, 3) := by decide +kernel
theorem dX2_here_10 : decode cX2_here 10 = .ok (.iload_n 1, 1) := by decide +kernel
theorem dX2_here_11 : decode cX2_here 11 = .ok (.iload_n 3, 1) := by decide +kernel
theorem dX2_here_12 : decode cX2_here 12 = .ok (.ishr, 1) := by decide +kernel
theorem dX2_here_13 : decode cX2_here 13 = .ok (.iconst 1, 1) := by decide +kernel
theorem dX2_here_14 : decode cX2_here 14 = .ok (.iand, 1) := by decide +kernel
theorem dX2_here_15 : decode cX2_here 15 = .ok (.iconst 1, 1) := by decide +kernel
theorem dX2_here_16 : decode cX2_here 16 = .ok (.if_icmp .ne 19, 3) := by decide +kernel
theorem dX2_here_19 : decode cX2_here 19 = .ok (.aload_n 0, 1) := by decide +kernel
theorem dX2_here_20 : decode cX2_here 20 = .ok (.getfield 18, 3) := by decide +kernel
theorem dX2_here_23 : decode cX2_here 23 = .ok (.iload_n 3, 1) := by decide +kernel
theorem dX2_here_24 : decode cX2_here 24 = .ok (.iaload, 1) := by decide +kernel
theorem dX2_here_25 : decode cX2_here 25 = .ok (.aload_n 0, 1) := by decide +kernel
theorem dX2_here_26 : decode cX2_here 26 = .ok (.getfield 32, 3) := by decide +kernel
theorem dX2_here_29 : decode cX2_here 29 = .ok (.if_icmp .ne 6, 3) := by decide +kernel
theorem dX2_here_32 : decode cX2_here 32 = .ok (.iinc 2 1, 3) := by decide +kernel
theorem dX2_here_35 : decode cX2_here 35 = .ok (.iinc 3 1, 3) := by decide +kernel
theorem dX2_here_38 : decode cX2_here 38 = .ok (.goto (-34), 3) := by decide +kernel
theorem dX2_here_41 : decode cX2_here 41 = .ok (.iload_n 2, 1) := by decide +kernel
theorem dX2_here_42 : decode cX2_here 42 = .ok (.ireturn, 1) := by decide +kernel
abbrev cX2_back : ByteArray := prog_4_method_4_code
def yX2_back : MethodName := ⟨RX2, "back", "(I)V"⟩
theorem dX2_back_0 : decode cX2_back 0 = .ok (.aload_n 0, 1) := by decide +kernel
theorem dX2_back_1 : decode cX2_back 1 = .ok (.getfield 28, 3) := by decide +kernel
theorem dX2_back_4 : decode cX2_back 4 = .ok (.ifCond .le 55, 3) := by decide +kernel
theorem dX2_back_7 : decode cX2_back 7 = .ok (.aload_n 0, 1) := by decide +kernel
theorem dX2_back_8 : decode cX2_back 8 = .ok (.getfield 18, 3) := by decide +kernel
theorem dX2_back_11 : decode cX2_back 11 = .ok (.aload_n 0, 1) := by decide +kernel
theorem dX2_back_12 : decode cX2_back 12 = .ok (.getfield 25, 3) := by decide +kernel
theorem dX2_back_15 : decode cX2_back 15 = .ok (.aload_n 0, 1) := by decide +kernel
theorem dX2_back_16 : decode cX2_back 16 = .ok (.getfield 28, 3) := by decide +kernel
theorem dX2_back_19 : decode cX2_back 19 = .ok (.iconst 1, 1) := by decide +kernel
theorem dX2_back_20 : decode cX2_back 20 = .ok (.isub, 1) := by decide +kernel
theorem dX2_back_21 : decode cX2_back 21 = .ok (.iaload, 1) := by decide +kernel
theorem dX2_back_22 : decode cX2_back 22 = .ok (.iaload, 1) := by decide +kernel
theorem dX2_back_23 : decode cX2_back 23 = .ok (.iload_n 1, 1) := by decide +kernel
theorem dX2_back_24 : decode cX2_back 24 = .ok (.if_icmp .le 35, 3) := by decide +kernel
theorem dX2_back_27 : decode cX2_back 27 = .ok (.aload_n 0, 1) := by decide +kernel
theorem dX2_back_28 : decode cX2_back 28 = .ok (.dup, 1) := by decide +kernel
theorem dX2_back_29 : decode cX2_back 29 = .ok (.getfield 35, 3) := by decide +kernel
theorem dX2_back_32 : decode cX2_back 32 = .ok (.iconst 1, 1) := by decide +kernel
theorem dX2_back_33 : decode cX2_back 33 = .ok (.aload_n 0, 1) := by decide +kernel
theorem dX2_back_34 : decode cX2_back 34 = .ok (.getfield 25, 3) := by decide +kernel
theorem dX2_back_37 : decode cX2_back 37 = .ok (.aload_n 0, 1) := by decide +kernel
theorem dX2_back_38 : decode cX2_back 38 = .ok (.dup, 1) := by decide +kernel
theorem dX2_back_39 : decode cX2_back 39 = .ok (.getfield 28, 3) := by decide +kernel
theorem dX2_back_42 : decode cX2_back 42 = .ok (.iconst 1, 1) := by decide +kernel
theorem dX2_back_43 : decode cX2_back 43 = .ok (.isub, 1) := by decide +kernel
theorem dX2_back_44 : decode cX2_back 44 = .ok (.dup_x1, 1) := by decide +kernel
theorem dX2_back_45 : decode cX2_back 45 = .ok (.putfield 28, 3) := by decide +kernel
theorem dX2_back_48 : decode cX2_back 48 = .ok (.iaload, 1) := by decide +kernel
theorem dX2_back_49 : decode cX2_back 49 = .ok (.ishl, 1) := by decide +kernel
theorem dX2_back_50 : decode cX2_back 50 = .ok (.iconst (-1), 1) := by decide +kernel
theorem dX2_back_51 : decode cX2_back 51 = .ok (.ixor, 1) := by decide +kernel
theorem dX2_back_52 : decode cX2_back 52 = .ok (.iand, 1) := by decide +kernel
theorem dX2_back_53 : decode cX2_back 53 = .ok (.putfield 35, 3) := by decide +kernel
theorem dX2_back_56 : decode cX2_back 56 = .ok (.goto (-56), 3) := by decide +kernel
theorem dX2_back_59 : decode cX2_back 59 = .ok (.aload_n 0, 1) := by decide +kernel
theorem dX2_back_60 : decode cX2_back 60 = .ok (.iload_n 1, 1) := by decide +kernel
theorem dX2_back_61 : decode cX2_back 61 = .ok (.putfield 32, 3) := by decide +kernel
theorem dX2_back_64 : decode cX2_back 64 = .ok (.return_, 1) := by decide +kernel
abbrev cX2_next : ByteArray := prog_4_method_10_code
def yX2_next : MethodName := ⟨RX2, "next", "(III)I"⟩
theorem dX2_next_0 : decode cX2_next 0 = .ok (.iload_n 1, 1) := by decide +kernel
theorem dX2_next_1 : decode cX2_next 1 = .ok (.iconst 1, 1) := by decide +kernel
theorem dX2_next_2 : decode cX2_next 2 = .ok (.isub, 1) := by decide +kernel
theorem dX2_next_3 : decode cX2_next 3 = .ok (.istore 4, 2) := by decide +kernel
theorem dX2_next_5 : decode cX2_next 5 = .ok (.iload 4, 2) := by decide +kernel
theorem dX2_next_7 : decode cX2_next 7 = .ok (.ifCond .lt 57, 3) := by decide +kernel
theorem dX2_next_10 : decode cX2_next 10 = .ok (.iload_n 2, 1) := by decide +kernel
theorem dX2_next_11 : decode cX2_next 11 = .ok (.iload 4, 2) := by decide +kernel
theorem dX2_next_13 : decode cX2_next 13 = .ok (.ishr, 1) := by decide +kernel
theorem dX2_next_14 : decode cX2_next 14 = .ok (.iconst 1, 1) := by decide +kernel
theorem dX2_next_15 : decode cX2_next 15 = .ok (.iand, 1) := by decide +kernel
theorem dX2_next_16 : decode cX2_next 16 = .ok (.ifCond .ne 6, 3) := by decide +kernel
theorem dX2_next_19 : decode cX2_next 19 = .ok (.goto 39, 3) := by decide +kernel
theorem dX2_next_22 : decode cX2_next 22 = .ok (.aload_n 0, 1) := by decide +kernel
theorem dX2_next_23 : decode cX2_next 23 = .ok (.getfield 35, 3) := by decide +kernel
theorem dX2_next_26 : decode cX2_next 26 = .ok (.iload 4, 2) := by decide +kernel
theorem dX2_next_28 : decode cX2_next 28 = .ok (.ishr, 1) := by decide +kernel
theorem dX2_next_29 : decode cX2_next 29 = .ok (.iconst 1, 1) := by decide +kernel
theorem dX2_next_30 : decode cX2_next 30 = .ok (.iand, 1) := by decide +kernel
theorem dX2_next_31 : decode cX2_next 31 = .ok (.ifCond .ne 6, 3) := by decide +kernel
theorem dX2_next_34 : decode cX2_next 34 = .ok (.iload 4, 2) := by decide +kernel
theorem dX2_next_36 : decode cX2_next 36 = .ok (.ireturn, 1) := by decide +kernel
theorem dX2_next_37 : decode cX2_next 37 = .ok (.aload_n 0, 1) := by decide +kernel
theorem dX2_next_38 : decode cX2_next 38 = .ok (.getfield 38, 3) := by decide +kernel
theorem dX2_next_41 : decode cX2_next 41 = .ok (.iload 4, 2) := by decide +kernel
theorem dX2_next_43 : decode cX2_next 43 = .ok (.ishr, 1) := by decide +kernel
theorem dX2_next_44 : decode cX2_next 44 = .ok (.iconst 1, 1) := by decide +kernel
theorem dX2_next_45 : decode cX2_next 45 = .ok (.iand, 1) := by decide +kernel
theorem dX2_next_46 : decode cX2_next 46 = .ok (.iload_n 3, 1) := by decide +kernel
theorem dX2_next_47 : decode cX2_next 47 = .ok (.iload 4, 2) := by decide +kernel
theorem dX2_next_49 : decode cX2_next 49 = .ok (.ishr, 1) := by decide +kernel
theorem dX2_next_50 : decode cX2_next 50 = .ok (.iconst 1, 1) := by decide +kernel
theorem dX2_next_51 : decode cX2_next 51 = .ok (.iand, 1) := by decide +kernel
theorem dX2_next_52 : decode cX2_next 52 = .ok (.if_icmp .eq 6, 3) := by decide +kernel
theorem dX2_next_55 : decode cX2_next 55 = .ok (.bipush (-2), 2) := by decide +kernel
theorem dX2_next_57 : decode cX2_next 57 = .ok (.ireturn, 1) := by decide +kernel
theorem dX2_next_58 : decode cX2_next 58 = .ok (.iinc 4 (-1), 3) := by decide +kernel
theorem dX2_next_61 : decode cX2_next 61 = .ok (.goto (-56), 3) := by decide +kernel
theorem dX2_next_64 : decode cX2_next 64 = .ok (.iload_n 1, 1) := by decide +kernel
theorem dX2_next_65 : decode cX2_next 65 = .ok (.iconst 1, 1) := by decide +kernel
theorem dX2_next_66 : decode cX2_next 66 = .ok (.isub, 1) := by decide +kernel
theorem dX2_next_67 : decode cX2_next 67 = .ok (.istore 4, 2) := by decide +kernel
theorem dX2_next_69 : decode cX2_next 69 = .ok (.iload 4, 2) := by decide +kernel
theorem dX2_next_71 : decode cX2_next 71 = .ok (.ifCond .lt 24, 3) := by decide +kernel
theorem dX2_next_74 : decode cX2_next 74 = .ok (.aload_n 0, 1) := by decide +kernel
theorem dX2_next_75 : decode cX2_next 75 = .ok (.getfield 35, 3) := by decide +kernel
theorem dX2_next_78 : decode cX2_next 78 = .ok (.iload 4, 2) := by decide +kernel
theorem dX2_next_80 : decode cX2_next 80 = .ok (.ishr, 1) := by decide +kernel
theorem dX2_next_81 : decode cX2_next 81 = .ok (.iconst 1, 1) := by decide +kernel
theorem dX2_next_82 : decode cX2_next 82 = .ok (.iand, 1) := by decide +kernel
theorem dX2_next_83 : decode cX2_next 83 = .ok (.ifCond .ne 6, 3) := by decide +kernel
theorem dX2_next_86 : decode cX2_next 86 = .ok (.iload 4, 2) := by decide +kernel
theorem dX2_next_88 : decode cX2_next 88 = .ok (.ireturn, 1) := by decide +kernel
theorem dX2_next_89 : decode cX2_next 89 = .ok (.iinc 4 (-1), 3) := by decide +kernel
theorem dX2_next_92 : decode cX2_next 92 = .ok (.goto (-23), 3) := by decide +kernel
theorem dX2_next_95 : decode cX2_next 95 = .ok (.iconst (-1), 1) := by decide +kernel
theorem dX2_next_96 : decode cX2_next 96 = .ok (.ireturn, 1) := by decide +kernel
theorem q16 : (Jvm.Cond.initialized "ClauseDesk$Search") ∈ lw_all := lw_g (lw_at lw_m1 3 rfl) rfl
theorem q37 : (Jvm.Cond.fieldLink "ClauseDesk$Search" (65 : Nat) "ClauseDesk$Clauses" "yes" "[I") ∈ lw_all := lw_g (lw_at lw_m1 24 rfl) rfl
theorem q39 : (Jvm.Cond.fieldLink "ClauseDesk$Search" (76 : Nat) "ClauseDesk$Clauses" "no" "[I") ∈ lw_all := lw_g (lw_at lw_m1 26 rfl) rfl
theorem q41 : (Jvm.Cond.fieldLink "ClauseDesk$Search" (44 : Nat) "ClauseDesk$Clauses" "n" "I") ∈ lw_all := lw_g (lw_at lw_m1 28 rfl) rfl
theorem q53 : (Jvm.Cond.instantiable "ClauseDesk$Search" (9 : Nat)) ∈ lw_all := lw_g (lw_at lw_m1 40 rfl) rfl
theorem q55 : (Jvm.Cond.instanceMethod ({ cls := "ClauseDesk$Search", name := "<init>", desc := "(LClauseDesk$Clauses;)V" } : Jvm.MethodName)) ∈ lw_all := lw_g (lw_at lw_m1 42 rfl) rfl
theorem q56 : (Jvm.Cond.code ({ cls := "ClauseDesk$Search", name := "<init>", desc := "(LClauseDesk$Clauses;)V" } : Jvm.MethodName) prog_4_method_1_code (2 : Nat) (Option.none : Option Jvm.ClassFile.FieldType)) ∈ lw_all := lw_g (lw_at lw_m1 43 rfl) rfl
theorem q57 : (Jvm.Cond.methodLink "ClauseDesk$Search" (1 : Nat) ({ cls := "java/lang/Object", name := "<init>", desc := "()V" } : Jvm.MethodName)) ∈ lw_all := lw_g (lw_at lw_m1 44 rfl) rfl
theorem q58 : (Jvm.Cond.classLink "ClauseDesk$Search" (7 : Nat) "ClauseDesk$Clauses") ∈ lw_all := lw_g (lw_at lw_m1 45 rfl) rfl
theorem q59 : (Jvm.Cond.methodLink "ClauseDesk$Search" (9 : Nat) ({ cls := "ClauseDesk$Clauses", name := "<init>", desc := "(I)V" } : Jvm.MethodName)) ∈ lw_all := lw_g (lw_at lw_m1 46 rfl) rfl
theorem q60 : (Jvm.Cond.fieldLink "ClauseDesk$Search" (41 : Nat) "ClauseDesk$Search" "given" "LClauseDesk$Clauses;") ∈ lw_all := lw_g (lw_at lw_m1 47 rfl) rfl
theorem q61 : (Jvm.Cond.fieldLink "ClauseDesk$Search" (12 : Nat) "ClauseDesk$Search" "learnt" "LClauseDesk$Clauses;") ∈ lw_all := lw_g (lw_at lw_m1 48 rfl) rfl
theorem q62 : (Jvm.Cond.fieldLink "ClauseDesk$Search" (18 : Nat) "ClauseDesk$Search" "level" "[I") ∈ lw_all := lw_g (lw_at lw_m1 49 rfl) rfl
theorem q63 : (Jvm.Cond.fieldLink "ClauseDesk$Search" (22 : Nat) "ClauseDesk$Search" "why" "[I") ∈ lw_all := lw_g (lw_at lw_m1 50 rfl) rfl
theorem q64 : (Jvm.Cond.fieldLink "ClauseDesk$Search" (25 : Nat) "ClauseDesk$Search" "trail" "[I") ∈ lw_all := lw_g (lw_at lw_m1 51 rfl) rfl
theorem q65 : (Jvm.Cond.fieldLink "ClauseDesk$Search" (28 : Nat) "ClauseDesk$Search" "trailed" "I") ∈ lw_all := lw_g (lw_at lw_m1 52 rfl) rfl
theorem q66 : (Jvm.Cond.fieldLink "ClauseDesk$Search" (32 : Nat) "ClauseDesk$Search" "levels" "I") ∈ lw_all := lw_g (lw_at lw_m1 53 rfl) rfl
theorem q67 : (Jvm.Cond.fieldLink "ClauseDesk$Search" (35 : Nat) "ClauseDesk$Search" "known" "I") ∈ lw_all := lw_g (lw_at lw_m1 54 rfl) rfl
theorem q68 : (Jvm.Cond.fieldLink "ClauseDesk$Search" (38 : Nat) "ClauseDesk$Search" "truth" "I") ∈ lw_all := lw_g (lw_at lw_m1 55 rfl) rfl
theorem q70 : (Jvm.Cond.laysFinal "ClauseDesk$Search" "ClauseDesk$Search" "given" "LClauseDesk$Clauses;") ∈ lw_all := lw_g (lw_at lw_m1 57 rfl) rfl
theorem q71 : (Jvm.Cond.soleField "ClauseDesk$Search" "given") ∈ lw_all := lw_g (lw_at lw_m1 58 rfl) rfl
theorem q72 : (Jvm.Cond.laysFinal "ClauseDesk$Search" "ClauseDesk$Search" "learnt" "LClauseDesk$Clauses;") ∈ lw_all := lw_g (lw_at lw_m1 59 rfl) rfl
theorem q73 : (Jvm.Cond.soleField "ClauseDesk$Search" "learnt") ∈ lw_all := lw_g (lw_at lw_m1 60 rfl) rfl
theorem q74 : (Jvm.Cond.laysFinal "ClauseDesk$Search" "ClauseDesk$Search" "level" "[I") ∈ lw_all := lw_g (lw_at lw_m1 61 rfl) rfl
theorem q75 : (Jvm.Cond.soleField "ClauseDesk$Search" "level") ∈ lw_all := lw_g (lw_at lw_m1 62 rfl) rfl
theorem q76 : (Jvm.Cond.laysFinal "ClauseDesk$Search" "ClauseDesk$Search" "why" "[I") ∈ lw_all := lw_g (lw_at lw_m1 63 rfl) rfl
theorem q77 : (Jvm.Cond.soleField "ClauseDesk$Search" "why") ∈ lw_all := lw_g (lw_at lw_m1 64 rfl) rfl
theorem q78 : (Jvm.Cond.laysFinal "ClauseDesk$Search" "ClauseDesk$Search" "trail" "[I") ∈ lw_all := lw_g (lw_at lw_m1 65 rfl) rfl
theorem q79 : (Jvm.Cond.soleField "ClauseDesk$Search" "trail") ∈ lw_all := lw_g (lw_at lw_m1 66 rfl) rfl
theorem q80 : (Jvm.Cond.lays "ClauseDesk$Search" "ClauseDesk$Search" "trailed" "I") ∈ lw_all := lw_g (lw_at lw_m1 67 rfl) rfl
theorem q81 : (Jvm.Cond.soleField "ClauseDesk$Search" "trailed") ∈ lw_all := lw_g (lw_at lw_m1 68 rfl) rfl
theorem q82 : (Jvm.Cond.lays "ClauseDesk$Search" "ClauseDesk$Search" "levels" "I") ∈ lw_all := lw_g (lw_at lw_m1 69 rfl) rfl
theorem q83 : (Jvm.Cond.soleField "ClauseDesk$Search" "levels") ∈ lw_all := lw_g (lw_at lw_m1 70 rfl) rfl
theorem q84 : (Jvm.Cond.lays "ClauseDesk$Search" "ClauseDesk$Search" "known" "I") ∈ lw_all := lw_g (lw_at lw_m1 71 rfl) rfl
theorem q85 : (Jvm.Cond.soleField "ClauseDesk$Search" "known") ∈ lw_all := lw_g (lw_at lw_m1 72 rfl) rfl
theorem q86 : (Jvm.Cond.lays "ClauseDesk$Search" "ClauseDesk$Search" "truth" "I") ∈ lw_all := lw_g (lw_at lw_m1 73 rfl) rfl
theorem q87 : (Jvm.Cond.soleField "ClauseDesk$Search" "truth") ∈ lw_all := lw_g (lw_at lw_m1 74 rfl) rfl
theorem q88 : (Jvm.Cond.superclass "ClauseDesk$Search" "java/lang/Object") ∈ lw_all := lw_g (lw_at lw_m1 75 rfl) rfl
theorem q121 : (Jvm.Cond.instanceMethod ({ cls := "ClauseDesk$Search", name := "forget", desc := "()V" } : Jvm.MethodName)) ∈ lw_all := lw_g (lw_at lw_m1 108 rfl) rfl
theorem q122 : (Jvm.Cond.selects "ClauseDesk$Search" ({ cls := "ClauseDesk$Search", name := "forget", desc := "()V" } : Jvm.MethodName) ({ cls := "ClauseDesk$Search", name := "forget", desc := "()V" } : Jvm.MethodName)) ∈ lw_all := lw_g (lw_at lw_m1 109 rfl) rfl
theorem q123 : (Jvm.Cond.code ({ cls := "ClauseDesk$Search", name := "forget", desc := "()V" } : Jvm.MethodName) prog_4_method_2_code (1 : Nat) (Option.none : Option Jvm.ClassFile.FieldType)) ∈ lw_all := lw_g (lw_at lw_m1 110 rfl) rfl
theorem q145 : (Jvm.Cond.instanceMethod ({ cls := "ClauseDesk$Search", name := "run", desc := "(III)Z" } : Jvm.MethodName)) ∈ lw_all := lw_g (lw_at lw_m1 132 rfl) rfl
theorem q146 : (Jvm.Cond.selects "ClauseDesk$Search" ({ cls := "ClauseDesk$Search", name := "run", desc := "(III)Z" } : Jvm.MethodName) ({ cls := "ClauseDesk$Search", name := "run", desc := "(III)Z" } : Jvm.MethodName)) ∈ lw_all := lw_g (lw_at lw_m1 133 rfl) rfl
theorem q147 : (Jvm.Cond.code ({ cls := "ClauseDesk$Search", name := "run", desc := "(III)Z" } : Jvm.MethodName) prog_4_method_11_code (6 : Nat) (Option.some Jvm.ClassFile.FieldType.boolean)) ∈ lw_all := lw_g (lw_at lw_m1 134 rfl) rfl
theorem q148 : (Jvm.Cond.methodLink "ClauseDesk$Search" (94 : Nat) ({ cls := "ClauseDesk$Search", name := "follow", desc := "()I" } : Jvm.MethodName)) ∈ lw_all := lw_g (lw_at lw_m1 135 rfl) rfl
theorem q149 : (Jvm.Cond.privateMethod ({ cls := "ClauseDesk$Search", name := "follow", desc := "()I" } : Jvm.MethodName)) ∈ lw_tbl := lw_at lw_m1 136 rfl
theorem q150 : (Jvm.Cond.instanceMethod ({ cls := "ClauseDesk$Search", name := "follow", desc := "()I" } : Jvm.MethodName)) ∈ lw_all := lw_g (lw_at lw_m1 137 rfl) rfl
theorem q151 : (Jvm.Cond.code ({ cls := "ClauseDesk$Search", name := "follow", desc := "()I" } : Jvm.MethodName) prog_4_method_6_code (3 : Nat) (Option.some Jvm.ClassFile.FieldType.int)) ∈ lw_all := lw_g (lw_at lw_m1 138 rfl) rfl
theorem q152 : (Jvm.Cond.methodLink "ClauseDesk$Search" (47 : Nat) ({ cls := "ClauseDesk$Search", name := "pass", desc := "(LClauseDesk$Clauses;I)I" } : Jvm.MethodName)) ∈ lw_all := lw_g (lw_at lw_m1 139 rfl) rfl
theorem q153 : (Jvm.Cond.privateMethod ({ cls := "ClauseDesk$Search", name := "pass", desc := "(LClauseDesk$Clauses;I)I" } : Jvm.MethodName)) ∈ lw_tbl := lw_at lw_m1 140 rfl
theorem q154 : (Jvm.Cond.instanceMethod ({ cls := "ClauseDesk$Search", name := "pass", desc := "(LClauseDesk$Clauses;I)I" } : Jvm.MethodName)) ∈ lw_all := lw_g (lw_at lw_m1 141 rfl) rfl
theorem q155 : (Jvm.Cond.code ({ cls := "ClauseDesk$Search", name := "pass", desc := "(LClauseDesk$Clauses;I)I" } : Jvm.MethodName) prog_4_method_7_code (6 : Nat) (Option.some Jvm.ClassFile.FieldType.int)) ∈ lw_all := lw_g (lw_at lw_m1 142 rfl) rfl
theorem q156 : (Jvm.Cond.methodLink "ClauseDesk$Search" (51 : Nat) ({ cls := "ClauseDesk$Clauses", name := "holds", desc := "(III)Z" } : Jvm.MethodName)) ∈ lw_all := lw_g (lw_at lw_m1 143 rfl) rfl
theorem q160 : (Jvm.Cond.methodLink "ClauseDesk$Search" (55 : Nat) ({ cls := "ClauseDesk$Clauses", name := "open", desc := "(II)I" } : Jvm.MethodName)) ∈ lw_all := lw_g (lw_at lw_m1 147 rfl) rfl
theorem q164 : (Jvm.Cond.methodLink "ClauseDesk$Search" (59 : Nat) ({ cls := "java/lang/Integer", name := "numberOfTrailingZeros", desc := "(I)I" } : Jvm.MethodName)) ∈ lw_all := lw_g (lw_at lw_m1 151 rfl) rfl
theorem q168 : (Jvm.Cond.methodLink "ClauseDesk$Search" (68 : Nat) ({ cls := "ClauseDesk$Search", name := "assign", desc := "(IZI)V" } : Jvm.MethodName)) ∈ lw_all := lw_g (lw_at lw_m1 155 rfl) rfl
theorem q169 : (Jvm.Cond.privateMethod ({ cls := "ClauseDesk$Search", name := "assign", desc := "(IZI)V" } : Jvm.MethodName)) ∈ lw_tbl := lw_at lw_m1 156 rfl
theorem q170 : (Jvm.Cond.instanceMethod ({ cls := "ClauseDesk$Search", name := "assign", desc := "(IZI)V" } : Jvm.MethodName)) ∈ lw_all := lw_g (lw_at lw_m1 157 rfl) rfl
theorem q171 : (Jvm.Cond.code ({ cls := "ClauseDesk$Search", name := "assign", desc := "(IZI)V" } : Jvm.MethodName) prog_4_method_3_code (4 : Nat) (Option.none : Option Jvm.ClassFile.FieldType)) ∈ lw_all := lw_g (lw_at lw_m1 158 rfl) rfl
theorem q172 : (Jvm.Cond.methodLink "ClauseDesk$Search" (98 : Nat) ({ cls := "ClauseDesk$Search", name := "learn", desc := "(I)V" } : Jvm.MethodName)) ∈ lw_all := lw_g (lw_at lw_m1 159 rfl) rfl
theorem q173 : (Jvm.Cond.privateMethod ({ cls := "ClauseDesk$Search", name := "learn", desc := "(I)V" } : Jvm.MethodName)) ∈ lw_tbl := lw_at lw_m1 160 rfl
theorem q174 : (Jvm.Cond.instanceMethod ({ cls := "ClauseDesk$Search", name := "learn", desc := "(I)V" } : Jvm.MethodName)) ∈ lw_all := lw_g (lw_at lw_m1 161 rfl) rfl
theorem q175 : (Jvm.Cond.code ({ cls := "ClauseDesk$Search", name := "learn", desc := "(I)V" } : Jvm.MethodName) prog_4_method_9_code (9 : Nat) (Option.none : Option Jvm.ClassFile.FieldType)) ∈ lw_all := lw_g (lw_at lw_m1 162 rfl) rfl
theorem q176 : (Jvm.Cond.methodLink "ClauseDesk$Search" (72 : Nat) ({ cls := "ClauseDesk$Search", name := "set", desc := "(I)LClauseDesk$Clauses;" } : Jvm.MethodName)) ∈ lw_all := lw_g (lw_at lw_m1 163 rfl) rfl
theorem q177 : (Jvm.Cond.privateMethod ({ cls := "ClauseDesk$Search", name := "set", desc := "(I)LClauseDesk$Clauses;" } : Jvm.MethodName)) ∈ lw_tbl := lw_at lw_m1 164 rfl
theorem q178 : (Jvm.Cond.instanceMethod ({ cls := "ClauseDesk$Search", name := "set", desc := "(I)LClauseDesk$Clauses;" } : Jvm.MethodName)) ∈ lw_all := lw_g (lw_at lw_m1 165 rfl) rfl
theorem q179 : (Jvm.Cond.code ({ cls := "ClauseDesk$Search", name := "set", desc := "(I)LClauseDesk$Clauses;" } : Jvm.MethodName) prog_4_method_5_code (2 : Nat) (Option.some (Jvm.ClassFile.FieldType.object "ClauseDesk$Clauses"))) ∈ lw_all := lw_g (lw_at lw_m1 166 rfl) rfl
theorem q180 : (Jvm.Cond.methodLink "ClauseDesk$Search" (79 : Nat) ({ cls := "ClauseDesk$Search", name := "here", desc := "(I)I" } : Jvm.MethodName)) ∈ lw_all := lw_g (lw_at lw_m1 167 rfl) rfl
theorem q181 : (Jvm.Cond.privateMethod ({ cls := "ClauseDesk$Search", name := "here", desc := "(I)I" } : Jvm.MethodName)) ∈ lw_tbl := lw_at lw_m1 168 rfl
theorem q182 : (Jvm.Cond.instanceMethod ({ cls := "ClauseDesk$Search", name := "here", desc := "(I)I" } : Jvm.MethodName)) ∈ lw_all := lw_g (lw_at lw_m1 169 rfl) rfl
theorem q183 : (Jvm.Cond.code ({ cls := "ClauseDesk$Search", name := "here", desc := "(I)I" } : Jvm.MethodName) prog_4_method_8_code (4 : Nat) (Option.some Jvm.ClassFile.FieldType.int)) ∈ lw_all := lw_g (lw_at lw_m1 170 rfl) rfl
theorem q184 : (Jvm.Cond.methodLink "ClauseDesk$Search" (82 : Nat) ({ cls := "java/lang/Math", name := "max", desc := "(II)I" } : Jvm.MethodName)) ∈ lw_all := lw_g (lw_at lw_m1 171 rfl) rfl
theorem q187 : (Jvm.Cond.methodLink "ClauseDesk$Search" (87 : Nat) ({ cls := "ClauseDesk$Clauses", name := "add", desc := "(II)V" } : Jvm.MethodName)) ∈ lw_all := lw_g (lw_at lw_m1 174 rfl) rfl
theorem q188 : (Jvm.Cond.methodLink "ClauseDesk$Search" (91 : Nat) ({ cls := "ClauseDesk$Search", name := "back", desc := "(I)V" } : Jvm.MethodName)) ∈ lw_all := lw_g (lw_at lw_m1 175 rfl) rfl
theorem q189 : (Jvm.Cond.privateMethod ({ cls := "ClauseDesk$Search", name := "back", desc := "(I)V" } : Jvm.MethodName)) ∈ lw_tbl := lw_at lw_m1 176 rfl
theorem q190 : (Jvm.Cond.instanceMethod ({ cls := "ClauseDesk$Search", name := "back", desc := "(I)V" } : Jvm.MethodName)) ∈ lw_all := lw_g (lw_at lw_m1 177 rfl) rfl
theorem q191 : (Jvm.Cond.code ({ cls := "ClauseDesk$Search", name := "back", desc := "(I)V" } : Jvm.MethodName) prog_4_method_4_code (2 : Nat) (Option.none : Option Jvm.ClassFile.FieldType)) ∈ lw_all := lw_g (lw_at lw_m1 178 rfl) rfl
theorem q192 : (Jvm.Cond.methodLink "ClauseDesk$Search" (101 : Nat) ({ cls := "ClauseDesk$Search", name := "next", desc := "(III)I" } : Jvm.MethodName)) ∈ lw_all := lw_g (lw_at lw_m1 179 rfl) rfl
theorem q193 : (Jvm.Cond.privateMethod ({ cls := "ClauseDesk$Search", name := "next", desc := "(III)I" } : Jvm.MethodName)) ∈ lw_tbl := lw_at lw_m1 180 rfl
theorem q194 : (Jvm.Cond.instanceMethod ({ cls := "ClauseDesk$Search", name := "next", desc := "(III)I" } : Jvm.MethodName)) ∈ lw_all := lw_g (lw_at lw_m1 181 rfl) rfl
theorem q195 : (Jvm.Cond.code ({ cls := "ClauseDesk$Search", name := "next", desc := "(III)I" } : Jvm.MethodName) prog_4_method_10_code (5 : Nat) (Option.some Jvm.ClassFile.FieldType.int)) ∈ lw_all := lw_g (lw_at lw_m1 182 rfl) rfl
theorem in_X2 : ∀ w ∈ wsX20, w ∈ lw_all := lw_in wsX20 [70, 72, 74, 76, 78, 80, 82, 84, 86] (by decide +kernel) (by decide +kernel)
end
section
/-! ClauseDesk$Counter -/
set_option maxRecDepth 100000
def RX3 : String := "ClauseDesk$Counter"
def TX3 : u_T := fun k => match k with
  | _ => ("ClauseDesk$Counter", "given", "LClauseDesk$Clauses;", true)
def tyX3 : Nat → FieldType := fun k => match k with
  | _ => .object "ClauseDesk$Clauses"
abbrev wsX30 : List Cond := u_ws RX3 TX3 1
theorem nmX3 : ∀ a, a < 1 → ∀ b, b < 1 → a ≠ b → (TX3 a).2.1 ≠ (TX3 b).2.1 := by decide +kernel
theorem tyX3_ok : ∀ k, k < 1 → parseFieldDescriptor (TX3 k).2.2.1 = some (tyX3 k) := by decide +kernel
abbrev cX3_init : ByteArray := prog_3_method_1_code
def yX3_init : MethodName := ⟨RX3, "<init>", "(LClauseDesk$Clauses;)V"⟩
theorem dX3_init_0 : decode cX3_init 0 = .ok (.aload_n 0, 1) := by decide +kernel
theorem dX3_init_1 : decode cX3_init 1 = .ok (.invokespecial 1, 3) := by decide +kernel
theorem dX3_init_4 : decode cX3_init 4 = .ok (.aload_n 0, 1) := by decide +kernel
theorem dX3_init_5 : decode cX3_init 5 = .ok (.aload_n 1, 1) := by decide +kernel
theorem dX3_init_6 : decode cX3_init 6 = .ok (.putfield 7, 3) := by decide +kernel
theorem dX3_init_9 : decode cX3_init 9 = .ok (.return_, 1) := by decide +kernel
abbrev cX3_ways : ByteArray := prog_3_method_2_code
def yX3_ways : MethodName := ⟨RX3, "ways", "(III)I"⟩
theorem dX3_ways_0 : decode cX3_ways 0 = .ok (.iload_n 2, 1) := by decide +kernel
theorem dX3_ways_1 : decode cX3_ways 1 = .ok (.istore 4, 2) := by decide +kernel
theorem dX3_ways_3 : decode cX3_ways 3 = .ok (.iload_n 3, 1) := by decide +kernel
theorem dX3_ways_4 : decode cX3_ways 4 = .ok (.istore 5, 2) := by decide +kernel
theorem dX3_ways_6 : decode cX3_ways 6 = .ok (.iconst 1, 1) := by decide +kernel
theorem dX3_ways_7 : decode cX3_ways 7 = .ok (.istore 6, 2) := by decide +kernel
theorem dX3_ways_9 : decode cX3_ways 9 = .ok (.iload 6, 2) := by decide +kernel
theorem dX3_ways_11 : decode cX3_ways 11 = .ok (.ifCond .eq 122, 3) := by decide +kernel
theorem dX3_ways_14 : decode cX3_ways 14 = .ok (.iconst 0, 1) := by decide +kernel
theorem dX3_ways_15 : decode cX3_ways 15 = .ok (.istore 6, 2) := by decide +kernel
theorem dX3_ways_17 : decode cX3_ways 17 = .ok (.iconst 0, 1) := by decide +kernel
theorem dX3_ways_18 : decode cX3_ways 18 = .ok (.istore 7, 2) := by decide +kernel
theorem dX3_ways_20 : decode cX3_ways 20 = .ok (.iload 7, 2) := by decide +kernel
theorem dX3_ways_22 : decode cX3_ways 22 = .ok (.aload_n 0, 1) := by decide +kernel
theorem dX3_ways_23 : decode cX3_ways 23 = .ok (.getfield 7, 3) := by decide +kernel
theorem dX3_ways_26 : decode cX3_ways 26 = .ok (.getfield 13, 3) := by decide +kernel
theorem dX3_ways_29 : decode cX3_ways 29 = .ok (.if_icmp .ge 101, 3) := by decide +kernel
theorem dX3_ways_32 : decode cX3_ways 32 = .ok (.aload_n 0, 1) := by decide +kernel
theorem dX3_ways_33 : decode cX3_ways 33 = .ok (.getfield 7, 3) := by decide +kernel
theorem dX3_ways_36 : decode cX3_ways 36 = .ok (.iload 7, 2) := by decide +kernel
theorem dX3_ways_38 : decode cX3_ways 38 = .ok (.iload 4, 2) := by decide +kernel
theorem dX3_ways_40 : decode cX3_ways 40 = .ok (.iload 5, 2) := by decide +kernel
theorem dX3_ways_42 : decode cX3_ways 42 = .ok (.invokevirtual 19, 3) := by decide +kernel
theorem dX3_ways_45 : decode cX3_ways 45 = .ok (.ifCond .eq 6, 3) := by decide +kernel
theorem dX3_ways_48 : decode cX3_ways 48 = .ok (.goto 76, 3) := by decide +kernel
theorem dX3_ways_51 : decode cX3_ways 51 = .ok (.aload_n 0, 1) := by decide +kernel
theorem dX3_ways_52 : decode cX3_ways 52 = .ok (.getfield 7, 3) := by decide +kernel
theorem dX3_ways_55 : decode cX3_ways 55 = .ok (.iload 7, 2) := by decide +kernel
theorem dX3_ways_57 : decode cX3_ways 57 = .ok (.iload 4, 2) := by decide +kernel
theorem dX3_ways_59 : decode cX3_ways 59 = .ok (.invokevirtual 23, 3) := by decide +kernel
theorem dX3_ways_62 : decode cX3_ways 62 = .ok (.istore 8, 2) := by decide +kernel
theorem dX3_ways_64 : decode cX3_ways 64 = .ok (.iload 8, 2) := by decide +kernel
theorem dX3_ways_66 : decode cX3_ways 66 = .ok (.ifCond .ne 5, 3) := by decide +kernel
theorem dX3_ways_69 : decode cX3_ways 69 = .ok (.iconst 0, 1) := by decide +kernel
theorem dX3_ways_70 : decode cX3_ways 70 = .ok (.ireturn, 1) := by decide +kernel
theorem dX3_ways_71 : decode cX3_ways 71 = .ok (.iload 8, 2) := by decide +kernel
theorem dX3_ways_73 : decode cX3_ways 73 = .ok (.iload 8, 2) := by decide +kernel
theorem dX3_ways_75 : decode cX3_ways 75 = .ok (.iconst 1, 1) := by decide +kernel
theorem dX3_ways_76 : decode cX3_ways 76 = .ok (.isub, 1) := by decide +kernel
theorem dX3_ways_77 : decode cX3_ways 77 = .ok (.iand, 1) := by decide +kernel
theorem dX3_ways_78 : decode cX3_ways 78 = .ok (.ifCond .ne 46, 3) := by decide +kernel
theorem dX3_ways_81 : decode cX3_ways 81 = .ok (.iload 8, 2) := by decide +kernel
theorem dX3_ways_83 : decode cX3_ways 83 = .ok (.iload_n 1, 1) := by decide +kernel
theorem dX3_ways_84 : decode cX3_ways 84 = .ok (.iand, 1) := by decide +kernel
theorem dX3_ways_85 : decode cX3_ways 85 = .ok (.ifCond .ne 6, 3) := by decide +kernel
theorem dX3_ways_88 : decode cX3_ways 88 = .ok (.goto 36, 3) := by decide +kernel
theorem dX3_ways_91 : decode cX3_ways 91 = .ok (.iload 4, 2) := by decide +kernel
theorem dX3_ways_93 : decode cX3_ways 93 = .ok (.iload 8, 2) := by decide +kernel
theorem dX3_ways_95 : decode cX3_ways 95 = .ok (.ior, 1) := by decide +kernel
theorem dX3_ways_96 : decode cX3_ways 96 = .ok (.istore 4, 2) := by decide +kernel
theorem dX3_ways_98 : decode cX3_ways 98 = .ok (.aload_n 0, 1) := by decide +kernel
theorem dX3_ways_99 : decode cX3_ways 99 = .ok (.getfield 7, 3) := by decide +kernel
theorem dX3_ways_102 : decode cX3_ways 102 = .ok (.getfield 27, 3) := by decide +kernel
theorem dX3_ways_105 : decode cX3_ways 105 = .ok (.iload 7, 2) := by decide +kernel
theorem dX3_ways_107 : decode cX3_ways 107 = .ok (.iaload, 1) := by decide +kernel
theorem dX3_ways_108 : decode cX3_ways 108 = .ok (.iload 8, 2) := by decide +kernel
theorem dX3_ways_110 : decode cX3_ways 110 = .ok (.iand, 1) := by decide +kernel
theorem dX3_ways_111 : decode cX3_ways 111 = .ok (.ifCond .eq 10, 3) := by decide +kernel
theorem dX3_ways_114 : decode cX3_ways 114 = .ok (.iload 5, 2) := by decide +kernel
theorem dX3_ways_116 : decode cX3_ways 116 = .ok (.iload 8, 2) := by decide +kernel
theorem dX3_ways_118 : decode cX3_ways 118 = .ok (.ior, 1) := by decide +kernel
theorem dX3_ways_119 : decode cX3_ways 119 = .ok (.istore 5, 2) := by decide +kernel
theorem dX3_ways_121 : decode cX3_ways 121 = .ok (.iconst 1, 1) := by decide +kernel
theorem dX3_ways_122 : decode cX3_ways 122 = .ok (.istore 6, 2) := by decide +kernel
theorem dX3_ways_124 : decode cX3_ways 124 = .ok (.iinc 7 1, 3) := by decide +kernel
theorem dX3_ways_127 : decode cX3_ways 127 = .ok (.goto (-107), 3) := by decide +kernel
theorem dX3_ways_130 : decode cX3_ways 130 = .ok (.goto (-121), 3) := by decide +kernel
theorem dX3_ways_133 : decode cX3_ways 133 = .ok (.iload_n 1, 1) := by decide +kernel
theorem dX3_ways_134 : decode cX3_ways 134 = .ok (.iload 4, 2) := by decide +kernel
theorem dX3_ways_136 : decode cX3_ways 136 = .ok (.iconst (-1), 1) := by decide +kernel
theorem dX3_ways_137 : decode cX3_ways 137 = .ok (.ixor, 1) := by decide +kernel
theorem dX3_ways_138 : decode cX3_ways 138 = .ok (.iand, 1) := by decide +kernel
theorem dX3_ways_139 : decode cX3_ways 139 = .ok (.istore 7, 2) := by decide +kernel
theorem dX3_ways_141 : decode cX3_ways 141 = .ok (.iconst 1, 1) := by decide +kernel
theorem dX3_ways_142 : decode cX3_ways 142 = .ok (.istore 8, 2) := by decide +kernel
theorem dX3_ways_144 : decode cX3_ways 144 = .ok (.iload 7, 2) := by decide +kernel
theorem dX3_ways_146 : decode cX3_ways 146 = .ok (.ifCond .eq 75, 3) := by decide +kernel
theorem dX3_ways_149 : decode cX3_ways 149 = .ok (.aload_n 0, 1) := by decide +kernel
theorem dX3_ways_150 : decode cX3_ways 150 = .ok (.iload 7, 2) := by decide +kernel
theorem dX3_ways_152 : decode cX3_ways 152 = .ok (.iload 7, 2) := by decide +kernel
theorem dX3_ways_154 : decode cX3_ways 154 = .ok (.ineg, 1) := by decide +kernel
theorem dX3_ways_155 : decode cX3_ways 155 = .ok (.iand, 1) := by decide +kernel
theorem dX3_ways_156 : decode cX3_ways 156 = .ok (.iload 7, 2) := by decide +kernel
theorem dX3_ways_158 : decode cX3_ways 158 = .ok (.iload 4, 2) := by decide +kernel
theorem dX3_ways_160 : decode cX3_ways 160 = .ok (.iload 5, 2) := by decide +kernel
theorem dX3_ways_162 : decode cX3_ways 162 = .ok (.invokevirtual 31, 3) := by decide +kernel
theorem dX3_ways_165 : decode cX3_ways 165 = .ok (.istore 9, 2) := by decide +kernel
theorem dX3_ways_167 : decode cX3_ways 167 = .ok (.iload 7, 2) := by decide +kernel
theorem dX3_ways_169 : decode cX3_ways 169 = .ok (.iload 9, 2) := by decide +kernel
theorem dX3_ways_171 : decode cX3_ways 171 = .ok (.iconst (-1), 1) := by decide +kernel
theorem dX3_ways_172 : decode cX3_ways 172 = .ok (.ixor, 1) := by decide +kernel
theorem dX3_ways_173 : decode cX3_ways 173 = .ok (.iand, 1) := by decide +kernel
theorem dX3_ways_174 : decode cX3_ways 174 = .ok (.istore 7, 2) := by decide +kernel
theorem dX3_ways_176 : decode cX3_ways 176 = .ok (.iload 8, 2) := by decide +kernel
theorem dX3_ways_178 : decode cX3_ways 178 = .ok (.iload 9, 2) := by decide +kernel
theorem dX3_ways_180 : decode cX3_ways 180 = .ok (.iload 9, 2) := by decide +kernel
theorem dX3_ways_182 : decode cX3_ways 182 = .ok (.iconst 1, 1) := by decide +kernel
theorem dX3_ways_183 : decode cX3_ways 183 = .ok (.isub, 1) := by decide +kernel
theorem dX3_ways_184 : decode cX3_ways 184 = .ok (.iand, 1) := by decide +kernel
theorem dX3_ways_185 : decode cX3_ways 185 = .ok (.ifCond .ne 20, 3) := by decide +kernel
theorem dX3_ways_188 : decode cX3_ways 188 = .ok (.aload_n 0, 1) := by decide +kernel
theorem dX3_ways_189 : decode cX3_ways 189 = .ok (.iload 9, 2) := by decide +kernel
theorem dX3_ways_191 : decode cX3_ways 191 = .ok (.iload 4, 2) := by decide +kernel
theorem dX3_ways_193 : decode cX3_ways 193 = .ok (.iload 5, 2) := by decide +kernel
theorem dX3_ways_195 : decode cX3_ways 195 = .ok (.invokevirtual 35, 3) := by decide +kernel
theorem dX3_ways_198 : decode cX3_ways 198 = .ok (.ifCond .ne 7, 3) := by decide +kernel
theorem dX3_ways_201 : decode cX3_ways 201 = .ok (.iconst 2, 1) := by decide +kernel
theorem dX3_ways_202 : decode cX3_ways 202 = .ok (.goto 13, 3) := by decide +kernel
theorem dX3_ways_205 : decode cX3_ways 205 = .ok (.aload_n 0, 1) := by decide +kernel
theorem dX3_ways_206 : decode cX3_ways 206 = .ok (.iload 9, 2) := by decide +kernel
theorem dX3_ways_208 : decode cX3_ways 208 = .ok (.iload 4, 2) := by decide +kernel
theorem dX3_ways_210 : decode cX3_ways 210 = .ok (.iload 5, 2) := by decide +kernel
theorem dX3_ways_212 : decode cX3_ways 212 = .ok (.invokevirtual 38, 3) := by decide +kernel
theorem dX3_ways_215 : decode cX3_ways 215 = .ok (.imul, 1) := by decide +kernel
theorem dX3_ways_216 : decode cX3_ways 216 = .ok (.istore 8, 2) := by decide +kernel
theorem dX3_ways_218 : decode cX3_ways 218 = .ok (.goto (-74), 3) := by decide +kernel
theorem dX3_ways_221 : decode cX3_ways 221 = .ok (.iload 8, 2) := by decide +kernel
theorem dX3_ways_223 : decode cX3_ways 223 = .ok (.ireturn, 1) := by decide +kernel
abbrev cX3_grown : ByteArray := prog_3_method_5_code
def yX3_grown : MethodName := ⟨RX3, "grown", "(IIII)I"⟩
theorem dX3_grown_0 : decode cX3_grown 0 = .ok (.iload_n 1, 1) := by decide +kernel
theorem dX3_grown_1 : decode cX3_grown 1 = .ok (.istore 5, 2) := by decide +kernel
theorem dX3_grown_3 : decode cX3_grown 3 = .ok (.iconst 0, 1) := by decide +kernel
theorem dX3_grown_4 : decode cX3_grown 4 = .ok (.istore 6, 2) := by decide +kernel
theorem dX3_grown_6 : decode cX3_grown 6 = .ok (.iload 5, 2) := by decide +kernel
theorem dX3_grown_8 : decode cX3_grown 8 = .ok (.iload 6, 2) := by decide +kernel
theorem dX3_grown_10 : decode cX3_grown 10 = .ok (.if_icmp .eq 78, 3) := by decide +kernel
theorem dX3_grown_13 : decode cX3_grown 13 = .ok (.iload 5, 2) := by decide +kernel
theorem dX3_grown_15 : decode cX3_grown 15 = .ok (.istore 6, 2) := by decide +kernel
theorem dX3_grown_17 : decode cX3_grown 17 = .ok (.iconst 0, 1) := by decide +kernel
theorem dX3_grown_18 : decode cX3_grown 18 = .ok (.istore 7, 2) := by decide +kernel
theorem dX3_grown_20 : decode cX3_grown 20 = .ok (.iload 7, 2) := by decide +kernel
theorem dX3_grown_22 : decode cX3_grown 22 = .ok (.aload_n 0, 1) := by decide +kernel
theorem dX3_grown_23 : decode cX3_grown 23 = .ok (.getfield 7, 3) := by decide +kernel
theorem dX3_grown_26 : decode cX3_grown 26 = .ok (.getfield 13, 3) := by decide +kernel
theorem dX3_grown_29 : decode cX3_grown 29 = .ok (.if_icmp .ge 56, 3) := by decide +kernel
theorem dX3_grown_32 : decode cX3_grown 32 = .ok (.aload_n 0, 1) := by decide +kernel
theorem dX3_grown_33 : decode cX3_grown 33 = .ok (.getfield 7, 3) := by decide +kernel
theorem dX3_grown_36 : decode cX3_grown 36 = .ok (.iload 7, 2) := by decide +kernel
theorem dX3_grown_38 : decode cX3_grown 38 = .ok (.iload_n 3, 1) := by decide +kernel
theorem dX3_grown_39 : decode cX3_grown 39 = .ok (.iload 4, 2) := by decide +kernel
theorem dX3_grown_41 : decode cX3_grown 41 = .ok (.invokevirtual 19, 3) := by decide +kernel
theorem dX3_grown_44 : decode cX3_grown 44 = .ok (.ifCond .eq 6, 3) := by decide +kernel
theorem dX3_grown_47 : decode cX3_grown 47 = .ok (.goto 32, 3) := by decide +kernel
theorem dX3_grown_50 : decode cX3_grown 50 = .ok (.aload_n 0, 1) := by decide +kernel
theorem dX3_grown_51 : decode cX3_grown 51 = .ok (.getfield 7, 3) := by decide +kernel
theorem dX3_grown_54 : decode cX3_grown 54 = .ok (.iload 7, 2) := by decide +kernel
theorem dX3_grown_56 : decode cX3_grown 56 = .ok (.iload_n 3, 1) := by decide +kernel
theorem dX3_grown_57 : decode cX3_grown 57 = .ok (.invokevirtual 23, 3) := by decide +kernel
theorem dX3_grown_60 : decode cX3_grown 60 = .ok (.istore 8, 2) := by decide +kernel
theorem dX3_grown_62 : decode cX3_grown 62 = .ok (.iload 8, 2) := by decide +kernel
theorem dX3_grown_64 : decode cX3_grown 64 = .ok (.iload 5, 2) := by decide +kernel
theorem dX3_grown_66 : decode cX3_grown 66 = .ok (.iand, 1) := by decide +kernel
theorem dX3_grown_67 : decode cX3_grown 67 = .ok (.ifCond .eq 12, 3) := by decide +kernel
theorem dX3_grown_70 : decode cX3_grown 70 = .ok (.iload 5, 2) := by decide +kernel
theorem dX3_grown_72 : decode cX3_grown 72 = .ok (.iload 8, 2) := by decide +kernel
theorem dX3_grown_74 : decode cX3_grown 74 = .ok (.iload_n 2, 1) := by decide +kernel
theorem dX3_grown_75 : decode cX3_grown 75 = .ok (.iand, 1) := by decide +kernel
theorem dX3_grown_76 : decode cX3_grown 76 = .ok (.ior, 1) := by decide +kernel
theorem dX3_grown_77 : decode cX3_grown 77 = .ok (.istore 5, 2) := by decide +kernel
theorem dX3_grown_79 : decode cX3_grown 79 = .ok (.iinc 7 1, 3) := by decide +kernel
theorem dX3_grown_82 : decode cX3_grown 82 = .ok (.goto (-62), 3) := by decide +kernel
theorem dX3_grown_85 : decode cX3_grown 85 = .ok (.goto (-79), 3) := by decide +kernel
theorem dX3_grown_88 : decode cX3_grown 88 = .ok (.iload 5, 2) := by decide +kernel
theorem dX3_grown_90 : decode cX3_grown 90 = .ok (.ireturn, 1) := by decide +kernel
abbrev cX3_touched : ByteArray := prog_3_method_4_code
def yX3_touched : MethodName := ⟨RX3, "touched", "(III)Z"⟩
theorem dX3_touched_0 : decode cX3_touched 0 = .ok (.iconst 0, 1) := by decide +kernel
theorem dX3_touched_1 : decode cX3_touched 1 = .ok (.istore 4, 2) := by decide +kernel
theorem dX3_touched_3 : decode cX3_touched 3 = .ok (.iload 4, 2) := by decide +kernel
theorem dX3_touched_5 : decode cX3_touched 5 = .ok (.aload_n 0, 1) := by decide +kernel
theorem dX3_touched_6 : decode cX3_touched 6 = .ok (.getfield 7, 3) := by decide +kernel
theorem dX3_touched_9 : decode cX3_touched 9 = .ok (.getfield 13, 3) := by decide +kernel
theorem dX3_touched_12 : decode cX3_touched 12 = .ok (.if_icmp .ge 40, 3) := by decide +kernel
theorem dX3_touched_15 : decode cX3_touched 15 = .ok (.aload_n 0, 1) := by decide +kernel
theorem dX3_touched_16 : decode cX3_touched 16 = .ok (.getfield 7, 3) := by decide +kernel
theorem dX3_touched_19 : decode cX3_touched 19 = .ok (.iload 4, 2) := by decide +kernel
theorem dX3_touched_21 : decode cX3_touched 21 = .ok (.iload_n 2, 1) := by decide +kernel
theorem dX3_touched_22 : decode cX3_touched 22 = .ok (.iload_n 3, 1) := by decide +kernel
theorem dX3_touched_23 : decode cX3_touched 23 = .ok (.invokevirtual 19, 3) := by decide +kernel
theorem dX3_touched_26 : decode cX3_touched 26 = .ok (.ifCond .ne 20, 3) := by decide +kernel
theorem dX3_touched_29 : decode cX3_touched 29 = .ok (.aload_n 0, 1) := by decide +kernel
theorem dX3_touched_30 : decode cX3_touched 30 = .ok (.getfield 7, 3) := by decide +kernel
theorem dX3_touched_33 : decode cX3_touched 33 = .ok (.iload 4, 2) := by decide +kernel
theorem dX3_touched_35 : decode cX3_touched 35 = .ok (.iload_n 2, 1) := by decide +kernel
theorem dX3_touched_36 : decode cX3_touched 36 = .ok (.invokevirtual 23, 3) := by decide +kernel
theorem dX3_touched_39 : decode cX3_touched 39 = .ok (.iload_n 1, 1) := by decide +kernel
theorem dX3_touched_40 : decode cX3_touched 40 = .ok (.iand, 1) := by decide +kernel
theorem dX3_touched_41 : decode cX3_touched 41 = .ok (.ifCond .eq 5, 3) := by decide +kernel
theorem dX3_touched_44 : decode cX3_touched 44 = .ok (.iconst 1, 1) := by decide +kernel
theorem dX3_touched_45 : decode cX3_touched 45 = .ok (.ireturn, 1) := by decide +kernel
theorem dX3_touched_46 : decode cX3_touched 46 = .ok (.iinc 4 1, 3) := by decide +kernel
theorem dX3_touched_49 : decode cX3_touched 49 = .ok (.goto (-46), 3) := by decide +kernel
theorem dX3_touched_52 : decode cX3_touched 52 = .ok (.iconst 0, 1) := by decide +kernel
theorem dX3_touched_53 : decode cX3_touched 53 = .ok (.ireturn, 1) := by decide +kernel
abbrev cX3_split : ByteArray := prog_3_method_3_code
def yX3_split : MethodName := ⟨RX3, "split", "(III)I"⟩
theorem dX3_split_0 : decode cX3_split 0 = .ok (.iload_n 1, 1) := by decide +kernel
theorem dX3_split_1 : decode cX3_split 1 = .ok (.iload_n 1, 1) := by decide +kernel
theorem dX3_split_2 : decode cX3_split 2 = .ok (.ineg, 1) := by decide +kernel
theorem dX3_split_3 : decode cX3_split 3 = .ok (.iand, 1) := by decide +kernel
theorem dX3_split_4 : decode cX3_split 4 = .ok (.istore 4, 2) := by decide +kernel
theorem dX3_split_6 : decode cX3_split 6 = .ok (.iload_n 1, 1) := by decide +kernel
theorem dX3_split_7 : decode cX3_split 7 = .ok (.iload 4, 2) := by decide +kernel
theorem dX3_split_9 : decode cX3_split 9 = .ok (.iconst (-1), 1) := by decide +kernel
theorem dX3_split_10 : decode cX3_split 10 = .ok (.ixor, 1) := by decide +kernel
theorem dX3_split_11 : decode cX3_split 11 = .ok (.iand, 1) := by decide +kernel
theorem dX3_split_12 : decode cX3_split 12 = .ok (.istore 5, 2) := by decide +kernel
theorem dX3_split_14 : decode cX3_split 14 = .ok (.aload_n 0, 1) := by decide +kernel
theorem dX3_split_15 : decode cX3_split 15 = .ok (.iload 5, 2) := by decide +kernel
theorem dX3_split_17 : decode cX3_split 17 = .ok (.iload_n 2, 1) := by decide +kernel
theorem dX3_split_18 : decode cX3_split 18 = .ok (.iload 4, 2) := by decide +kernel
theorem dX3_split_20 : decode cX3_split 20 = .ok (.ior, 1) := by decide +kernel
theorem dX3_split_21 : decode cX3_split 21 = .ok (.iload_n 3, 1) := by decide +kernel
theorem dX3_split_22 : decode cX3_split 22 = .ok (.iload 4, 2) := by decide +kernel
theorem dX3_split_24 : decode cX3_split 24 = .ok (.iconst (-1), 1) := by decide +kernel
theorem dX3_split_25 : decode cX3_split 25 = .ok (.ixor, 1) := by decide +kernel
theorem dX3_split_26 : decode cX3_split 26 = .ok (.iand, 1) := by decide +kernel
theorem dX3_split_27 : decode cX3_split 27 = .ok (.invokevirtual 42, 3) := by decide +kernel
theorem dX3_split_30 : decode cX3_split 30 = .ok (.aload_n 0, 1) := by decide +kernel
theorem dX3_split_31 : decode cX3_split 31 = .ok (.iload 5, 2) := by decide +kernel
theorem dX3_split_33 : decode cX3_split 33 = .ok (.iload_n 2, 1) := by decide +kernel
theorem dX3_split_34 : decode cX3_split 34 = .ok (.iload 4, 2) := by decide +kernel
theorem dX3_split_36 : decode cX3_split 36 = .ok (.ior, 1) := by decide +kernel
theorem dX3_split_37 : decode cX3_split 37 = .ok (.iload_n 3, 1) := by decide +kernel
theorem dX3_split_38 : decode cX3_split 38 = .ok (.iload 4, 2) := by decide +kernel
theorem dX3_split_40 : decode cX3_split 40 = .ok (.ior, 1) := by decide +kernel
theorem dX3_split_41 : decode cX3_split 41 = .ok (.invokevirtual 42, 3) := by decide +kernel
theorem dX3_split_44 : decode cX3_split 44 = .ok (.iadd, 1) := by decide +kernel
theorem dX3_split_45 : decode cX3_split 45 = .ok (.ireturn, 1) := by decide +kernel
theorem q17 : (Jvm.Cond.initialized "ClauseDesk$Counter") ∈ lw_all := lw_g (lw_at lw_m1 4 rfl) rfl
theorem q36 : (Jvm.Cond.fieldLink "ClauseDesk$Counter" (27 : Nat) "ClauseDesk$Clauses" "yes" "[I") ∈ lw_all := lw_g (lw_at lw_m1 23 rfl) rfl
theorem q42 : (Jvm.Cond.fieldLink "ClauseDesk$Counter" (13 : Nat) "ClauseDesk$Clauses" "n" "I") ∈ lw_all := lw_g (lw_at lw_m1 29 rfl) rfl
theorem q90 : (Jvm.Cond.instantiable "ClauseDesk$Counter" (1 : Nat)) ∈ lw_all := lw_g (lw_at lw_m1 77 rfl) rfl
theorem q92 : (Jvm.Cond.instanceMethod ({ cls := "ClauseDesk$Counter", name := "<init>", desc := "(LClauseDesk$Clauses;)V" } : Jvm.MethodName)) ∈ lw_all := lw_g (lw_at lw_m1 79 rfl) rfl
theorem q93 : (Jvm.Cond.code ({ cls := "ClauseDesk$Counter", name := "<init>", desc := "(LClauseDesk$Clauses;)V" } : Jvm.MethodName) prog_3_method_1_code (2 : Nat) (Option.none : Option Jvm.ClassFile.FieldType)) ∈ lw_all := lw_g (lw_at lw_m1 80 rfl) rfl
theorem q94 : (Jvm.Cond.methodLink "ClauseDesk$Counter" (1 : Nat) ({ cls := "java/lang/Object", name := "<init>", desc := "()V" } : Jvm.MethodName)) ∈ lw_all := lw_g (lw_at lw_m1 81 rfl) rfl
theorem q95 : (Jvm.Cond.fieldLink "ClauseDesk$Counter" (7 : Nat) "ClauseDesk$Counter" "given" "LClauseDesk$Clauses;") ∈ lw_all := lw_g (lw_at lw_m1 82 rfl) rfl
theorem q96 : (Jvm.Cond.laysFinal "ClauseDesk$Counter" "ClauseDesk$Counter" "given" "LClauseDesk$Clauses;") ∈ lw_all := lw_g (lw_at lw_m1 83 rfl) rfl
theorem q97 : (Jvm.Cond.soleField "ClauseDesk$Counter" "given") ∈ lw_all := lw_g (lw_at lw_m1 84 rfl) rfl
theorem q98 : (Jvm.Cond.superclass "ClauseDesk$Counter" "java/lang/Object") ∈ lw_all := lw_g (lw_at lw_m1 85 rfl) rfl
theorem q205 : (Jvm.Cond.instanceMethod ({ cls := "ClauseDesk$Counter", name := "ways", desc := "(III)I" } : Jvm.MethodName)) ∈ lw_all := lw_g (lw_at lw_m1 192 rfl) rfl
theorem q206 : (Jvm.Cond.selects "ClauseDesk$Counter" ({ cls := "ClauseDesk$Counter", name := "ways", desc := "(III)I" } : Jvm.MethodName) ({ cls := "ClauseDesk$Counter", name := "ways", desc := "(III)I" } : Jvm.MethodName)) ∈ lw_all := lw_g (lw_at lw_m1 193 rfl) rfl
theorem q207 : (Jvm.Cond.code ({ cls := "ClauseDesk$Counter", name := "ways", desc := "(III)I" } : Jvm.MethodName) prog_3_method_2_code (10 : Nat) (Option.some Jvm.ClassFile.FieldType.int)) ∈ lw_all := lw_g (lw_at lw_m1 194 rfl) rfl
theorem q208 : (Jvm.Cond.methodLink "ClauseDesk$Counter" (19 : Nat) ({ cls := "ClauseDesk$Clauses", name := "holds", desc := "(III)Z" } : Jvm.MethodName)) ∈ lw_all := lw_g (lw_at lw_m1 195 rfl) rfl
theorem q209 : (Jvm.Cond.methodLink "ClauseDesk$Counter" (23 : Nat) ({ cls := "ClauseDesk$Clauses", name := "open", desc := "(II)I" } : Jvm.MethodName)) ∈ lw_all := lw_g (lw_at lw_m1 196 rfl) rfl
theorem q210 : (Jvm.Cond.methodLink "ClauseDesk$Counter" (31 : Nat) ({ cls := "ClauseDesk$Counter", name := "grown", desc := "(IIII)I" } : Jvm.MethodName)) ∈ lw_all := lw_g (lw_at lw_m1 197 rfl) rfl
theorem q211 : (Jvm.Cond.privateMethod ({ cls := "ClauseDesk$Counter", name := "grown", desc := "(IIII)I" } : Jvm.MethodName)) ∈ lw_tbl := lw_at lw_m1 198 rfl
theorem q212 : (Jvm.Cond.instanceMethod ({ cls := "ClauseDesk$Counter", name := "grown", desc := "(IIII)I" } : Jvm.MethodName)) ∈ lw_all := lw_g (lw_at lw_m1 199 rfl) rfl
theorem q213 : (Jvm.Cond.code ({ cls := "ClauseDesk$Counter", name := "grown", desc := "(IIII)I" } : Jvm.MethodName) prog_3_method_5_code (9 : Nat) (Option.some Jvm.ClassFile.FieldType.int)) ∈ lw_all := lw_g (lw_at lw_m1 200 rfl) rfl
theorem q214 : (Jvm.Cond.methodLink "ClauseDesk$Counter" (35 : Nat) ({ cls := "ClauseDesk$Counter", name := "touched", desc := "(III)Z" } : Jvm.MethodName)) ∈ lw_all := lw_g (lw_at lw_m1 201 rfl) rfl
theorem q215 : (Jvm.Cond.privateMethod ({ cls := "ClauseDesk$Counter", name := "touched", desc := "(III)Z" } : Jvm.MethodName)) ∈ lw_tbl := lw_at lw_m1 202 rfl
theorem q216 : (Jvm.Cond.instanceMethod ({ cls := "ClauseDesk$Counter", name := "touched", desc := "(III)Z" } : Jvm.MethodName)) ∈ lw_all := lw_g (lw_at lw_m1 203 rfl) rfl
theorem q217 : (Jvm.Cond.code ({ cls := "ClauseDesk$Counter", name := "touched", desc := "(III)Z" } : Jvm.MethodName) prog_3_method_4_code (5 : Nat) (Option.some Jvm.ClassFile.FieldType.boolean)) ∈ lw_all := lw_g (lw_at lw_m1 204 rfl) rfl
theorem q218 : (Jvm.Cond.methodLink "ClauseDesk$Counter" (38 : Nat) ({ cls := "ClauseDesk$Counter", name := "split", desc := "(III)I" } : Jvm.MethodName)) ∈ lw_all := lw_g (lw_at lw_m1 205 rfl) rfl
theorem q219 : (Jvm.Cond.privateMethod ({ cls := "ClauseDesk$Counter", name := "split", desc := "(III)I" } : Jvm.MethodName)) ∈ lw_tbl := lw_at lw_m1 206 rfl
theorem q220 : (Jvm.Cond.instanceMethod ({ cls := "ClauseDesk$Counter", name := "split", desc := "(III)I" } : Jvm.MethodName)) ∈ lw_all := lw_g (lw_at lw_m1 207 rfl) rfl
theorem q221 : (Jvm.Cond.code ({ cls := "ClauseDesk$Counter", name := "split", desc := "(III)I" } : Jvm.MethodName) prog_3_method_3_code (6 : Nat) (Option.some Jvm.ClassFile.FieldType.int)) ∈ lw_all := lw_g (lw_at lw_m1 208 rfl) rfl
theorem q222 : (Jvm.Cond.methodLink "ClauseDesk$Counter" (42 : Nat) ({ cls := "ClauseDesk$Counter", name := "ways", desc := "(III)I" } : Jvm.MethodName)) ∈ lw_all := lw_g (lw_at lw_m1 209 rfl) rfl
theorem in_X3 : ∀ w ∈ wsX30, w ∈ lw_all := lw_in wsX30 [96] (by decide +kernel) (by decide +kernel)
/-! ClauseDeskModel -/
set_option maxRecDepth 100000
def RX4 : String := "ClauseDeskModel"
def TX4 : u_T := fun k => match k with
  | 0 => ("ClauseDeskModel", "yes", "[I", true)
  | 1 => ("ClauseDeskModel", "no", "[I", true)
  | 2 => ("ClauseDeskModel", "clauses", "I", false)
  | 3 => ("ClauseDeskModel", "n", "I", false)
  | 4 => ("ClauseDeskModel", "found", "I", false)
  | _ => ("ClauseDeskModel", "broken", "[I", true)
def tyX4 : Nat → FieldType := fun k => match k with
  | 0 => .array .int
  | 1 => .array .int
  | 2 => .int
  | 3 => .int
  | 4 => .int
  | _ => .array .int
abbrev wsX40 : List Cond := u_ws RX4 TX4 6
theorem nmX4 : ∀ a, a < 6 → ∀ b, b < 6 → a ≠ b → (TX4 a).2.1 ≠ (TX4 b).2.1 := by decide +kernel
theorem tyX4_ok : ∀ k, k < 6 → parseFieldDescriptor (TX4 k).2.2.1 = some (tyX4 k) := by decide +kernel
abbrev cX4_init : ByteArray := prog_6_method_1_code
def yX4_init : MethodName := ⟨RX4, "<init>", "()V"⟩
theorem dX4_init_0 : decode cX4_init 0 = .ok (.aload_n 0, 1) := by decide +kernel
theorem dX4_init_1 : decode cX4_init 1 = .ok (.invokespecial 1, 3) := by decide +kernel
theorem dX4_init_4 : decode cX4_init 4 = .ok (.aload_n 0, 1) := by decide +kernel
theorem dX4_init_5 : decode cX4_init 5 = .ok (.sipush 256, 3) := by decide +kernel
theorem dX4_init_8 : decode cX4_init 8 = .ok (.newarray .int, 2) := by decide +kernel
theorem dX4_init_10 : decode cX4_init 10 = .ok (.putfield 7, 3) := by decide +kernel
theorem dX4_init_13 : decode cX4_init 13 = .ok (.aload_n 0, 1) := by decide +kernel
theorem dX4_init_14 : decode cX4_init 14 = .ok (.sipush 256, 3) := by decide +kernel
theorem dX4_init_17 : decode cX4_init 17 = .ok (.newarray .int, 2) := by decide +kernel
theorem dX4_init_19 : decode cX4_init 19 = .ok (.putfield 13, 3) := by decide +kernel
theorem dX4_init_22 : decode cX4_init 22 = .ok (.aload_n 0, 1) := by decide +kernel
theorem dX4_init_23 : decode cX4_init 23 = .ok (.iconst 4, 1) := by decide +kernel
theorem dX4_init_24 : decode cX4_init 24 = .ok (.putfield 16, 3) := by decide +kernel
theorem dX4_init_27 : decode cX4_init 27 = .ok (.aload_n 0, 1) := by decide +kernel
theorem dX4_init_28 : decode cX4_init 28 = .ok (.iconst (-1), 1) := by decide +kernel
theorem dX4_init_29 : decode cX4_init 29 = .ok (.putfield 20, 3) := by decide +kernel
theorem dX4_init_32 : decode cX4_init 32 = .ok (.aload_n 0, 1) := by decide +kernel
theorem dX4_init_33 : decode cX4_init 33 = .ok (.sipush 4096, 3) := by decide +kernel
theorem dX4_init_36 : decode cX4_init 36 = .ok (.newarray .int, 2) := by decide +kernel
theorem dX4_init_38 : decode cX4_init 38 = .ok (.putfield 23, 3) := by decide +kernel
theorem dX4_init_41 : decode cX4_init 41 = .ok (.return_, 1) := by decide +kernel
abbrev cX4_letters : ByteArray := prog_6_method_2_code
def yX4_letters : MethodName := ⟨RX4, "letters", "(I)V"⟩
theorem dX4_letters_0 : decode cX4_letters 0 = .ok (.aload_n 0, 1) := by decide +kernel
theorem dX4_letters_1 : decode cX4_letters 1 = .ok (.iconst 1, 1) := by decide +kernel
theorem dX4_letters_2 : decode cX4_letters 2 = .ok (.iload_n 1, 1) := by decide +kernel
theorem dX4_letters_3 : decode cX4_letters 3 = .ok (.ldc 26, 2) := by decide +kernel
theorem dX4_letters_5 : decode cX4_letters 5 = .ok (.iand, 1) := by decide +kernel
theorem dX4_letters_6 : decode cX4_letters 6 = .ok (.bipush 12, 2) := by decide +kernel
theorem dX4_letters_8 : decode cX4_letters 8 = .ok (.irem, 1) := by decide +kernel
theorem dX4_letters_9 : decode cX4_letters 9 = .ok (.iadd, 1) := by decide +kernel
theorem dX4_letters_10 : decode cX4_letters 10 = .ok (.putfield 16, 3) := by decide +kernel
theorem dX4_letters_13 : decode cX4_letters 13 = .ok (.aload_n 0, 1) := by decide +kernel
theorem dX4_letters_14 : decode cX4_letters 14 = .ok (.iconst 0, 1) := by decide +kernel
theorem dX4_letters_15 : decode cX4_letters 15 = .ok (.putfield 27, 3) := by decide +kernel
theorem dX4_letters_18 : decode cX4_letters 18 = .ok (.aload_n 0, 1) := by decide +kernel
theorem dX4_letters_19 : decode cX4_letters 19 = .ok (.iconst (-1), 1) := by decide +kernel
theorem dX4_letters_20 : decode cX4_letters 20 = .ok (.putfield 20, 3) := by decide +kernel
theorem dX4_letters_23 : decode cX4_letters 23 = .ok (.iconst 0, 1) := by decide +kernel
theorem dX4_letters_24 : decode cX4_letters 24 = .ok (.istore_n 2, 1) := by decide +kernel
theorem dX4_letters_25 : decode cX4_letters 25 = .ok (.iload_n 2, 1) := by decide +kernel
theorem dX4_letters_26 : decode cX4_letters 26 = .ok (.sipush 4096, 3) := by decide +kernel
theorem dX4_letters_29 : decode cX4_letters 29 = .ok (.if_icmp .ge 16, 3) := by decide +kernel
theorem dX4_letters_32 : decode cX4_letters 32 = .ok (.aload_n 0, 1) := by decide +kernel
theorem dX4_letters_33 : decode cX4_letters 33 = .ok (.getfield 23, 3) := by decide +kernel
theorem dX4_letters_36 : decode cX4_letters 36 = .ok (.iload_n 2, 1) := by decide +kernel
theorem dX4_letters_37 : decode cX4_letters 37 = .ok (.iconst 0, 1) := by decide +kernel
theorem dX4_letters_38 : decode cX4_letters 38 = .ok (.iastore, 1) := by decide +kernel
theorem dX4_letters_39 : decode cX4_letters 39 = .ok (.iinc 2 1, 3) := by decide +kernel
theorem dX4_letters_42 : decode cX4_letters 42 = .ok (.goto (-17), 3) := by decide +kernel
theorem dX4_letters_45 : decode cX4_letters 45 = .ok (.return_, 1) := by decide +kernel
abbrev cX4_clause : ByteArray := prog_6_method_4_code
def yX4_clause : MethodName := ⟨RX4, "clause", "(II)Z"⟩
theorem dX4_clause_0 : decode cX4_clause 0 = .ok (.aload_n 0, 1) := by decide +kernel
theorem dX4_clause_1 : decode cX4_clause 1 = .ok (.getfield 27, 3) := by decide +kernel
theorem dX4_clause_4 : decode cX4_clause 4 = .ok (.sipush 256, 3) := by decide +kernel
theorem dX4_clause_7 : decode cX4_clause 7 = .ok (.if_icmp .ne 5, 3) := by decide +kernel
theorem dX4_clause_10 : decode cX4_clause 10 = .ok (.iconst 0, 1) := by decide +kernel
theorem dX4_clause_11 : decode cX4_clause 11 = .ok (.ireturn, 1) := by decide +kernel
theorem dX4_clause_12 : decode cX4_clause 12 = .ok (.iconst 1, 1) := by decide +kernel
theorem dX4_clause_13 : decode cX4_clause 13 = .ok (.aload_n 0, 1) := by decide +kernel
theorem dX4_clause_14 : decode cX4_clause 14 = .ok (.getfield 16, 3) := by decide +kernel
theorem dX4_clause_17 : decode cX4_clause 17 = .ok (.ishl, 1) := by decide +kernel
theorem dX4_clause_18 : decode cX4_clause 18 = .ok (.iconst 1, 1) := by decide +kernel
theorem dX4_clause_19 : decode cX4_clause 19 = .ok (.isub, 1) := by decide +kernel
theorem dX4_clause_20 : decode cX4_clause 20 = .ok (.istore_n 3, 1) := by decide +kernel
theorem dX4_clause_21 : decode cX4_clause 21 = .ok (.aload_n 0, 1) := by decide +kernel
theorem dX4_clause_22 : decode cX4_clause 22 = .ok (.getfield 7, 3) := by decide +kernel
theorem dX4_clause_25 : decode cX4_clause 25 = .ok (.aload_n 0, 1) := by decide +kernel
theorem dX4_clause_26 : decode cX4_clause 26 = .ok (.getfield 27, 3) := by decide +kernel
theorem dX4_clause_29 : decode cX4_clause 29 = .ok (.iload_n 1, 1) := by decide +kernel
theorem dX4_clause_30 : decode cX4_clause 30 = .ok (.iload_n 3, 1) := by decide +kernel
theorem dX4_clause_31 : decode cX4_clause 31 = .ok (.iand, 1) := by decide +kernel
theorem dX4_clause_32 : decode cX4_clause 32 = .ok (.iastore, 1) := by decide +kernel
theorem dX4_clause_33 : decode cX4_clause 33 = .ok (.aload_n 0, 1) := by decide +kernel
theorem dX4_clause_34 : decode cX4_clause 34 = .ok (.getfield 13, 3) := by decide +kernel
theorem dX4_clause_37 : decode cX4_clause 37 = .ok (.aload_n 0, 1) := by decide +kernel
theorem dX4_clause_38 : decode cX4_clause 38 = .ok (.getfield 27, 3) := by decide +kernel
theorem dX4_clause_41 : decode cX4_clause 41 = .ok (.iload_n 2, 1) := by decide +kernel
theorem dX4_clause_42 : decode cX4_clause 42 = .ok (.iload_n 3, 1) := by decide +kernel
theorem dX4_clause_43 : decode cX4_clause 43 = .ok (.iand, 1) := by decide +kernel
theorem dX4_clause_44 : decode cX4_clause 44 = .ok (.iastore, 1) := by decide +kernel
theorem dX4_clause_45 : decode cX4_clause 45 = .ok (.aload_n 0, 1) := by decide +kernel
theorem dX4_clause_46 : decode cX4_clause 46 = .ok (.aload_n 0, 1) := by decide +kernel
theorem dX4_clause_47 : decode cX4_clause 47 = .ok (.getfield 27, 3) := by decide +kernel
theorem dX4_clause_50 : decode cX4_clause 50 = .ok (.iconst 1, 1) := by decide +kernel
theorem dX4_clause_51 : decode cX4_clause 51 = .ok (.invokevirtual 30, 3) := by decide +kernel
theorem dX4_clause_54 : decode cX4_clause 54 = .ok (.aload_n 0, 1) := by decide +kernel
theorem dX4_clause_55 : decode cX4_clause 55 = .ok (.aload_n 0, 1) := by decide +kernel
theorem dX4_clause_56 : decode cX4_clause 56 = .ok (.getfield 27, 3) := by decide +kernel
theorem dX4_clause_59 : decode cX4_clause 59 = .ok (.iconst 1, 1) := by decide +kernel
theorem dX4_clause_60 : decode cX4_clause 60 = .ok (.iadd, 1) := by decide +kernel
theorem dX4_clause_61 : decode cX4_clause 61 = .ok (.putfield 27, 3) := by decide +kernel
theorem dX4_clause_64 : decode cX4_clause 64 = .ok (.iconst 1, 1) := by decide +kernel
theorem dX4_clause_65 : decode cX4_clause 65 = .ok (.ireturn, 1) := by decide +kernel
abbrev cX4_count : ByteArray := prog_6_method_3_code
def yX4_count : MethodName := ⟨RX4, "count", "(II)V"⟩
theorem dX4_count_0 : decode cX4_count 0 = .ok (.iconst 0, 1) := by decide +kernel
theorem dX4_count_1 : decode cX4_count 1 = .ok (.istore_n 3, 1) := by decide +kernel
theorem dX4_count_2 : decode cX4_count 2 = .ok (.iload_n 3, 1) := by decide +kernel
theorem dX4_count_3 : decode cX4_count 3 = .ok (.iconst 1, 1) := by decide +kernel
theorem dX4_count_4 : decode cX4_count 4 = .ok (.aload_n 0, 1) := by decide +kernel
theorem dX4_count_5 : decode cX4_count 5 = .ok (.getfield 16, 3) := by decide +kernel
theorem dX4_count_8 : decode cX4_count 8 = .ok (.ishl, 1) := by decide +kernel
theorem dX4_count_9 : decode cX4_count 9 = .ok (.if_icmp .ge 47, 3) := by decide +kernel
theorem dX4_count_12 : decode cX4_count 12 = .ok (.iload_n 3, 1) := by decide +kernel
theorem dX4_count_13 : decode cX4_count 13 = .ok (.aload_n 0, 1) := by decide +kernel
theorem dX4_count_14 : decode cX4_count 14 = .ok (.getfield 7, 3) := by decide +kernel
theorem dX4_count_17 : decode cX4_count 17 = .ok (.iload_n 1, 1) := by decide +kernel
theorem dX4_count_18 : decode cX4_count 18 = .ok (.iaload, 1) := by decide +kernel
theorem dX4_count_19 : decode cX4_count 19 = .ok (.iand, 1) := by decide +kernel
theorem dX4_count_20 : decode cX4_count 20 = .ok (.ifCond .ne 30, 3) := by decide +kernel
theorem dX4_count_23 : decode cX4_count 23 = .ok (.iload_n 3, 1) := by decide +kernel
theorem dX4_count_24 : decode cX4_count 24 = .ok (.iconst (-1), 1) := by decide +kernel
theorem dX4_count_25 : decode cX4_count 25 = .ok (.ixor, 1) := by decide +kernel
theorem dX4_count_26 : decode cX4_count 26 = .ok (.aload_n 0, 1) := by decide +kernel
theorem dX4_count_27 : decode cX4_count 27 = .ok (.getfield 13, 3) := by decide +kernel
theorem dX4_count_30 : decode cX4_count 30 = .ok (.iload_n 1, 1) := by decide +kernel
theorem dX4_count_31 : decode cX4_count 31 = .ok (.iaload, 1) := by decide +kernel
theorem dX4_count_32 : decode cX4_count 32 = .ok (.iand, 1) := by decide +kernel
theorem dX4_count_33 : decode cX4_count 33 = .ok (.ifCond .ne 17, 3) := by decide +kernel
theorem dX4_count_36 : decode cX4_count 36 = .ok (.aload_n 0, 1) := by decide +kernel
theorem dX4_count_37 : decode cX4_count 37 = .ok (.getfield 23, 3) := by decide +kernel
theorem dX4_count_40 : decode cX4_count 40 = .ok (.iload_n 3, 1) := by decide +kernel
theorem dX4_count_41 : decode cX4_count 41 = .ok (.aload_n 0, 1) := by decide +kernel
theorem dX4_count_42 : decode cX4_count 42 = .ok (.getfield 23, 3) := by decide +kernel
theorem dX4_count_45 : decode cX4_count 45 = .ok (.iload_n 3, 1) := by decide +kernel
theorem dX4_count_46 : decode cX4_count 46 = .ok (.iaload, 1) := by decide +kernel
theorem dX4_count_47 : decode cX4_count 47 = .ok (.iload_n 2, 1) := by decide +kernel
theorem dX4_count_48 : decode cX4_count 48 = .ok (.iadd, 1) := by decide +kernel
theorem dX4_count_49 : decode cX4_count 49 = .ok (.iastore, 1) := by decide +kernel
theorem dX4_count_50 : decode cX4_count 50 = .ok (.iinc 3 1, 3) := by decide +kernel
theorem dX4_count_53 : decode cX4_count 53 = .ok (.goto (-51), 3) := by decide +kernel
theorem dX4_count_56 : decode cX4_count 56 = .ok (.return_, 1) := by decide +kernel
abbrev cX4_drop : ByteArray := prog_6_method_5_code
def yX4_drop : MethodName := ⟨RX4, "drop", "()Z"⟩
theorem dX4_drop_0 : decode cX4_drop 0 = .ok (.aload_n 0, 1) := by decide +kernel
theorem dX4_drop_1 : decode cX4_drop 1 = .ok (.getfield 27, 3) := by decide +kernel
theorem dX4_drop_4 : decode cX4_drop 4 = .ok (.ifCond .ne 5, 3) := by decide +kernel
theorem dX4_drop_7 : decode cX4_drop 7 = .ok (.iconst 0, 1) := by decide +kernel
theorem dX4_drop_8 : decode cX4_drop 8 = .ok (.ireturn, 1) := by decide +kernel
theorem dX4_drop_9 : decode cX4_drop 9 = .ok (.aload_n 0, 1) := by decide +kernel
theorem dX4_drop_10 : decode cX4_drop 10 = .ok (.aload_n 0, 1) := by decide +kernel
theorem dX4_drop_11 : decode cX4_drop 11 = .ok (.getfield 27, 3) := by decide +kernel
theorem dX4_drop_14 : decode cX4_drop 14 = .ok (.iconst 1, 1) := by decide +kernel
theorem dX4_drop_15 : decode cX4_drop 15 = .ok (.isub, 1) := by decide +kernel
theorem dX4_drop_16 : decode cX4_drop 16 = .ok (.putfield 27, 3) := by decide +kernel
theorem dX4_drop_19 : decode cX4_drop 19 = .ok (.aload_n 0, 1) := by decide +kernel
theorem dX4_drop_20 : decode cX4_drop 20 = .ok (.aload_n 0, 1) := by decide +kernel
theorem dX4_drop_21 : decode cX4_drop 21 = .ok (.getfield 27, 3) := by decide +kernel
theorem dX4_drop_24 : decode cX4_drop 24 = .ok (.iconst (-1), 1) := by decide +kernel
theorem dX4_drop_25 : decode cX4_drop 25 = .ok (.invokevirtual 30, 3) := by decide +kernel
theorem dX4_drop_28 : decode cX4_drop 28 = .ok (.iconst 1, 1) := by decide +kernel
theorem dX4_drop_29 : decode cX4_drop 29 = .ok (.ireturn, 1) := by decide +kernel
abbrev cX4_solve : ByteArray := prog_6_method_6_code
def yX4_solve : MethodName := ⟨RX4, "solve", "(II)Z"⟩
theorem dX4_solve_0 : decode cX4_solve 0 = .ok (.iconst 1, 1) := by decide +kernel
theorem dX4_solve_1 : decode cX4_solve 1 = .ok (.aload_n 0, 1) := by decide +kernel
theorem dX4_solve_2 : decode cX4_solve 2 = .ok (.getfield 16, 3) := by decide +kernel
theorem dX4_solve_5 : decode cX4_solve 5 = .ok (.ishl, 1) := by decide +kernel
theorem dX4_solve_6 : decode cX4_solve 6 = .ok (.iconst 1, 1) := by decide +kernel
theorem dX4_solve_7 : decode cX4_solve 7 = .ok (.isub, 1) := by decide +kernel
theorem dX4_solve_8 : decode cX4_solve 8 = .ok (.istore_n 3, 1) := by decide +kernel
theorem dX4_solve_9 : decode cX4_solve 9 = .ok (.aload_n 0, 1) := by decide +kernel
theorem dX4_solve_10 : decode cX4_solve 10 = .ok (.iconst (-1), 1) := by decide +kernel
theorem dX4_solve_11 : decode cX4_solve 11 = .ok (.putfield 20, 3) := by decide +kernel
theorem dX4_solve_14 : decode cX4_solve 14 = .ok (.iload_n 3, 1) := by decide +kernel
theorem dX4_solve_15 : decode cX4_solve 15 = .ok (.istore 4, 2) := by decide +kernel
theorem dX4_solve_17 : decode cX4_solve 17 = .ok (.iload 4, 2) := by decide +kernel
theorem dX4_solve_19 : decode cX4_solve 19 = .ok (.ifCond .lt 36, 3) := by decide +kernel
theorem dX4_solve_22 : decode cX4_solve 22 = .ok (.aload_n 0, 1) := by decide +kernel
theorem dX4_solve_23 : decode cX4_solve 23 = .ok (.getfield 23, 3) := by decide +kernel
theorem dX4_solve_26 : decode cX4_solve 26 = .ok (.iload 4, 2) := by decide +kernel
theorem dX4_solve_28 : decode cX4_solve 28 = .ok (.iaload, 1) := by decide +kernel
theorem dX4_solve_29 : decode cX4_solve 29 = .ok (.ifCond .ne 20, 3) := by decide +kernel
theorem dX4_solve_32 : decode cX4_solve 32 = .ok (.iload 4, 2) := by decide +kernel
theorem dX4_solve_34 : decode cX4_solve 34 = .ok (.iload_n 2, 1) := by decide +kernel
theorem dX4_solve_35 : decode cX4_solve 35 = .ok (.ixor, 1) := by decide +kernel
theorem dX4_solve_36 : decode cX4_solve 36 = .ok (.iload_n 1, 1) := by decide +kernel
theorem dX4_solve_37 : decode cX4_solve 37 = .ok (.iand, 1) := by decide +kernel
theorem dX4_solve_38 : decode cX4_solve 38 = .ok (.iload_n 3, 1) := by decide +kernel
theorem dX4_solve_39 : decode cX4_solve 39 = .ok (.iand, 1) := by decide +kernel
theorem dX4_solve_40 : decode cX4_solve 40 = .ok (.ifCond .ne 9, 3) := by decide +kernel
theorem dX4_solve_43 : decode cX4_solve 43 = .ok (.aload_n 0, 1) := by decide +kernel
theorem dX4_solve_44 : decode cX4_solve 44 = .ok (.iload 4, 2) := by decide +kernel
theorem dX4_solve_46 : decode cX4_solve 46 = .ok (.putfield 20, 3) := by decide +kernel
theorem dX4_solve_49 : decode cX4_solve 49 = .ok (.iinc 4 (-1), 3) := by decide +kernel
theorem dX4_solve_52 : decode cX4_solve 52 = .ok (.goto (-35), 3) := by decide +kernel
theorem dX4_solve_55 : decode cX4_solve 55 = .ok (.aload_n 0, 1) := by decide +kernel
theorem dX4_solve_56 : decode cX4_solve 56 = .ok (.getfield 20, 3) := by decide +kernel
theorem dX4_solve_59 : decode cX4_solve 59 = .ok (.ifCond .lt 7, 3) := by decide +kernel
theorem dX4_solve_62 : decode cX4_solve 62 = .ok (.iconst 1, 1) := by decide +kernel
theorem dX4_solve_63 : decode cX4_solve 63 = .ok (.goto 4, 3) := by decide +kernel
theorem dX4_solve_66 : decode cX4_solve 66 = .ok (.iconst 0, 1) := by decide +kernel
theorem dX4_solve_67 : decode cX4_solve 67 = .ok (.ireturn, 1) := by decide +kernel
abbrev cX4_found : ByteArray := prog_6_method_7_code
def yX4_found : MethodName := ⟨RX4, "found", "()I"⟩
theorem dX4_found_0 : decode cX4_found 0 = .ok (.aload_n 0, 1) := by decide +kernel
theorem dX4_found_1 : decode cX4_found 1 = .ok (.getfield 20, 3) := by decide +kernel
theorem dX4_found_4 : decode cX4_found 4 = .ok (.ireturn, 1) := by decide +kernel
abbrev cX4_count_2 : ByteArray := prog_6_method_8_code
def yX4_count_2 : MethodName := ⟨RX4, "count", "()I"⟩
theorem dX4_count_2_0 : decode cX4_count_2 0 = .ok (.iconst 0, 1) := by decide +kernel
theorem dX4_count_2_1 : decode cX4_count_2 1 = .ok (.istore_n 1, 1) := by decide +kernel
theorem dX4_count_2_2 : decode cX4_count_2 2 = .ok (.iconst 0, 1) := by decide +kernel
theorem dX4_count_2_3 : decode cX4_count_2 3 = .ok (.istore_n 2, 1) := by decide +kernel
theorem dX4_count_2_4 : decode cX4_count_2 4 = .ok (.iload_n 2, 1) := by decide +kernel
theorem dX4_count_2_5 : decode cX4_count_2 5 = .ok (.iconst 1, 1) := by decide +kernel
theorem dX4_count_2_6 : decode cX4_count_2 6 = .ok (.aload_n 0, 1) := by decide +kernel
theorem dX4_count_2_7 : decode cX4_count_2 7 = .ok (.getfield 16, 3) := by decide +kernel
theorem dX4_count_2_10 : decode cX4_count_2 10 = .ok (.ishl, 1) := by decide +kernel
theorem dX4_count_2_11 : decode cX4_count_2 11 = .ok (.if_icmp .ge 22, 3) := by decide +kernel
theorem dX4_count_2_14 : decode cX4_count_2 14 = .ok (.aload_n 0, 1) := by decide +kernel
theorem dX4_count_2_15 : decode cX4_count_2 15 = .ok (.getfield 23, 3) := by decide +kernel
theorem dX4_count_2_18 : decode cX4_count_2 18 = .ok (.iload_n 2, 1) := by decide +kernel
theorem dX4_count_2_19 : decode cX4_count_2 19 = .ok (.iaload, 1) := by decide +kernel
theorem dX4_count_2_20 : decode cX4_count_2 20 = .ok (.ifCond .ne 7, 3) := by decide +kernel
theorem dX4_count_2_23 : decode cX4_count_2 23 = .ok (.iload_n 1, 1) := by decide +kernel
theorem dX4_count_2_24 : decode cX4_count_2 24 = .ok (.iconst 1, 1) := by decide +kernel
theorem dX4_count_2_25 : decode cX4_count_2 25 = .ok (.iadd, 1) := by decide +kernel
theorem dX4_count_2_26 : decode cX4_count_2 26 = .ok (.istore_n 1, 1) := by decide +kernel
theorem dX4_count_2_27 : decode cX4_count_2 27 = .ok (.iinc 2 1, 3) := by decide +kernel
theorem dX4_count_2_30 : decode cX4_count_2 30 = .ok (.goto (-26), 3) := by decide +kernel
theorem dX4_count_2_33 : decode cX4_count_2 33 = .ok (.iload_n 1, 1) := by decide +kernel
theorem dX4_count_2_34 : decode cX4_count_2 34 = .ok (.ireturn, 1) := by decide +kernel
abbrev cX4_forced : ByteArray := prog_6_method_9_code
def yX4_forced : MethodName := ⟨RX4, "forced", "()I"⟩
theorem dX4_forced_0 : decode cX4_forced 0 = .ok (.iconst 1, 1) := by decide +kernel
theorem dX4_forced_1 : decode cX4_forced 1 = .ok (.aload_n 0, 1) := by decide +kernel
theorem dX4_forced_2 : decode cX4_forced 2 = .ok (.getfield 16, 3) := by decide +kernel
theorem dX4_forced_5 : decode cX4_forced 5 = .ok (.ishl, 1) := by decide +kernel
theorem dX4_forced_6 : decode cX4_forced 6 = .ok (.iconst 1, 1) := by decide +kernel
theorem dX4_forced_7 : decode cX4_forced 7 = .ok (.isub, 1) := by decide +kernel
theorem dX4_forced_8 : decode cX4_forced 8 = .ok (.istore_n 1, 1) := by decide +kernel
theorem dX4_forced_9 : decode cX4_forced 9 = .ok (.iload_n 1, 1) := by decide +kernel
theorem dX4_forced_10 : decode cX4_forced 10 = .ok (.istore_n 2, 1) := by decide +kernel
theorem dX4_forced_11 : decode cX4_forced 11 = .ok (.iload_n 1, 1) := by decide +kernel
theorem dX4_forced_12 : decode cX4_forced 12 = .ok (.istore_n 3, 1) := by decide +kernel
theorem dX4_forced_13 : decode cX4_forced 13 = .ok (.iconst 0, 1) := by decide +kernel
theorem dX4_forced_14 : decode cX4_forced 14 = .ok (.istore 4, 2) := by decide +kernel
theorem dX4_forced_16 : decode cX4_forced 16 = .ok (.iload 4, 2) := by decide +kernel
theorem dX4_forced_18 : decode cX4_forced 18 = .ok (.iload_n 1, 1) := by decide +kernel
theorem dX4_forced_19 : decode cX4_forced 19 = .ok (.if_icmp .gt 31, 3) := by decide +kernel
theorem dX4_forced_22 : decode cX4_forced 22 = .ok (.aload_n 0, 1) := by decide +kernel
theorem dX4_forced_23 : decode cX4_forced 23 = .ok (.getfield 23, 3) := by decide +kernel
theorem dX4_forced_26 : decode cX4_forced 26 = .ok (.iload 4, 2) := by decide +kernel
theorem dX4_forced_28 : decode cX4_forced 28 = .ok (.iaload, 1) := by decide +kernel
theorem dX4_forced_29 : decode cX4_forced 29 = .ok (.ifCond .ne 15, 3) := by decide +kernel
theorem dX4_forced_32 : decode cX4_forced 32 = .ok (.iload_n 2, 1) := by decide +kernel
theorem dX4_forced_33 : decode cX4_forced 33 = .ok (.iload 4, 2) := by decide +kernel
theorem dX4_forced_35 : decode cX4_forced 35 = .ok (.iand, 1) := by decide +kernel
theorem dX4_forced_36 : decode cX4_forced 36 = .ok (.istore_n 2, 1) := by decide +kernel
theorem dX4_forced_37 : decode cX4_forced 37 = .ok (.iload_n 3, 1) := by decide +kernel
theorem dX4_forced_38 : decode cX4_forced 38 = .ok (.iload 4, 2) := by decide +kernel
theorem dX4_forced_40 : decode cX4_forced 40 = .ok (.iconst (-1), 1) := by decide +kernel
theorem dX4_forced_41 : decode cX4_forced 41 = .ok (.ixor, 1) := by decide +kernel
theorem dX4_forced_42 : decode cX4_forced 42 = .ok (.iand, 1) := by decide +kernel
theorem dX4_forced_43 : decode cX4_forced 43 = .ok (.istore_n 3, 1) := by decide +kernel
theorem dX4_forced_44 : decode cX4_forced 44 = .ok (.iinc 4 1, 3) := by decide +kernel
theorem dX4_forced_47 : decode cX4_forced 47 = .ok (.goto (-31), 3) := by decide +kernel
theorem dX4_forced_50 : decode cX4_forced 50 = .ok (.iload_n 2, 1) := by decide +kernel
theorem dX4_forced_51 : decode cX4_forced 51 = .ok (.iload_n 3, 1) := by decide +kernel
theorem dX4_forced_52 : decode cX4_forced 52 = .ok (.ior, 1) := by decide +kernel
theorem dX4_forced_53 : decode cX4_forced 53 = .ok (.ireturn, 1) := by decide +kernel
theorem q18 : (Jvm.Cond.initialized "ClauseDeskModel") ∈ lw_all := lw_g (lw_at lw_m1 5 rfl) rfl
theorem q228 : (Jvm.Cond.instantiable "ClauseDeskModel" (6 : Nat)) ∈ lw_all := lw_g (lw_at lw_m1 215 rfl) rfl
theorem q230 : (Jvm.Cond.instanceMethod ({ cls := "ClauseDeskModel", name := "<init>", desc := "()V" } : Jvm.MethodName)) ∈ lw_all := lw_g (lw_at lw_m1 217 rfl) rfl
theorem q231 : (Jvm.Cond.code ({ cls := "ClauseDeskModel", name := "<init>", desc := "()V" } : Jvm.MethodName) prog_6_method_1_code (1 : Nat) (Option.none : Option Jvm.ClassFile.FieldType)) ∈ lw_all := lw_g (lw_at lw_m1 218 rfl) rfl
theorem q232 : (Jvm.Cond.methodLink "ClauseDeskModel" (1 : Nat) ({ cls := "java/lang/Object", name := "<init>", desc := "()V" } : Jvm.MethodName)) ∈ lw_all := lw_g (lw_at lw_m1 219 rfl) rfl
theorem q233 : (Jvm.Cond.fieldLink "ClauseDeskModel" (7 : Nat) "ClauseDeskModel" "yes" "[I") ∈ lw_all := lw_g (lw_at lw_m1 220 rfl) rfl
theorem q234 : (Jvm.Cond.fieldLink "ClauseDeskModel" (13 : Nat) "ClauseDeskModel" "no" "[I") ∈ lw_all := lw_g (lw_at lw_m1 221 rfl) rfl
theorem q235 : (Jvm.Cond.fieldLink "ClauseDeskModel" (27 : Nat) "ClauseDeskModel" "clauses" "I") ∈ lw_all := lw_g (lw_at lw_m1 222 rfl) rfl
theorem q236 : (Jvm.Cond.fieldLink "ClauseDeskModel" (16 : Nat) "ClauseDeskModel" "n" "I") ∈ lw_all := lw_g (lw_at lw_m1 223 rfl) rfl
theorem q237 : (Jvm.Cond.fieldLink "ClauseDeskModel" (20 : Nat) "ClauseDeskModel" "found" "I") ∈ lw_all := lw_g (lw_at lw_m1 224 rfl) rfl
theorem q238 : (Jvm.Cond.fieldLink "ClauseDeskModel" (23 : Nat) "ClauseDeskModel" "broken" "[I") ∈ lw_all := lw_g (lw_at lw_m1 225 rfl) rfl
theorem q239 : (Jvm.Cond.laysFinal "ClauseDeskModel" "ClauseDeskModel" "yes" "[I") ∈ lw_all := lw_g (lw_at lw_m1 226 rfl) rfl
theorem q240 : (Jvm.Cond.soleField "ClauseDeskModel" "yes") ∈ lw_all := lw_g (lw_at lw_m1 227 rfl) rfl
theorem q241 : (Jvm.Cond.laysFinal "ClauseDeskModel" "ClauseDeskModel" "no" "[I") ∈ lw_all := lw_g (lw_at lw_m1 228 rfl) rfl
theorem q242 : (Jvm.Cond.soleField "ClauseDeskModel" "no") ∈ lw_all := lw_g (lw_at lw_m1 229 rfl) rfl
theorem q243 : (Jvm.Cond.lays "ClauseDeskModel" "ClauseDeskModel" "clauses" "I") ∈ lw_all := lw_g (lw_at lw_m1 230 rfl) rfl
theorem q244 : (Jvm.Cond.soleField "ClauseDeskModel" "clauses") ∈ lw_all := lw_g (lw_at lw_m1 231 rfl) rfl
theorem q245 : (Jvm.Cond.lays "ClauseDeskModel" "ClauseDeskModel" "n" "I") ∈ lw_all := lw_g (lw_at lw_m1 232 rfl) rfl
theorem q246 : (Jvm.Cond.soleField "ClauseDeskModel" "n") ∈ lw_all := lw_g (lw_at lw_m1 233 rfl) rfl
theorem q247 : (Jvm.Cond.lays "ClauseDeskModel" "ClauseDeskModel" "found" "I") ∈ lw_all := lw_g (lw_at lw_m1 234 rfl) rfl
theorem q248 : (Jvm.Cond.soleField "ClauseDeskModel" "found") ∈ lw_all := lw_g (lw_at lw_m1 235 rfl) rfl
theorem q249 : (Jvm.Cond.laysFinal "ClauseDeskModel" "ClauseDeskModel" "broken" "[I") ∈ lw_all := lw_g (lw_at lw_m1 236 rfl) rfl
theorem q250 : (Jvm.Cond.soleField "ClauseDeskModel" "broken") ∈ lw_all := lw_g (lw_at lw_m1 237 rfl) rfl
theorem q251 : (Jvm.Cond.superclass "ClauseDeskModel" "java/lang/Object") ∈ lw_all := lw_g (lw_at lw_m1 238 rfl) rfl
theorem q253 : (Jvm.Cond.instanceMethod ({ cls := "ClauseDeskModel", name := "letters", desc := "(I)V" } : Jvm.MethodName)) ∈ lw_all := lw_g (lw_at lw_m2 0 rfl) rfl
theorem q254 : (Jvm.Cond.selects "ClauseDeskModel" ({ cls := "ClauseDeskModel", name := "letters", desc := "(I)V" } : Jvm.MethodName) ({ cls := "ClauseDeskModel", name := "letters", desc := "(I)V" } : Jvm.MethodName)) ∈ lw_all := lw_g (lw_at lw_m2 1 rfl) rfl
theorem q255 : (Jvm.Cond.code ({ cls := "ClauseDeskModel", name := "letters", desc := "(I)V" } : Jvm.MethodName) prog_6_method_2_code (3 : Nat) (Option.none : Option Jvm.ClassFile.FieldType)) ∈ lw_all := lw_g (lw_at lw_m2 2 rfl) rfl
theorem q256 : (Jvm.Cond.constant "ClauseDeskModel" (26 : Nat) (2147483647 : Int32)) ∈ lw_all := lw_g (lw_at lw_m2 3 rfl) rfl
theorem q258 : (Jvm.Cond.instanceMethod ({ cls := "ClauseDeskModel", name := "clause", desc := "(II)Z" } : Jvm.MethodName)) ∈ lw_all := lw_g (lw_at lw_m2 5 rfl) rfl
theorem q259 : (Jvm.Cond.selects "ClauseDeskModel" ({ cls := "ClauseDeskModel", name := "clause", desc := "(II)Z" } : Jvm.MethodName) ({ cls := "ClauseDeskModel", name := "clause", desc := "(II)Z" } : Jvm.MethodName)) ∈ lw_all := lw_g (lw_at lw_m2 6 rfl) rfl
theorem q260 : (Jvm.Cond.code ({ cls := "ClauseDeskModel", name := "clause", desc := "(II)Z" } : Jvm.MethodName) prog_6_method_4_code (4 : Nat) (Option.some Jvm.ClassFile.FieldType.boolean)) ∈ lw_all := lw_g (lw_at lw_m2 7 rfl) rfl
theorem q261 : (Jvm.Cond.methodLink "ClauseDeskModel" (30 : Nat) ({ cls := "ClauseDeskModel", name := "count", desc := "(II)V" } : Jvm.MethodName)) ∈ lw_all := lw_g (lw_at lw_m2 8 rfl) rfl
theorem q262 : (Jvm.Cond.privateMethod ({ cls := "ClauseDeskModel", name := "count", desc := "(II)V" } : Jvm.MethodName)) ∈ lw_tbl := lw_at lw_m2 9 rfl
theorem q263 : (Jvm.Cond.instanceMethod ({ cls := "ClauseDeskModel", name := "count", desc := "(II)V" } : Jvm.MethodName)) ∈ lw_all := lw_g (lw_at lw_m2 10 rfl) rfl
theorem q264 : (Jvm.Cond.code ({ cls := "ClauseDeskModel", name := "count", desc := "(II)V" } : Jvm.MethodName) prog_6_method_3_code (4 : Nat) (Option.none : Option Jvm.ClassFile.FieldType)) ∈ lw_all := lw_g (lw_at lw_m2 11 rfl) rfl
theorem q266 : (Jvm.Cond.instanceMethod ({ cls := "ClauseDeskModel", name := "drop", desc := "()Z" } : Jvm.MethodName)) ∈ lw_all := lw_g (lw_at lw_m2 13 rfl) rfl
theorem q267 : (Jvm.Cond.selects "ClauseDeskModel" ({ cls := "ClauseDeskModel", name := "drop", desc := "()Z" } : Jvm.MethodName) ({ cls := "ClauseDeskModel", name := "drop", desc := "()Z" } : Jvm.MethodName)) ∈ lw_all := lw_g (lw_at lw_m2 14 rfl) rfl
theorem q268 : (Jvm.Cond.code ({ cls := "ClauseDeskModel", name := "drop", desc := "()Z" } : Jvm.MethodName) prog_6_method_5_code (1 : Nat) (Option.some Jvm.ClassFile.FieldType.boolean)) ∈ lw_all := lw_g (lw_at lw_m2 15 rfl) rfl
theorem q270 : (Jvm.Cond.instanceMethod ({ cls := "ClauseDeskModel", name := "solve", desc := "(II)Z" } : Jvm.MethodName)) ∈ lw_all := lw_g (lw_at lw_m2 17 rfl) rfl
theorem q271 : (Jvm.Cond.selects "ClauseDeskModel" ({ cls := "ClauseDeskModel", name := "solve", desc := "(II)Z" } : Jvm.MethodName) ({ cls := "ClauseDeskModel", name := "solve", desc := "(II)Z" } : Jvm.MethodName)) ∈ lw_all := lw_g (lw_at lw_m2 18 rfl) rfl
theorem q272 : (Jvm.Cond.code ({ cls := "ClauseDeskModel", name := "solve", desc := "(II)Z" } : Jvm.MethodName) prog_6_method_6_code (5 : Nat) (Option.some Jvm.ClassFile.FieldType.boolean)) ∈ lw_all := lw_g (lw_at lw_m2 19 rfl) rfl
theorem q274 : (Jvm.Cond.instanceMethod ({ cls := "ClauseDeskModel", name := "found", desc := "()I" } : Jvm.MethodName)) ∈ lw_all := lw_g (lw_at lw_m2 21 rfl) rfl
theorem q275 : (Jvm.Cond.selects "ClauseDeskModel" ({ cls := "ClauseDeskModel", name := "found", desc := "()I" } : Jvm.MethodName) ({ cls := "ClauseDeskModel", name := "found", desc := "()I" } : Jvm.MethodName)) ∈ lw_all := lw_g (lw_at lw_m2 22 rfl) rfl
theorem q276 : (Jvm.Cond.code ({ cls := "ClauseDeskModel", name := "found", desc := "()I" } : Jvm.MethodName) prog_6_method_7_code (1 : Nat) (Option.some Jvm.ClassFile.FieldType.int)) ∈ lw_all := lw_g (lw_at lw_m2 23 rfl) rfl
theorem q278 : (Jvm.Cond.instanceMethod ({ cls := "ClauseDeskModel", name := "count", desc := "()I" } : Jvm.MethodName)) ∈ lw_all := lw_g (lw_at lw_m2 25 rfl) rfl
theorem q279 : (Jvm.Cond.selects "ClauseDeskModel" ({ cls := "ClauseDeskModel", name := "count", desc := "()I" } : Jvm.MethodName) ({ cls := "ClauseDeskModel", name := "count", desc := "()I" } : Jvm.MethodName)) ∈ lw_all := lw_g (lw_at lw_m2 26 rfl) rfl
theorem q280 : (Jvm.Cond.code ({ cls := "ClauseDeskModel", name := "count", desc := "()I" } : Jvm.MethodName) prog_6_method_8_code (3 : Nat) (Option.some Jvm.ClassFile.FieldType.int)) ∈ lw_all := lw_g (lw_at lw_m2 27 rfl) rfl
theorem q282 : (Jvm.Cond.instanceMethod ({ cls := "ClauseDeskModel", name := "forced", desc := "()I" } : Jvm.MethodName)) ∈ lw_all := lw_g (lw_at lw_m2 29 rfl) rfl
theorem q283 : (Jvm.Cond.selects "ClauseDeskModel" ({ cls := "ClauseDeskModel", name := "forced", desc := "()I" } : Jvm.MethodName) ({ cls := "ClauseDeskModel", name := "forced", desc := "()I" } : Jvm.MethodName)) ∈ lw_all := lw_g (lw_at lw_m2 30 rfl) rfl
theorem q284 : (Jvm.Cond.code ({ cls := "ClauseDeskModel", name := "forced", desc := "()I" } : Jvm.MethodName) prog_6_method_9_code (5 : Nat) (Option.some Jvm.ClassFile.FieldType.int)) ∈ lw_all := lw_g (lw_at lw_m2 31 rfl) rfl
theorem in_X4 : ∀ w ∈ wsX40, w ∈ lw_all := lw_in wsX40 [239, 241, 243, 245, 247, 249] (by decide +kernel) (by decide +kernel)
/-! ClauseDesk -/
set_option maxRecDepth 100000
def RX0 : String := "ClauseDesk"
def TX0 : u_T := fun k => match k with
  | 0 => ("ClauseDesk", "clauses", "LClauseDesk$Clauses;", true)
  | 1 => ("ClauseDesk", "search", "LClauseDesk$Search;", true)
  | 2 => ("ClauseDesk", "counter", "LClauseDesk$Counter;", true)
  | 3 => ("ClauseDesk", "n", "I", false)
  | _ => ("ClauseDesk", "found", "I", false)
def tyX0 : Nat → FieldType := fun k => match k with
  | 0 => .object "ClauseDesk$Clauses"
  | 1 => .object "ClauseDesk$Search"
  | 2 => .object "ClauseDesk$Counter"
  | 3 => .int
  | _ => .int
abbrev wsX00 : List Cond := u_ws RX0 TX0 5
theorem nmX0 : ∀ a, a < 5 → ∀ b, b < 5 → a ≠ b → (TX0 a).2.1 ≠ (TX0 b).2.1 := by decide +kernel
theorem tyX0_ok : ∀ k, k < 5 → parseFieldDescriptor (TX0 k).2.2.1 = some (tyX0 k) := by decide +kernel
abbrev cX0_init : ByteArray := prog_1_method_1_code
def yX0_init : MethodName := ⟨RX0, "<init>", "()V"⟩
theorem dX0_init_0 : decode cX0_init 0 = .ok (.aload_n 0, 1) := by decide +kernel
theorem dX0_init_1 : decode cX0_init 1 = .ok (.invokespecial 1, 3) := by decide +kernel
theorem dX0_init_4 : decode cX0_init 4 = .ok (.aload_n 0, 1) := by decide +kernel
theorem dX0_init_5 : decode cX0_init 5 = .ok (.new 7, 3) := by decide +kernel
theorem dX0_init_8 : decode cX0_init 8 = .ok (.dup, 1) := by decide +kernel
theorem dX0_init_9 : decode cX0_init 9 = .ok (.sipush 256, 3) := by decide +kernel
theorem dX0_init_12 : decode cX0_init 12 = .ok (.invokespecial 9, 3) := by decide +kernel
theorem dX0_init_15 : decode cX0_init 15 = .ok (.putfield 12, 3) := by decide +kernel
theorem dX0_init_18 : decode cX0_init 18 = .ok (.aload_n 0, 1) := by decide +kernel
theorem dX0_init_19 : decode cX0_init 19 = .ok (.new 18, 3) := by decide +kernel
theorem dX0_init_22 : decode cX0_init 22 = .ok (.dup, 1) := by decide +kernel
theorem dX0_init_23 : decode cX0_init 23 = .ok (.aload_n 0, 1) := by decide +kernel
theorem dX0_init_24 : decode cX0_init 24 = .ok (.getfield 12, 3) := by decide +kernel
theorem dX0_init_27 : decode cX0_init 27 = .ok (.invokespecial 20, 3) := by decide +kernel
theorem dX0_init_30 : decode cX0_init 30 = .ok (.putfield 23, 3) := by decide +kernel
theorem dX0_init_33 : decode cX0_init 33 = .ok (.aload_n 0, 1) := by decide +kernel
theorem dX0_init_34 : decode cX0_init 34 = .ok (.new 27, 3) := by decide +kernel
theorem dX0_init_37 : decode cX0_init 37 = .ok (.dup, 1) := by decide +kernel
theorem dX0_init_38 : decode cX0_init 38 = .ok (.aload_n 0, 1) := by decide +kernel
theorem dX0_init_39 : decode cX0_init 39 = .ok (.getfield 12, 3) := by decide +kernel
theorem dX0_init_42 : decode cX0_init 42 = .ok (.invokespecial 29, 3) := by decide +kernel
theorem dX0_init_45 : decode cX0_init 45 = .ok (.putfield 30, 3) := by decide +kernel
theorem dX0_init_48 : decode cX0_init 48 = .ok (.aload_n 0, 1) := by decide +kernel
theorem dX0_init_49 : decode cX0_init 49 = .ok (.iconst 4, 1) := by decide +kernel
theorem dX0_init_50 : decode cX0_init 50 = .ok (.putfield 34, 3) := by decide +kernel
theorem dX0_init_53 : decode cX0_init 53 = .ok (.aload_n 0, 1) := by decide +kernel
theorem dX0_init_54 : decode cX0_init 54 = .ok (.iconst (-1), 1) := by decide +kernel
theorem dX0_init_55 : decode cX0_init 55 = .ok (.putfield 38, 3) := by decide +kernel
theorem dX0_init_58 : decode cX0_init 58 = .ok (.return_, 1) := by decide +kernel
abbrev cX0_letters : ByteArray := prog_1_method_3_code
def yX0_letters : MethodName := ⟨RX0, "letters", "(I)V"⟩
theorem dX0_letters_0 : decode cX0_letters 0 = .ok (.aload_n 0, 1) := by decide +kernel
theorem dX0_letters_1 : decode cX0_letters 1 = .ok (.iconst 1, 1) := by decide +kernel
theorem dX0_letters_2 : decode cX0_letters 2 = .ok (.iload_n 1, 1) := by decide +kernel
theorem dX0_letters_3 : decode cX0_letters 3 = .ok (.ldc 41, 2) := by decide +kernel
theorem dX0_letters_5 : decode cX0_letters 5 = .ok (.iand, 1) := by decide +kernel
theorem dX0_letters_6 : decode cX0_letters 6 = .ok (.bipush 12, 2) := by decide +kernel
theorem dX0_letters_8 : decode cX0_letters 8 = .ok (.irem, 1) := by decide +kernel
theorem dX0_letters_9 : decode cX0_letters 9 = .ok (.iadd, 1) := by decide +kernel
theorem dX0_letters_10 : decode cX0_letters 10 = .ok (.putfield 34, 3) := by decide +kernel
theorem dX0_letters_13 : decode cX0_letters 13 = .ok (.aload_n 0, 1) := by decide +kernel
theorem dX0_letters_14 : decode cX0_letters 14 = .ok (.getfield 12, 3) := by decide +kernel
theorem dX0_letters_17 : decode cX0_letters 17 = .ok (.iconst 0, 1) := by decide +kernel
theorem dX0_letters_18 : decode cX0_letters 18 = .ok (.putfield 42, 3) := by decide +kernel
theorem dX0_letters_21 : decode cX0_letters 21 = .ok (.aload_n 0, 1) := by decide +kernel
theorem dX0_letters_22 : decode cX0_letters 22 = .ok (.getfield 23, 3) := by decide +kernel
theorem dX0_letters_25 : decode cX0_letters 25 = .ok (.invokevirtual 43, 3) := by decide +kernel
theorem dX0_letters_28 : decode cX0_letters 28 = .ok (.aload_n 0, 1) := by decide +kernel
theorem dX0_letters_29 : decode cX0_letters 29 = .ok (.iconst (-1), 1) := by decide +kernel
theorem dX0_letters_30 : decode cX0_letters 30 = .ok (.putfield 38, 3) := by decide +kernel
theorem dX0_letters_33 : decode cX0_letters 33 = .ok (.return_, 1) := by decide +kernel
abbrev cX0_clause : ByteArray := prog_1_method_4_code
def yX0_clause : MethodName := ⟨RX0, "clause", "(II)Z"⟩
theorem dX0_clause_0 : decode cX0_clause 0 = .ok (.aload_n 0, 1) := by decide +kernel
theorem dX0_clause_1 : decode cX0_clause 1 = .ok (.getfield 12, 3) := by decide +kernel
theorem dX0_clause_4 : decode cX0_clause 4 = .ok (.getfield 42, 3) := by decide +kernel
theorem dX0_clause_7 : decode cX0_clause 7 = .ok (.sipush 256, 3) := by decide +kernel
theorem dX0_clause_10 : decode cX0_clause 10 = .ok (.if_icmp .ne 5, 3) := by decide +kernel
theorem dX0_clause_13 : decode cX0_clause 13 = .ok (.iconst 0, 1) := by decide +kernel
theorem dX0_clause_14 : decode cX0_clause 14 = .ok (.ireturn, 1) := by decide +kernel
theorem dX0_clause_15 : decode cX0_clause 15 = .ok (.aload_n 0, 1) := by decide +kernel
theorem dX0_clause_16 : decode cX0_clause 16 = .ok (.getfield 12, 3) := by decide +kernel
theorem dX0_clause_19 : decode cX0_clause 19 = .ok (.iload_n 1, 1) := by decide +kernel
theorem dX0_clause_20 : decode cX0_clause 20 = .ok (.aload_n 0, 1) := by decide +kernel
theorem dX0_clause_21 : decode cX0_clause 21 = .ok (.invokevirtual 46, 3) := by decide +kernel
theorem dX0_clause_24 : decode cX0_clause 24 = .ok (.iand, 1) := by decide +kernel
theorem dX0_clause_25 : decode cX0_clause 25 = .ok (.iload_n 2, 1) := by decide +kernel
theorem dX0_clause_26 : decode cX0_clause 26 = .ok (.aload_n 0, 1) := by decide +kernel
theorem dX0_clause_27 : decode cX0_clause 27 = .ok (.invokevirtual 46, 3) := by decide +kernel
theorem dX0_clause_30 : decode cX0_clause 30 = .ok (.iand, 1) := by decide +kernel
theorem dX0_clause_31 : decode cX0_clause 31 = .ok (.invokevirtual 50, 3) := by decide +kernel
theorem dX0_clause_34 : decode cX0_clause 34 = .ok (.iconst 1, 1) := by decide +kernel
theorem dX0_clause_35 : decode cX0_clause 35 = .ok (.ireturn, 1) := by decide +kernel
abbrev cX0_all : ByteArray := prog_1_method_2_code
def yX0_all : MethodName := ⟨RX0, "all", "()I"⟩
theorem dX0_all_0 : decode cX0_all 0 = .ok (.iconst 1, 1) := by decide +kernel
theorem dX0_all_1 : decode cX0_all 1 = .ok (.aload_n 0, 1) := by decide +kernel
theorem dX0_all_2 : decode cX0_all 2 = .ok (.getfield 34, 3) := by decide +kernel
theorem dX0_all_5 : decode cX0_all 5 = .ok (.ishl, 1) := by decide +kernel
theorem dX0_all_6 : decode cX0_all 6 = .ok (.iconst 1, 1) := by decide +kernel
theorem dX0_all_7 : decode cX0_all 7 = .ok (.isub, 1) := by decide +kernel
theorem dX0_all_8 : decode cX0_all 8 = .ok (.ireturn, 1) := by decide +kernel
abbrev cX0_drop : ByteArray := prog_1_method_5_code
def yX0_drop : MethodName := ⟨RX0, "drop", "()Z"⟩
theorem dX0_drop_0 : decode cX0_drop 0 = .ok (.aload_n 0, 1) := by decide +kernel
theorem dX0_drop_1 : decode cX0_drop 1 = .ok (.getfield 12, 3) := by decide +kernel
theorem dX0_drop_4 : decode cX0_drop 4 = .ok (.getfield 42, 3) := by decide +kernel
theorem dX0_drop_7 : decode cX0_drop 7 = .ok (.ifCond .ne 5, 3) := by decide +kernel
theorem dX0_drop_10 : decode cX0_drop 10 = .ok (.iconst 0, 1) := by decide +kernel
theorem dX0_drop_11 : decode cX0_drop 11 = .ok (.ireturn, 1) := by decide +kernel
theorem dX0_drop_12 : decode cX0_drop 12 = .ok (.aload_n 0, 1) := by decide +kernel
theorem dX0_drop_13 : decode cX0_drop 13 = .ok (.getfield 12, 3) := by decide +kernel
theorem dX0_drop_16 : decode cX0_drop 16 = .ok (.dup, 1) := by decide +kernel
theorem dX0_drop_17 : decode cX0_drop 17 = .ok (.getfield 42, 3) := by decide +kernel
theorem dX0_drop_20 : decode cX0_drop 20 = .ok (.iconst 1, 1) := by decide +kernel
theorem dX0_drop_21 : decode cX0_drop 21 = .ok (.isub, 1) := by decide +kernel
theorem dX0_drop_22 : decode cX0_drop 22 = .ok (.putfield 42, 3) := by decide +kernel
theorem dX0_drop_25 : decode cX0_drop 25 = .ok (.aload_n 0, 1) := by decide +kernel
theorem dX0_drop_26 : decode cX0_drop 26 = .ok (.getfield 23, 3) := by decide +kernel
theorem dX0_drop_29 : decode cX0_drop 29 = .ok (.invokevirtual 43, 3) := by decide +kernel
theorem dX0_drop_32 : decode cX0_drop 32 = .ok (.iconst 1, 1) := by decide +kernel
theorem dX0_drop_33 : decode cX0_drop 33 = .ok (.ireturn, 1) := by decide +kernel
abbrev cX0_solve : ByteArray := prog_1_method_6_code
def yX0_solve : MethodName := ⟨RX0, "solve", "(II)Z"⟩
theorem dX0_solve_0 : decode cX0_solve 0 = .ok (.aload_n 0, 1) := by decide +kernel
theorem dX0_solve_1 : decode cX0_solve 1 = .ok (.getfield 23, 3) := by decide +kernel
theorem dX0_solve_4 : decode cX0_solve 4 = .ok (.aload_n 0, 1) := by decide +kernel
theorem dX0_solve_5 : decode cX0_solve 5 = .ok (.getfield 34, 3) := by decide +kernel
theorem dX0_solve_8 : decode cX0_solve 8 = .ok (.iload_n 1, 1) := by decide +kernel
theorem dX0_solve_9 : decode cX0_solve 9 = .ok (.aload_n 0, 1) := by decide +kernel
theorem dX0_solve_10 : decode cX0_solve 10 = .ok (.invokevirtual 46, 3) := by decide +kernel
theorem dX0_solve_13 : decode cX0_solve 13 = .ok (.iand, 1) := by decide +kernel
theorem dX0_solve_14 : decode cX0_solve 14 = .ok (.iload_n 2, 1) := by decide +kernel
theorem dX0_solve_15 : decode cX0_solve 15 = .ok (.invokevirtual 54, 3) := by decide +kernel
theorem dX0_solve_18 : decode cX0_solve 18 = .ok (.istore_n 3, 1) := by decide +kernel
theorem dX0_solve_19 : decode cX0_solve 19 = .ok (.aload_n 0, 1) := by decide +kernel
theorem dX0_solve_20 : decode cX0_solve 20 = .ok (.iload_n 3, 1) := by decide +kernel
theorem dX0_solve_21 : decode cX0_solve 21 = .ok (.ifCond .eq 18, 3) := by decide +kernel
theorem dX0_solve_24 : decode cX0_solve 24 = .ok (.aload_n 0, 1) := by decide +kernel
theorem dX0_solve_25 : decode cX0_solve 25 = .ok (.getfield 23, 3) := by decide +kernel
theorem dX0_solve_28 : decode cX0_solve 28 = .ok (.getfield 58, 3) := by decide +kernel
theorem dX0_solve_31 : decode cX0_solve 31 = .ok (.aload_n 0, 1) := by decide +kernel
theorem dX0_solve_32 : decode cX0_solve 32 = .ok (.invokevirtual 46, 3) := by decide +kernel
theorem dX0_solve_35 : decode cX0_solve 35 = .ok (.iand, 1) := by decide +kernel
theorem dX0_solve_36 : decode cX0_solve 36 = .ok (.goto 4, 3) := by decide +kernel
theorem dX0_solve_39 : decode cX0_solve 39 = .ok (.iconst (-1), 1) := by decide +kernel
theorem dX0_solve_40 : decode cX0_solve 40 = .ok (.putfield 38, 3) := by decide +kernel
theorem dX0_solve_43 : decode cX0_solve 43 = .ok (.iload_n 3, 1) := by decide +kernel
theorem dX0_solve_44 : decode cX0_solve 44 = .ok (.ireturn, 1) := by decide +kernel
abbrev cX0_found : ByteArray := prog_1_method_7_code
def yX0_found : MethodName := ⟨RX0, "found", "()I"⟩
theorem dX0_found_0 : decode cX0_found 0 = .ok (.aload_n 0, 1) := by decide +kernel
theorem dX0_found_1 : decode cX0_found 1 = .ok (.getfield 38, 3) := by decide +kernel
theorem dX0_found_4 : decode cX0_found 4 = .ok (.ireturn, 1) := by decide +kernel
abbrev cX0_count : ByteArray := prog_1_method_8_code
def yX0_count : MethodName := ⟨RX0, "count", "()I"⟩
theorem dX0_count_0 : decode cX0_count 0 = .ok (.aload_n 0, 1) := by decide +kernel
theorem dX0_count_1 : decode cX0_count 1 = .ok (.getfield 30, 3) := by decide +kernel
theorem dX0_count_4 : decode cX0_count 4 = .ok (.aload_n 0, 1) := by decide +kernel
theorem dX0_count_5 : decode cX0_count 5 = .ok (.invokevirtual 46, 3) := by decide +kernel
theorem dX0_count_8 : decode cX0_count 8 = .ok (.iconst 0, 1) := by decide +kernel
theorem dX0_count_9 : decode cX0_count 9 = .ok (.iconst 0, 1) := by decide +kernel
theorem dX0_count_10 : decode cX0_count 10 = .ok (.invokevirtual 61, 3) := by decide +kernel
theorem dX0_count_13 : decode cX0_count 13 = .ok (.ireturn, 1) := by decide +kernel
abbrev cX0_forced : ByteArray := prog_1_method_9_code
def yX0_forced : MethodName := ⟨RX0, "forced", "()I"⟩
theorem dX0_forced_0 : decode cX0_forced 0 = .ok (.aload_n 0, 1) := by decide +kernel
theorem dX0_forced_1 : decode cX0_forced 1 = .ok (.getfield 23, 3) := by decide +kernel
theorem dX0_forced_4 : decode cX0_forced 4 = .ok (.aload_n 0, 1) := by decide +kernel
theorem dX0_forced_5 : decode cX0_forced 5 = .ok (.getfield 34, 3) := by decide +kernel
theorem dX0_forced_8 : decode cX0_forced 8 = .ok (.iconst 0, 1) := by decide +kernel
theorem dX0_forced_9 : decode cX0_forced 9 = .ok (.iconst 0, 1) := by decide +kernel
theorem dX0_forced_10 : decode cX0_forced 10 = .ok (.invokevirtual 54, 3) := by decide +kernel
theorem dX0_forced_13 : decode cX0_forced 13 = .ok (.ifCond .ne 8, 3) := by decide +kernel
theorem dX0_forced_16 : decode cX0_forced 16 = .ok (.aload_n 0, 1) := by decide +kernel
theorem dX0_forced_17 : decode cX0_forced 17 = .ok (.invokevirtual 46, 3) := by decide +kernel
theorem dX0_forced_20 : decode cX0_forced 20 = .ok (.ireturn, 1) := by decide +kernel
theorem dX0_forced_21 : decode cX0_forced 21 = .ok (.aload_n 0, 1) := by decide +kernel
theorem dX0_forced_22 : decode cX0_forced 22 = .ok (.getfield 23, 3) := by decide +kernel
theorem dX0_forced_25 : decode cX0_forced 25 = .ok (.getfield 58, 3) := by decide +kernel
theorem dX0_forced_28 : decode cX0_forced 28 = .ok (.istore_n 1, 1) := by decide +kernel
theorem dX0_forced_29 : decode cX0_forced 29 = .ok (.aload_n 0, 1) := by decide +kernel
theorem dX0_forced_30 : decode cX0_forced 30 = .ok (.invokevirtual 46, 3) := by decide +kernel
theorem dX0_forced_33 : decode cX0_forced 33 = .ok (.istore_n 2, 1) := by decide +kernel
theorem dX0_forced_34 : decode cX0_forced 34 = .ok (.iconst 0, 1) := by decide +kernel
theorem dX0_forced_35 : decode cX0_forced 35 = .ok (.istore_n 3, 1) := by decide +kernel
theorem dX0_forced_36 : decode cX0_forced 36 = .ok (.iload_n 3, 1) := by decide +kernel
theorem dX0_forced_37 : decode cX0_forced 37 = .ok (.aload_n 0, 1) := by decide +kernel
theorem dX0_forced_38 : decode cX0_forced 38 = .ok (.getfield 34, 3) := by decide +kernel
theorem dX0_forced_41 : decode cX0_forced 41 = .ok (.if_icmp .ge 54, 3) := by decide +kernel
theorem dX0_forced_44 : decode cX0_forced 44 = .ok (.iload_n 2, 1) := by decide +kernel
theorem dX0_forced_45 : decode cX0_forced 45 = .ok (.iload_n 3, 1) := by decide +kernel
theorem dX0_forced_46 : decode cX0_forced 46 = .ok (.ishr, 1) := by decide +kernel
theorem dX0_forced_47 : decode cX0_forced 47 = .ok (.iconst 1, 1) := by decide +kernel
theorem dX0_forced_48 : decode cX0_forced 48 = .ok (.iand, 1) := by decide +kernel
theorem dX0_forced_49 : decode cX0_forced 49 = .ok (.ifCond .eq 40, 3) := by decide +kernel
theorem dX0_forced_52 : decode cX0_forced 52 = .ok (.aload_n 0, 1) := by decide +kernel
theorem dX0_forced_53 : decode cX0_forced 53 = .ok (.getfield 23, 3) := by decide +kernel
theorem dX0_forced_56 : decode cX0_forced 56 = .ok (.aload_n 0, 1) := by decide +kernel
theorem dX0_forced_57 : decode cX0_forced 57 = .ok (.getfield 34, 3) := by decide +kernel
theorem dX0_forced_60 : decode cX0_forced 60 = .ok (.iconst 1, 1) := by decide +kernel
theorem dX0_forced_61 : decode cX0_forced 61 = .ok (.iload_n 3, 1) := by decide +kernel
theorem dX0_forced_62 : decode cX0_forced 62 = .ok (.ishl, 1) := by decide +kernel
theorem dX0_forced_63 : decode cX0_forced 63 = .ok (.iload_n 1, 1) := by decide +kernel
theorem dX0_forced_64 : decode cX0_forced 64 = .ok (.iconst (-1), 1) := by decide +kernel
theorem dX0_forced_65 : decode cX0_forced 65 = .ok (.ixor, 1) := by decide +kernel
theorem dX0_forced_66 : decode cX0_forced 66 = .ok (.invokevirtual 54, 3) := by decide +kernel
theorem dX0_forced_69 : decode cX0_forced 69 = .ok (.ifCond .ne 6, 3) := by decide +kernel
theorem dX0_forced_72 : decode cX0_forced 72 = .ok (.goto 17, 3) := by decide +kernel
theorem dX0_forced_75 : decode cX0_forced 75 = .ok (.iload_n 2, 1) := by decide +kernel
theorem dX0_forced_76 : decode cX0_forced 76 = .ok (.aload_n 0, 1) := by decide +kernel
theorem dX0_forced_77 : decode cX0_forced 77 = .ok (.getfield 23, 3) := by decide +kernel
theorem dX0_forced_80 : decode cX0_forced 80 = .ok (.getfield 58, 3) := by decide +kernel
theorem dX0_forced_83 : decode cX0_forced 83 = .ok (.iload_n 1, 1) := by decide +kernel
theorem dX0_forced_84 : decode cX0_forced 84 = .ok (.ixor, 1) := by decide +kernel
theorem dX0_forced_85 : decode cX0_forced 85 = .ok (.iconst (-1), 1) := by decide +kernel
theorem dX0_forced_86 : decode cX0_forced 86 = .ok (.ixor, 1) := by decide +kernel
theorem dX0_forced_87 : decode cX0_forced 87 = .ok (.iand, 1) := by decide +kernel
theorem dX0_forced_88 : decode cX0_forced 88 = .ok (.istore_n 2, 1) := by decide +kernel
theorem dX0_forced_89 : decode cX0_forced 89 = .ok (.iinc 3 1, 3) := by decide +kernel
theorem dX0_forced_92 : decode cX0_forced 92 = .ok (.goto (-56), 3) := by decide +kernel
theorem dX0_forced_95 : decode cX0_forced 95 = .ok (.iload_n 2, 1) := by decide +kernel
theorem dX0_forced_96 : decode cX0_forced 96 = .ok (.ireturn, 1) := by decide +kernel
theorem q14 : (Jvm.Cond.initialized "ClauseDesk") ∈ lw_all := lw_g (lw_at lw_m1 1 rfl) rfl
theorem q22 : (Jvm.Cond.instantiable "ClauseDesk" (5 : Nat)) ∈ lw_all := lw_g (lw_at lw_m1 9 rfl) rfl
theorem q24 : (Jvm.Cond.instanceMethod ({ cls := "ClauseDesk", name := "<init>", desc := "()V" } : Jvm.MethodName)) ∈ lw_all := lw_g (lw_at lw_m1 11 rfl) rfl
theorem q25 : (Jvm.Cond.code ({ cls := "ClauseDesk", name := "<init>", desc := "()V" } : Jvm.MethodName) prog_1_method_1_code (1 : Nat) (Option.none : Option Jvm.ClassFile.FieldType)) ∈ lw_all := lw_g (lw_at lw_m1 12 rfl) rfl
theorem q26 : (Jvm.Cond.methodLink "ClauseDesk" (1 : Nat) ({ cls := "java/lang/Object", name := "<init>", desc := "()V" } : Jvm.MethodName)) ∈ lw_all := lw_g (lw_at lw_m1 13 rfl) rfl
theorem q29 : (Jvm.Cond.classLink "ClauseDesk" (7 : Nat) "ClauseDesk$Clauses") ∈ lw_all := lw_g (lw_at lw_m1 16 rfl) rfl
theorem q31 : (Jvm.Cond.methodLink "ClauseDesk" (9 : Nat) ({ cls := "ClauseDesk$Clauses", name := "<init>", desc := "(I)V" } : Jvm.MethodName)) ∈ lw_all := lw_g (lw_at lw_m1 18 rfl) rfl
theorem q43 : (Jvm.Cond.fieldLink "ClauseDesk" (42 : Nat) "ClauseDesk$Clauses" "n" "I") ∈ lw_all := lw_g (lw_at lw_m1 30 rfl) rfl
theorem q52 : (Jvm.Cond.classLink "ClauseDesk" (18 : Nat) "ClauseDesk$Search") ∈ lw_all := lw_g (lw_at lw_m1 39 rfl) rfl
theorem q54 : (Jvm.Cond.methodLink "ClauseDesk" (20 : Nat) ({ cls := "ClauseDesk$Search", name := "<init>", desc := "(LClauseDesk$Clauses;)V" } : Jvm.MethodName)) ∈ lw_all := lw_g (lw_at lw_m1 41 rfl) rfl
theorem q69 : (Jvm.Cond.fieldLink "ClauseDesk" (58 : Nat) "ClauseDesk$Search" "truth" "I") ∈ lw_all := lw_g (lw_at lw_m1 56 rfl) rfl
theorem q89 : (Jvm.Cond.classLink "ClauseDesk" (27 : Nat) "ClauseDesk$Counter") ∈ lw_all := lw_g (lw_at lw_m1 76 rfl) rfl
theorem q91 : (Jvm.Cond.methodLink "ClauseDesk" (29 : Nat) ({ cls := "ClauseDesk$Counter", name := "<init>", desc := "(LClauseDesk$Clauses;)V" } : Jvm.MethodName)) ∈ lw_all := lw_g (lw_at lw_m1 78 rfl) rfl
theorem q99 : (Jvm.Cond.fieldLink "ClauseDesk" (12 : Nat) "ClauseDesk" "clauses" "LClauseDesk$Clauses;") ∈ lw_all := lw_g (lw_at lw_m1 86 rfl) rfl
theorem q100 : (Jvm.Cond.fieldLink "ClauseDesk" (23 : Nat) "ClauseDesk" "search" "LClauseDesk$Search;") ∈ lw_all := lw_g (lw_at lw_m1 87 rfl) rfl
theorem q101 : (Jvm.Cond.fieldLink "ClauseDesk" (30 : Nat) "ClauseDesk" "counter" "LClauseDesk$Counter;") ∈ lw_all := lw_g (lw_at lw_m1 88 rfl) rfl
theorem q102 : (Jvm.Cond.fieldLink "ClauseDesk" (34 : Nat) "ClauseDesk" "n" "I") ∈ lw_all := lw_g (lw_at lw_m1 89 rfl) rfl
theorem q103 : (Jvm.Cond.fieldLink "ClauseDesk" (38 : Nat) "ClauseDesk" "found" "I") ∈ lw_all := lw_g (lw_at lw_m1 90 rfl) rfl
theorem q104 : (Jvm.Cond.laysFinal "ClauseDesk" "ClauseDesk" "clauses" "LClauseDesk$Clauses;") ∈ lw_all := lw_g (lw_at lw_m1 91 rfl) rfl
theorem q105 : (Jvm.Cond.soleField "ClauseDesk" "clauses") ∈ lw_all := lw_g (lw_at lw_m1 92 rfl) rfl
theorem q106 : (Jvm.Cond.laysFinal "ClauseDesk" "ClauseDesk" "search" "LClauseDesk$Search;") ∈ lw_all := lw_g (lw_at lw_m1 93 rfl) rfl
theorem q107 : (Jvm.Cond.soleField "ClauseDesk" "search") ∈ lw_all := lw_g (lw_at lw_m1 94 rfl) rfl
theorem q108 : (Jvm.Cond.laysFinal "ClauseDesk" "ClauseDesk" "counter" "LClauseDesk$Counter;") ∈ lw_all := lw_g (lw_at lw_m1 95 rfl) rfl
theorem q109 : (Jvm.Cond.soleField "ClauseDesk" "counter") ∈ lw_all := lw_g (lw_at lw_m1 96 rfl) rfl
theorem q110 : (Jvm.Cond.lays "ClauseDesk" "ClauseDesk" "n" "I") ∈ lw_all := lw_g (lw_at lw_m1 97 rfl) rfl
theorem q111 : (Jvm.Cond.soleField "ClauseDesk" "n") ∈ lw_all := lw_g (lw_at lw_m1 98 rfl) rfl
theorem q112 : (Jvm.Cond.lays "ClauseDesk" "ClauseDesk" "found" "I") ∈ lw_all := lw_g (lw_at lw_m1 99 rfl) rfl
theorem q113 : (Jvm.Cond.soleField "ClauseDesk" "found") ∈ lw_all := lw_g (lw_at lw_m1 100 rfl) rfl
theorem q114 : (Jvm.Cond.superclass "ClauseDesk" "java/lang/Object") ∈ lw_all := lw_g (lw_at lw_m1 101 rfl) rfl
theorem q116 : (Jvm.Cond.instanceMethod ({ cls := "ClauseDesk", name := "letters", desc := "(I)V" } : Jvm.MethodName)) ∈ lw_all := lw_g (lw_at lw_m1 103 rfl) rfl
theorem q117 : (Jvm.Cond.selects "ClauseDesk" ({ cls := "ClauseDesk", name := "letters", desc := "(I)V" } : Jvm.MethodName) ({ cls := "ClauseDesk", name := "letters", desc := "(I)V" } : Jvm.MethodName)) ∈ lw_all := lw_g (lw_at lw_m1 104 rfl) rfl
theorem q118 : (Jvm.Cond.code ({ cls := "ClauseDesk", name := "letters", desc := "(I)V" } : Jvm.MethodName) prog_1_method_3_code (2 : Nat) (Option.none : Option Jvm.ClassFile.FieldType)) ∈ lw_all := lw_g (lw_at lw_m1 105 rfl) rfl
theorem q119 : (Jvm.Cond.constant "ClauseDesk" (41 : Nat) (2147483647 : Int32)) ∈ lw_all := lw_g (lw_at lw_m1 106 rfl) rfl
theorem q120 : (Jvm.Cond.methodLink "ClauseDesk" (43 : Nat) ({ cls := "ClauseDesk$Search", name := "forget", desc := "()V" } : Jvm.MethodName)) ∈ lw_all := lw_g (lw_at lw_m1 107 rfl) rfl
theorem q125 : (Jvm.Cond.instanceMethod ({ cls := "ClauseDesk", name := "clause", desc := "(II)Z" } : Jvm.MethodName)) ∈ lw_all := lw_g (lw_at lw_m1 112 rfl) rfl
theorem q126 : (Jvm.Cond.selects "ClauseDesk" ({ cls := "ClauseDesk", name := "clause", desc := "(II)Z" } : Jvm.MethodName) ({ cls := "ClauseDesk", name := "clause", desc := "(II)Z" } : Jvm.MethodName)) ∈ lw_all := lw_g (lw_at lw_m1 113 rfl) rfl
theorem q127 : (Jvm.Cond.code ({ cls := "ClauseDesk", name := "clause", desc := "(II)Z" } : Jvm.MethodName) prog_1_method_4_code (3 : Nat) (Option.some Jvm.ClassFile.FieldType.boolean)) ∈ lw_all := lw_g (lw_at lw_m1 114 rfl) rfl
theorem q128 : (Jvm.Cond.methodLink "ClauseDesk" (46 : Nat) ({ cls := "ClauseDesk", name := "all", desc := "()I" } : Jvm.MethodName)) ∈ lw_all := lw_g (lw_at lw_m1 115 rfl) rfl
theorem q129 : (Jvm.Cond.privateMethod ({ cls := "ClauseDesk", name := "all", desc := "()I" } : Jvm.MethodName)) ∈ lw_tbl := lw_at lw_m1 116 rfl
theorem q130 : (Jvm.Cond.instanceMethod ({ cls := "ClauseDesk", name := "all", desc := "()I" } : Jvm.MethodName)) ∈ lw_all := lw_g (lw_at lw_m1 117 rfl) rfl
theorem q131 : (Jvm.Cond.code ({ cls := "ClauseDesk", name := "all", desc := "()I" } : Jvm.MethodName) prog_1_method_2_code (1 : Nat) (Option.some Jvm.ClassFile.FieldType.int)) ∈ lw_all := lw_g (lw_at lw_m1 118 rfl) rfl
theorem q132 : (Jvm.Cond.methodLink "ClauseDesk" (50 : Nat) ({ cls := "ClauseDesk$Clauses", name := "add", desc := "(II)V" } : Jvm.MethodName)) ∈ lw_all := lw_g (lw_at lw_m1 119 rfl) rfl
theorem q137 : (Jvm.Cond.instanceMethod ({ cls := "ClauseDesk", name := "drop", desc := "()Z" } : Jvm.MethodName)) ∈ lw_all := lw_g (lw_at lw_m1 124 rfl) rfl
theorem q138 : (Jvm.Cond.selects "ClauseDesk" ({ cls := "ClauseDesk", name := "drop", desc := "()Z" } : Jvm.MethodName) ({ cls := "ClauseDesk", name := "drop", desc := "()Z" } : Jvm.MethodName)) ∈ lw_all := lw_g (lw_at lw_m1 125 rfl) rfl
theorem q139 : (Jvm.Cond.code ({ cls := "ClauseDesk", name := "drop", desc := "()Z" } : Jvm.MethodName) prog_1_method_5_code (1 : Nat) (Option.some Jvm.ClassFile.FieldType.boolean)) ∈ lw_all := lw_g (lw_at lw_m1 126 rfl) rfl
theorem q141 : (Jvm.Cond.instanceMethod ({ cls := "ClauseDesk", name := "solve", desc := "(II)Z" } : Jvm.MethodName)) ∈ lw_all := lw_g (lw_at lw_m1 128 rfl) rfl
theorem q142 : (Jvm.Cond.selects "ClauseDesk" ({ cls := "ClauseDesk", name := "solve", desc := "(II)Z" } : Jvm.MethodName) ({ cls := "ClauseDesk", name := "solve", desc := "(II)Z" } : Jvm.MethodName)) ∈ lw_all := lw_g (lw_at lw_m1 129 rfl) rfl
theorem q143 : (Jvm.Cond.code ({ cls := "ClauseDesk", name := "solve", desc := "(II)Z" } : Jvm.MethodName) prog_1_method_6_code (4 : Nat) (Option.some Jvm.ClassFile.FieldType.boolean)) ∈ lw_all := lw_g (lw_at lw_m1 130 rfl) rfl
theorem q144 : (Jvm.Cond.methodLink "ClauseDesk" (54 : Nat) ({ cls := "ClauseDesk$Search", name := "run", desc := "(III)Z" } : Jvm.MethodName)) ∈ lw_all := lw_g (lw_at lw_m1 131 rfl) rfl
theorem q197 : (Jvm.Cond.instanceMethod ({ cls := "ClauseDesk", name := "found", desc := "()I" } : Jvm.MethodName)) ∈ lw_all := lw_g (lw_at lw_m1 184 rfl) rfl
theorem q198 : (Jvm.Cond.selects "ClauseDesk" ({ cls := "ClauseDesk", name := "found", desc := "()I" } : Jvm.MethodName) ({ cls := "ClauseDesk", name := "found", desc := "()I" } : Jvm.MethodName)) ∈ lw_all := lw_g (lw_at lw_m1 185 rfl) rfl
theorem q199 : (Jvm.Cond.code ({ cls := "ClauseDesk", name := "found", desc := "()I" } : Jvm.MethodName) prog_1_method_7_code (1 : Nat) (Option.some Jvm.ClassFile.FieldType.int)) ∈ lw_all := lw_g (lw_at lw_m1 186 rfl) rfl
theorem q201 : (Jvm.Cond.instanceMethod ({ cls := "ClauseDesk", name := "count", desc := "()I" } : Jvm.MethodName)) ∈ lw_all := lw_g (lw_at lw_m1 188 rfl) rfl
theorem q202 : (Jvm.Cond.selects "ClauseDesk" ({ cls := "ClauseDesk", name := "count", desc := "()I" } : Jvm.MethodName) ({ cls := "ClauseDesk", name := "count", desc := "()I" } : Jvm.MethodName)) ∈ lw_all := lw_g (lw_at lw_m1 189 rfl) rfl
theorem q203 : (Jvm.Cond.code ({ cls := "ClauseDesk", name := "count", desc := "()I" } : Jvm.MethodName) prog_1_method_8_code (1 : Nat) (Option.some Jvm.ClassFile.FieldType.int)) ∈ lw_all := lw_g (lw_at lw_m1 190 rfl) rfl
theorem q204 : (Jvm.Cond.methodLink "ClauseDesk" (61 : Nat) ({ cls := "ClauseDesk$Counter", name := "ways", desc := "(III)I" } : Jvm.MethodName)) ∈ lw_all := lw_g (lw_at lw_m1 191 rfl) rfl
theorem q224 : (Jvm.Cond.instanceMethod ({ cls := "ClauseDesk", name := "forced", desc := "()I" } : Jvm.MethodName)) ∈ lw_all := lw_g (lw_at lw_m1 211 rfl) rfl
theorem q225 : (Jvm.Cond.selects "ClauseDesk" ({ cls := "ClauseDesk", name := "forced", desc := "()I" } : Jvm.MethodName) ({ cls := "ClauseDesk", name := "forced", desc := "()I" } : Jvm.MethodName)) ∈ lw_all := lw_g (lw_at lw_m1 212 rfl) rfl
theorem q226 : (Jvm.Cond.code ({ cls := "ClauseDesk", name := "forced", desc := "()I" } : Jvm.MethodName) prog_1_method_9_code (4 : Nat) (Option.some Jvm.ClassFile.FieldType.int)) ∈ lw_all := lw_g (lw_at lw_m1 213 rfl) rfl
theorem in_X0 : ∀ w ∈ wsX00, w ∈ lw_all := lw_in wsX00 [104, 106, 108, 110, 112] (by decide +kernel) (by decide +kernel)
theorem q13 : (Jvm.Cond.initialized "ClauseDeskLaw") ∈ lw_all := lw_g (lw_at lw_m1 0 rfl) rfl
set_option maxRecDepth 100000
theorem q21 : (Jvm.Cond.classLink "ClauseDeskLaw" (7 : Nat) "ClauseDesk") ∈ lw_all := lw_g (lw_at lw_m1 8 rfl) rfl
theorem q23 : (Jvm.Cond.methodLink "ClauseDeskLaw" (9 : Nat) ({ cls := "ClauseDesk", name := "<init>", desc := "()V" } : Jvm.MethodName)) ∈ lw_all := lw_g (lw_at lw_m1 10 rfl) rfl
theorem q115 : (Jvm.Cond.methodLink "ClauseDeskLaw" (13 : Nat) ({ cls := "ClauseDesk", name := "letters", desc := "(I)V" } : Jvm.MethodName)) ∈ lw_all := lw_g (lw_at lw_m1 102 rfl) rfl
theorem q124 : (Jvm.Cond.methodLink "ClauseDeskLaw" (18 : Nat) ({ cls := "ClauseDesk", name := "clause", desc := "(II)Z" } : Jvm.MethodName)) ∈ lw_all := lw_g (lw_at lw_m1 111 rfl) rfl
theorem q136 : (Jvm.Cond.methodLink "ClauseDeskLaw" (23 : Nat) ({ cls := "ClauseDesk", name := "drop", desc := "()Z" } : Jvm.MethodName)) ∈ lw_all := lw_g (lw_at lw_m1 123 rfl) rfl
theorem q140 : (Jvm.Cond.methodLink "ClauseDeskLaw" (28 : Nat) ({ cls := "ClauseDesk", name := "solve", desc := "(II)Z" } : Jvm.MethodName)) ∈ lw_all := lw_g (lw_at lw_m1 127 rfl) rfl
theorem q196 : (Jvm.Cond.methodLink "ClauseDeskLaw" (32 : Nat) ({ cls := "ClauseDesk", name := "found", desc := "()I" } : Jvm.MethodName)) ∈ lw_all := lw_g (lw_at lw_m1 183 rfl) rfl
theorem q200 : (Jvm.Cond.methodLink "ClauseDeskLaw" (37 : Nat) ({ cls := "ClauseDesk", name := "count", desc := "()I" } : Jvm.MethodName)) ∈ lw_all := lw_g (lw_at lw_m1 187 rfl) rfl
theorem q223 : (Jvm.Cond.methodLink "ClauseDeskLaw" (41 : Nat) ({ cls := "ClauseDesk", name := "forced", desc := "()I" } : Jvm.MethodName)) ∈ lw_all := lw_g (lw_at lw_m1 210 rfl) rfl
theorem q227 : (Jvm.Cond.classLink "ClauseDeskLaw" (10 : Nat) "ClauseDeskModel") ∈ lw_all := lw_g (lw_at lw_m1 214 rfl) rfl
theorem q229 : (Jvm.Cond.methodLink "ClauseDeskLaw" (12 : Nat) ({ cls := "ClauseDeskModel", name := "<init>", desc := "()V" } : Jvm.MethodName)) ∈ lw_all := lw_g (lw_at lw_m1 216 rfl) rfl
theorem q252 : (Jvm.Cond.methodLink "ClauseDeskLaw" (17 : Nat) ({ cls := "ClauseDeskModel", name := "letters", desc := "(I)V" } : Jvm.MethodName)) ∈ lw_all := lw_g (lw_at lw_m1 239 rfl) rfl
theorem q257 : (Jvm.Cond.methodLink "ClauseDeskLaw" (22 : Nat) ({ cls := "ClauseDeskModel", name := "clause", desc := "(II)Z" } : Jvm.MethodName)) ∈ lw_all := lw_g (lw_at lw_m2 4 rfl) rfl
theorem q265 : (Jvm.Cond.methodLink "ClauseDeskLaw" (27 : Nat) ({ cls := "ClauseDeskModel", name := "drop", desc := "()Z" } : Jvm.MethodName)) ∈ lw_all := lw_g (lw_at lw_m2 12 rfl) rfl
theorem q269 : (Jvm.Cond.methodLink "ClauseDeskLaw" (31 : Nat) ({ cls := "ClauseDeskModel", name := "solve", desc := "(II)Z" } : Jvm.MethodName)) ∈ lw_all := lw_g (lw_at lw_m2 16 rfl) rfl
theorem q273 : (Jvm.Cond.methodLink "ClauseDeskLaw" (36 : Nat) ({ cls := "ClauseDeskModel", name := "found", desc := "()I" } : Jvm.MethodName)) ∈ lw_all := lw_g (lw_at lw_m2 20 rfl) rfl
theorem q277 : (Jvm.Cond.methodLink "ClauseDeskLaw" (40 : Nat) ({ cls := "ClauseDeskModel", name := "count", desc := "()I" } : Jvm.MethodName)) ∈ lw_all := lw_g (lw_at lw_m2 24 rfl) rfl
theorem q281 : (Jvm.Cond.methodLink "ClauseDeskLaw" (44 : Nat) ({ cls := "ClauseDeskModel", name := "forced", desc := "()I" } : Jvm.MethodName)) ∈ lw_all := lw_g (lw_at lw_m2 28 rfl) rfl
/-! the law's own entry -/
set_option maxRecDepth 100000
abbrev cL_law : ByteArray := code
theorem dL_law_0 : decode cL_law 0 = .ok (.new 7, 3) := by decide +kernel
theorem dL_law_3 : decode cL_law 3 = .ok (.dup, 1) := by decide +kernel
theorem dL_law_4 : decode cL_law 4 = .ok (.invokespecial 9, 3) := by decide +kernel
theorem dL_law_7 : decode cL_law 7 = .ok (.astore_n 1, 1) := by decide +kernel
theorem dL_law_8 : decode cL_law 8 = .ok (.new 10, 3) := by decide +kernel
theorem dL_law_11 : decode cL_law 11 = .ok (.dup, 1) := by decide +kernel
theorem dL_law_12 : decode cL_law 12 = .ok (.invokespecial 12, 3) := by decide +kernel
theorem dL_law_15 : decode cL_law 15 = .ok (.astore_n 2, 1) := by decide +kernel
theorem dL_law_16 : decode cL_law 16 = .ok (.iconst 0, 1) := by decide +kernel
theorem dL_law_17 : decode cL_law 17 = .ok (.istore_n 3, 1) := by decide +kernel
theorem dL_law_18 : decode cL_law 18 = .ok (.iload_n 3, 1) := by decide +kernel
theorem dL_law_19 : decode cL_law 19 = .ok (.aload_n 0, 1) := by decide +kernel
theorem dL_law_20 : decode cL_law 20 = .ok (.arraylength, 1) := by decide +kernel
theorem dL_law_21 : decode cL_law 21 = .ok (.iconst 3, 1) := by decide +kernel
theorem dL_law_22 : decode cL_law 22 = .ok (.isub, 1) := by decide +kernel
theorem dL_law_23 : decode cL_law 23 = .ok (.if_icmp .gt 198, 3) := by decide +kernel
theorem dL_law_26 : decode cL_law 26 = .ok (.aload_n 0, 1) := by decide +kernel
theorem dL_law_27 : decode cL_law 27 = .ok (.iload_n 3, 1) := by decide +kernel
theorem dL_law_28 : decode cL_law 28 = .ok (.iaload, 1) := by decide +kernel
theorem dL_law_29 : decode cL_law 29 = .ok (.bipush 7, 2) := by decide +kernel
theorem dL_law_31 : decode cL_law 31 = .ok (.iand, 1) := by decide +kernel
theorem dL_law_32 : decode cL_law 32 = .ok (.tableswitch 183 0 6 #[44, 65, 98, 111, 144, 157, 170], 44) := by decide +kernel
theorem dL_law_76 : decode cL_law 76 = .ok (.aload_n 1, 1) := by decide +kernel
theorem dL_law_77 : decode cL_law 77 = .ok (.aload_n 0, 1) := by decide +kernel
theorem dL_law_78 : decode cL_law 78 = .ok (.iload_n 3, 1) := by decide +kernel
theorem dL_law_79 : decode cL_law 79 = .ok (.iconst 1, 1) := by decide +kernel
theorem dL_law_80 : decode cL_law 80 = .ok (.iadd, 1) := by decide +kernel
theorem dL_law_81 : decode cL_law 81 = .ok (.iaload, 1) := by decide +kernel
theorem dL_law_82 : decode cL_law 82 = .ok (.invokevirtual 13, 3) := by decide +kernel
theorem dL_law_85 : decode cL_law 85 = .ok (.aload_n 2, 1) := by decide +kernel
theorem dL_law_86 : decode cL_law 86 = .ok (.aload_n 0, 1) := by decide +kernel
theorem dL_law_87 : decode cL_law 87 = .ok (.iload_n 3, 1) := by decide +kernel
theorem dL_law_88 : decode cL_law 88 = .ok (.iconst 1, 1) := by decide +kernel
theorem dL_law_89 : decode cL_law 89 = .ok (.iadd, 1) := by decide +kernel
theorem dL_law_90 : decode cL_law 90 = .ok (.iaload, 1) := by decide +kernel
theorem dL_law_91 : decode cL_law 91 = .ok (.invokevirtual 17, 3) := by decide +kernel
theorem dL_law_94 : decode cL_law 94 = .ok (.goto 121, 3) := by decide +kernel
theorem dL_law_97 : decode cL_law 97 = .ok (.aload_n 1, 1) := by decide +kernel
theorem dL_law_98 : decode cL_law 98 = .ok (.aload_n 0, 1) := by decide +kernel
theorem dL_law_99 : decode cL_law 99 = .ok (.iload_n 3, 1) := by decide +kernel
theorem dL_law_100 : decode cL_law 100 = .ok (.iconst 1, 1) := by decide +kernel
theorem dL_law_101 : decode cL_law 101 = .ok (.iadd, 1) := by decide +kernel
theorem dL_law_102 : decode cL_law 102 = .ok (.iaload, 1) := by decide +kernel
theorem dL_law_103 : decode cL_law 103 = .ok (.aload_n 0, 1) := by decide +kernel
theorem dL_law_104 : decode cL_law 104 = .ok (.iload_n 3, 1) := by decide +kernel
theorem dL_law_105 : decode cL_law 105 = .ok (.iconst 2, 1) := by decide +kernel
theorem dL_law_106 : decode cL_law 106 = .ok (.iadd, 1) := by decide +kernel
theorem dL_law_107 : decode cL_law 107 = .ok (.iaload, 1) := by decide +kernel
theorem dL_law_108 : decode cL_law 108 = .ok (.invokevirtual 18, 3) := by decide +kernel
theorem dL_law_111 : decode cL_law 111 = .ok (.aload_n 2, 1) := by decide +kernel
theorem dL_law_112 : decode cL_law 112 = .ok (.aload_n 0, 1) := by decide +kernel
theorem dL_law_113 : decode cL_law 113 = .ok (.iload_n 3, 1) := by decide +kernel
theorem dL_law_114 : decode cL_law 114 = .ok (.iconst 1, 1) := by decide +kernel
theorem dL_law_115 : decode cL_law 115 = .ok (.iadd, 1) := by decide +kernel
theorem dL_law_116 : decode cL_law 116 = .ok (.iaload, 1) := by decide +kernel
theorem dL_law_117 : decode cL_law 117 = .ok (.aload_n 0, 1) := by decide +kernel
theorem dL_law_118 : decode cL_law 118 = .ok (.iload_n 3, 1) := by decide +kernel
theorem dL_law_119 : decode cL_law 119 = .ok (.iconst 2, 1) := by decide +kernel
theorem dL_law_120 : decode cL_law 120 = .ok (.iadd, 1) := by decide +kernel
theorem dL_law_121 : decode cL_law 121 = .ok (.iaload, 1) := by decide +kernel
theorem dL_law_122 : decode cL_law 122 = .ok (.invokevirtual 22, 3) := by decide +kernel
theorem dL_law_125 : decode cL_law 125 = .ok (.if_icmp .eq 90, 3) := by decide +kernel
theorem dL_law_128 : decode cL_law 128 = .ok (.iconst 0, 1) := by decide +kernel
theorem dL_law_129 : decode cL_law 129 = .ok (.ireturn, 1) := by decide +kernel
theorem dL_law_130 : decode cL_law 130 = .ok (.aload_n 1, 1) := by decide +kernel
theorem dL_law_131 : decode cL_law 131 = .ok (.invokevirtual 23, 3) := by decide +kernel
theorem dL_law_134 : decode cL_law 134 = .ok (.aload_n 2, 1) := by decide +kernel
theorem dL_law_135 : decode cL_law 135 = .ok (.invokevirtual 27, 3) := by decide +kernel
theorem dL_law_138 : decode cL_law 138 = .ok (.if_icmp .eq 77, 3) := by decide +kernel
theorem dL_law_141 : decode cL_law 141 = .ok (.iconst 0, 1) := by decide +kernel
theorem dL_law_142 : decode cL_law 142 = .ok (.ireturn, 1) := by decide +kernel
theorem dL_law_143 : decode cL_law 143 = .ok (.aload_n 1, 1) := by decide +kernel
theorem dL_law_144 : decode cL_law 144 = .ok (.aload_n 0, 1) := by decide +kernel
theorem dL_law_145 : decode cL_law 145 = .ok (.iload_n 3, 1) := by decide +kernel
theorem dL_law_146 : decode cL_law 146 = .ok (.iconst 1, 1) := by decide +kernel
theorem dL_law_147 : decode cL_law 147 = .ok (.iadd, 1) := by decide +kernel
theorem dL_law_148 : decode cL_law 148 = .ok (.iaload, 1) := by decide +kernel
theorem dL_law_149 : decode cL_law 149 = .ok (.aload_n 0, 1) := by decide +kernel
theorem dL_law_150 : decode cL_law 150 = .ok (.iload_n 3, 1) := by decide +kernel
theorem dL_law_151 : decode cL_law 151 = .ok (.iconst 2, 1) := by decide +kernel
theorem dL_law_152 : decode cL_law 152 = .ok (.iadd, 1) := by decide +kernel
theorem dL_law_153 : decode cL_law 153 = .ok (.iaload, 1) := by decide +kernel
theorem dL_law_154 : decode cL_law 154 = .ok (.invokevirtual 28, 3) := by decide +kernel
theorem dL_law_157 : decode cL_law 157 = .ok (.aload_n 2, 1) := by decide +kernel
theorem dL_law_158 : decode cL_law 158 = .ok (.aload_n 0, 1) := by decide +kernel
theorem dL_law_159 : decode cL_law 159 = .ok (.iload_n 3, 1) := by decide +kernel
theorem dL_law_160 : decode cL_law 160 = .ok (.iconst 1, 1) := by decide +kernel
theorem dL_law_161 : decode cL_law 161 = .ok (.iadd, 1) := by decide +kernel
theorem dL_law_162 : decode cL_law 162 = .ok (.iaload, 1) := by decide +kernel
theorem dL_law_163 : decode cL_law 163 = .ok (.aload_n 0, 1) := by decide +kernel
theorem dL_law_164 : decode cL_law 164 = .ok (.iload_n 3, 1) := by decide +kernel
theorem dL_law_165 : decode cL_law 165 = .ok (.iconst 2, 1) := by decide +kernel
theorem dL_law_166 : decode cL_law 166 = .ok (.iadd, 1) := by decide +kernel
theorem dL_law_167 : decode cL_law 167 = .ok (.iaload, 1) := by decide +kernel
theorem dL_law_168 : decode cL_law 168 = .ok (.invokevirtual 31, 3) := by decide +kernel
theorem dL_law_171 : decode cL_law 171 = .ok (.if_icmp .eq 44, 3) := by decide +kernel
theorem dL_law_174 : decode cL_law 174 = .ok (.iconst 0, 1) := by decide +kernel
theorem dL_law_175 : decode cL_law 175 = .ok (.ireturn, 1) := by decide +kernel
theorem dL_law_176 : decode cL_law 176 = .ok (.aload_n 1, 1) := by decide +kernel
theorem dL_law_177 : decode cL_law 177 = .ok (.invokevirtual 32, 3) := by decide +kernel
theorem dL_law_180 : decode cL_law 180 = .ok (.aload_n 2, 1) := by decide +kernel
theorem dL_law_181 : decode cL_law 181 = .ok (.invokevirtual 36, 3) := by decide +kernel
theorem dL_law_184 : decode cL_law 184 = .ok (.if_icmp .eq 31, 3) := by decide +kernel
theorem dL_law_187 : decode cL_law 187 = .ok (.iconst 0, 1) := by decide +kernel
theorem dL_law_188 : decode cL_law 188 = .ok (.ireturn, 1) := by decide +kernel
theorem dL_law_189 : decode cL_law 189 = .ok (.aload_n 1, 1) := by decide +kernel
theorem dL_law_190 : decode cL_law 190 = .ok (.invokevirtual 37, 3) := by decide +kernel
theorem dL_law_193 : decode cL_law 193 = .ok (.aload_n 2, 1) := by decide +kernel
theorem dL_law_194 : decode cL_law 194 = .ok (.invokevirtual 40, 3) := by decide +kernel
theorem dL_law_197 : decode cL_law 197 = .ok (.if_icmp .eq 18, 3) := by decide +kernel
theorem dL_law_200 : decode cL_law 200 = .ok (.iconst 0, 1) := by decide +kernel
theorem dL_law_201 : decode cL_law 201 = .ok (.ireturn, 1) := by decide +kernel
theorem dL_law_202 : decode cL_law 202 = .ok (.aload_n 1, 1) := by decide +kernel
theorem dL_law_203 : decode cL_law 203 = .ok (.invokevirtual 41, 3) := by decide +kernel
theorem dL_law_206 : decode cL_law 206 = .ok (.aload_n 2, 1) := by decide +kernel
theorem dL_law_207 : decode cL_law 207 = .ok (.invokevirtual 44, 3) := by decide +kernel
theorem dL_law_210 : decode cL_law 210 = .ok (.if_icmp .eq 5, 3) := by decide +kernel
theorem dL_law_213 : decode cL_law 213 = .ok (.iconst 0, 1) := by decide +kernel
theorem dL_law_214 : decode cL_law 214 = .ok (.ireturn, 1) := by decide +kernel
theorem dL_law_215 : decode cL_law 215 = .ok (.iinc 3 3, 3) := by decide +kernel
theorem dL_law_218 : decode cL_law 218 = .ok (.goto (-200), 3) := by decide +kernel
theorem dL_law_221 : decode cL_law 221 = .ok (.iconst 1, 1) := by decide +kernel
theorem dL_law_222 : decode cL_law 222 = .ok (.ireturn, 1) := by decide +kernel
end
section
/-! Int32 by its bits: the family of BITS.to-paste, and what this claim adds -/
def bt (x : Int32) (i : Nat) : Bool := x.toBitVec.getLsbD i
theorem b_ext {x y : Int32} (h : ∀ i, i < 32 → bt x i = bt y i) : x = y := Int32.toBitVec_inj.mp (BitVec.eq_of_getLsbD_eq (fun i hi => h i hi))
theorem b_or (x y : Int32) (i : Nat) : bt (x ||| y) i = (bt x i || bt y i) := by unfold bt; rw [Int32.toBitVec_or, BitVec.getLsbD_or]
theorem b_and (x y : Int32) (i : Nat) : bt (x &&& y) i = (bt x i && bt y i) := by unfold bt; rw [Int32.toBitVec_and, BitVec.getLsbD_and]
theorem b_xor (x y : Int32) (i : Nat) : bt (x ^^^ y) i = (bt x i ^^ bt y i) := by unfold bt; rw [Int32.toBitVec_xor, BitVec.getLsbD_xor]
theorem b_big {x : Int32} {i : Nat} (h : 32 ≤ i) : bt x i = false := BitVec.getLsbD_of_ge _ _ h
theorem b_m1 : ∀ i, i < 32 → bt (-1) i = true := by decide +kernel
theorem b_0 (i : Nat) : bt 0 i = false := BitVec.getLsbD_zero
theorem s_l : ∀ n, n < 32 → ((nI n &&& 31).toBitVec.smod 32).toNat = n := by decide +kernel
theorem s_u : ∀ n, n < 32 → (((nI n).toUInt32 &&& Int32.toUInt32 31).toBitVec % 32).toNat = n := by decide +kernel
theorem b_shl (n : Nat) (hn : n < 32) (x : Int32) {i : Nat} (hi : i < 32) : bt (x <<< (nI n &&& 31)) i = (decide (n ≤ i) && bt x (i - n)) := by
  unfold bt
  rw [Int32.toBitVec_shiftLeft]
  show (x.toBitVec <<< ((nI n &&& 31).toBitVec.smod 32).toNat).getLsbD i = _
  rw [s_l n hn, BitVec.getLsbD_shiftLeft]
  rcases Nat.lt_or_ge i n with h | h
  · simp [h, Nat.not_le.mpr h]
  · simp [hi, h, Nat.not_lt.mpr h]
theorem b_ushr (n : Nat) (hn : n < 32) (x : Int32) (i : Nat) : bt ((x.toUInt32 >>> ((nI n).toUInt32 &&& Int32.toUInt32 31)).toInt32) i = bt x (n + i) := by
  show (x.toUInt32 >>> ((nI n).toUInt32 &&& Int32.toUInt32 31)).toBitVec.getLsbD i = x.toUInt32.toBitVec.getLsbD (n + i)
  rw [UInt32.toBitVec_shiftRight]
  show (x.toUInt32.toBitVec >>> (((nI n).toUInt32 &&& Int32.toUInt32 31).toBitVec % 32).toNat).getLsbD i = _
  rw [s_u n hn, BitVec.getLsbD_ushiftRight]
theorem b_sshr (n : Nat) (hn : n < 32) (x : Int32) {i : Nat} (hi : i < 32) : bt (x >>> (nI n &&& 31)) i = if n + i < 32 then bt x (n + i) else bt x 31 := by
  unfold bt
  rw [Int32.toBitVec_shiftRight]
  show (x.toBitVec.sshiftRight ((nI n &&& 31).toBitVec.smod 32).toNat).getLsbD i = _
  rw [s_l n hn, BitVec.getLsbD_sshiftRight, BitVec.msb_eq_getLsbD_last]
  simp [hi]
theorem b_1 (i : Nat) : bt 1 i = decide (i = 0) := by
  rcases Nat.lt_or_ge i 32 with h | h
  · exact (by decide +kernel : ∀ i, i < 32 → bt 1 i = decide (i = 0)) i h
  · rw [b_big h, decide_eq_false (by omega)]
theorem b_lt {x : Int32} {i : Nat} (h : bt x i = true) : i < 32 := by
  rcases Nat.lt_or_ge i 32 with q | q
  · exact q
  · rw [b_big q] at h
    cases h
theorem b_not (x : Int32) (i : Nat) : bt (x ^^^ (-1)) i = (decide (i < 32) && !bt x i) := by
  rw [b_xor]
  rcases Nat.lt_or_ge i 32 with h | h
  · rw [b_m1 i h, decide_eq_true h]
    cases bt x i <;> rfl
  · rw [b_big h, b_big h, decide_eq_false (by omega)]
    rfl
theorem b_andn (x y : Int32) (i : Nat) : bt (x &&& (y ^^^ (-1))) i = (bt x i && !bt y i) := by
  rw [b_and, b_not]
  rcases Nat.lt_or_ge i 32 with h | h
  · rw [decide_eq_true h]
    rfl
  · rw [b_big h]
    rfl
theorem b_neg (x : Int32) {i : Nat} (hi : i < 32) : bt (-x) i = (bt x i ^^ decide (∃ j, j < i ∧ bt x j = true)) := by
  unfold bt
  rw [Int32.toBitVec_neg, BitVec.getLsbD_neg]
  simp [hi]
theorem b_z {x : Int32} : x = 0 ↔ ∀ i, bt x i = false :=
  ⟨fun h i => by rw [h, b_0], fun h => b_ext (fun i _ => by rw [h i, b_0])⟩
theorem b_nz {x : Int32} : ¬ x = 0 ↔ ∃ i, bt x i = true := by
  rw [b_z]
  constructor
  · intro h
    apply Classical.byContradiction
    intro q
    exact h (fun i => by
      cases hb : bt x i
      · rfl
      · exact absurd ⟨i, hb⟩ q)
  · rintro ⟨i, hi⟩ h
    rw [h i] at hi
    cases hi
theorem b_bit {k : Nat} (hk : k < 32) (i : Nat) : bt ((1 : Int32) <<< (nI k &&& 31)) i = decide (i = k) := by
  rcases Nat.lt_or_ge i 32 with h | h
  · rw [b_shl k hk 1 h, b_1]
    by_cases e : i = k
    · subst e
      simp
    · rw [decide_eq_false e]
      by_cases q : k ≤ i
      · have q2 : ¬ (i - k = 0) := by omega
        rw [decide_eq_false q2, Bool.and_false]
      · rw [decide_eq_false q, Bool.false_and]
  · rw [b_big h, decide_eq_false (by omega)]
theorem b_tst (x : Int32) {k : Nat} (hk : k < 32) : (x >>> (nI k &&& 31)) &&& 1 = if bt x k = true then 1 else 0 := by
  apply b_ext
  intro i hi
  rw [b_and, b_1, b_sshr k hk x hi]
  by_cases e : i = 0
  · subst e
    rw [if_pos (by omega), decide_eq_true rfl, Bool.and_true, Nat.add_zero]
    cases hb : bt x k
    · rw [if_neg (by decide), b_0]
    · rw [if_pos rfl, b_1]
      rfl
  · rw [decide_eq_false e, Bool.and_false]
    split
    · rw [b_1, decide_eq_false e]
    · rw [b_0]
theorem b_t1 (x : Int32) {k : Nat} (hk : k < 32) : (x >>> (nI k &&& 31)) &&& 1 = 1 ↔ bt x k = true := by
  rw [b_tst x hk]
  cases bt x k
  · exact ⟨fun h => absurd h (by decide), fun h => by cases h⟩
  · exact ⟨fun _ => rfl, fun _ => by decide⟩
theorem b_t0 (x : Int32) {k : Nat} (hk : k < 32) : (x >>> (nI k &&& 31)) &&& 1 = 0 ↔ bt x k = false := by
  rw [b_tst x hk]
  cases bt x k
  · exact ⟨fun _ => rfl, fun _ => by decide⟩
  · exact ⟨fun h => absurd h (by decide), fun h => by cases h⟩
theorem b_num (x : Int32) : x = nI x.toBitVec.toNat := by
  apply Int32.toBitVec_inj.1
  show x.toBitVec = BitVec.ofNat 32 x.toBitVec.toNat
  simp
theorem b_nI {n : Nat} (hn : n < 2 ^ 32) (i : Nat) : bt (nI n) i = n.testBit i := by
  unfold bt
  show (BitVec.ofNat 32 n).getLsbD i = _
  rw [BitVec.getLsbD_ofNat]
  by_cases h : i < 32
  · simp [h]
  · have h2 : n.testBit i = false := Nat.testBit_lt_two_pow (Nat.lt_of_lt_of_le hn (Nat.pow_le_pow_right (by omega) (by omega)))
    simp [h, h2]
/-- a word with one bit alone -/
theorem b_one {x : Int32} (h0 : ¬ x = 0) (h1 : x &&& (x - 1) = 0) : ∃ k, k < 32 ∧ x = (1 : Int32) <<< (nI k &&& 31) := by
  obtain ⟨n, hn, rfl⟩ : ∃ n, n < 2 ^ 32 ∧ x = nI n := ⟨x.toBitVec.toNat, x.toBitVec.isLt, b_num x⟩
  have hn0 : n ≠ 0 := fun e => h0 (by rw [e]; exact nI_0)
  have e1 : nI n - 1 = nI (n - 1) := by
    obtain ⟨m, rfl⟩ : ∃ m, n = m + 1 := ⟨n - 1, by omega⟩
    exact nI_pred m
  rw [e1] at h1
  have h2 : n &&& (n - 1) = 0 := by
    apply Nat.eq_of_testBit_eq
    intro i
    have h3 := b_z.mp h1 i
    rw [b_and, b_nI hn, b_nI (by omega)] at h3
    rw [Nat.testBit_and, h3, Nat.zero_testBit]
  obtain ⟨k, hk⟩ := (Nat.and_sub_one_eq_zero_iff_isPowerOfTwo hn0).mp h2
  have hk32 : k < 32 := by
    apply Classical.byContradiction
    intro q
    have q2 : 2 ^ 32 ≤ 2 ^ k := Nat.pow_le_pow_right (by omega) (by omega)
    omega
  refine ⟨k, hk32, b_ext (fun i hi => ?_)⟩
  rw [b_nI hn, hk, b_bit hk32, Nat.testBit_two_pow]
  by_cases e : k = i
  · simp [e]
  · simp [e, Ne.symm e]
/-- more than one bit -/
theorem b_two {x : Int32} (h1 : ¬ x &&& (x - 1) = 0) : ∃ i j, i ≠ j ∧ bt x i = true ∧ bt x j = true := by
  have h0 : ¬ x = 0 := fun e => h1 (by rw [e]; decide)
  obtain ⟨k, hk⟩ := b_nz.mp h0
  apply Classical.byContradiction
  intro q
  apply h1
  have hx : x = (1 : Int32) <<< (nI k &&& 31) := by
    apply b_ext
    intro i hi
    rw [b_bit (b_lt hk)]
    by_cases e : i = k
    · rw [e, hk, decide_eq_true rfl]
    · rw [decide_eq_false e]
      cases hb : bt x i
      · rfl
      · exact absurd ⟨i, k, e, hb, hk⟩ q
  rw [hx]
  exact (by decide +kernel : ∀ k, k < 32 → (1 : Int32) <<< (nI k &&& 31) &&& ((1 : Int32) <<< (nI k &&& 31) - 1) = 0) k (b_lt hk)
/-- the lowest bit of a word -/
theorem b_low {x : Int32} (h0 : ¬ x = 0) : ∃ k, k < 32 ∧ bt x k = true ∧ x &&& (-x) = (1 : Int32) <<< (nI k &&& 31) := by
  obtain ⟨k, hk, hmin⟩ := pk_least (fun i => bt x i = true) (b_nz.mp h0)
  have hk32 := b_lt hk
  refine ⟨k, hk32, hk, b_ext (fun i hi => ?_)⟩
  rw [b_and, b_neg x hi, b_bit hk32]
  by_cases e : i = k
  · subst e
    have q : ¬ ∃ j, j < i ∧ bt x j = true := fun ⟨j, h1, h2⟩ => hmin j h1 h2
    rw [decide_eq_false q, hk]
    simp
  · rw [decide_eq_false e]
    by_cases q : i < k
    · have q2 : bt x i = false := by
        cases hb : bt x i
        · rfl
        · exact absurd hb (hmin i q)
      rw [q2, Bool.false_and]
    · have q2 : ∃ j, j < i ∧ bt x j = true := ⟨k, by omega, hk⟩
      rw [decide_eq_true q2]
      cases bt x i <;> rfl
theorem b_bitN : ∀ n, n < 32 → (1 : Int32) <<< (nI n &&& 31) = nI (2 ^ n) := by decide +kernel
theorem b_allN : ∀ n, n < 31 → (1 : Int32) <<< (nI n &&& 31) - 1 = nI (2 ^ n - 1) := by decide +kernel
theorem b_all {n : Nat} (hn : n < 31) (i : Nat) : bt ((1 : Int32) <<< (nI n &&& 31) - 1) i = decide (i < n) := by
  have h2 : 2 ^ n ≤ 2 ^ 31 := Nat.pow_le_pow_right (by omega) (by omega)
  rw [b_allN n hn, b_nI (by omega), Nat.testBit_two_pow_sub_one]
end
section
/-! Wrappers of the kit's rows: a method's start and end over a list of cells, calls with the frame rule, arrays by a natural index -/
abbrev vwCl : List vw_C := [(RX0, TX0, 5), (RX1, TX1, 3), (RX2, TX2, 9), (RX3, TX3, 1), (RX4, TX4, 6)]
/-- a reading method's start -/
def wk_R (D : va_G) (tys : List (ClassId × FieldType)) (ws : va_W) (av : List Value) : Array Value → State → Prop := va_Pc av (fun U => va_P D vwCl ws U.heap ∧ va_K D vwCl tys U)
/-- a writing method's start -/
def wk_M (D : va_G) (tys : List (ClassId × FieldType)) (ws : va_W) (av : List Value) (sz : Nat) : Array Value → State → Prop := va_Pc av (fun U => U.heap.size = sz ∧ va_P D vwCl ws U.heap ∧ va_K D vwCl tys U ∧ va_D (fun _ => True) ws)
/-- the world behind a writing method -/
def wk_B {S : Type} (D : va_G) (tys : List (ClassId × FieldType)) (A : Nat → Prop) (w : S → va_W) (u : S) (t : State) : Prop := va_P D vwCl (w u) t.heap ∧ va_K D vwCl tys t ∧ va_D A (w u)
theorem wk_R.blind {D : va_G} {tys : List (ClassId × FieldType)} {ws : va_W} {av : List Value} : FrameBlind (wk_R D tys ws av) := fun a U g mk q => ⟨q.1, q.2.1, va_K.moved (u := U) (U := U.calling g mk a) (Vm.Alike.refl U.vm) q.2.2⟩
theorem wk_M.blind {D : va_G} {tys : List (ClassId × FieldType)} {ws : va_W} {av : List Value} {sz : Nat} : FrameBlind (wk_M D tys ws av sz) := fun a U g mk q => ⟨q.1, q.2.1, q.2.2.1, va_K.moved (u := U) (U := U.calling g mk a) (Vm.Alike.refl U.vm) q.2.2.2.1, q.2.2.2.2⟩
theorem wk_R.preV {s : State} {H : Heap} {D : va_G} {tys : List (ClassId × FieldType)} {ws : va_W} {q : vw_C} {b ci q0 : Nat} {fs As : List Value} (hK : va_K D vwCl tys s) (hP : va_P D vwCl ws H) (hc : vwCl[ci]? = some q) (he : ws[q0]? = some (b, .inr (ci, fs))) : PreV s H q.1 b (wk_R D tys ws (.ref b :: As)) As :=
  ⟨wk_R.blind, va_recv hK hP hc he, fun U hU hW => ⟨rfl, by rw [hU]; exact hP, va_K.moved hW.alike hK⟩⟩
theorem wk_M.preV {s : State} {H : Heap} {D : va_G} {tys : List (ClassId × FieldType)} {ws : va_W} {A : Nat → Prop} {q : vw_C} {b ci q0 : Nat} {fs As : List Value} (hK : va_K D vwCl tys s) (hP : va_P D vwCl ws H) (hD : va_D A ws) (hc : vwCl[ci]? = some q) (he : ws[q0]? = some (b, .inr (ci, fs))) : PreV s H q.1 b (wk_M D tys ws (.ref b :: As) H.size) As :=
  ⟨wk_M.blind, va_recv hK hP hc he, fun U hU hW => ⟨rfl, by rw [hU], by rw [hU]; exact hP, va_K.moved hW.alike hK, hD.weaken (fun _ _ _ _ => trivial)⟩⟩
theorem wk_R.preS {s : State} {H : Heap} {D : va_G} {tys : List (ClassId × FieldType)} {ws : va_W} {As : List Value} (hK : va_K D vwCl tys s) (hP : va_P D vwCl ws H) : PreS s H (wk_R D tys ws As) As :=
  ⟨wk_R.blind, fun U hU hW => ⟨rfl, by rw [hU]; exact hP, va_K.moved hW.alike hK⟩⟩
theorem wk_M.preS {s : State} {H : Heap} {D : va_G} {tys : List (ClassId × FieldType)} {ws : va_W} {A : Nat → Prop} {As : List Value} (hK : va_K D vwCl tys s) (hP : va_P D vwCl ws H) (hD : va_D A ws) : PreS s H (wk_M D tys ws As H.size) As :=
  ⟨wk_M.blind, fun U hU hW => ⟨rfl, by rw [hU], by rw [hU]; exact hP, va_K.moved hW.alike hK, hD.weaken (fun _ _ _ _ => trivial)⟩⟩
theorem wk_fm {α β : Type} {f : α → Option β} : ∀ {l : List α} {r : List β}, l.map f = r.map some → l.filterMap f = r
  | [], [], _ => rfl
  | [], _ :: _, h => by simp at h
  | _ :: _, [], h => by simp at h
  | a :: l, b :: r, h => by
    simp only [List.map_cons, List.cons.injEq] at h
    rw [List.filterMap_cons, h.1, wk_fm h.2]
section WKA
variable {p : Program} {l : Launch} {e : Env} {R : Room} {s : State} {m : MethodId} {args : Array Value} {below : List Frame} {meth : Method} {c : Code} {H : Heap} {locs : List Loc} {cells slots : Nat} {Q : State → Prop}
variable {cc : ByteArray} {pc : Nat} {ls : Array Slot} {rest : List Value} {D : va_G} {A : Nat → Prop} {a : Nat} {tys : List (ClassId × FieldType)} {ws : va_W} {H0 : Heap}
theorem wk_iald (hexec : p.tables.exec = Jvm.exec) (hb : c.code = cc) (hK : va_K D vwCl tys s) (hP : va_P D vwCl ws H) (q0 t0 : Nat) {cA : ClassId} {n : Nat} {f : Nat → Int32} (ha : ws[q0]? = some (a, .inl (cA, n, .inl f))) (ht : tys[t0]? = some (cA, .int)) {i : Int32} (j : Nat) (hi : i = nI j) (hj : j < n) (hn : n < 2 ^ 31) (hdg : decode cc pc = .ok (.iaload, 1))
    (kk : W p l e R s m args below meth c H locs cells slots Q (F0 m (pc + 1) ls (.int (f j) :: rest))) : W p l e R s m args below meth c H locs cells slots Q (F0 m pc ls (.int i :: .ref a :: rest)) := by
  subst hi
  refine va_iald hexec hb hK hP q0 t0 ha ht (vp_in_nI hj hn) hdg ?_
  rw [nI_clamp (Nat.lt_trans hj hn)]
  exact kk
theorem wk_iast (hexec : p.tables.exec = Jvm.exec) (hb : c.code = cc) (hK : va_K D vwCl tys s) (hP : va_P D vwCl ws H) (hD : va_D A ws) (hS : va_S A H0 H locs) (q0 t0 : Nat) {cA : ClassId} {n : Nat} {f : Nat → Int32} (ha : ws[q0]? = some (a, .inl (cA, n, .inl f))) (ht : tys[t0]? = some (cA, .int)) {i x : Int32} (j : Nat) (hi : i = nI j) (hj : j < n) (hn : n < 2 ^ 31) (hdg : decode cc pc = .ok (.iastore, 1))
    (kk : ∀ (H1 : Heap) (locs1 : List Loc), va_P D vwCl (ws.set q0 (a, .inl (cA, n, .inl (upd f j x)))) H1 → va_D A (ws.set q0 (a, .inl (cA, n, .inl (upd f j x)))) → va_S A H0 H1 locs1 → W p l e R s m args below meth c H1 locs1 cells slots Q (F0 m (pc + 1) ls rest)) : W p l e R s m args below meth c H locs cells slots Q (F0 m pc ls (.int x :: .int i :: .ref a :: rest)) := by
  subst hi
  refine va_iast hexec hb hK hP hD hS q0 t0 ha ht (vp_in_nI hj hn) hdg ?_
  rw [nI_clamp (Nat.lt_trans hj hn)]
  exact kk
theorem wk_top {x y : Int32} (h : x = y) (k : W p l e R s m args below meth c H locs cells slots Q (F0 m pc ls (.int y :: rest))) : W p l e R s m args below meth c H locs cells slots Q (F0 m pc ls (.int x :: rest)) := h ▸ k
/-- two int array classes are one -/
theorem wk_cA {tys : List (ClassId × FieldType)} {c1 c2 : ClassId} (hK : va_K D vwCl tys s) (i j : Nat) (hi : tys[i]? = some (c1, .int)) (hj : tys[j]? = some (c2, .int)) : c1 = c2 :=
  Option.some.inj ((va_nm_int (hK.2 i _ hi).2).symm.trans (va_nm_int (hK.2 j _ hj).2))
/-- a reading method's end -/
theorem wk_iretR {post : Int32 → Prop} {v : Int32} (hexec : p.tables.exec = Jvm.exec) (hb : c.code = cc) (hr : meth.sig.returnType = some .int) (hlocks : meth.locks = false) (hp : post v) (hdg : decode cc pc = .ok (.ireturn, 1)) : W p l e R s m args below meth c s.heap [] cells slots (MQ below (vp_Si post) args s cells slots (fun _ => False)) (F0 m pc ls [.int v]) :=
  W.iret hexec hb hr (fun t ht _ => ⟨v, rfl, hp, ht⟩) (fun q h => by cases h) hdg hlocks
theorem wk_zretR {post : Int32 → Prop} {v : Int32} (hexec : p.tables.exec = Jvm.exec) (hb : c.code = cc) (hr : meth.sig.returnType = some .boolean) (hlocks : meth.locks = false) (hv : v = 0 ∨ v = 1) (hp : post v) (hdg : decode cc pc = .ok (.ireturn, 1)) : W p l e R s m args below meth c s.heap [] cells slots (MQ below (vp_Si post) args s cells slots (fun _ => False)) (F0 m pc ls [.int v]) :=
  W.zret hexec hb hr (by rcases hv with rfl | rfl <;> rfl) (fun t ht _ => ⟨v, rfl, hp, ht⟩) (fun q h => by cases h) hdg hlocks
/-- a writing method's end -/
theorem wk_vret {S : Type} {post : S → Prop} {w : S → va_W} (u : S) (hexec : p.tables.exec = Jvm.exec) (hb : c.code = cc) (hr : meth.sig.returnType = none) (hlocks : meth.locks = false) (hp : post u) (hK : va_K D vwCl tys s) (hP : va_P D vwCl (w u) H) (hD : va_D A (w u)) (hS : va_S A s.heap H locs) (hdg : decode cc pc = .ok (.return_, 1)) : W p l e R s m args below meth c H locs cells slots (MQ below (va_Qv post (wk_B D tys A w) A) args s cells slots A) (F0 m pc ls []) :=
  W.vret hexec hb hr (fun t ht hW => ⟨⟨u, rfl, hp, by rw [ht]; exact hP, va_K.moved hW.alike hK, hD⟩, hS.F ht⟩) hS.2.2 hdg hlocks
theorem wk_iret {S : Type} {post : Int32 → S → Prop} {w : S → va_W} {v : Int32} (u : S) (hexec : p.tables.exec = Jvm.exec) (hb : c.code = cc) (hr : meth.sig.returnType = some .int) (hlocks : meth.locks = false) (hp : post v u) (hK : va_K D vwCl tys s) (hP : va_P D vwCl (w u) H) (hD : va_D A (w u)) (hS : va_S A s.heap H locs) (hdg : decode cc pc = .ok (.ireturn, 1)) : W p l e R s m args below meth c H locs cells slots (MQ below (va_Qi post (wk_B D tys A w) A) args s cells slots A) (F0 m pc ls [.int v]) :=
  W.iret hexec hb hr (fun t ht hW => ⟨⟨v, u, rfl, hp, by rw [ht]; exact hP, va_K.moved hW.alike hK, hD⟩, hS.F ht⟩) hS.2.2 hdg hlocks
theorem wk_zret {S : Type} {post : Int32 → S → Prop} {w : S → va_W} {v : Int32} (u : S) (hexec : p.tables.exec = Jvm.exec) (hb : c.code = cc) (hr : meth.sig.returnType = some .boolean) (hlocks : meth.locks = false) (hv : v = 0 ∨ v = 1) (hp : post v u) (hK : va_K D vwCl tys s) (hP : va_P D vwCl (w u) H) (hD : va_D A (w u)) (hS : va_S A s.heap H locs) (hdg : decode cc pc = .ok (.ireturn, 1)) : W p l e R s m args below meth c H locs cells slots (MQ below (va_Qi post (wk_B D tys A w) A) args s cells slots A) (F0 m pc ls [.int v]) :=
  W.zret hexec hb hr (by rcases hv with rfl | rfl <;> rfl) (fun t ht hW => ⟨⟨v, u, rfl, hp, by rw [ht]; exact hP, va_K.moved hW.alike hK, hD⟩, hS.F ht⟩) hS.2.2 hdg hlocks
/-- a call of a writing method, void: the callee's cells wc are at the places isC of ws, the rest wr at isR; behind it the world is wn u -/
theorem wk_cv {S : Type} {post : S → Prop} {w wn : S → va_W} {wc wr : va_W} {st0 : List Value} {av : Array Value} {mc ms : Nat} {tys1 : List (ClassId × FieldType)}
    (hr : va_Run p l e R s m args below meth c H locs cells slots mc ms (F0 m pc ls st0) rest (va_Qv post (wk_B D tys1 (va_A wc H.size) w) (va_A wc H.size) av) (va_A wc H.size))
    (hP : va_P D vwCl ws H) (hD : va_D A ws) (hS : va_S A H0 H locs) (hA : ∀ q, H0.size ≤ q → A q) (isC isR isN : List Nat)
    (hC : isC.map (fun i => ws[i]?) = wc.map some) (hR : isR.map (fun i => ws[i]?) = wr.map some) (hn : va_nd isR = true) (hdis : ∀ i ∈ isR, i ∉ isC) (hnN : va_nd isN = true) (hN : ∀ u, isN.map (fun i => (wr ++ w u)[i]?) = (wn u).map some)
    (kk : ∀ (u : S) (H1 : Heap) (locs1 : List Loc), post u → va_K D vwCl tys1 s → va_P D vwCl (wn u) H1 → va_D A (wn u) → va_S A H0 H1 locs1 → W p l e R s m args below meth c H1 locs1 (cells + mc) (slots + ms) Q (F0 m (pc + 3) ls rest)) : W p l e R s m args below meth c H locs cells slots Q (F0 m pc ls st0) := by
  have hF := va_free (wc := wc) hD hS hA isC hC
  refine va_callv hr hS (fun q _ h => hF q h) hF (fun u t H1 locs1 ht hvm hpo hB hz hk hS1 => ?_)
  obtain ⟨hP1, hK1, hD1⟩ := hB
  rw [ht] at hP1
  obtain ⟨hPn, hDn⟩ := va_join (wr := wr) (w1 := w u) hP hD isC isR hC hR hn hdis hk hF hP1 hD1
  exact kk u H1 locs1 hpo (va_K.moved hvm.symm hK1) (hPn.sub isN (wk_fm (hN u))) (hDn.sub isN hnN (hN u)) hS1
/-- the same, with an int as its answer -/
theorem wk_ci {S : Type} {post : Int32 → S → Prop} {w wn : S → va_W} {wc wr : va_W} {st0 : List Value} {av : Array Value} {mc ms : Nat} {tys1 : List (ClassId × FieldType)}
    (hr : va_Run p l e R s m args below meth c H locs cells slots mc ms (F0 m pc ls st0) rest (va_Qi post (wk_B D tys1 (va_A wc H.size) w) (va_A wc H.size) av) (va_A wc H.size))
    (hP : va_P D vwCl ws H) (hD : va_D A ws) (hS : va_S A H0 H locs) (hA : ∀ q, H0.size ≤ q → A q) (isC isR isN : List Nat)
    (hC : isC.map (fun i => ws[i]?) = wc.map some) (hR : isR.map (fun i => ws[i]?) = wr.map some) (hn : va_nd isR = true) (hdis : ∀ i ∈ isR, i ∉ isC) (hnN : va_nd isN = true) (hN : ∀ u, isN.map (fun i => (wr ++ w u)[i]?) = (wn u).map some)
    (kk : ∀ (r : Int32) (u : S) (H1 : Heap) (locs1 : List Loc), post r u → va_K D vwCl tys1 s → va_P D vwCl (wn u) H1 → va_D A (wn u) → va_S A H0 H1 locs1 → W p l e R s m args below meth c H1 locs1 (cells + mc) (slots + ms) Q (F0 m (pc + 3) ls (.int r :: rest))) : W p l e R s m args below meth c H locs cells slots Q (F0 m pc ls st0) := by
  have hF := va_free (wc := wc) hD hS hA isC hC
  refine va_calli hr hS (fun q _ h => hF q h) hF (fun r u t H1 locs1 ht hvm hpo hB hz hk hS1 => ?_)
  obtain ⟨hP1, hK1, hD1⟩ := hB
  rw [ht] at hP1
  obtain ⟨hPn, hDn⟩ := va_join (wr := wr) (w1 := w u) hP hD isC isR hC hR hn hdis hk hF hP1 hD1
  exact kk r u H1 locs1 hpo (va_K.moved hvm.symm hK1) (hPn.sub isN (wk_fm (hN u))) (hDn.sub isN hnN (hN u)) hS1
/-- a reading method that answers a known cell -/
def wk_Sa (b : Nat) : Array Value → State → Outcome → State → Prop := fun _ st o t => o = .returned (some (.ref b)) ∧ t.heap = st.heap
theorem wk_ca {b : Nat} {av : Array Value} {st0 : List Value} (hr : CallRun p l e R s m args below meth c H locs cells slots 0 0 (F0 m pc ls st0) rest (wk_Sa b av) (fun _ => False))
    (kk : W p l e R s m args below meth c H locs cells slots Q (F0 m (pc + 3) ls (.ref b :: rest))) : W p l e R s m args below meth c H locs cells slots Q (F0 m pc ls st0) := by
  intro T hT X
  obtain ⟨v, st₀, t, T', L, h0, X', hL, e1, ⟨hv, hh⟩, st⟩ := hr T hT X
  cases hv
  obtain ⟨t2, a1, b1⟩ := kk T' (by rw [e1, hh, h0]) (Stand.forget X' (fun q h => (hL q h).elim))
  exact ⟨t2, st t2 a1, b1⟩
end WKA
end
section
/-! Clauses: its four methods; Integer.numberOfTrailingZeros of one bit -/
def cl_h (y q k t : Int32) : Int32 := (y &&& (q ||| (k &&& t))) ||| ((q &&& k) &&& (t ^^^ (-1)))
def cl_o (y q k : Int32) : Int32 := (y ||| q) &&& (k ^^^ (-1))
set_option maxHeartbeats 4000000 in
set_option maxRecDepth 100000 in
theorem metX1_holds (l : Launch) (dC : Nat → ClassId) (dI : Nat → Nat → Nat) (d : ClassId) (h hy hn M k : Nat) (fy fn : Nat → Int32) (n kn tr : Int32) (hk : k < M) (hM : M < 2 ^ 31) : Met l yX1_holds (ws_ yX1_holds cX1_holds 4 (some .boolean)) ({ frames := 0, cells := 0, slots := 0, locals := 0 }) (wk_R (dC, dI) [(d, .int)] [(h, .inr (1, [.ref hy, .ref hn, .int n])), (hy, .inl (d, M, .inl fy)), (hn, .inl (d, M, .inl fn))] [.ref h, .int (nI k), .int kn, .int tr]) (vp_Si (fun r : Int32 => r = if cl_h (fy k) (fn k) kn tr = 0 then 0 else 1)) 0 0 (fun _ => False) := by
  refine Met.ofW (cc := cX1_holds) (maxL := 4) (ret := some .boolean) (by decide) rfl ?_
  intro p e s m args below meth c s₁ Bd hml hv
  obtain ⟨rfl, hP, hK⟩ := hv
  have hx := Bd.exec
  have hb := Bd.bytes
  have hr := Bd.returns
  have hts := atoms_spec (ws := ws_ yX1_holds cX1_holds 4 (some .boolean)) Bd.pre
  have hts : ∀ w ∈ lw_all, w.before _ s = true := fun w h => hts w (List.mem_cons_of_mem _ h)
  have hown : s.vm.findClass RX1 = some m.cls := findClass_of_methodNamed Bd.named
  have hlocks := Bd.notSynchronized
  have hK : va_K (dC, dI) vwCl [(d, .int)] s := hK
  have hP : va_P (dC, dI) vwCl [(h, .inr (1, [.ref hy, .ref hn, .int n])), (hy, .inl (d, M, .inl fy)), (hn, .inl (d, M, .inl fn))] s.heap := hP
  have hl := lv_entry ([.ref h, .int (nI k), .int kn, .int tr]) (n := 4) (Nat.le_of_ble_eq_true rfl)
  rw [lg_entry_eq]
  generalize (lg_sl ([.ref h, .int (nI k), .int kn, .int tr]) ++ List.replicate (4 - (lg_sl ([.ref h, .int (nI k), .int kn, .int tr])).length) Slot.unset).toArray = ls at hl ⊢
  have hl : lv_has ls 4 [(0, .ref h), (1, .int (nI k)), (2, .int kn), (3, .int tr)] := hl
  refine lv_aload_n hx hb dX1_holds_0 rfl (lv_at hl 0 rfl) ?_
  refine va_get (D := (dC, dI)) (ci := 1) (v := .ref hy) (C := RX1) (T := TX1) (N := 3) hx hb hts in_X1 hown hK hP 0 rfl rfl 0 (by decide) (hts _ q35) (fun _ h9 => h9) rfl dX1_holds_1 ?_
  refine lv_iload_n hx hb dX1_holds_4 rfl (lv_at hl 1 rfl) ?_
  refine wk_iald hx hb hK hP 1 0 rfl rfl k (rfl) (by omega) (hM) dX1_holds_5 ?_
  refine lv_aload_n hx hb dX1_holds_6 rfl (lv_at hl 0 rfl) ?_
  refine va_get (D := (dC, dI)) (ci := 1) (v := .ref hn) (C := RX1) (T := TX1) (N := 3) hx hb hts in_X1 hown hK hP 0 rfl rfl 1 (by decide) (hts _ q38) (fun _ h9 => h9) rfl dX1_holds_7 ?_
  refine lv_iload_n hx hb dX1_holds_10 rfl (lv_at hl 1 rfl) ?_
  refine wk_iald hx hb hK hP 2 0 rfl rfl k (rfl) (by omega) (hM) dX1_holds_11 ?_
  refine lv_iload_n hx hb dX1_holds_12 rfl (lv_at hl 2 rfl) ?_
  refine lv_iload_n hx hb dX1_holds_13 rfl (lv_at hl 3 rfl) ?_
  refine lv_iand hx hb dX1_holds_14 ?_
  refine lv_ior hx hb dX1_holds_15 ?_
  refine lv_iand hx hb dX1_holds_16 ?_
  refine lv_aload_n hx hb dX1_holds_17 rfl (lv_at hl 0 rfl) ?_
  refine va_get (D := (dC, dI)) (ci := 1) (v := .ref hn) (C := RX1) (T := TX1) (N := 3) hx hb hts in_X1 hown hK hP 0 rfl rfl 1 (by decide) (hts _ q38) (fun _ h9 => h9) rfl dX1_holds_18 ?_
  refine lv_iload_n hx hb dX1_holds_21 rfl (lv_at hl 1 rfl) ?_
  refine wk_iald hx hb hK hP 2 0 rfl rfl k (rfl) (by omega) (hM) dX1_holds_22 ?_
  refine lv_iload_n hx hb dX1_holds_23 rfl (lv_at hl 2 rfl) ?_
  refine lv_iand hx hb dX1_holds_24 ?_
  refine lv_iload_n hx hb dX1_holds_25 rfl (lv_at hl 3 rfl) ?_
  refine lv_iconst (v := (-1)) hx hb dX1_holds_26 (by decide) ?_
  refine lv_ixor hx hb dX1_holds_27 ?_
  refine lv_iand hx hb dX1_holds_28 ?_
  refine lv_ior hx hb dX1_holds_29 ?_
  refine lv_if_eq (tgt := 37) hx hb dX1_holds_30 (by decide) (fun c_1 => ?_) (fun c_1 => ?_)
  · refine lv_iconst (v := 0) hx hb dX1_holds_37 (by decide) ?_
    exact wk_zretR hx hb hr hlocks (by decide) ((if_pos (show cl_h (fy k) (fn k) kn tr = 0 from c_1)).symm) dX1_holds_38
  · refine lv_iconst (v := 1) hx hb dX1_holds_33 (by decide) ?_
    refine lv_goto (tgt := 38) hx hb dX1_holds_34 (by decide) ?_
    exact wk_zretR hx hb hr hlocks (by decide) ((if_neg (show ¬ cl_h (fy k) (fn k) kn tr = 0 from c_1)).symm) dX1_holds_38
set_option maxHeartbeats 4000000 in
set_option maxRecDepth 100000 in
theorem metX1_open (l : Launch) (dC : Nat → ClassId) (dI : Nat → Nat → Nat) (d : ClassId) (h hy hn M k : Nat) (fy fn : Nat → Int32) (n kn : Int32) (hk : k < M) (hM : M < 2 ^ 31) : Met l yX1_open (ws_ yX1_open cX1_open 3 (some .int)) ({ frames := 0, cells := 0, slots := 0, locals := 0 }) (wk_R (dC, dI) [(d, .int)] [(h, .inr (1, [.ref hy, .ref hn, .int n])), (hy, .inl (d, M, .inl fy)), (hn, .inl (d, M, .inl fn))] [.ref h, .int (nI k), .int kn]) (vp_Si (fun r : Int32 => r = cl_o (fy k) (fn k) kn)) 0 0 (fun _ => False) := by
  refine Met.ofW (cc := cX1_open) (maxL := 3) (ret := some .int) (by decide) rfl ?_
  intro p e s m args below meth c s₁ Bd hml hv
  obtain ⟨rfl, hP, hK⟩ := hv
  have hx := Bd.exec
  have hb := Bd.bytes
  have hr := Bd.returns
  have hts := atoms_spec (ws := ws_ yX1_open cX1_open 3 (some .int)) Bd.pre
  have hts : ∀ w ∈ lw_all, w.before _ s = true := fun w h => hts w (List.mem_cons_of_mem _ h)
  have hown : s.vm.findClass RX1 = some m.cls := findClass_of_methodNamed Bd.named
  have hlocks := Bd.notSynchronized
  have hK : va_K (dC, dI) vwCl [(d, .int)] s := hK
  have hP : va_P (dC, dI) vwCl [(h, .inr (1, [.ref hy, .ref hn, .int n])), (hy, .inl (d, M, .inl fy)), (hn, .inl (d, M, .inl fn))] s.heap := hP
  have hl := lv_entry ([.ref h, .int (nI k), .int kn]) (n := 3) (Nat.le_of_ble_eq_true rfl)
  rw [lg_entry_eq]
  generalize (lg_sl ([.ref h, .int (nI k), .int kn]) ++ List.replicate (3 - (lg_sl ([.ref h, .int (nI k), .int kn])).length) Slot.unset).toArray = ls at hl ⊢
  have hl : lv_has ls 3 [(0, .ref h), (1, .int (nI k)), (2, .int kn)] := hl
  refine lv_aload_n hx hb dX1_open_0 rfl (lv_at hl 0 rfl) ?_
  refine va_get (D := (dC, dI)) (ci := 1) (v := .ref hy) (C := RX1) (T := TX1) (N := 3) hx hb hts in_X1 hown hK hP 0 rfl rfl 0 (by decide) (hts _ q35) (fun _ h9 => h9) rfl dX1_open_1 ?_
  refine lv_iload_n hx hb dX1_open_4 rfl (lv_at hl 1 rfl) ?_
  refine wk_iald hx hb hK hP 1 0 rfl rfl k (rfl) (by omega) (hM) dX1_open_5 ?_
  refine lv_aload_n hx hb dX1_open_6 rfl (lv_at hl 0 rfl) ?_
  refine va_get (D := (dC, dI)) (ci := 1) (v := .ref hn) (C := RX1) (T := TX1) (N := 3) hx hb hts in_X1 hown hK hP 0 rfl rfl 1 (by decide) (hts _ q38) (fun _ h9 => h9) rfl dX1_open_7 ?_
  refine lv_iload_n hx hb dX1_open_10 rfl (lv_at hl 1 rfl) ?_
  refine wk_iald hx hb hK hP 2 0 rfl rfl k (rfl) (by omega) (hM) dX1_open_11 ?_
  refine lv_ior hx hb dX1_open_12 ?_
  refine lv_iload_n hx hb dX1_open_13 rfl (lv_at hl 2 rfl) ?_
  refine lv_iconst (v := (-1)) hx hb dX1_open_14 (by decide) ?_
  refine lv_ixor hx hb dX1_open_15 ?_
  refine lv_iand hx hb dX1_open_16 ?_
  exact wk_iretR hx hb hr hlocks (rfl) dX1_open_17
set_option maxHeartbeats 4000000 in
set_option maxRecDepth 100000 in
theorem metX1_add (l : Launch) (dC : Nat → ClassId) (dI : Nat → Nat → Nat) (d : ClassId) (sz : Nat) (h hy hn M n : Nat) (fy fn : Nat → Int32) (x1 x2 : Int32) (hk : n < M) (hM : M < 2 ^ 31) : Met l yX1_add (ws_ yX1_add cX1_add 3 (none)) ({ frames := 0, cells := 0, slots := 0, locals := 0 }) (wk_M (dC, dI) [(d, .int)] [(h, .inr (1, [.ref hy, .ref hn, .int (nI n)])), (hy, .inl (d, M, .inl fy)), (hn, .inl (d, M, .inl fn))] [.ref h, .int x1, .int x2] sz) (va_Qv (fun _ : Unit => True) (wk_B (dC, dI) [(d, .int)] (va_A [(h, .inr (1, [.ref hy, .ref hn, .int (nI n)])), (hy, .inl (d, M, .inl fy)), (hn, .inl (d, M, .inl fn))] sz) (fun _ => [(h, .inr (1, [.ref hy, .ref hn, .int (nI (n + 1))])), (hy, .inl (d, M, .inl (upd fy n x1))), (hn, .inl (d, M, .inl (upd fn n x2)))])) (va_A [(h, .inr (1, [.ref hy, .ref hn, .int (nI n)])), (hy, .inl (d, M, .inl fy)), (hn, .inl (d, M, .inl fn))] sz)) 0 0 (va_A [(h, .inr (1, [.ref hy, .ref hn, .int (nI n)])), (hy, .inl (d, M, .inl fy)), (hn, .inl (d, M, .inl fn))] sz) := by
  refine Met.ofW (cc := cX1_add) (maxL := 3) (ret := none) (by decide) rfl ?_
  intro p e s m args below meth c s₁ Bd hml hv
  obtain ⟨rfl, hsz, hP, hK, hD0⟩ := hv
  have hx := Bd.exec
  have hb := Bd.bytes
  have hr := Bd.returns
  have hts := atoms_spec (ws := ws_ yX1_add cX1_add 3 (none)) Bd.pre
  have hts : ∀ w ∈ lw_all, w.before _ s = true := fun w h => hts w (List.mem_cons_of_mem _ h)
  have hown : s.vm.findClass RX1 = some m.cls := findClass_of_methodNamed Bd.named
  have hlocks := Bd.notSynchronized
  have hK : va_K (dC, dI) vwCl [(d, .int)] s := hK
  subst hsz
  have hD := hD0.self (sz := s.heap.size)
  generalize hAe : va_A [(h, .inr (1, [.ref hy, .ref hn, .int (nI n)])), (hy, .inl (d, M, .inl fy)), (hn, .inl (d, M, .inl fn))] s.heap.size = A at hD ⊢
  have hA : ∀ q : Nat, s.heap.size ≤ q → A q := fun q h => by rw [← hAe]; exact Or.inr h
  have hS : va_S A s.heap s.heap [] := va_S.rf
  have hP : va_P (dC, dI) vwCl [(h, .inr (1, [.ref hy, .ref hn, .int (nI n)])), (hy, .inl (d, M, .inl fy)), (hn, .inl (d, M, .inl fn))] s.heap := hP
  have hl := lv_entry ([.ref h, .int x1, .int x2]) (n := 3) (Nat.le_of_ble_eq_true rfl)
  rw [lg_entry_eq]
  generalize (lg_sl ([.ref h, .int x1, .int x2]) ++ List.replicate (3 - (lg_sl ([.ref h, .int x1, .int x2])).length) Slot.unset).toArray = ls at hl ⊢
  have hl : lv_has ls 3 [(0, .ref h), (1, .int x1), (2, .int x2)] := hl
  refine lv_aload_n hx hb dX1_add_0 rfl (lv_at hl 0 rfl) ?_
  refine va_get (D := (dC, dI)) (ci := 1) (v := .ref hy) (C := RX1) (T := TX1) (N := 3) hx hb hts in_X1 hown hK hP 0 rfl rfl 0 (by decide) (hts _ q35) (fun _ h9 => h9) rfl dX1_add_1 ?_
  refine lv_aload_n hx hb dX1_add_4 rfl (lv_at hl 0 rfl) ?_
  refine va_get (D := (dC, dI)) (ci := 1) (v := .int (nI n)) (C := RX1) (T := TX1) (N := 3) hx hb hts in_X1 hown hK hP 0 rfl rfl 2 (by decide) (hts _ q40) (fun _ h9 => h9) rfl dX1_add_5 ?_
  refine lv_iload_n hx hb dX1_add_8 rfl (lv_at hl 1 rfl) ?_
  refine wk_iast hx hb hK hP hD hS 1 0 rfl rfl (x := x1) n (rfl) (by omega) (hM) dX1_add_9 (fun H locs hP hD hS => ?_)
  have hP : va_P (dC, dI) vwCl [(h, .inr (1, [.ref hy, .ref hn, .int (nI n)])), (hy, .inl (d, M, .inl (upd fy n x1))), (hn, .inl (d, M, .inl fn))] H := hP
  have hD : va_D A [(h, .inr (1, [.ref hy, .ref hn, .int (nI n)])), (hy, .inl (d, M, .inl (upd fy n x1))), (hn, .inl (d, M, .inl fn))] := hD
  refine lv_aload_n hx hb dX1_add_10 rfl (lv_at hl 0 rfl) ?_
  refine va_get (D := (dC, dI)) (ci := 1) (v := .ref hn) (C := RX1) (T := TX1) (N := 3) hx hb hts in_X1 hown hK hP 0 rfl rfl 1 (by decide) (hts _ q38) (fun _ h9 => h9) rfl dX1_add_11 ?_
  refine lv_aload_n hx hb dX1_add_14 rfl (lv_at hl 0 rfl) ?_
  refine lv_dup hx hb dX1_add_15 rfl ?_
  refine va_get (D := (dC, dI)) (ci := 1) (v := .int (nI n)) (C := RX1) (T := TX1) (N := 3) hx hb hts in_X1 hown hK hP 0 rfl rfl 2 (by decide) (hts _ q40) (fun _ h9 => h9) rfl dX1_add_16 ?_
  refine lv_dup_x1 hx hb dX1_add_19 rfl rfl ?_
  refine lv_iconst (v := 1) hx hb dX1_add_20 (by decide) ?_
  refine lv_iadd hx hb dX1_add_21 ?_
  refine wk_top (y := nI (n + 1)) ((nI_succ n).symm) ?_
  refine va_put (D := (dC, dI)) (ci := 1) (v := .int (nI (n + 1))) (ty := .int) (C := RX1) (T := TX1) (N := 3) hx hb hts in_X1 tyX1 tyX1_ok nmX1 hown hK hP hD hS 0 rfl rfl 2 (by decide) (hts _ q40) (fun _ h9 => h9) rfl (by decide +kernel) rfl rfl (Nat.le_of_ble_eq_true rfl) dX1_add_22 (fun H locs hP hD hS => ?_)
  have hP : va_P (dC, dI) vwCl [(h, .inr (1, [.ref hy, .ref hn, .int (nI (n + 1))])), (hy, .inl (d, M, .inl (upd fy n x1))), (hn, .inl (d, M, .inl fn))] H := hP
  have hD : va_D A [(h, .inr (1, [.ref hy, .ref hn, .int (nI (n + 1))])), (hy, .inl (d, M, .inl (upd fy n x1))), (hn, .inl (d, M, .inl fn))] := hD
  refine lv_iload_n hx hb dX1_add_25 rfl (lv_at hl 2 rfl) ?_
  refine wk_iast hx hb hK hP hD hS 2 0 rfl rfl (x := x2) n (rfl) (by omega) (hM) dX1_add_26 (fun H locs hP hD hS => ?_)
  have hP : va_P (dC, dI) vwCl [(h, .inr (1, [.ref hy, .ref hn, .int (nI (n + 1))])), (hy, .inl (d, M, .inl (upd fy n x1))), (hn, .inl (d, M, .inl (upd fn n x2)))] H := hP
  have hD : va_D A [(h, .inr (1, [.ref hy, .ref hn, .int (nI (n + 1))])), (hy, .inl (d, M, .inl (upd fy n x1))), (hn, .inl (d, M, .inl (upd fn n x2)))] := hD
  exact wk_vret (()) hx hb hr hlocks (trivial) hK hP hD hS dX1_add_27
set_option maxHeartbeats 4000000 in
set_option maxRecDepth 100000 in
theorem metX1_init (l : Launch) (dC : Nat → ClassId) (dI : Nat → Nat → Nat) (d : ClassId) (sz : Nat) (h M : Nat) (hM : M ≤ 6200) : Met l yX1_init (ws_ yX1_init cX1_init 2 (none)) ({ frames := 1, cells := 2, slots := (M + M), locals := 12 }) (wk_M (dC, dI) [(d, .int)] [(h, .inr (1, [.null, .null, .int 0]))] [.ref h, .int (nI M)] sz) (va_Qv (fun _ : Nat × Nat => True) (wk_B (dC, dI) [(d, .int)] (va_A [(h, .inr (1, [.null, .null, .int 0]))] sz) (fun u => [(h, .inr (1, [.ref u.1, .ref u.2, .int 0])), (u.1, .inl (d, M, .inl (fun _ => 0))), (u.2, .inl (d, M, .inl (fun _ => 0)))])) (va_A [(h, .inr (1, [.null, .null, .int 0]))] sz)) 2 (M + M) (va_A [(h, .inr (1, [.null, .null, .int 0]))] sz) := by
  refine Met.ofW (cc := cX1_init) (maxL := 2) (ret := none) (by decide) rfl ?_
  intro p e s m args below meth c s₁ Bd hml hv
  obtain ⟨rfl, hsz, hP, hK, hD0⟩ := hv
  have hx := Bd.exec
  have hb := Bd.bytes
  have hr := Bd.returns
  have hts := atoms_spec (ws := ws_ yX1_init cX1_init 2 (none)) Bd.pre
  have hts : ∀ w ∈ lw_all, w.before _ s = true := fun w h => hts w (List.mem_cons_of_mem _ h)
  have hown : s.vm.findClass RX1 = some m.cls := findClass_of_methodNamed Bd.named
  have hlocks := Bd.notSynchronized
  have hin : meth.name = "<init>" := (name_of_methodNamed Bd.named Bd.method).1
  have hK : va_K (dC, dI) vwCl [(d, .int)] s := hK
  subst hsz
  have hD := hD0.self (sz := s.heap.size)
  generalize hAe : va_A [(h, .inr (1, [.null, .null, .int 0]))] s.heap.size = A at hD ⊢
  have hA : ∀ q : Nat, s.heap.size ≤ q → A q := fun q h => by rw [← hAe]; exact Or.inr h
  have hS : va_S A s.heap s.heap [] := va_S.rf
  have hP : va_P (dC, dI) vwCl [(h, .inr (1, [.null, .null, .int 0]))] s.heap := hP
  have hl := lv_entry ([.ref h, .int (nI M)]) (n := 2) (Nat.le_of_ble_eq_true rfl)
  rw [lg_entry_eq]
  generalize (lg_sl ([.ref h, .int (nI M)]) ++ List.replicate (2 - (lg_sl ([.ref h, .int (nI M)])).length) Slot.unset).toArray = ls at hl ⊢
  have hl : lv_has ls 2 [(0, .ref h), (1, .int (nI M))] := hl
  refine lv_aload_n hx hb dX1_init_0 rfl (lv_at hl 0 rfl) ?_
  refine W.objInit hx hb hown (hts _ q34) (hts _ q27) (hts _ q28) rfl (by rw [hml]; exact hl.1) rfl dX1_init_1 (Nat.le_of_ble_eq_true rfl) (Nat.le_of_ble_eq_true rfl) ?_
  refine W.eq (g2 := F0 m 4 ls []) rfl ?_
  refine lv_aload_n hx hb dX1_init_4 rfl (lv_at hl 0 rfl) ?_
  refine lv_iconst (v := 0) hx hb dX1_init_5 (by decide) ?_
  refine va_put (D := (dC, dI)) (ci := 1) (v := .int 0) (ty := .int) (C := RX1) (T := TX1) (N := 3) hx hb hts in_X1 tyX1 tyX1_ok nmX1 hown hK hP hD hS 0 rfl rfl 2 (by decide) (hts _ q40) (fun _ h9 => h9) rfl (by decide +kernel) rfl rfl (Nat.le_of_ble_eq_true rfl) dX1_init_6 (fun H locs hP hD hS => ?_)
  have hP : va_P (dC, dI) vwCl [(h, .inr (1, [.null, .null, .int 0]))] H := hP
  have hD : va_D A [(h, .inr (1, [.null, .null, .int 0]))] := hD
  refine lv_aload_n hx hb dX1_init_9 rfl (lv_at hl 0 rfl) ?_
  refine lv_iload_n hx hb dX1_init_10 rfl (lv_at hl 1 rfl) ?_
  refine va_newa (atype := .int) (n := nI M) (N' := M) (a0 := (M, .inl (fun _ => 0))) hx hb (hts _ q51) rfl hK hP hD hS hA (fun _ => rfl) (nI_pos (by omega)) (nI_clamp (by omega)) (by show M * 4 ≤ _; omega) (by show 0 + 1 ≤ 2; omega) (by show 0 + M ≤ M + M; omega) dX1_init_11 (fun hy cA H hK hP hD hS => ?_)
  have e9 := wk_cA hK 1 0 rfl rfl
  rw [e9] at hK hP hD
  have hK := hK.sub (tys' := [(d, .int)]) [0] rfl
  have hP : va_P (dC, dI) vwCl [(h, .inr (1, [.null, .null, .int 0])), (hy, .inl (d, M, .inl (fun _ => 0)))] H := hP
  have hD : va_D A [(h, .inr (1, [.null, .null, .int 0])), (hy, .inl (d, M, .inl (fun _ => 0)))] := hD
  refine va_putF (D := (dC, dI)) (ci := 1) (v := .ref hy) (ty := .array .int) (C := RX1) (T := TX1) (N := 3) hx hb hts in_X1 tyX1 tyX1_ok nmX1 hown hK hP hD hS 0 rfl rfl 0 (by decide) (hts _ q35) (fun _ h9 => h9) rfl hin rfl (by decide +kernel) rfl rfl (Nat.le_of_ble_eq_true rfl) dX1_init_13 (fun H locs hP hD hS => ?_)
  have hP : va_P (dC, dI) vwCl [(h, .inr (1, [.ref hy, .null, .int 0])), (hy, .inl (d, M, .inl (fun _ => 0)))] H := hP
  have hD : va_D A [(h, .inr (1, [.ref hy, .null, .int 0])), (hy, .inl (d, M, .inl (fun _ => 0)))] := hD
  refine lv_aload_n hx hb dX1_init_16 rfl (lv_at hl 0 rfl) ?_
  refine lv_iload_n hx hb dX1_init_17 rfl (lv_at hl 1 rfl) ?_
  refine va_newa (atype := .int) (n := nI M) (N' := M) (a0 := (M, .inl (fun _ => 0))) hx hb (hts _ q51) rfl hK hP hD hS hA (fun _ => rfl) (nI_pos (by omega)) (nI_clamp (by omega)) (by show M * 4 ≤ _; omega) (by show 0 + 1 + 1 ≤ 2; omega) (by show 0 + M + M ≤ M + M; omega) dX1_init_18 (fun hn cA H hK hP hD hS => ?_)
  have e9 := wk_cA hK 1 0 rfl rfl
  rw [e9] at hK hP hD
  have hK := hK.sub (tys' := [(d, .int)]) [0] rfl
  have hP : va_P (dC, dI) vwCl [(h, .inr (1, [.ref hy, .null, .int 0])), (hy, .inl (d, M, .inl (fun _ => 0))), (hn, .inl (d, M, .inl (fun _ => 0)))] H := hP
  have hD : va_D A [(h, .inr (1, [.ref hy, .null, .int 0])), (hy, .inl (d, M, .inl (fun _ => 0))), (hn, .inl (d, M, .inl (fun _ => 0)))] := hD
  refine va_putF (D := (dC, dI)) (ci := 1) (v := .ref hn) (ty := .array .int) (C := RX1) (T := TX1) (N := 3) hx hb hts in_X1 tyX1 tyX1_ok nmX1 hown hK hP hD hS 0 rfl rfl 1 (by decide) (hts _ q38) (fun _ h9 => h9) rfl hin rfl (by decide +kernel) rfl rfl (Nat.le_of_ble_eq_true rfl) dX1_init_20 (fun H locs hP hD hS => ?_)
  have hP : va_P (dC, dI) vwCl [(h, .inr (1, [.ref hy, .ref hn, .int 0])), (hy, .inl (d, M, .inl (fun _ => 0))), (hn, .inl (d, M, .inl (fun _ => 0)))] H := hP
  have hD : va_D A [(h, .inr (1, [.ref hy, .ref hn, .int 0])), (hy, .inl (d, M, .inl (fun _ => 0))), (hn, .inl (d, M, .inl (fun _ => 0)))] := hD
  refine W.widen (k := 2) (n := M + M) (by omega) (by omega) ?_
  exact wk_vret ((hy, hn)) hx hb hr hlocks (trivial) hK hP hD hS dX1_init_23
theorem nz_0 : ∀ k, k < 12 → (((1 : Int32) <<< (nI k &&& 31) ^^^ (-1)) &&& ((1 : Int32) <<< (nI k &&& 31) - 1)) = nI (2 ^ k - 1) := by decide +kernel
set_option maxHeartbeats 4000000 in
set_option maxRecDepth 100000 in
theorem metJ0_ntz (l : Launch) (dC : Nat → ClassId) (dI : Nat → Nat → Nat) (d : ClassId) (k : Nat) (hk : k < 12) : Met l yJ0_numberOfTrailingZeros (ws_ yJ0_numberOfTrailingZeros cJ0_numberOfTrailingZeros 2 (some .int)) ({ frames := 0, cells := 0, slots := 0, locals := 0 }) (wk_R (dC, dI) [] [] [.int ((1 : Int32) <<< (nI k &&& 31))]) (vp_Si (fun r : Int32 => r = nI k)) 0 0 (fun _ => False) := by
  refine Met.ofW (cc := cJ0_numberOfTrailingZeros) (maxL := 2) (ret := some .int) (by decide) rfl ?_
  intro p e s m args below meth c s₁ Bd hml hv
  obtain ⟨rfl, hP, hK⟩ := hv
  have hx := Bd.exec
  have hb := Bd.bytes
  have hr := Bd.returns
  have hts := atoms_spec (ws := ws_ yJ0_numberOfTrailingZeros cJ0_numberOfTrailingZeros 2 (some .int)) Bd.pre
  have hts : ∀ w ∈ lw_all, w.before _ s = true := fun w h => hts w (List.mem_cons_of_mem _ h)
  have hown : s.vm.findClass RJ0 = some m.cls := findClass_of_methodNamed Bd.named
  have hlocks := Bd.notSynchronized
  have hK : va_K (dC, dI) vwCl [] s := hK
  have hP : va_P (dC, dI) vwCl [] s.heap := hP
  have hl := lv_entry ([.int ((1 : Int32) <<< (nI k &&& 31))]) (n := 2) (Nat.le_of_ble_eq_true rfl)
  rw [lg_entry_eq]
  generalize (lg_sl ([.int ((1 : Int32) <<< (nI k &&& 31))]) ++ List.replicate (2 - (lg_sl ([.int ((1 : Int32) <<< (nI k &&& 31))])).length) Slot.unset).toArray = ls at hl ⊢
  have hl : lv_has ls 2 [(0, .int ((1 : Int32) <<< (nI k &&& 31)))] := hl
  refine lv_iload_n hx hb dJ0_numberOfTrailingZeros_0 rfl (lv_at hl 0 rfl) ?_
  refine lv_iconst (v := (-1)) hx hb dJ0_numberOfTrailingZeros_1 (by decide) ?_
  refine lv_ixor hx hb dJ0_numberOfTrailingZeros_2 ?_
  refine lv_iload_n hx hb dJ0_numberOfTrailingZeros_3 rfl (lv_at hl 0 rfl) ?_
  refine lv_iconst (v := 1) hx hb dJ0_numberOfTrailingZeros_4 (by decide) ?_
  refine lv_isub hx hb dJ0_numberOfTrailingZeros_5 ?_
  refine lv_iand hx hb dJ0_numberOfTrailingZeros_6 ?_
  refine wk_top (y := nI (2 ^ k - 1)) (nz_0 k hk) ?_
  refine lv_istore_n (lv' := [(0, .int (nI (2 ^ k - 1)))]) hx hb dJ0_numberOfTrailingZeros_7 rfl hl (by decide) rfl (fun ls hl => ?_)
  refine lv_iload_n hx hb dJ0_numberOfTrailingZeros_8 rfl (lv_at hl 0 rfl) ?_
  refine lv_if_gt (tgt := 17) hx hb dJ0_numberOfTrailingZeros_9 (by decide) (fun c_1 => ?_) (fun c_1 => ?_)
  · refine lv_iconst (v := 1) hx hb dJ0_numberOfTrailingZeros_17 (by decide) ?_
    refine lv_istore_n (lv' := [(1, .int 1), (0, .int (nI (2 ^ k - 1)))]) hx hb dJ0_numberOfTrailingZeros_18 rfl hl (by decide) rfl (fun ls hl => ?_)
    refine lv_iload_n hx hb dJ0_numberOfTrailingZeros_19 rfl (lv_at hl 1 rfl) ?_
    refine lv_ldcw (v := 65536) hx hb hown (hts _ q167) dJ0_numberOfTrailingZeros_20 ?_
    refine lv_icmp_le (tgt := 34) hx hb dJ0_numberOfTrailingZeros_23 (by decide) (fun c_2 => ?_) (fun c_2 => ?_)
    · refine lv_iload_n hx hb dJ0_numberOfTrailingZeros_34 rfl (lv_at hl 1 rfl) ?_
      refine lv_sipush (v := 256) hx hb dJ0_numberOfTrailingZeros_35 (by decide) ?_
      refine lv_icmp_le (tgt := 49) hx hb dJ0_numberOfTrailingZeros_38 (by decide) (fun c_3 => ?_) (fun c_3 => ?_)
      · refine lv_iload_n hx hb dJ0_numberOfTrailingZeros_49 rfl (lv_at hl 1 rfl) ?_
        refine lv_bipush (v := 16) hx hb dJ0_numberOfTrailingZeros_50 (by decide) ?_
        refine lv_icmp_le (tgt := 62) hx hb dJ0_numberOfTrailingZeros_52 (by decide) (fun c_4 => ?_) (fun c_4 => ?_)
        · refine lv_iload_n hx hb dJ0_numberOfTrailingZeros_62 rfl (lv_at hl 1 rfl) ?_
          refine lv_iconst (v := 4) hx hb dJ0_numberOfTrailingZeros_63 (by decide) ?_
          refine lv_icmp_le (tgt := 74) hx hb dJ0_numberOfTrailingZeros_64 (by decide) (fun c_5 => ?_) (fun c_5 => ?_)
          · refine lv_iload_n hx hb dJ0_numberOfTrailingZeros_74 rfl (lv_at hl 0 rfl) ?_
            refine lv_iload_n hx hb dJ0_numberOfTrailingZeros_75 rfl (lv_at hl 1 rfl) ?_
            refine lv_iconst (v := 1) hx hb dJ0_numberOfTrailingZeros_76 (by decide) ?_
            refine lv_iushr (v := ((nI (2 ^ k - 1)).toUInt32 >>> (Int32.toUInt32 1 &&& Int32.toUInt32 31)).toInt32) hx hb dJ0_numberOfTrailingZeros_77 rfl ?_
            refine lv_iadd hx hb dJ0_numberOfTrailingZeros_78 ?_
            exact wk_iretR hx hb hr hlocks ((by decide +kernel : ∀ k, k < 12 → ((0 < (nI (2 ^ k - 1))) ∧ ((nI (2 ^ k - 1)) ≤ 65536) ∧ ((nI (2 ^ k - 1)) ≤ 256) ∧ ((nI (2 ^ k - 1)) ≤ 16) ∧ ((nI (2 ^ k - 1)) ≤ 4)) → ((1 : Int32) + (((nI (2 ^ k - 1)).toUInt32 >>> (Int32.toUInt32 1 &&& Int32.toUInt32 31)).toInt32) : Int32) = nI k) k hk ⟨c_1, c_2, c_3, c_4, c_5⟩) dJ0_numberOfTrailingZeros_79
          · refine lv_iinc (v := 1 + 2) (lv' := [(1, .int (1 + 2)), (0, .int (nI (2 ^ k - 1)))]) hx hb dJ0_numberOfTrailingZeros_67 hl (k := 0) rfl (by first | rfl | decide) (by decide) rfl (fun ls hl => ?_)
            refine lv_iload_n hx hb dJ0_numberOfTrailingZeros_70 rfl (lv_at hl 1 rfl) ?_
            refine lv_iconst (v := 2) hx hb dJ0_numberOfTrailingZeros_71 (by decide) ?_
            refine lv_iushr (v := ((nI (2 ^ k - 1)).toUInt32 >>> (Int32.toUInt32 2 &&& Int32.toUInt32 31)).toInt32) hx hb dJ0_numberOfTrailingZeros_72 rfl ?_
            refine lv_istore_n (lv' := [(0, .int (((nI (2 ^ k - 1)).toUInt32 >>> (Int32.toUInt32 2 &&& Int32.toUInt32 31)).toInt32)), (1, .int (1 + 2))]) hx hb dJ0_numberOfTrailingZeros_73 rfl hl (by decide) rfl (fun ls hl => ?_)
            refine lv_iload_n hx hb dJ0_numberOfTrailingZeros_74 rfl (lv_at hl 1 rfl) ?_
            refine lv_iload_n hx hb dJ0_numberOfTrailingZeros_75 rfl (lv_at hl 0 rfl) ?_
            refine lv_iconst (v := 1) hx hb dJ0_numberOfTrailingZeros_76 (by decide) ?_
            refine lv_iushr (v := ((((nI (2 ^ k - 1)).toUInt32 >>> (Int32.toUInt32 2 &&& Int32.toUInt32 31)).toInt32).toUInt32 >>> (Int32.toUInt32 1 &&& Int32.toUInt32 31)).toInt32) hx hb dJ0_numberOfTrailingZeros_77 rfl ?_
            refine lv_iadd hx hb dJ0_numberOfTrailingZeros_78 ?_
            exact wk_iretR hx hb hr hlocks ((by decide +kernel : ∀ k, k < 12 → ((0 < (nI (2 ^ k - 1))) ∧ ((nI (2 ^ k - 1)) ≤ 65536) ∧ ((nI (2 ^ k - 1)) ≤ 256) ∧ ((nI (2 ^ k - 1)) ≤ 16) ∧ (¬ (nI (2 ^ k - 1)) ≤ 4)) → ((1 + 2) + (((((nI (2 ^ k - 1)).toUInt32 >>> (Int32.toUInt32 2 &&& Int32.toUInt32 31)).toInt32).toUInt32 >>> (Int32.toUInt32 1 &&& Int32.toUInt32 31)).toInt32) : Int32) = nI k) k hk ⟨c_1, c_2, c_3, c_4, c_5⟩) dJ0_numberOfTrailingZeros_79
        · refine lv_iinc (v := 1 + 4) (lv' := [(1, .int (1 + 4)), (0, .int (nI (2 ^ k - 1)))]) hx hb dJ0_numberOfTrailingZeros_55 hl (k := 0) rfl (by first | rfl | decide) (by decide) rfl (fun ls hl => ?_)
          refine lv_iload_n hx hb dJ0_numberOfTrailingZeros_58 rfl (lv_at hl 1 rfl) ?_
          refine lv_iconst (v := 4) hx hb dJ0_numberOfTrailingZeros_59 (by decide) ?_
          refine lv_iushr (v := ((nI (2 ^ k - 1)).toUInt32 >>> (Int32.toUInt32 4 &&& Int32.toUInt32 31)).toInt32) hx hb dJ0_numberOfTrailingZeros_60 rfl ?_
          refine lv_istore_n (lv' := [(0, .int (((nI (2 ^ k - 1)).toUInt32 >>> (Int32.toUInt32 4 &&& Int32.toUInt32 31)).toInt32)), (1, .int (1 + 4))]) hx hb dJ0_numberOfTrailingZeros_61 rfl hl (by decide) rfl (fun ls hl => ?_)
          refine lv_iload_n hx hb dJ0_numberOfTrailingZeros_62 rfl (lv_at hl 0 rfl) ?_
          refine lv_iconst (v := 4) hx hb dJ0_numberOfTrailingZeros_63 (by decide) ?_
          refine lv_icmp_le (tgt := 74) hx hb dJ0_numberOfTrailingZeros_64 (by decide) (fun c_5 => ?_) (fun c_5 => ?_)
          · refine lv_iload_n hx hb dJ0_numberOfTrailingZeros_74 rfl (lv_at hl 1 rfl) ?_
            refine lv_iload_n hx hb dJ0_numberOfTrailingZeros_75 rfl (lv_at hl 0 rfl) ?_
            refine lv_iconst (v := 1) hx hb dJ0_numberOfTrailingZeros_76 (by decide) ?_
            refine lv_iushr (v := ((((nI (2 ^ k - 1)).toUInt32 >>> (Int32.toUInt32 4 &&& Int32.toUInt32 31)).toInt32).toUInt32 >>> (Int32.toUInt32 1 &&& Int32.toUInt32 31)).toInt32) hx hb dJ0_numberOfTrailingZeros_77 rfl ?_
            refine lv_iadd hx hb dJ0_numberOfTrailingZeros_78 ?_
            exact wk_iretR hx hb hr hlocks ((by decide +kernel : ∀ k, k < 12 → ((0 < (nI (2 ^ k - 1))) ∧ ((nI (2 ^ k - 1)) ≤ 65536) ∧ ((nI (2 ^ k - 1)) ≤ 256) ∧ (¬ (nI (2 ^ k - 1)) ≤ 16) ∧ ((((nI (2 ^ k - 1)).toUInt32 >>> (Int32.toUInt32 4 &&& Int32.toUInt32 31)).toInt32) ≤ 4)) → ((1 + 4) + (((((nI (2 ^ k - 1)).toUInt32 >>> (Int32.toUInt32 4 &&& Int32.toUInt32 31)).toInt32).toUInt32 >>> (Int32.toUInt32 1 &&& Int32.toUInt32 31)).toInt32) : Int32) = nI k) k hk ⟨c_1, c_2, c_3, c_4, c_5⟩) dJ0_numberOfTrailingZeros_79
          · refine lv_iinc (v := (1 + 4) + 2) (lv' := [(1, .int ((1 + 4) + 2)), (0, .int (((nI (2 ^ k - 1)).toUInt32 >>> (Int32.toUInt32 4 &&& Int32.toUInt32 31)).toInt32))]) hx hb dJ0_numberOfTrailingZeros_67 hl (k := 1) rfl (by first | rfl | decide) (by decide) rfl (fun ls hl => ?_)
            refine lv_iload_n hx hb dJ0_numberOfTrailingZeros_70 rfl (lv_at hl 1 rfl) ?_
            refine lv_iconst (v := 2) hx hb dJ0_numberOfTrailingZeros_71 (by decide) ?_
            refine lv_iushr (v := ((((nI (2 ^ k - 1)).toUInt32 >>> (Int32.toUInt32 4 &&& Int32.toUInt32 31)).toInt32).toUInt32 >>> (Int32.toUInt32 2 &&& Int32.toUInt32 31)).toInt32) hx hb dJ0_numberOfTrailingZeros_72 rfl ?_
            refine lv_istore_n (lv' := [(0, .int (((((nI (2 ^ k - 1)).toUInt32 >>> (Int32.toUInt32 4 &&& Int32.toUInt32 31)).toInt32).toUInt32 >>> (Int32.toUInt32 2 &&& Int32.toUInt32 31)).toInt32)), (1, .int ((1 + 4) + 2))]) hx hb dJ0_numberOfTrailingZeros_73 rfl hl (by decide) rfl (fun ls hl => ?_)
            refine lv_iload_n hx hb dJ0_numberOfTrailingZeros_74 rfl (lv_at hl 1 rfl) ?_
            refine lv_iload_n hx hb dJ0_numberOfTrailingZeros_75 rfl (lv_at hl 0 rfl) ?_
            refine lv_iconst (v := 1) hx hb dJ0_numberOfTrailingZeros_76 (by decide) ?_
            refine lv_iushr (v := ((((((nI (2 ^ k - 1)).toUInt32 >>> (Int32.toUInt32 4 &&& Int32.toUInt32 31)).toInt32).toUInt32 >>> (Int32.toUInt32 2 &&& Int32.toUInt32 31)).toInt32).toUInt32 >>> (Int32.toUInt32 1 &&& Int32.toUInt32 31)).toInt32) hx hb dJ0_numberOfTrailingZeros_77 rfl ?_
            refine lv_iadd hx hb dJ0_numberOfTrailingZeros_78 ?_
            exact wk_iretR hx hb hr hlocks ((by decide +kernel : ∀ k, k < 12 → ((0 < (nI (2 ^ k - 1))) ∧ ((nI (2 ^ k - 1)) ≤ 65536) ∧ ((nI (2 ^ k - 1)) ≤ 256) ∧ (¬ (nI (2 ^ k - 1)) ≤ 16) ∧ (¬ (((nI (2 ^ k - 1)).toUInt32 >>> (Int32.toUInt32 4 &&& Int32.toUInt32 31)).toInt32) ≤ 4)) → (((1 + 4) + 2) + (((((((nI (2 ^ k - 1)).toUInt32 >>> (Int32.toUInt32 4 &&& Int32.toUInt32 31)).toInt32).toUInt32 >>> (Int32.toUInt32 2 &&& Int32.toUInt32 31)).toInt32).toUInt32 >>> (Int32.toUInt32 1 &&& Int32.toUInt32 31)).toInt32) : Int32) = nI k) k hk ⟨c_1, c_2, c_3, c_4, c_5⟩) dJ0_numberOfTrailingZeros_79
      · refine lv_iinc (v := 1 + 8) (lv' := [(1, .int (1 + 8)), (0, .int (nI (2 ^ k - 1)))]) hx hb dJ0_numberOfTrailingZeros_41 hl (k := 0) rfl (by first | rfl | decide) (by decide) rfl (fun ls hl => ?_)
        refine lv_iload_n hx hb dJ0_numberOfTrailingZeros_44 rfl (lv_at hl 1 rfl) ?_
        refine lv_bipush (v := 8) hx hb dJ0_numberOfTrailingZeros_45 (by decide) ?_
        refine lv_iushr (v := ((nI (2 ^ k - 1)).toUInt32 >>> (Int32.toUInt32 8 &&& Int32.toUInt32 31)).toInt32) hx hb dJ0_numberOfTrailingZeros_47 rfl ?_
        refine lv_istore_n (lv' := [(0, .int (((nI (2 ^ k - 1)).toUInt32 >>> (Int32.toUInt32 8 &&& Int32.toUInt32 31)).toInt32)), (1, .int (1 + 8))]) hx hb dJ0_numberOfTrailingZeros_48 rfl hl (by decide) rfl (fun ls hl => ?_)
        refine lv_iload_n hx hb dJ0_numberOfTrailingZeros_49 rfl (lv_at hl 0 rfl) ?_
        refine lv_bipush (v := 16) hx hb dJ0_numberOfTrailingZeros_50 (by decide) ?_
        refine lv_icmp_le (tgt := 62) hx hb dJ0_numberOfTrailingZeros_52 (by decide) (fun c_4 => ?_) (fun c_4 => ?_)
        · refine lv_iload_n hx hb dJ0_numberOfTrailingZeros_62 rfl (lv_at hl 0 rfl) ?_
          refine lv_iconst (v := 4) hx hb dJ0_numberOfTrailingZeros_63 (by decide) ?_
          refine lv_icmp_le (tgt := 74) hx hb dJ0_numberOfTrailingZeros_64 (by decide) (fun c_5 => ?_) (fun c_5 => ?_)
          · refine lv_iload_n hx hb dJ0_numberOfTrailingZeros_74 rfl (lv_at hl 1 rfl) ?_
            refine lv_iload_n hx hb dJ0_numberOfTrailingZeros_75 rfl (lv_at hl 0 rfl) ?_
            refine lv_iconst (v := 1) hx hb dJ0_numberOfTrailingZeros_76 (by decide) ?_
            refine lv_iushr (v := ((((nI (2 ^ k - 1)).toUInt32 >>> (Int32.toUInt32 8 &&& Int32.toUInt32 31)).toInt32).toUInt32 >>> (Int32.toUInt32 1 &&& Int32.toUInt32 31)).toInt32) hx hb dJ0_numberOfTrailingZeros_77 rfl ?_
            refine lv_iadd hx hb dJ0_numberOfTrailingZeros_78 ?_
            exact wk_iretR hx hb hr hlocks ((by decide +kernel : ∀ k, k < 12 → ((0 < (nI (2 ^ k - 1))) ∧ ((nI (2 ^ k - 1)) ≤ 65536) ∧ (¬ (nI (2 ^ k - 1)) ≤ 256) ∧ ((((nI (2 ^ k - 1)).toUInt32 >>> (Int32.toUInt32 8 &&& Int32.toUInt32 31)).toInt32) ≤ 16) ∧ ((((nI (2 ^ k - 1)).toUInt32 >>> (Int32.toUInt32 8 &&& Int32.toUInt32 31)).toInt32) ≤ 4)) → ((1 + 8) + (((((nI (2 ^ k - 1)).toUInt32 >>> (Int32.toUInt32 8 &&& Int32.toUInt32 31)).toInt32).toUInt32 >>> (Int32.toUInt32 1 &&& Int32.toUInt32 31)).toInt32) : Int32) = nI k) k hk ⟨c_1, c_2, c_3, c_4, c_5⟩) dJ0_numberOfTrailingZeros_79
          · refine lv_iinc (v := (1 + 8) + 2) (lv' := [(1, .int ((1 + 8) + 2)), (0, .int (((nI (2 ^ k - 1)).toUInt32 >>> (Int32.toUInt32 8 &&& Int32.toUInt32 31)).toInt32))]) hx hb dJ0_numberOfTrailingZeros_67 hl (k := 1) rfl (by first | rfl | decide) (by decide) rfl (fun ls hl => ?_)
            refine lv_iload_n hx hb dJ0_numberOfTrailingZeros_70 rfl (lv_at hl 1 rfl) ?_
            refine lv_iconst (v := 2) hx hb dJ0_numberOfTrailingZeros_71 (by decide) ?_
            refine lv_iushr (v := ((((nI (2 ^ k - 1)).toUInt32 >>> (Int32.toUInt32 8 &&& Int32.toUInt32 31)).toInt32).toUInt32 >>> (Int32.toUInt32 2 &&& Int32.toUInt32 31)).toInt32) hx hb dJ0_numberOfTrailingZeros_72 rfl ?_
            refine lv_istore_n (lv' := [(0, .int (((((nI (2 ^ k - 1)).toUInt32 >>> (Int32.toUInt32 8 &&& Int32.toUInt32 31)).toInt32).toUInt32 >>> (Int32.toUInt32 2 &&& Int32.toUInt32 31)).toInt32)), (1, .int ((1 + 8) + 2))]) hx hb dJ0_numberOfTrailingZeros_73 rfl hl (by decide) rfl (fun ls hl => ?_)
            refine lv_iload_n hx hb dJ0_numberOfTrailingZeros_74 rfl (lv_at hl 1 rfl) ?_
            refine lv_iload_n hx hb dJ0_numberOfTrailingZeros_75 rfl (lv_at hl 0 rfl) ?_
            refine lv_iconst (v := 1) hx hb dJ0_numberOfTrailingZeros_76 (by decide) ?_
            refine lv_iushr (v := ((((((nI (2 ^ k - 1)).toUInt32 >>> (Int32.toUInt32 8 &&& Int32.toUInt32 31)).toInt32).toUInt32 >>> (Int32.toUInt32 2 &&& Int32.toUInt32 31)).toInt32).toUInt32 >>> (Int32.toUInt32 1 &&& Int32.toUInt32 31)).toInt32) hx hb dJ0_numberOfTrailingZeros_77 rfl ?_
            refine lv_iadd hx hb dJ0_numberOfTrailingZeros_78 ?_
            exact wk_iretR hx hb hr hlocks ((by decide +kernel : ∀ k, k < 12 → ((0 < (nI (2 ^ k - 1))) ∧ ((nI (2 ^ k - 1)) ≤ 65536) ∧ (¬ (nI (2 ^ k - 1)) ≤ 256) ∧ ((((nI (2 ^ k - 1)).toUInt32 >>> (Int32.toUInt32 8 &&& Int32.toUInt32 31)).toInt32) ≤ 16) ∧ (¬ (((nI (2 ^ k - 1)).toUInt32 >>> (Int32.toUInt32 8 &&& Int32.toUInt32 31)).toInt32) ≤ 4)) → (((1 + 8) + 2) + (((((((nI (2 ^ k - 1)).toUInt32 >>> (Int32.toUInt32 8 &&& Int32.toUInt32 31)).toInt32).toUInt32 >>> (Int32.toUInt32 2 &&& Int32.toUInt32 31)).toInt32).toUInt32 >>> (Int32.toUInt32 1 &&& Int32.toUInt32 31)).toInt32) : Int32) = nI k) k hk ⟨c_1, c_2, c_3, c_4, c_5⟩) dJ0_numberOfTrailingZeros_79
        · refine lv_iinc (v := (1 + 8) + 4) (lv' := [(1, .int ((1 + 8) + 4)), (0, .int (((nI (2 ^ k - 1)).toUInt32 >>> (Int32.toUInt32 8 &&& Int32.toUInt32 31)).toInt32))]) hx hb dJ0_numberOfTrailingZeros_55 hl (k := 1) rfl (by first | rfl | decide) (by decide) rfl (fun ls hl => ?_)
          refine lv_iload_n hx hb dJ0_numberOfTrailingZeros_58 rfl (lv_at hl 1 rfl) ?_
          refine lv_iconst (v := 4) hx hb dJ0_numberOfTrailingZeros_59 (by decide) ?_
          refine lv_iushr (v := ((((nI (2 ^ k - 1)).toUInt32 >>> (Int32.toUInt32 8 &&& Int32.toUInt32 31)).toInt32).toUInt32 >>> (Int32.toUInt32 4 &&& Int32.toUInt32 31)).toInt32) hx hb dJ0_numberOfTrailingZeros_60 rfl ?_
          refine lv_istore_n (lv' := [(0, .int (((((nI (2 ^ k - 1)).toUInt32 >>> (Int32.toUInt32 8 &&& Int32.toUInt32 31)).toInt32).toUInt32 >>> (Int32.toUInt32 4 &&& Int32.toUInt32 31)).toInt32)), (1, .int ((1 + 8) + 4))]) hx hb dJ0_numberOfTrailingZeros_61 rfl hl (by decide) rfl (fun ls hl => ?_)
          refine lv_iload_n hx hb dJ0_numberOfTrailingZeros_62 rfl (lv_at hl 0 rfl) ?_
          refine lv_iconst (v := 4) hx hb dJ0_numberOfTrailingZeros_63 (by decide) ?_
          refine lv_icmp_le (tgt := 74) hx hb dJ0_numberOfTrailingZeros_64 (by decide) (fun c_5 => ?_) (fun c_5 => ?_)
          · refine lv_iload_n hx hb dJ0_numberOfTrailingZeros_74 rfl (lv_at hl 1 rfl) ?_
            refine lv_iload_n hx hb dJ0_numberOfTrailingZeros_75 rfl (lv_at hl 0 rfl) ?_
            refine lv_iconst (v := 1) hx hb dJ0_numberOfTrailingZeros_76 (by decide) ?_
            refine lv_iushr (v := ((((((nI (2 ^ k - 1)).toUInt32 >>> (Int32.toUInt32 8 &&& Int32.toUInt32 31)).toInt32).toUInt32 >>> (Int32.toUInt32 4 &&& Int32.toUInt32 31)).toInt32).toUInt32 >>> (Int32.toUInt32 1 &&& Int32.toUInt32 31)).toInt32) hx hb dJ0_numberOfTrailingZeros_77 rfl ?_
            refine lv_iadd hx hb dJ0_numberOfTrailingZeros_78 ?_
            exact wk_iretR hx hb hr hlocks ((by decide +kernel : ∀ k, k < 12 → ((0 < (nI (2 ^ k - 1))) ∧ ((nI (2 ^ k - 1)) ≤ 65536) ∧ (¬ (nI (2 ^ k - 1)) ≤ 256) ∧ (¬ (((nI (2 ^ k - 1)).toUInt32 >>> (Int32.toUInt32 8 &&& Int32.toUInt32 31)).toInt32) ≤ 16) ∧ ((((((nI (2 ^ k - 1)).toUInt32 >>> (Int32.toUInt32 8 &&& Int32.toUInt32 31)).toInt32).toUInt32 >>> (Int32.toUInt32 4 &&& Int32.toUInt32 31)).toInt32) ≤ 4)) → (((1 + 8) + 4) + (((((((nI (2 ^ k - 1)).toUInt32 >>> (Int32.toUInt32 8 &&& Int32.toUInt32 31)).toInt32).toUInt32 >>> (Int32.toUInt32 4 &&& Int32.toUInt32 31)).toInt32).toUInt32 >>> (Int32.toUInt32 1 &&& Int32.toUInt32 31)).toInt32) : Int32) = nI k) k hk ⟨c_1, c_2, c_3, c_4, c_5⟩) dJ0_numberOfTrailingZeros_79
          · refine lv_iinc (v := ((1 + 8) + 4) + 2) (lv' := [(1, .int (((1 + 8) + 4) + 2)), (0, .int (((((nI (2 ^ k - 1)).toUInt32 >>> (Int32.toUInt32 8 &&& Int32.toUInt32 31)).toInt32).toUInt32 >>> (Int32.toUInt32 4 &&& Int32.toUInt32 31)).toInt32))]) hx hb dJ0_numberOfTrailingZeros_67 hl (k := 1) rfl (by first | rfl | decide) (by decide) rfl (fun ls hl => ?_)
            refine lv_iload_n hx hb dJ0_numberOfTrailingZeros_70 rfl (lv_at hl 1 rfl) ?_
            refine lv_iconst (v := 2) hx hb dJ0_numberOfTrailingZeros_71 (by decide) ?_
            refine lv_iushr (v := ((((((nI (2 ^ k - 1)).toUInt32 >>> (Int32.toUInt32 8 &&& Int32.toUInt32 31)).toInt32).toUInt32 >>> (Int32.toUInt32 4 &&& Int32.toUInt32 31)).toInt32).toUInt32 >>> (Int32.toUInt32 2 &&& Int32.toUInt32 31)).toInt32) hx hb dJ0_numberOfTrailingZeros_72 rfl ?_
            refine lv_istore_n (lv' := [(0, .int (((((((nI (2 ^ k - 1)).toUInt32 >>> (Int32.toUInt32 8 &&& Int32.toUInt32 31)).toInt32).toUInt32 >>> (Int32.toUInt32 4 &&& Int32.toUInt32 31)).toInt32).toUInt32 >>> (Int32.toUInt32 2 &&& Int32.toUInt32 31)).toInt32)), (1, .int (((1 + 8) + 4) + 2))]) hx hb dJ0_numberOfTrailingZeros_73 rfl hl (by decide) rfl (fun ls hl => ?_)
            refine lv_iload_n hx hb dJ0_numberOfTrailingZeros_74 rfl (lv_at hl 1 rfl) ?_
            refine lv_iload_n hx hb dJ0_numberOfTrailingZeros_75 rfl (lv_at hl 0 rfl) ?_
            refine lv_iconst (v := 1) hx hb dJ0_numberOfTrailingZeros_76 (by decide) ?_
            refine lv_iushr (v := ((((((((nI (2 ^ k - 1)).toUInt32 >>> (Int32.toUInt32 8 &&& Int32.toUInt32 31)).toInt32).toUInt32 >>> (Int32.toUInt32 4 &&& Int32.toUInt32 31)).toInt32).toUInt32 >>> (Int32.toUInt32 2 &&& Int32.toUInt32 31)).toInt32).toUInt32 >>> (Int32.toUInt32 1 &&& Int32.toUInt32 31)).toInt32) hx hb dJ0_numberOfTrailingZeros_77 rfl ?_
            refine lv_iadd hx hb dJ0_numberOfTrailingZeros_78 ?_
            exact wk_iretR hx hb hr hlocks ((by decide +kernel : ∀ k, k < 12 → ((0 < (nI (2 ^ k - 1))) ∧ ((nI (2 ^ k - 1)) ≤ 65536) ∧ (¬ (nI (2 ^ k - 1)) ≤ 256) ∧ (¬ (((nI (2 ^ k - 1)).toUInt32 >>> (Int32.toUInt32 8 &&& Int32.toUInt32 31)).toInt32) ≤ 16) ∧ (¬ (((((nI (2 ^ k - 1)).toUInt32 >>> (Int32.toUInt32 8 &&& Int32.toUInt32 31)).toInt32).toUInt32 >>> (Int32.toUInt32 4 &&& Int32.toUInt32 31)).toInt32) ≤ 4)) → ((((1 + 8) + 4) + 2) + (((((((((nI (2 ^ k - 1)).toUInt32 >>> (Int32.toUInt32 8 &&& Int32.toUInt32 31)).toInt32).toUInt32 >>> (Int32.toUInt32 4 &&& Int32.toUInt32 31)).toInt32).toUInt32 >>> (Int32.toUInt32 2 &&& Int32.toUInt32 31)).toInt32).toUInt32 >>> (Int32.toUInt32 1 &&& Int32.toUInt32 31)).toInt32) : Int32) = nI k) k hk ⟨c_1, c_2, c_3, c_4, c_5⟩) dJ0_numberOfTrailingZeros_79
    · exact absurd c_2 ((by decide +kernel : ∀ k, k < 12 → ¬ (¬ (nI (2 ^ k - 1)) ≤ 65536)) k hk)
  · refine lv_iload_n hx hb dJ0_numberOfTrailingZeros_12 rfl (lv_at hl 0 rfl) ?_
    refine lv_bipush (v := 32) hx hb dJ0_numberOfTrailingZeros_13 (by decide) ?_
    refine lv_iand hx hb dJ0_numberOfTrailingZeros_15 ?_
    exact wk_iretR hx hb hr hlocks ((by decide +kernel : ∀ k, k < 12 → (¬ 0 < (nI (2 ^ k - 1))) → ((nI (2 ^ k - 1)) &&& 32 : Int32) = nI k) k hk c_1) dJ0_numberOfTrailingZeros_16
end
section
/-! Search: its small methods: assign, back, set, here, next, forget -/
def sa_t (b t : Int32) (x : Nat) : Int32 := if b = 0 then t &&& (((1 : Int32) <<< (nI x &&& 31)) ^^^ (-1)) else t ||| ((1 : Int32) <<< (nI x &&& 31))
theorem sa_t_eq {bI t : Int32} {b : Bool} {x : Nat} (h : bI = 0 ↔ b = false) : sa_t bI t x = if b = true then t ||| ((1 : Int32) <<< (nI x &&& 31)) else t &&& (((1 : Int32) <<< (nI x &&& 31)) ^^^ (-1)) := by
  unfold sa_t
  cases b
  · rw [if_pos (h.mpr rfl), if_neg (by decide)]
  · rw [if_neg (fun e => by cases h.mp e), if_pos rfl]
set_option maxHeartbeats 4000000 in
set_option maxRecDepth 100000 in
theorem metX2_assign (l : Launch) (dC : Nat → ClassId) (dI : Nat → Nat → Nat) (d : ClassId) (sz : Nat) (h g ln hv hw ht : Nat) (td x : Nat) (lvs k t b w9 : Int32) (lv wy tr : Nat → Int32) (k_x : x < 12) (k_td : td < 12) : Met l yX2_assign (ws_ yX2_assign cX2_assign 4 (none)) ({ frames := 0, cells := 0, slots := 0, locals := 0 }) (wk_M (dC, dI) [(d, .int)] [(h, .inr (2, [.ref g, .ref ln, .ref hv, .ref hw, .ref ht, .int (nI td), .int lvs, .int k, .int t])), (hv, .inl (d, 12, .inl lv)), (hw, .inl (d, 12, .inl wy)), (ht, .inl (d, 12, .inl tr))] [.ref h, .int (nI x), .int b, .int w9] sz) (va_Qv (fun _ : Unit => True) (wk_B (dC, dI) [(d, .int)] (va_A [(h, .inr (2, [.ref g, .ref ln, .ref hv, .ref hw, .ref ht, .int (nI td), .int lvs, .int k, .int t])), (hv, .inl (d, 12, .inl lv)), (hw, .inl (d, 12, .inl wy)), (ht, .inl (d, 12, .inl tr))] sz) (fun _ => [(h, .inr (2, [.ref g, .ref ln, .ref hv, .ref hw, .ref ht, .int (nI (td + 1)), .int lvs, .int (k ||| ((1 : Int32) <<< (nI x &&& 31))), .int (sa_t b t x)])), (hv, .inl (d, 12, .inl (upd lv x lvs))), (hw, .inl (d, 12, .inl (upd wy x w9))), (ht, .inl (d, 12, .inl (upd tr td (nI x))))])) (va_A [(h, .inr (2, [.ref g, .ref ln, .ref hv, .ref hw, .ref ht, .int (nI td), .int lvs, .int k, .int t])), (hv, .inl (d, 12, .inl lv)), (hw, .inl (d, 12, .inl wy)), (ht, .inl (d, 12, .inl tr))] sz)) 0 0 (va_A [(h, .inr (2, [.ref g, .ref ln, .ref hv, .ref hw, .ref ht, .int (nI td), .int lvs, .int k, .int t])), (hv, .inl (d, 12, .inl lv)), (hw, .inl (d, 12, .inl wy)), (ht, .inl (d, 12, .inl tr))] sz) := by
  refine Met.ofW (cc := cX2_assign) (maxL := 4) (ret := none) (by decide) rfl ?_
  intro p e s m args below meth c s₁ Bd hml hv
  obtain ⟨rfl, hsz, hP, hK, hD0⟩ := hv
  have hx := Bd.exec
  have hb := Bd.bytes
  have hr := Bd.returns
  have hts := atoms_spec (ws := ws_ yX2_assign cX2_assign 4 (none)) Bd.pre
  have hts : ∀ w ∈ lw_all, w.before _ s = true := fun w h => hts w (List.mem_cons_of_mem _ h)
  have hown : s.vm.findClass RX2 = some m.cls := findClass_of_methodNamed Bd.named
  have hlocks := Bd.notSynchronized
  have hK : va_K (dC, dI) vwCl [(d, .int)] s := hK
  subst hsz
  have hD := hD0.self (sz := s.heap.size)
  generalize hAe : va_A [(h, .inr (2, [.ref g, .ref ln, .ref hv, .ref hw, .ref ht, .int (nI td), .int lvs, .int k, .int t])), (hv, .inl (d, 12, .inl lv)), (hw, .inl (d, 12, .inl wy)), (ht, .inl (d, 12, .inl tr))] s.heap.size = A at hD ⊢
  have hA : ∀ q : Nat, s.heap.size ≤ q → A q := fun q h => by rw [← hAe]; exact Or.inr h
  have hS : va_S A s.heap s.heap [] := va_S.rf
  have hP : va_P (dC, dI) vwCl [(h, .inr (2, [.ref g, .ref ln, .ref hv, .ref hw, .ref ht, .int (nI td), .int lvs, .int k, .int t])), (hv, .inl (d, 12, .inl lv)), (hw, .inl (d, 12, .inl wy)), (ht, .inl (d, 12, .inl tr))] s.heap := hP
  have hl := lv_entry ([.ref h, .int (nI x), .int b, .int w9]) (n := 4) (Nat.le_of_ble_eq_true rfl)
  rw [lg_entry_eq]
  generalize (lg_sl ([.ref h, .int (nI x), .int b, .int w9]) ++ List.replicate (4 - (lg_sl ([.ref h, .int (nI x), .int b, .int w9])).length) Slot.unset).toArray = ls at hl ⊢
  have hl : lv_has ls 4 [(0, .ref h), (1, .int (nI x)), (2, .int b), (3, .int w9)] := hl
  refine lv_aload_n hx hb dX2_assign_0 rfl (lv_at hl 0 rfl) ?_
  refine lv_dup hx hb dX2_assign_1 rfl ?_
  refine va_get (D := (dC, dI)) (ci := 2) (v := .int k) (C := RX2) (T := TX2) (N := 9) hx hb hts in_X2 hown hK hP 0 rfl rfl 7 (by decide) (hts _ q67) (fun _ h9 => h9) rfl dX2_assign_2 ?_
  refine lv_iconst (v := 1) hx hb dX2_assign_5 (by decide) ?_
  refine lv_iload_n hx hb dX2_assign_6 rfl (lv_at hl 1 rfl) ?_
  refine lv_ishl hx hb dX2_assign_7 ?_
  refine lv_ior hx hb dX2_assign_8 ?_
  refine va_put (D := (dC, dI)) (ci := 2) (v := .int (k ||| ((1 : Int32) <<< ((nI x) &&& 31)))) (ty := .int) (C := RX2) (T := TX2) (N := 9) hx hb hts in_X2 tyX2 tyX2_ok nmX2 hown hK hP hD hS 0 rfl rfl 7 (by decide) (hts _ q67) (fun _ h9 => h9) rfl (by decide +kernel) rfl rfl (Nat.le_of_ble_eq_true rfl) dX2_assign_9 (fun H locs hP hD hS => ?_)
  have hP : va_P (dC, dI) vwCl [(h, .inr (2, [.ref g, .ref ln, .ref hv, .ref hw, .ref ht, .int (nI td), .int lvs, .int (k ||| ((1 : Int32) <<< ((nI x) &&& 31))), .int t])), (hv, .inl (d, 12, .inl lv)), (hw, .inl (d, 12, .inl wy)), (ht, .inl (d, 12, .inl tr))] H := hP
  have hD : va_D A [(h, .inr (2, [.ref g, .ref ln, .ref hv, .ref hw, .ref ht, .int (nI td), .int lvs, .int (k ||| ((1 : Int32) <<< ((nI x) &&& 31))), .int t])), (hv, .inl (d, 12, .inl lv)), (hw, .inl (d, 12, .inl wy)), (ht, .inl (d, 12, .inl tr))] := hD
  refine lv_aload_n hx hb dX2_assign_12 rfl (lv_at hl 0 rfl) ?_
  refine lv_iload_n hx hb dX2_assign_13 rfl (lv_at hl 2 rfl) ?_
  refine lv_if_eq (tgt := 28) hx hb dX2_assign_14 (by decide) (fun c_1 => ?_) (fun c_1 => ?_)
  · refine lv_aload_n hx hb dX2_assign_28 rfl (lv_at hl 0 rfl) ?_
    refine va_get (D := (dC, dI)) (ci := 2) (v := .int t) (C := RX2) (T := TX2) (N := 9) hx hb hts in_X2 hown hK hP 0 rfl rfl 8 (by decide) (hts _ q68) (fun _ h9 => h9) rfl dX2_assign_29 ?_
    refine lv_iconst (v := 1) hx hb dX2_assign_32 (by decide) ?_
    refine lv_iload_n hx hb dX2_assign_33 rfl (lv_at hl 1 rfl) ?_
    refine lv_ishl hx hb dX2_assign_34 ?_
    refine lv_iconst (v := (-1)) hx hb dX2_assign_35 (by decide) ?_
    refine lv_ixor hx hb dX2_assign_36 ?_
    refine lv_iand hx hb dX2_assign_37 ?_
    refine wk_top (y := sa_t b t x) ((if_pos c_1).symm) ?_
    refine va_put (D := (dC, dI)) (ci := 2) (v := .int (sa_t b t x)) (ty := .int) (C := RX2) (T := TX2) (N := 9) hx hb hts in_X2 tyX2 tyX2_ok nmX2 hown hK hP hD hS 0 rfl rfl 8 (by decide) (hts _ q68) (fun _ h9 => h9) rfl (by decide +kernel) rfl rfl (Nat.le_of_ble_eq_true rfl) dX2_assign_38 (fun H locs hP hD hS => ?_)
    have hP : va_P (dC, dI) vwCl [(h, .inr (2, [.ref g, .ref ln, .ref hv, .ref hw, .ref ht, .int (nI td), .int lvs, .int (k ||| ((1 : Int32) <<< ((nI x) &&& 31))), .int (sa_t b t x)])), (hv, .inl (d, 12, .inl lv)), (hw, .inl (d, 12, .inl wy)), (ht, .inl (d, 12, .inl tr))] H := hP
    have hD : va_D A [(h, .inr (2, [.ref g, .ref ln, .ref hv, .ref hw, .ref ht, .int (nI td), .int lvs, .int (k ||| ((1 : Int32) <<< ((nI x) &&& 31))), .int (sa_t b t x)])), (hv, .inl (d, 12, .inl lv)), (hw, .inl (d, 12, .inl wy)), (ht, .inl (d, 12, .inl tr))] := hD
    refine lv_aload_n hx hb dX2_assign_41 rfl (lv_at hl 0 rfl) ?_
    refine va_get (D := (dC, dI)) (ci := 2) (v := .ref hv) (C := RX2) (T := TX2) (N := 9) hx hb hts in_X2 hown hK hP 0 rfl rfl 2 (by decide) (hts _ q62) (fun _ h9 => h9) rfl dX2_assign_42 ?_
    refine lv_iload_n hx hb dX2_assign_45 rfl (lv_at hl 1 rfl) ?_
    refine lv_aload_n hx hb dX2_assign_46 rfl (lv_at hl 0 rfl) ?_
    refine va_get (D := (dC, dI)) (ci := 2) (v := .int lvs) (C := RX2) (T := TX2) (N := 9) hx hb hts in_X2 hown hK hP 0 rfl rfl 6 (by decide) (hts _ q66) (fun _ h9 => h9) rfl dX2_assign_47 ?_
    refine wk_iast hx hb hK hP hD hS 1 0 rfl rfl (x := lvs) x (rfl) (by omega) (by omega) dX2_assign_50 (fun H locs hP hD hS => ?_)
    have hP : va_P (dC, dI) vwCl [(h, .inr (2, [.ref g, .ref ln, .ref hv, .ref hw, .ref ht, .int (nI td), .int lvs, .int (k ||| ((1 : Int32) <<< ((nI x) &&& 31))), .int (sa_t b t x)])), (hv, .inl (d, 12, .inl (upd lv x lvs))), (hw, .inl (d, 12, .inl wy)), (ht, .inl (d, 12, .inl tr))] H := hP
    have hD : va_D A [(h, .inr (2, [.ref g, .ref ln, .ref hv, .ref hw, .ref ht, .int (nI td), .int lvs, .int (k ||| ((1 : Int32) <<< ((nI x) &&& 31))), .int (sa_t b t x)])), (hv, .inl (d, 12, .inl (upd lv x lvs))), (hw, .inl (d, 12, .inl wy)), (ht, .inl (d, 12, .inl tr))] := hD
    refine lv_aload_n hx hb dX2_assign_51 rfl (lv_at hl 0 rfl) ?_
    refine va_get (D := (dC, dI)) (ci := 2) (v := .ref hw) (C := RX2) (T := TX2) (N := 9) hx hb hts in_X2 hown hK hP 0 rfl rfl 3 (by decide) (hts _ q63) (fun _ h9 => h9) rfl dX2_assign_52 ?_
    refine lv_iload_n hx hb dX2_assign_55 rfl (lv_at hl 1 rfl) ?_
    refine lv_iload_n hx hb dX2_assign_56 rfl (lv_at hl 3 rfl) ?_
    refine wk_iast hx hb hK hP hD hS 2 0 rfl rfl (x := w9) x (rfl) (by omega) (by omega) dX2_assign_57 (fun H locs hP hD hS => ?_)
    have hP : va_P (dC, dI) vwCl [(h, .inr (2, [.ref g, .ref ln, .ref hv, .ref hw, .ref ht, .int (nI td), .int lvs, .int (k ||| ((1 : Int32) <<< ((nI x) &&& 31))), .int (sa_t b t x)])), (hv, .inl (d, 12, .inl (upd lv x lvs))), (hw, .inl (d, 12, .inl (upd wy x w9))), (ht, .inl (d, 12, .inl tr))] H := hP
    have hD : va_D A [(h, .inr (2, [.ref g, .ref ln, .ref hv, .ref hw, .ref ht, .int (nI td), .int lvs, .int (k ||| ((1 : Int32) <<< ((nI x) &&& 31))), .int (sa_t b t x)])), (hv, .inl (d, 12, .inl (upd lv x lvs))), (hw, .inl (d, 12, .inl (upd wy x w9))), (ht, .inl (d, 12, .inl tr))] := hD
    refine lv_aload_n hx hb dX2_assign_58 rfl (lv_at hl 0 rfl) ?_
    refine va_get (D := (dC, dI)) (ci := 2) (v := .ref ht) (C := RX2) (T := TX2) (N := 9) hx hb hts in_X2 hown hK hP 0 rfl rfl 4 (by decide) (hts _ q64) (fun _ h9 => h9) rfl dX2_assign_59 ?_
    refine lv_aload_n hx hb dX2_assign_62 rfl (lv_at hl 0 rfl) ?_
    refine lv_dup hx hb dX2_assign_63 rfl ?_
    refine va_get (D := (dC, dI)) (ci := 2) (v := .int (nI td)) (C := RX2) (T := TX2) (N := 9) hx hb hts in_X2 hown hK hP 0 rfl rfl 5 (by decide) (hts _ q65) (fun _ h9 => h9) rfl dX2_assign_64 ?_
    refine lv_dup_x1 hx hb dX2_assign_67 rfl rfl ?_
    refine lv_iconst (v := 1) hx hb dX2_assign_68 (by decide) ?_
    refine lv_iadd hx hb dX2_assign_69 ?_
    refine wk_top (y := nI (td + 1)) ((nI_succ td).symm) ?_
    refine va_put (D := (dC, dI)) (ci := 2) (v := .int (nI (td + 1))) (ty := .int) (C := RX2) (T := TX2) (N := 9) hx hb hts in_X2 tyX2 tyX2_ok nmX2 hown hK hP hD hS 0 rfl rfl 5 (by decide) (hts _ q65) (fun _ h9 => h9) rfl (by decide +kernel) rfl rfl (Nat.le_of_ble_eq_true rfl) dX2_assign_70 (fun H locs hP hD hS => ?_)
    have hP : va_P (dC, dI) vwCl [(h, .inr (2, [.ref g, .ref ln, .ref hv, .ref hw, .ref ht, .int (nI (td + 1)), .int lvs, .int (k ||| ((1 : Int32) <<< ((nI x) &&& 31))), .int (sa_t b t x)])), (hv, .inl (d, 12, .inl (upd lv x lvs))), (hw, .inl (d, 12, .inl (upd wy x w9))), (ht, .inl (d, 12, .inl tr))] H := hP
    have hD : va_D A [(h, .inr (2, [.ref g, .ref ln, .ref hv, .ref hw, .ref ht, .int (nI (td + 1)), .int lvs, .int (k ||| ((1 : Int32) <<< ((nI x) &&& 31))), .int (sa_t b t x)])), (hv, .inl (d, 12, .inl (upd lv x lvs))), (hw, .inl (d, 12, .inl (upd wy x w9))), (ht, .inl (d, 12, .inl tr))] := hD
    refine lv_iload_n hx hb dX2_assign_73 rfl (lv_at hl 1 rfl) ?_
    refine wk_iast hx hb hK hP hD hS 3 0 rfl rfl (x := nI x) td (rfl) (by omega) (by omega) dX2_assign_74 (fun H locs hP hD hS => ?_)
    have hP : va_P (dC, dI) vwCl [(h, .inr (2, [.ref g, .ref ln, .ref hv, .ref hw, .ref ht, .int (nI (td + 1)), .int lvs, .int (k ||| ((1 : Int32) <<< ((nI x) &&& 31))), .int (sa_t b t x)])), (hv, .inl (d, 12, .inl (upd lv x lvs))), (hw, .inl (d, 12, .inl (upd wy x w9))), (ht, .inl (d, 12, .inl (upd tr td (nI x))))] H := hP
    have hD : va_D A [(h, .inr (2, [.ref g, .ref ln, .ref hv, .ref hw, .ref ht, .int (nI (td + 1)), .int lvs, .int (k ||| ((1 : Int32) <<< ((nI x) &&& 31))), .int (sa_t b t x)])), (hv, .inl (d, 12, .inl (upd lv x lvs))), (hw, .inl (d, 12, .inl (upd wy x w9))), (ht, .inl (d, 12, .inl (upd tr td (nI x))))] := hD
    exact wk_vret (()) hx hb hr hlocks (trivial) hK hP hD hS dX2_assign_75
  · refine lv_aload_n hx hb dX2_assign_17 rfl (lv_at hl 0 rfl) ?_
    refine va_get (D := (dC, dI)) (ci := 2) (v := .int t) (C := RX2) (T := TX2) (N := 9) hx hb hts in_X2 hown hK hP 0 rfl rfl 8 (by decide) (hts _ q68) (fun _ h9 => h9) rfl dX2_assign_18 ?_
    refine lv_iconst (v := 1) hx hb dX2_assign_21 (by decide) ?_
    refine lv_iload_n hx hb dX2_assign_22 rfl (lv_at hl 1 rfl) ?_
    refine lv_ishl hx hb dX2_assign_23 ?_
    refine lv_ior hx hb dX2_assign_24 ?_
    refine lv_goto (tgt := 38) hx hb dX2_assign_25 (by decide) ?_
    refine wk_top (y := sa_t b t x) ((if_neg c_1).symm) ?_
    refine va_put (D := (dC, dI)) (ci := 2) (v := .int (sa_t b t x)) (ty := .int) (C := RX2) (T := TX2) (N := 9) hx hb hts in_X2 tyX2 tyX2_ok nmX2 hown hK hP hD hS 0 rfl rfl 8 (by decide) (hts _ q68) (fun _ h9 => h9) rfl (by decide +kernel) rfl rfl (Nat.le_of_ble_eq_true rfl) dX2_assign_38 (fun H locs hP hD hS => ?_)
    have hP : va_P (dC, dI) vwCl [(h, .inr (2, [.ref g, .ref ln, .ref hv, .ref hw, .ref ht, .int (nI td), .int lvs, .int (k ||| ((1 : Int32) <<< ((nI x) &&& 31))), .int (sa_t b t x)])), (hv, .inl (d, 12, .inl lv)), (hw, .inl (d, 12, .inl wy)), (ht, .inl (d, 12, .inl tr))] H := hP
    have hD : va_D A [(h, .inr (2, [.ref g, .ref ln, .ref hv, .ref hw, .ref ht, .int (nI td), .int lvs, .int (k ||| ((1 : Int32) <<< ((nI x) &&& 31))), .int (sa_t b t x)])), (hv, .inl (d, 12, .inl lv)), (hw, .inl (d, 12, .inl wy)), (ht, .inl (d, 12, .inl tr))] := hD
    refine lv_aload_n hx hb dX2_assign_41 rfl (lv_at hl 0 rfl) ?_
    refine va_get (D := (dC, dI)) (ci := 2) (v := .ref hv) (C := RX2) (T := TX2) (N := 9) hx hb hts in_X2 hown hK hP 0 rfl rfl 2 (by decide) (hts _ q62) (fun _ h9 => h9) rfl dX2_assign_42 ?_
    refine lv_iload_n hx hb dX2_assign_45 rfl (lv_at hl 1 rfl) ?_
    refine lv_aload_n hx hb dX2_assign_46 rfl (lv_at hl 0 rfl) ?_
    refine va_get (D := (dC, dI)) (ci := 2) (v := .int lvs) (C := RX2) (T := TX2) (N := 9) hx hb hts in_X2 hown hK hP 0 rfl rfl 6 (by decide) (hts _ q66) (fun _ h9 => h9) rfl dX2_assign_47 ?_
    refine wk_iast hx hb hK hP hD hS 1 0 rfl rfl (x := lvs) x (rfl) (by omega) (by omega) dX2_assign_50 (fun H locs hP hD hS => ?_)
    have hP : va_P (dC, dI) vwCl [(h, .inr (2, [.ref g, .ref ln, .ref hv, .ref hw, .ref ht, .int (nI td), .int lvs, .int (k ||| ((1 : Int32) <<< ((nI x) &&& 31))), .int (sa_t b t x)])), (hv, .inl (d, 12, .inl (upd lv x lvs))), (hw, .inl (d, 12, .inl wy)), (ht, .inl (d, 12, .inl tr))] H := hP
    have hD : va_D A [(h, .inr (2, [.ref g, .ref ln, .ref hv, .ref hw, .ref ht, .int (nI td), .int lvs, .int (k ||| ((1 : Int32) <<< ((nI x) &&& 31))), .int (sa_t b t x)])), (hv, .inl (d, 12, .inl (upd lv x lvs))), (hw, .inl (d, 12, .inl wy)), (ht, .inl (d, 12, .inl tr))] := hD
    refine lv_aload_n hx hb dX2_assign_51 rfl (lv_at hl 0 rfl) ?_
    refine va_get (D := (dC, dI)) (ci := 2) (v := .ref hw) (C := RX2) (T := TX2) (N := 9) hx hb hts in_X2 hown hK hP 0 rfl rfl 3 (by decide) (hts _ q63) (fun _ h9 => h9) rfl dX2_assign_52 ?_
    refine lv_iload_n hx hb dX2_assign_55 rfl (lv_at hl 1 rfl) ?_
    refine lv_iload_n hx hb dX2_assign_56 rfl (lv_at hl 3 rfl) ?_
    refine wk_iast hx hb hK hP hD hS 2 0 rfl rfl (x := w9) x (rfl) (by omega) (by omega) dX2_assign_57 (fun H locs hP hD hS => ?_)
    have hP : va_P (dC, dI) vwCl [(h, .inr (2, [.ref g, .ref ln, .ref hv, .ref hw, .ref ht, .int (nI td), .int lvs, .int (k ||| ((1 : Int32) <<< ((nI x) &&& 31))), .int (sa_t b t x)])), (hv, .inl (d, 12, .inl (upd lv x lvs))), (hw, .inl (d, 12, .inl (upd wy x w9))), (ht, .inl (d, 12, .inl tr))] H := hP
    have hD : va_D A [(h, .inr (2, [.ref g, .ref ln, .ref hv, .ref hw, .ref ht, .int (nI td), .int lvs, .int (k ||| ((1 : Int32) <<< ((nI x) &&& 31))), .int (sa_t b t x)])), (hv, .inl (d, 12, .inl (upd lv x lvs))), (hw, .inl (d, 12, .inl (upd wy x w9))), (ht, .inl (d, 12, .inl tr))] := hD
    refine lv_aload_n hx hb dX2_assign_58 rfl (lv_at hl 0 rfl) ?_
    refine va_get (D := (dC, dI)) (ci := 2) (v := .ref ht) (C := RX2) (T := TX2) (N := 9) hx hb hts in_X2 hown hK hP 0 rfl rfl 4 (by decide) (hts _ q64) (fun _ h9 => h9) rfl dX2_assign_59 ?_
    refine lv_aload_n hx hb dX2_assign_62 rfl (lv_at hl 0 rfl) ?_
    refine lv_dup hx hb dX2_assign_63 rfl ?_
    refine va_get (D := (dC, dI)) (ci := 2) (v := .int (nI td)) (C := RX2) (T := TX2) (N := 9) hx hb hts in_X2 hown hK hP 0 rfl rfl 5 (by decide) (hts _ q65) (fun _ h9 => h9) rfl dX2_assign_64 ?_
    refine lv_dup_x1 hx hb dX2_assign_67 rfl rfl ?_
    refine lv_iconst (v := 1) hx hb dX2_assign_68 (by decide) ?_
    refine lv_iadd hx hb dX2_assign_69 ?_
    refine wk_top (y := nI (td + 1)) ((nI_succ td).symm) ?_
    refine va_put (D := (dC, dI)) (ci := 2) (v := .int (nI (td + 1))) (ty := .int) (C := RX2) (T := TX2) (N := 9) hx hb hts in_X2 tyX2 tyX2_ok nmX2 hown hK hP hD hS 0 rfl rfl 5 (by decide) (hts _ q65) (fun _ h9 => h9) rfl (by decide +kernel) rfl rfl (Nat.le_of_ble_eq_true rfl) dX2_assign_70 (fun H locs hP hD hS => ?_)
    have hP : va_P (dC, dI) vwCl [(h, .inr (2, [.ref g, .ref ln, .ref hv, .ref hw, .ref ht, .int (nI (td + 1)), .int lvs, .int (k ||| ((1 : Int32) <<< ((nI x) &&& 31))), .int (sa_t b t x)])), (hv, .inl (d, 12, .inl (upd lv x lvs))), (hw, .inl (d, 12, .inl (upd wy x w9))), (ht, .inl (d, 12, .inl tr))] H := hP
    have hD : va_D A [(h, .inr (2, [.ref g, .ref ln, .ref hv, .ref hw, .ref ht, .int (nI (td + 1)), .int lvs, .int (k ||| ((1 : Int32) <<< ((nI x) &&& 31))), .int (sa_t b t x)])), (hv, .inl (d, 12, .inl (upd lv x lvs))), (hw, .inl (d, 12, .inl (upd wy x w9))), (ht, .inl (d, 12, .inl tr))] := hD
    refine lv_iload_n hx hb dX2_assign_73 rfl (lv_at hl 1 rfl) ?_
    refine wk_iast hx hb hK hP hD hS 3 0 rfl rfl (x := nI x) td (rfl) (by omega) (by omega) dX2_assign_74 (fun H locs hP hD hS => ?_)
    have hP : va_P (dC, dI) vwCl [(h, .inr (2, [.ref g, .ref ln, .ref hv, .ref hw, .ref ht, .int (nI (td + 1)), .int lvs, .int (k ||| ((1 : Int32) <<< ((nI x) &&& 31))), .int (sa_t b t x)])), (hv, .inl (d, 12, .inl (upd lv x lvs))), (hw, .inl (d, 12, .inl (upd wy x w9))), (ht, .inl (d, 12, .inl (upd tr td (nI x))))] H := hP
    have hD : va_D A [(h, .inr (2, [.ref g, .ref ln, .ref hv, .ref hw, .ref ht, .int (nI (td + 1)), .int lvs, .int (k ||| ((1 : Int32) <<< ((nI x) &&& 31))), .int (sa_t b t x)])), (hv, .inl (d, 12, .inl (upd lv x lvs))), (hw, .inl (d, 12, .inl (upd wy x w9))), (ht, .inl (d, 12, .inl (upd tr td (nI x))))] := hD
    exact wk_vret (()) hx hb hr hlocks (trivial) hK hP hD hS dX2_assign_75
set_option maxHeartbeats 4000000 in
set_option maxRecDepth 100000 in
theorem metX2_forget (l : Launch) (dC : Nat → ClassId) (dI : Nat → Nat → Nat) (d : ClassId) (sz : Nat) (h g ln hv hw ht : Nat) (b1 b2 : Nat) (td lvs k t n : Int32) : Met l yX2_forget (ws_ yX2_forget cX2_forget 1 (none)) ({ frames := 0, cells := 0, slots := 0, locals := 0 }) (wk_M (dC, dI) [] [(h, .inr (2, [.ref g, .ref ln, .ref hv, .ref hw, .ref ht, .int td, .int lvs, .int k, .int t])), (ln, .inr (1, [.ref b1, .ref b2, .int n]))] [.ref h] sz) (va_Qv (fun _ : Unit => True) (wk_B (dC, dI) [] (va_A [(h, .inr (2, [.ref g, .ref ln, .ref hv, .ref hw, .ref ht, .int td, .int lvs, .int k, .int t])), (ln, .inr (1, [.ref b1, .ref b2, .int n]))] sz) (fun _ => [(h, .inr (2, [.ref g, .ref ln, .ref hv, .ref hw, .ref ht, .int td, .int lvs, .int k, .int t])), (ln, .inr (1, [.ref b1, .ref b2, .int 0]))])) (va_A [(h, .inr (2, [.ref g, .ref ln, .ref hv, .ref hw, .ref ht, .int td, .int lvs, .int k, .int t])), (ln, .inr (1, [.ref b1, .ref b2, .int n]))] sz)) 0 0 (va_A [(h, .inr (2, [.ref g, .ref ln, .ref hv, .ref hw, .ref ht, .int td, .int lvs, .int k, .int t])), (ln, .inr (1, [.ref b1, .ref b2, .int n]))] sz) := by
  refine Met.ofW (cc := cX2_forget) (maxL := 1) (ret := none) (by decide) rfl ?_
  intro p e s m args below meth c s₁ Bd hml hv
  obtain ⟨rfl, hsz, hP, hK, hD0⟩ := hv
  have hx := Bd.exec
  have hb := Bd.bytes
  have hr := Bd.returns
  have hts := atoms_spec (ws := ws_ yX2_forget cX2_forget 1 (none)) Bd.pre
  have hts : ∀ w ∈ lw_all, w.before _ s = true := fun w h => hts w (List.mem_cons_of_mem _ h)
  have hown : s.vm.findClass RX2 = some m.cls := findClass_of_methodNamed Bd.named
  have hlocks := Bd.notSynchronized
  have hK : va_K (dC, dI) vwCl [] s := hK
  subst hsz
  have hD := hD0.self (sz := s.heap.size)
  generalize hAe : va_A [(h, .inr (2, [.ref g, .ref ln, .ref hv, .ref hw, .ref ht, .int td, .int lvs, .int k, .int t])), (ln, .inr (1, [.ref b1, .ref b2, .int n]))] s.heap.size = A at hD ⊢
  have hA : ∀ q : Nat, s.heap.size ≤ q → A q := fun q h => by rw [← hAe]; exact Or.inr h
  have hS : va_S A s.heap s.heap [] := va_S.rf
  have hP : va_P (dC, dI) vwCl [(h, .inr (2, [.ref g, .ref ln, .ref hv, .ref hw, .ref ht, .int td, .int lvs, .int k, .int t])), (ln, .inr (1, [.ref b1, .ref b2, .int n]))] s.heap := hP
  have hl := lv_entry ([.ref h]) (n := 1) (Nat.le_of_ble_eq_true rfl)
  rw [lg_entry_eq]
  generalize (lg_sl ([.ref h]) ++ List.replicate (1 - (lg_sl ([.ref h])).length) Slot.unset).toArray = ls at hl ⊢
  have hl : lv_has ls 1 [(0, .ref h)] := hl
  refine lv_aload_n hx hb dX2_forget_0 rfl (lv_at hl 0 rfl) ?_
  refine va_get (D := (dC, dI)) (ci := 2) (v := .ref ln) (C := RX2) (T := TX2) (N := 9) hx hb hts in_X2 hown hK hP 0 rfl rfl 1 (by decide) (hts _ q61) (fun _ h9 => h9) rfl dX2_forget_1 ?_
  refine lv_iconst (v := 0) hx hb dX2_forget_4 (by decide) ?_
  refine va_put (D := (dC, dI)) (ci := 1) (v := .int 0) (ty := .int) (C := RX1) (T := TX1) (N := 3) hx hb hts in_X1 tyX1 tyX1_ok nmX1 hown hK hP hD hS 1 rfl rfl 2 (by decide) (hts _ q41) (fun _ h9 => h9) rfl (by decide +kernel) rfl rfl (Nat.le_of_ble_eq_true rfl) dX2_forget_5 (fun H locs hP hD hS => ?_)
  have hP : va_P (dC, dI) vwCl [(h, .inr (2, [.ref g, .ref ln, .ref hv, .ref hw, .ref ht, .int td, .int lvs, .int k, .int t])), (ln, .inr (1, [.ref b1, .ref b2, .int 0]))] H := hP
  have hD : va_D A [(h, .inr (2, [.ref g, .ref ln, .ref hv, .ref hw, .ref ht, .int td, .int lvs, .int k, .int t])), (ln, .inr (1, [.ref b1, .ref b2, .int 0]))] := hD
  exact wk_vret (()) hx hb hr hlocks (trivial) hK hP hD hS dX2_forget_8
set_option maxHeartbeats 4000000 in
set_option maxRecDepth 100000 in
theorem metX2_set (l : Launch) (dC : Nat → ClassId) (dI : Nat → Nat → Nat) (d : ClassId) (h g ln hv hw ht : Nat) (j : Nat) (td lvs k t : Int32) (k_j : j < 6456) : Met l yX2_set (ws_ yX2_set cX2_set 2 (some (.object "ClauseDesk$Clauses"))) ({ frames := 0, cells := 0, slots := 0, locals := 0 }) (wk_R (dC, dI) [] [(h, .inr (2, [.ref g, .ref ln, .ref hv, .ref hw, .ref ht, .int td, .int lvs, .int k, .int t]))] [.ref h, .int (nI j)]) (wk_Sa (if j < 256 then g else ln)) 0 0 (fun _ => False) := by
  refine Met.ofW (cc := cX2_set) (maxL := 2) (ret := some (.object "ClauseDesk$Clauses")) (by decide) rfl ?_
  intro p e s m args below meth c s₁ Bd hml hv
  obtain ⟨rfl, hP, hK⟩ := hv
  have hx := Bd.exec
  have hb := Bd.bytes
  have hr := Bd.returns
  have hts := atoms_spec (ws := ws_ yX2_set cX2_set 2 (some (.object "ClauseDesk$Clauses"))) Bd.pre
  have hts : ∀ w ∈ lw_all, w.before _ s = true := fun w h => hts w (List.mem_cons_of_mem _ h)
  have hown : s.vm.findClass RX2 = some m.cls := findClass_of_methodNamed Bd.named
  have hlocks := Bd.notSynchronized
  have hK : va_K (dC, dI) vwCl [] s := hK
  have hP : va_P (dC, dI) vwCl [(h, .inr (2, [.ref g, .ref ln, .ref hv, .ref hw, .ref ht, .int td, .int lvs, .int k, .int t]))] s.heap := hP
  have hl := lv_entry ([.ref h, .int (nI j)]) (n := 2) (Nat.le_of_ble_eq_true rfl)
  rw [lg_entry_eq]
  generalize (lg_sl ([.ref h, .int (nI j)]) ++ List.replicate (2 - (lg_sl ([.ref h, .int (nI j)])).length) Slot.unset).toArray = ls at hl ⊢
  have hl : lv_has ls 2 [(0, .ref h), (1, .int (nI j))] := hl
  refine lv_iload_n hx hb dX2_set_0 rfl (lv_at hl 1 rfl) ?_
  refine lv_sipush (v := 256) hx hb dX2_set_1 (by decide) ?_
  refine lv_icmp_ge (tgt := 14) hx hb dX2_set_4 (by decide) (fun c_1 => ?_) (fun c_1 => ?_)
  · refine lv_aload_n hx hb dX2_set_14 rfl (lv_at hl 0 rfl) ?_
    refine va_get (D := (dC, dI)) (ci := 2) (v := .ref ln) (C := RX2) (T := TX2) (N := 9) hx hb hts in_X2 hown hK hP 0 rfl rfl 1 (by decide) (hts _ q61) (fun _ h9 => h9) rfl dX2_set_15 ?_
    refine W.eq (g2 := F0 m 18 ls [.ref (if j < 256 then g else ln)]) (by rw [if_neg (fun q => absurd ((nI_leI (a := 256) (b := j) (by omega) (by omega)).mp c_1) (by omega))]) ?_
    exact W.aret hx hb hr (Or.inl ⟨_, rfl⟩) (Or.inr ⟨_, rfl⟩) (fun t ht _ => ⟨rfl, ht⟩) (fun q h => by cases h) dX2_set_18 hlocks
  · refine lv_aload_n hx hb dX2_set_7 rfl (lv_at hl 0 rfl) ?_
    refine va_get (D := (dC, dI)) (ci := 2) (v := .ref g) (C := RX2) (T := TX2) (N := 9) hx hb hts in_X2 hown hK hP 0 rfl rfl 0 (by decide) (hts _ q60) (fun _ h9 => h9) rfl dX2_set_8 ?_
    refine lv_goto (tgt := 18) hx hb dX2_set_11 (by decide) ?_
    refine W.eq (g2 := F0 m 18 ls [.ref (if j < 256 then g else ln)]) (by rw [if_pos (Nat.lt_of_not_le (fun q => c_1 ((nI_leI (a := 256) (b := j) (by omega) (by omega)).mpr q)))]) ?_
    exact W.aret hx hb hr (Or.inl ⟨_, rfl⟩) (Or.inr ⟨_, rfl⟩) (fun t ht _ => ⟨rfl, ht⟩) (fun q h => by cases h) dX2_set_18 hlocks
/-- how many below n -/
def hc (P : Nat → Bool) : Nat → Nat
  | 0 => 0
  | k + 1 => hc P k + (if P k = true then 1 else 0)
theorem hc_le (P : Nat → Bool) : ∀ n, hc P n ≤ n
  | 0 => Nat.le_refl _
  | k + 1 => by
    have := hc_le P k
    show hc P k + (if P k = true then 1 else 0) ≤ k + 1
    split <;> omega
theorem hc_s {P : Nat → Bool} {k : Nat} (h : P k = true) : hc P (k + 1) = hc P k + 1 := by
  show hc P k + (if P k = true then 1 else 0) = _
  rw [if_pos h]
theorem hc_n {P : Nat → Bool} {k : Nat} (h : ¬ P k = true) : hc P (k + 1) = hc P k := by
  show hc P k + (if P k = true then 1 else 0) = _
  rw [if_neg h, Nat.add_zero]
theorem hc_0 {P : Nat → Bool} {n i : Nat} (hi : i < n) (h : P i = true) : 1 ≤ hc P n := by
  induction n with
  | zero => omega
  | succ n ih =>
    by_cases e : i = n
    · rw [← e, hc_s h]; omega
    · have := ih (by omega)
      by_cases q : P n = true
      · rw [hc_s q]; omega
      · rw [hc_n q]; exact this
/-- more than one: two of them -/
theorem hc_two {P : Nat → Bool} {n : Nat} (h : 1 < hc P n) : ∃ i j, i ≠ j ∧ i < n ∧ j < n ∧ P i = true ∧ P j = true := by
  induction n with
  | zero => exact absurd h (show ¬ 1 < 0 by decide)
  | succ n ih =>
    by_cases q : P n = true
    · rw [hc_s q] at h
      have hex : ∃ i, i < n ∧ P i = true := by
        apply Classical.byContradiction
        intro hn
        have : ∀ m, m ≤ n → hc P m = 0 := by
          intro m
          induction m with
          | zero => intro _; rfl
          | succ m ihm =>
            intro hm
            rw [hc_n (fun z => hn ⟨m, by omega, z⟩)]
            exact ihm (by omega)
        have := this n (Nat.le_refl _)
        omega
      obtain ⟨i, h1, h2⟩ := hex
      exact ⟨i, n, by omega, by omega, by omega, h2, q⟩
    · rw [hc_n q] at h
      obtain ⟨i, j, h1, h2, h3, h4⟩ := ih h
      exact ⟨i, j, h1, by omega, by omega, h4⟩
/-- at most one -/
theorem hc_one {P : Nat → Bool} {n : Nat} (h : hc P n ≤ 1) {i j : Nat} (hi : i < n) (hj : j < n) (h1 : P i = true) (h2 : P j = true) : i = j := by
  induction n with
  | zero => omega
  | succ n ih =>
    by_cases q : P n = true
    · rw [hc_s q] at h
      have no : ∀ k, k < n → ¬ P k = true := fun k hk hp => by have := hc_0 hk hp; omega
      have hi' : i = n := by
        apply Classical.byContradiction
        intro e
        exact no i (by omega) h1
      have hj' : j = n := by
        apply Classical.byContradiction
        intro e
        exact no j (by omega) h2
      rw [hi', hj']
    · rw [hc_n q] at h
      refine ih h ?_ ?_
      · apply Classical.byContradiction
        intro e
        exact q (by rw [show n = i by omega]; exact h1)
      · apply Classical.byContradiction
        intro e
        exact q (by rw [show n = j by omega]; exact h2)
def hr_P (p lvs : Int32) (lv : Nat → Int32) (i : Nat) : Bool := bt p i && decide (lv i = lvs)
set_option maxHeartbeats 4000000 in
set_option maxRecDepth 100000 in
theorem metX2_here (l : Launch) (dC : Nat → ClassId) (dI : Nat → Nat → Nat) (d : ClassId) (h g ln hv hw ht : Nat) (td lvs k t p9 : Int32) (lv : Nat → Int32) : Met l yX2_here (ws_ yX2_here cX2_here 4 (some .int)) ({ frames := 0, cells := 0, slots := 0, locals := 0 }) (wk_R (dC, dI) [(d, .int)] [(h, .inr (2, [.ref g, .ref ln, .ref hv, .ref hw, .ref ht, .int td, .int lvs, .int k, .int t])), (hv, .inl (d, 12, .inl lv))] [.ref h, .int p9]) (vp_Si (fun r : Int32 => r = nI (hc (hr_P p9 lvs lv) 12))) 0 0 (fun _ => False) := by
  refine Met.ofW (cc := cX2_here) (maxL := 4) (ret := some .int) (by decide) rfl ?_
  intro p e s m args below meth c s₁ Bd hml hv
  obtain ⟨rfl, hP, hK⟩ := hv
  have hx := Bd.exec
  have hb := Bd.bytes
  have hr := Bd.returns
  have hts := atoms_spec (ws := ws_ yX2_here cX2_here 4 (some .int)) Bd.pre
  have hts : ∀ w ∈ lw_all, w.before _ s = true := fun w h => hts w (List.mem_cons_of_mem _ h)
  have hown : s.vm.findClass RX2 = some m.cls := findClass_of_methodNamed Bd.named
  have hlocks := Bd.notSynchronized
  have hK : va_K (dC, dI) vwCl [(d, .int)] s := hK
  have hP : va_P (dC, dI) vwCl [(h, .inr (2, [.ref g, .ref ln, .ref hv, .ref hw, .ref ht, .int td, .int lvs, .int k, .int t])), (hv, .inl (d, 12, .inl lv))] s.heap := hP
  have hl := lv_entry ([.ref h, .int p9]) (n := 4) (Nat.le_of_ble_eq_true rfl)
  rw [lg_entry_eq]
  generalize (lg_sl ([.ref h, .int p9]) ++ List.replicate (4 - (lg_sl ([.ref h, .int p9])).length) Slot.unset).toArray = ls at hl ⊢
  have hl : lv_has ls 4 [(0, .ref h), (1, .int p9)] := hl
  refine lv_iconst (v := 0) hx hb dX2_here_0 (by decide) ?_
  refine lv_istore_n (lv' := [(2, .int 0), (0, .ref h), (1, .int p9)]) hx hb dX2_here_1 rfl hl (by decide) rfl (fun ls hl => ?_)
  refine lv_iconst (v := 0) hx hb dX2_here_2 (by decide) ?_
  refine lv_istore_n (lv' := [(3, .int 0), (2, .int 0), (0, .ref h), (1, .int p9)]) hx hb dX2_here_3 rfl hl (by decide) rfl (fun ls hl => ?_)
  have loop : ∀ (N9 : Nat) (i : Nat), (12 - i < N9) → (i ≤ 12) → ∀ (ls : Array Slot), lv_has ls 4 [(3, .int (nI i)), (2, .int (nI (hc (hr_P p9 lvs lv) i))), (0, .ref h), (1, .int p9)] → W p l e (headSpec (ws_ yX2_here cX2_here 4 (some .int)) ({ frames := 0, cells := 0, slots := 0, locals := 0 })).room s m ([.ref h, .int p9] : List Value).toArray below meth c s.heap [] 0 0 (MQ below (vp_Si (fun r : Int32 => r = nI (hc (hr_P p9 lvs lv) 12))) ([.ref h, .int p9] : List Value).toArray s 0 0 (fun _ => False)) (F0 m 4 ls []) := by
    intro N9
    induction N9 with
    | zero =>
      intro i h9
      exact absurd h9 (Nat.not_lt_zero _)
    | succ N9 ih =>
      intro i h1 h2 ls hl
      refine lv_iload_n hx hb dX2_here_4 rfl (lv_at hl 0 rfl) ?_
      refine lv_bipush (v := 12) hx hb dX2_here_5 (by decide) ?_
      refine lv_icmp_ge (tgt := 41) hx hb dX2_here_7 (by decide) (fun c_1 => ?_) (fun c_1 => ?_)
      · have hi : i = 12 := Nat.le_antisymm h2 ((nI_leI (a := 12) (b := i) (by omega) (by omega)).mp c_1)
        subst hi
        refine lv_iload_n hx hb dX2_here_41 rfl (lv_at hl 1 rfl) ?_
        exact wk_iretR hx hb hr hlocks (rfl) dX2_here_42
      · have hi : i < 12 := Nat.lt_of_not_le (fun q => c_1 ((nI_leI (a := 12) (b := i) (by omega) (by omega)).mpr q))
        refine lv_iload_n hx hb dX2_here_10 rfl (lv_at hl 3 rfl) ?_
        refine lv_iload_n hx hb dX2_here_11 rfl (lv_at hl 0 rfl) ?_
        refine lv_ishr hx hb dX2_here_12 ?_
        refine lv_iconst (v := 1) hx hb dX2_here_13 (by decide) ?_
        refine lv_iand hx hb dX2_here_14 ?_
        refine lv_iconst (v := 1) hx hb dX2_here_15 (by decide) ?_
        refine lv_icmp_ne (tgt := 35) hx hb dX2_here_16 (by decide) (fun c_2 => ?_) (fun c_2 => ?_)
        · have hc9 : hc (hr_P p9 lvs lv) (i + 1) = hc (hr_P p9 lvs lv) i := hc_n (fun z => c_2 ((b_t1 p9 (by omega)).mpr (by unfold hr_P at z; rw [Bool.and_eq_true] at z; exact z.1)))
          refine lv_iinc (v := nI (i + 1)) (lv' := [(3, .int (nI (i + 1))), (2, .int (nI (hc (hr_P p9 lvs lv) i))), (0, .ref h), (1, .int p9)]) hx hb dX2_here_35 hl (k := 0) rfl ((nI_succ _).symm) (by decide) rfl (fun ls hl => ?_)
          refine lv_goto (tgt := 4) hx hb dX2_here_38 (by decide) ?_
          exact ih (i + 1) (by omega) (by omega) ls (by rw [hc9]; exact lv_sub hl [0, 1, 2, 3] rfl)
        · refine lv_aload_n hx hb dX2_here_19 rfl (lv_at hl 2 rfl) ?_
          refine va_get (D := (dC, dI)) (ci := 2) (v := .ref hv) (C := RX2) (T := TX2) (N := 9) hx hb hts in_X2 hown hK hP 0 rfl rfl 2 (by decide) (hts _ q62) (fun _ h9 => h9) rfl dX2_here_20 ?_
          refine lv_iload_n hx hb dX2_here_23 rfl (lv_at hl 0 rfl) ?_
          refine wk_iald hx hb hK hP 1 0 rfl rfl i (rfl) (by omega) (by omega) dX2_here_24 ?_
          refine lv_aload_n hx hb dX2_here_25 rfl (lv_at hl 2 rfl) ?_
          refine va_get (D := (dC, dI)) (ci := 2) (v := .int lvs) (C := RX2) (T := TX2) (N := 9) hx hb hts in_X2 hown hK hP 0 rfl rfl 6 (by decide) (hts _ q66) (fun _ h9 => h9) rfl dX2_here_26 ?_
          refine lv_icmp_ne (tgt := 35) hx hb dX2_here_29 (by decide) (fun c_3 => ?_) (fun c_3 => ?_)
          · have hc9 : hc (hr_P p9 lvs lv) (i + 1) = hc (hr_P p9 lvs lv) i := hc_n (fun z => c_3 (by unfold hr_P at z; rw [Bool.and_eq_true] at z; exact of_decide_eq_true z.2))
            refine lv_iinc (v := nI (i + 1)) (lv' := [(3, .int (nI (i + 1))), (2, .int (nI (hc (hr_P p9 lvs lv) i))), (0, .ref h), (1, .int p9)]) hx hb dX2_here_35 hl (k := 0) rfl ((nI_succ _).symm) (by decide) rfl (fun ls hl => ?_)
            refine lv_goto (tgt := 4) hx hb dX2_here_38 (by decide) ?_
            exact ih (i + 1) (by omega) (by omega) ls (by rw [hc9]; exact lv_sub hl [0, 1, 2, 3] rfl)
          · have hc9 : hc (hr_P p9 lvs lv) (i + 1) = hc (hr_P p9 lvs lv) i + 1 := hc_s (by unfold hr_P; rw [Bool.and_eq_true]; exact ⟨(b_t1 p9 (by omega)).mp c_2, decide_eq_true c_3⟩)
            refine lv_iinc (v := nI ((hc (hr_P p9 lvs lv) i) + 1)) (lv' := [(2, .int (nI ((hc (hr_P p9 lvs lv) i) + 1))), (3, .int (nI i)), (0, .ref h), (1, .int p9)]) hx hb dX2_here_32 hl (k := 1) rfl ((nI_succ _).symm) (by decide) rfl (fun ls hl => ?_)
            refine lv_iinc (v := nI (i + 1)) (lv' := [(3, .int (nI (i + 1))), (2, .int (nI ((hc (hr_P p9 lvs lv) i) + 1))), (0, .ref h), (1, .int p9)]) hx hb dX2_here_35 hl (k := 1) rfl ((nI_succ _).symm) (by decide) rfl (fun ls hl => ?_)
            refine lv_goto (tgt := 4) hx hb dX2_here_38 (by decide) ?_
            exact ih (i + 1) (by omega) (by omega) ls (by rw [hc9]; exact lv_sub hl [0, 1, 2, 3] rfl)
  exact loop 13 0 (by omega) (by omega) ls (lv_sub hl [0, 1, 2, 3] rfl)
/-- what next answers -/
def nx_post (n : Nat) (fx vs kn tr : Int32) (r : Int32) : Prop :=
  (r = -2 ∧ ∃ k, k < n ∧ bt fx k = true ∧ bt kn k = true ∧ ¬ bt tr k = bt vs k) ∨
  (r = -1 ∧ (∀ k, k < n → bt fx k = true → bt kn k = true ∧ bt tr k = bt vs k) ∧ ∀ k, k < n → bt kn k = true) ∨
  ∃ k, r = nI k ∧ k < n ∧ bt kn k = false ∧ (bt fx k = true ∨ ((∀ j, j < n → bt fx j = true → bt kn j = true ∧ bt tr j = bt vs j) ∧ ∀ j, k < j → j < n → bt kn j = true))
theorem nx_m1 (i : Nat) : nI (i + 1) + (-1) = nI i := pk_m1 i
theorem nx_lt {i : Nat} (h : nI i - 1 < 0) (hi : i < 1000) : i = 0 := by
  cases i with
  | zero => rfl
  | succ i =>
    rw [nI_pred] at h
    exact absurd h (nI_pos (by omega))
theorem nx_eqb {x y : Int32} {k : Nat} (hk : k < 32) : (x >>> (nI k &&& 31)) &&& 1 = (y >>> (nI k &&& 31)) &&& 1 ↔ bt x k = bt y k := by
  rw [b_tst x hk, b_tst y hk]
  cases bt x k <;> cases bt y k <;> simp
set_option maxHeartbeats 4000000 in
set_option maxRecDepth 100000 in
theorem metX2_next (l : Launch) (dC : Nat → ClassId) (dI : Nat → Nat → Nat) (d : ClassId) (h g ln hv hw ht : Nat) (n : Nat) (td lvs k t fx vs : Int32) (k_n : n ≤ 12) : Met l yX2_next (ws_ yX2_next cX2_next 5 (some .int)) ({ frames := 0, cells := 0, slots := 0, locals := 0 }) (wk_R (dC, dI) [] [(h, .inr (2, [.ref g, .ref ln, .ref hv, .ref hw, .ref ht, .int td, .int lvs, .int k, .int t]))] [.ref h, .int (nI n), .int fx, .int vs]) (vp_Si (fun r : Int32 => nx_post n fx vs k t r)) 0 0 (fun _ => False) := by
  refine Met.ofW (cc := cX2_next) (maxL := 5) (ret := some .int) (by decide) rfl ?_
  intro p e s m args below meth c s₁ Bd hml hv
  obtain ⟨rfl, hP, hK⟩ := hv
  have hx := Bd.exec
  have hb := Bd.bytes
  have hr := Bd.returns
  have hts := atoms_spec (ws := ws_ yX2_next cX2_next 5 (some .int)) Bd.pre
  have hts : ∀ w ∈ lw_all, w.before _ s = true := fun w h => hts w (List.mem_cons_of_mem _ h)
  have hown : s.vm.findClass RX2 = some m.cls := findClass_of_methodNamed Bd.named
  have hlocks := Bd.notSynchronized
  have hK : va_K (dC, dI) vwCl [] s := hK
  have hP : va_P (dC, dI) vwCl [(h, .inr (2, [.ref g, .ref ln, .ref hv, .ref hw, .ref ht, .int td, .int lvs, .int k, .int t]))] s.heap := hP
  have hl := lv_entry ([.ref h, .int (nI n), .int fx, .int vs]) (n := 5) (Nat.le_of_ble_eq_true rfl)
  rw [lg_entry_eq]
  generalize (lg_sl ([.ref h, .int (nI n), .int fx, .int vs]) ++ List.replicate (5 - (lg_sl ([.ref h, .int (nI n), .int fx, .int vs])).length) Slot.unset).toArray = ls at hl ⊢
  have hl : lv_has ls 5 [(0, .ref h), (1, .int (nI n)), (2, .int fx), (3, .int vs)] := hl
  have loop2 : ∀ (N9 : Nat) (i : Nat), (i < N9) → (i ≤ n) → (∀ z, z < n → bt fx z = true → bt k z = true ∧ bt t z = bt vs z) → (∀ z, i ≤ z → z < n → bt k z = true) → ∀ (ls : Array Slot), lv_has ls 5 [(4, .int (nI i - 1)), (0, .ref h), (1, .int (nI n)), (2, .int fx), (3, .int vs)] → W p l e (headSpec (ws_ yX2_next cX2_next 5 (some .int)) ({ frames := 0, cells := 0, slots := 0, locals := 0 })).room s m ([.ref h, .int (nI n), .int fx, .int vs] : List Value).toArray below meth c s.heap [] 0 0 (MQ below (vp_Si (fun r : Int32 => nx_post n fx vs k t r)) ([.ref h, .int (nI n), .int fx, .int vs] : List Value).toArray s 0 0 (fun _ => False)) (F0 m 69 ls []) := by
    intro N9
    induction N9 with
    | zero =>
      intro i h9
      exact absurd h9 (Nat.not_lt_zero _)
    | succ N9 ih =>
      intro i h1 h2 h3 h4 ls hl
      refine lv_iload hx hb dX2_next_69 (lv_at hl 0 rfl) ?_
      refine lv_if_lt (tgt := 95) hx hb dX2_next_71 (by decide) (fun c_1 => ?_) (fun c_1 => ?_)
      · have hi : i = 0 := nx_lt c_1 (by omega)
        subst hi
        refine lv_iconst (v := (-1)) hx hb dX2_next_95 (by decide) ?_
        exact wk_iretR hx hb hr hlocks (Or.inr (Or.inl ⟨rfl, h3, fun z hz => h4 z (Nat.zero_le _) hz⟩)) dX2_next_96
      · obtain ⟨j, rfl⟩ : ∃ j, i = j + 1 := ⟨i - 1, by have : i ≠ 0 := (fun e => c_1 (by rw [e]; decide)); omega⟩
        have hl : lv_has ls 5 [(4, .int (nI j)), (0, .ref h), (1, .int (nI n)), (2, .int fx), (3, .int vs)] := by rw [nI_pred] at hl; exact hl
        refine lv_aload_n hx hb dX2_next_74 rfl (lv_at hl 1 rfl) ?_
        refine va_get (D := (dC, dI)) (ci := 2) (v := .int k) (C := RX2) (T := TX2) (N := 9) hx hb hts in_X2 hown hK hP 0 rfl rfl 7 (by decide) (hts _ q67) (fun _ h9 => h9) rfl dX2_next_75 ?_
        refine lv_iload hx hb dX2_next_78 (lv_at hl 0 rfl) ?_
        refine lv_ishr hx hb dX2_next_80 ?_
        refine lv_iconst (v := 1) hx hb dX2_next_81 (by decide) ?_
        refine lv_iand hx hb dX2_next_82 ?_
        refine lv_if_ne (tgt := 89) hx hb dX2_next_83 (by decide) (fun c_2 => ?_) (fun c_2 => ?_)
        · refine lv_iinc (v := nI j - 1) (lv' := [(4, .int (nI j - 1)), (0, .ref h), (1, .int (nI n)), (2, .int fx), (3, .int vs)]) hx hb dX2_next_89 hl (k := 0) rfl (by rw [Int32.sub_eq_add_neg]; rfl) (by decide) rfl (fun ls hl => ?_)
          refine lv_goto (tgt := 69) hx hb dX2_next_92 (by decide) ?_
          exact ih j (by omega) (by omega) h3 (fun z hz hz2 => by
            by_cases e : z = j
            · rw [e]; cases hb9 : bt k j
              · exact absurd ((b_t0 k (by omega)).mpr hb9) c_2
              · rfl
            · exact h4 z (by omega) hz2) ls (lv_sub hl [0, 1, 2, 3, 4] rfl)
        · refine lv_iload hx hb dX2_next_86 (lv_at hl 0 rfl) ?_
          exact wk_iretR hx hb hr hlocks (Or.inr (Or.inr ⟨j, rfl, by omega, (b_t0 k (by omega)).mp c_2, Or.inr ⟨h3, fun z hz hz2 => h4 z (by omega) hz2⟩⟩)) dX2_next_88
  have loop1 : ∀ (N9 : Nat) (i : Nat), (i < N9) → (i ≤ n) → (∀ z, i ≤ z → z < n → bt fx z = true → bt k z = true ∧ bt t z = bt vs z) → ∀ (ls : Array Slot), lv_has ls 5 [(4, .int (nI i - 1)), (0, .ref h), (1, .int (nI n)), (2, .int fx), (3, .int vs)] → W p l e (headSpec (ws_ yX2_next cX2_next 5 (some .int)) ({ frames := 0, cells := 0, slots := 0, locals := 0 })).room s m ([.ref h, .int (nI n), .int fx, .int vs] : List Value).toArray below meth c s.heap [] 0 0 (MQ below (vp_Si (fun r : Int32 => nx_post n fx vs k t r)) ([.ref h, .int (nI n), .int fx, .int vs] : List Value).toArray s 0 0 (fun _ => False)) (F0 m 5 ls []) := by
    intro N9
    induction N9 with
    | zero =>
      intro i h9
      exact absurd h9 (Nat.not_lt_zero _)
    | succ N9 ih =>
      intro i h1 h2 h3 ls hl
      refine lv_iload hx hb dX2_next_5 (lv_at hl 0 rfl) ?_
      refine lv_if_lt (tgt := 64) hx hb dX2_next_7 (by decide) (fun c_1 => ?_) (fun c_1 => ?_)
      · have hi : i = 0 := nx_lt c_1 (by omega)
        subst hi
        refine lv_iload_n hx hb dX2_next_64 rfl (lv_at hl 2 rfl) ?_
        refine lv_iconst (v := 1) hx hb dX2_next_65 (by decide) ?_
        refine lv_isub hx hb dX2_next_66 ?_
        refine lv_istore (lv' := [(4, .int ((nI n) - 1)), (0, .ref h), (1, .int (nI n)), (2, .int fx), (3, .int vs)]) hx hb dX2_next_67 hl (by decide) rfl (fun ls hl => ?_)
        exact loop2 (n + 1) n (by omega) (by omega) (fun z hz => h3 z (Nat.zero_le _) hz) (fun z hz hz2 => absurd hz2 (by omega)) ls (lv_sub hl [0, 1, 2, 3, 4] rfl)
      · obtain ⟨j, rfl⟩ : ∃ j, i = j + 1 := ⟨i - 1, by have : i ≠ 0 := (fun e => c_1 (by rw [e]; decide)); omega⟩
        have hl : lv_has ls 5 [(4, .int (nI j)), (0, .ref h), (1, .int (nI n)), (2, .int fx), (3, .int vs)] := by rw [nI_pred] at hl; exact hl
        refine lv_iload_n hx hb dX2_next_10 rfl (lv_at hl 3 rfl) ?_
        refine lv_iload hx hb dX2_next_11 (lv_at hl 0 rfl) ?_
        refine lv_ishr hx hb dX2_next_13 ?_
        refine lv_iconst (v := 1) hx hb dX2_next_14 (by decide) ?_
        refine lv_iand hx hb dX2_next_15 ?_
        refine lv_if_ne (tgt := 22) hx hb dX2_next_16 (by decide) (fun c_2 => ?_) (fun c_2 => ?_)
        · refine lv_aload_n hx hb dX2_next_22 rfl (lv_at hl 1 rfl) ?_
          refine va_get (D := (dC, dI)) (ci := 2) (v := .int k) (C := RX2) (T := TX2) (N := 9) hx hb hts in_X2 hown hK hP 0 rfl rfl 7 (by decide) (hts _ q67) (fun _ h9 => h9) rfl dX2_next_23 ?_
          refine lv_iload hx hb dX2_next_26 (lv_at hl 0 rfl) ?_
          refine lv_ishr hx hb dX2_next_28 ?_
          refine lv_iconst (v := 1) hx hb dX2_next_29 (by decide) ?_
          refine lv_iand hx hb dX2_next_30 ?_
          refine lv_if_ne (tgt := 37) hx hb dX2_next_31 (by decide) (fun c_3 => ?_) (fun c_3 => ?_)
          · refine lv_aload_n hx hb dX2_next_37 rfl (lv_at hl 1 rfl) ?_
            refine va_get (D := (dC, dI)) (ci := 2) (v := .int t) (C := RX2) (T := TX2) (N := 9) hx hb hts in_X2 hown hK hP 0 rfl rfl 8 (by decide) (hts _ q68) (fun _ h9 => h9) rfl dX2_next_38 ?_
            refine lv_iload hx hb dX2_next_41 (lv_at hl 0 rfl) ?_
            refine lv_ishr hx hb dX2_next_43 ?_
            refine lv_iconst (v := 1) hx hb dX2_next_44 (by decide) ?_
            refine lv_iand hx hb dX2_next_45 ?_
            refine lv_iload_n hx hb dX2_next_46 rfl (lv_at hl 4 rfl) ?_
            refine lv_iload hx hb dX2_next_47 (lv_at hl 0 rfl) ?_
            refine lv_ishr hx hb dX2_next_49 ?_
            refine lv_iconst (v := 1) hx hb dX2_next_50 (by decide) ?_
            refine lv_iand hx hb dX2_next_51 ?_
            refine lv_icmp_eq (tgt := 58) hx hb dX2_next_52 (by decide) (fun c_4 => ?_) (fun c_4 => ?_)
            · refine lv_iinc (v := nI j - 1) (lv' := [(4, .int (nI j - 1)), (0, .ref h), (1, .int (nI n)), (2, .int fx), (3, .int vs)]) hx hb dX2_next_58 hl (k := 0) rfl (by rw [Int32.sub_eq_add_neg]; rfl) (by decide) rfl (fun ls hl => ?_)
              refine lv_goto (tgt := 5) hx hb dX2_next_61 (by decide) ?_
              exact ih j (by omega) (by omega) (fun z hz hz2 hz3 => by
                by_cases e : z = j
                · subst e; exact ⟨by cases hb9 : bt k z with | false => exact absurd ((b_t0 k (by omega)).mpr hb9) c_3 | true => rfl, (nx_eqb (by omega)).mp c_4⟩
                · exact h3 z (by omega) hz2 hz3) ls (lv_sub hl [0, 1, 2, 3, 4] rfl)
            · refine lv_bipush (v := (-2)) hx hb dX2_next_55 (by decide) ?_
              exact wk_iretR hx hb hr hlocks (Or.inl ⟨rfl, j, by omega, by cases hb9 : bt fx j with | false => exact absurd ((b_t0 fx (by omega)).mpr hb9) c_2 | true => rfl, by cases hb9 : bt k j with | false => exact absurd ((b_t0 k (by omega)).mpr hb9) c_3 | true => rfl, fun z => c_4 ((nx_eqb (by omega)).mpr z)⟩) dX2_next_57
          · refine lv_iload hx hb dX2_next_34 (lv_at hl 0 rfl) ?_
            exact wk_iretR hx hb hr hlocks (Or.inr (Or.inr ⟨j, rfl, by omega, (b_t0 k (by omega)).mp c_3, Or.inl (by cases hb9 : bt fx j with | false => exact absurd ((b_t0 fx (by omega)).mpr hb9) c_2 | true => rfl)⟩)) dX2_next_36
        · refine lv_goto (tgt := 58) hx hb dX2_next_19 (by decide) ?_
          refine lv_iinc (v := nI j - 1) (lv' := [(4, .int (nI j - 1)), (0, .ref h), (1, .int (nI n)), (2, .int fx), (3, .int vs)]) hx hb dX2_next_58 hl (k := 0) rfl (by rw [Int32.sub_eq_add_neg]; rfl) (by decide) rfl (fun ls hl => ?_)
          refine lv_goto (tgt := 5) hx hb dX2_next_61 (by decide) ?_
          exact ih j (by omega) (by omega) (fun z hz hz2 hz3 => by
            by_cases e : z = j
            · subst e; rw [(b_t0 fx (by omega)).mp c_2] at hz3; cases hz3
            · exact h3 z (by omega) hz2 hz3) ls (lv_sub hl [0, 1, 2, 3, 4] rfl)
  refine lv_iload_n hx hb dX2_next_0 rfl (lv_at hl 1 rfl) ?_
  refine lv_iconst (v := 1) hx hb dX2_next_1 (by decide) ?_
  refine lv_isub hx hb dX2_next_2 ?_
  refine lv_istore (lv' := [(4, .int ((nI n) - 1)), (0, .ref h), (1, .int (nI n)), (2, .int fx), (3, .int vs)]) hx hb dX2_next_3 hl (by decide) rfl (fun ls hl => ?_)
  exact loop1 (n + 1) n (by omega) (by omega) (fun z hz hz2 => absurd hz2 (by omega)) ls (lv_sub hl [0, 1, 2, 3, 4] rfl)
end
section
/-! The search in plain words. A trail is a list of entries, the newest first: letter, value, level, the clause that it follows from (none: it was tried) -/
abbrev sp_E : Type := Nat × Bool × Nat × Option (Int32 × Int32)
abbrev sp_DB : Type := Int32 → Int32 → Prop
def sp_l (T : List sp_E) (i : Nat) (b : Bool) : Prop := ∃ x, x ∈ T ∧ x.1 = i ∧ x.2.1 = b
def sp_a (T : List sp_E) (i : Nat) : Prop := ∃ x, x ∈ T ∧ x.1 = i
def sp_in (y q : Int32) (i : Nat) : Prop := bt y i = true ∨ bt q i = true
def sp_sat (T : List sp_E) (y q : Int32) : Prop := ∃ i, (bt y i = true ∧ bt q i = true) ∨ (bt y i = true ∧ sp_l T i true) ∨ (bt q i = true ∧ sp_l T i false)
def sp_op (T : List sp_E) (y q : Int32) (i : Nat) : Prop := sp_in y q i ∧ ¬ sp_a T i
def sp_two (T : List sp_E) (y q : Int32) : Prop := ∃ i j, i ≠ j ∧ sp_op T y q i ∧ sp_op T y q j
def sp_fal (T : List sp_E) (y q : Int32) : Prop := ¬ sp_sat T y q ∧ ∀ i, sp_in y q i → sp_a T i
/-- a clause under an assignment of all letters -/
def sp_m (a : Nat → Bool) (y q : Int32) : Prop := ∃ i, (bt y i = true ∧ a i = true) ∨ (bt q i = true ∧ a i = false)
def sp_top : List sp_E → Nat
  | [] => 0
  | x :: _ => x.2.2.1
def sp_full (B : sp_DB) (T : List sp_E) : Prop := ∀ y q, B y q → sp_sat T y q ∨ sp_two T y q
def sp_dec (n : Nat) (fx vs : Nat → Bool) (T : List sp_E) (x : Nat) (b : Bool) : Prop := (fx x = true ∧ b = vs x) ∨ ((∀ k, k < n → fx k = true → sp_l T k (vs k)) ∧ (∀ k, x < k → k < n → sp_a T k) ∧ b = false)
def sp_prop (B : sp_DB) (T : List sp_E) (x : Nat) (b : Bool) (y q : Int32) : Prop := B y q ∧ ¬ sp_sat T y q ∧ (∀ i, sp_op T y q i ↔ i = x) ∧ (b = true ↔ bt y x = true)
def sp_ok (B : sp_DB) (n : Nat) (fx vs : Nat → Bool) (T : List sp_E) (x : sp_E) : Prop := x.1 < n ∧ ¬ sp_a T x.1 ∧ ((x.2.2.2 = none ∧ x.2.2.1 = sp_top T + 1 ∧ sp_full B T ∧ sp_dec n fx vs T x.1 x.2.1) ∨ ∃ y q, x.2.2.2 = some (y, q) ∧ x.2.2.1 = sp_top T ∧ sp_prop B T x.1 x.2.1 y q)
def sp_good (B : sp_DB) (n : Nat) (fx vs : Nat → Bool) : List sp_E → Prop
  | [] => True
  | x :: T => sp_good B n fx vs T ∧ sp_ok B n fx vs T x
section SP
variable {B : sp_DB} {n : Nat} {fx vs : Nat → Bool} {T T0 T1 : List sp_E} {y q : Int32} {i : Nat} {b : Bool} {x : sp_E} {a : Nat → Bool}
theorem sp_l_a (h : sp_l T i b) : sp_a T i := by
  obtain ⟨x, h1, h2, -⟩ := h
  exact ⟨x, h1, h2⟩
theorem sp_a_l (h : sp_a T i) : ∃ b, sp_l T i b := by
  obtain ⟨x, h1, h2⟩ := h
  exact ⟨_, x, h1, h2, rfl⟩
theorem sp_l_sub (hs : ∀ x, x ∈ T0 → x ∈ T) (h : sp_l T0 i b) : sp_l T i b := by
  obtain ⟨x, h1, h2⟩ := h
  exact ⟨x, hs x h1, h2⟩
theorem sp_a_sub (hs : ∀ x, x ∈ T0 → x ∈ T) (h : sp_a T0 i) : sp_a T i := by
  obtain ⟨x, h1, h2⟩ := h
  exact ⟨x, hs x h1, h2⟩
theorem sp_sat_sub (hs : ∀ x, x ∈ T0 → x ∈ T) (h : sp_sat T0 y q) : sp_sat T y q := by
  obtain ⟨i, h⟩ := h
  refine ⟨i, ?_⟩
  rcases h with h | h | h
  · exact Or.inl h
  · exact Or.inr (Or.inl ⟨h.1, sp_l_sub hs h.2⟩)
  · exact Or.inr (Or.inr ⟨h.1, sp_l_sub hs h.2⟩)
theorem sp_cons_sub (x : sp_E) (T : List sp_E) : ∀ z, z ∈ T → z ∈ x :: T := fun _ h => List.mem_cons_of_mem _ h
theorem sp_app_sub (T1 T : List sp_E) : ∀ z, z ∈ T → z ∈ T1 ++ T := fun _ h => List.mem_append_right _ h
theorem sp_app_sub2 (T1 : List sp_E) (x : sp_E) (T : List sp_E) : ∀ z, z ∈ T → z ∈ T1 ++ x :: T := fun _ h => List.mem_append_right _ (List.mem_cons_of_mem _ h)
theorem sp_good_app (h : sp_good B n fx vs (T1 ++ T)) : sp_good B n fx vs T := by
  induction T1 with
  | nil => exact h
  | cons x T1 ih => exact ih h.1
theorem sp_good_at (h : sp_good B n fx vs (T1 ++ x :: T0)) : sp_ok B n fx vs T0 x := (sp_good_app h).2
theorem sp_lev (h : sp_good B n fx vs T) : ∀ x, x ∈ T → x.2.2.1 ≤ sp_top T := by
  induction T with
  | nil => intro x hx; cases hx
  | cons z T ih =>
    intro x hx
    have hz : sp_top T ≤ z.2.2.1 := by
      rcases h.2.2.2 with ⟨-, e, -⟩ | ⟨_, _, -, e, -⟩ <;> omega
    rcases List.mem_cons.mp hx with e | e
    · rw [e]; exact Nat.le_refl _
    · exact Nat.le_trans (ih h.1 x e) hz
theorem sp_uniq (h : sp_good B n fx vs T) : ∀ x, x ∈ T → ∀ z, z ∈ T → x.1 = z.1 → x = z := by
  induction T with
  | nil => intro x hx; cases hx
  | cons w T ih =>
    intro x hx z hz e
    rcases List.mem_cons.mp hx with e1 | e1 <;> rcases List.mem_cons.mp hz with e2 | e2
    · rw [e1, e2]
    · exact absurd ⟨z, e2, by rw [← e, e1]⟩ h.2.2.1
    · exact absurd ⟨x, e1, by rw [e, e2]⟩ h.2.2.1
    · exact ih h.1 x e1 z e2 e
theorem sp_l_fun (h : sp_good B n fx vs T) {c : Bool} (h1 : sp_l T i b) (h2 : sp_l T i c) : b = c := by
  obtain ⟨x, a1, a2, a3⟩ := h1
  obtain ⟨z, b1, b2, b3⟩ := h2
  have e := sp_uniq h x a1 z b1 (a2.trans b2.symm)
  rw [← a3, ← b3, e]
theorem sp_lt (h : sp_good B n fx vs T) (ha : sp_a T i) : i < n := by
  obtain ⟨x, hx, e⟩ := ha
  obtain ⟨T1, T0, rfl⟩ := List.append_of_mem hx
  rw [← e]
  exact (sp_good_at h).1
theorem sp_agree (hx : ∀ x, x ∈ T → a x.1 = x.2.1) (h : sp_l T i b) : a i = b := by
  obtain ⟨x, a1, a2, a3⟩ := h
  rw [← a2, ← a3]
  exact hx x a1
/-- what follows from the letters that were tried -/
theorem sp_entails (hB : ∀ y q, B y q → sp_m a y q) (h : sp_good B n fx vs T) (hd : ∀ x, x ∈ T → x.2.2.2 = none → a x.1 = x.2.1) : ∀ x, x ∈ T → a x.1 = x.2.1 := by
  induction T with
  | nil => intro x hx; cases hx
  | cons z T ih =>
    have ih := ih h.1 (fun x hx => hd x (List.mem_cons_of_mem _ hx))
    intro x hx
    rcases List.mem_cons.mp hx with e | e
    · subst e
      rcases h.2.2.2 with ⟨e, -⟩ | ⟨y, q, -, -, hBy, hns, hop, hb⟩
      · exact hd x List.mem_cons_self e
      · obtain ⟨j, hj⟩ := hB y q hBy
        have hjx : j = x.1 := by
          apply Classical.byContradiction
          intro hne
          have hin : sp_in y q j := by
            rcases hj with h | h
            · exact Or.inl h.1
            · exact Or.inr h.1
          have hna : sp_a T j := by
            apply Classical.byContradiction
            intro hn
            exact hne ((hop j).mp ⟨hin, hn⟩)
          obtain ⟨c, hc⟩ := sp_a_l hna
          have hac := sp_agree ih hc
          apply hns
          rcases hj with h | h
          · exact ⟨j, Or.inr (Or.inl ⟨h.1, by rw [← h.2, hac]; exact hc⟩)⟩
          · exact ⟨j, Or.inr (Or.inr ⟨h.1, by rw [← h.2, hac]; exact hc⟩)⟩
        subst hjx
        rcases hj with h | h
        · rw [h.2]; exact (hb.mpr h.1).symm
        · rw [h.2]
          cases hv : x.2.1
          · rfl
          · exact absurd ⟨x.1, Or.inl ⟨hb.mp hv, h.1⟩⟩ hns
    · exact ih x e
theorem sp_fal_no (h : sp_fal T y q) (hx : ∀ x, x ∈ T → a x.1 = x.2.1) : ¬ sp_m a y q := by
  rintro ⟨i, hi⟩
  have hin : sp_in y q i := by
    rcases hi with h | h
    · exact Or.inl h.1
    · exact Or.inr h.1
  obtain ⟨c, hc⟩ := sp_a_l (h.2 i hin)
  have hac := sp_agree hx hc
  apply h.1
  rcases hi with h | h
  · exact ⟨i, Or.inr (Or.inl ⟨h.1, by rw [← h.2, hac]; exact hc⟩)⟩
  · exact ⟨i, Or.inr (Or.inr ⟨h.1, by rw [← h.2, hac]; exact hc⟩)⟩
/-- the trail at the letter that was tried last -/
theorem sp_split (h : sp_good B n fx vs T) (hL : 0 < sp_top T) : ∃ (T1 : List sp_E) (x : sp_E) (T0 : List sp_E), T = T1 ++ x :: T0 ∧ x.2.2.2 = none ∧ x.2.2.1 = sp_top T ∧ sp_top T0 + 1 = sp_top T ∧ sp_full B T0 ∧ ∀ z, z ∈ T1 → z.2.2.1 = sp_top T := by
  induction T with
  | nil => exact absurd hL (Nat.lt_irrefl _)
  | cons x T ih =>
    rcases h.2.2.2 with ⟨e1, e2, e3, -⟩ | ⟨y, q, e1, e2, -⟩
    · exact ⟨[], x, T, rfl, e1, rfl, e2.symm, e3, fun z hz => by cases hz⟩
    · have e2 : sp_top (x :: T) = sp_top T := e2
      rw [e2] at hL ⊢
      obtain ⟨T1, d, T0, rfl, f1, f2, f3, f4, f5⟩ := ih h.1 hL
      refine ⟨x :: T1, d, T0, rfl, f1, f2, f3, f4, fun z hz => ?_⟩
      rcases List.mem_cons.mp hz with e | e
      · rw [e]; exact e2
      · exact f5 z e
/-- a letter of the trail is of the top level, or below the letter that was tried last -/
theorem sp_upper {d : sp_E} (hT : T = T1 ++ d :: T0) (hd : d.2.2.1 = sp_top T) (h1 : ∀ z, z ∈ T1 → z.2.2.1 = sp_top T) (ha : sp_a T i) (hn : ¬ sp_a T0 i) : ∃ z, z ∈ T ∧ z.1 = i ∧ z.2.2.1 = sp_top T := by
  obtain ⟨z, hz, e⟩ := ha
  refine ⟨z, hz, e, ?_⟩
  rw [hT] at hz
  rcases List.mem_append.mp hz with h | h
  · exact h1 z h
  · rcases List.mem_cons.mp h with h | h
    · rw [h]; exact hd
    · exact absurd ⟨z, h, e⟩ hn
theorem sp_reason (h : sp_good B n fx vs (x :: T)) (hx : x.2.2.2 = some (y, q)) (hL : 0 < x.2.2.1) : ∃ j, j ≠ x.1 ∧ sp_in y q j ∧ ∃ z, z ∈ T ∧ z.1 = j ∧ z.2.2.1 = x.2.2.1 := by
  rcases h.2.2.2 with ⟨e1, -⟩ | ⟨y', q', e1, e2, hB, hns, hop, -⟩
  · rw [e1] at hx; cases hx
  · rw [e1] at hx
    cases hx
    rw [e2] at hL ⊢
    obtain ⟨T1, d, T0, hT, f1, f2, f3, f4, f5⟩ := sp_split h.1 hL
    have hsub : ∀ z, z ∈ T0 → z ∈ T := by rw [hT]; exact sp_app_sub2 T1 d T0
    rcases f4 y q hB with hs | ⟨i, j, hij, hi, hj⟩
    · exact absurd (sp_sat_sub hsub hs) hns
    · have key : ∀ k, k ≠ x.1 → sp_op T0 y q k → ∃ j, j ≠ x.1 ∧ sp_in y q j ∧ ∃ z, z ∈ T ∧ z.1 = j ∧ z.2.2.1 = sp_top T := by
        intro k hk ho
        have hka : sp_a T k := by
          apply Classical.byContradiction
          intro hn
          exact hk ((hop k).mp ⟨ho.1, hn⟩)
        exact ⟨k, hk, ho.1, sp_upper hT f2 f5 hka ho.2⟩
      by_cases e : i = x.1
      · exact key j (fun h => hij (e.trans h.symm)) hj
      · exact key i e hi
theorem sp_confl (h : sp_good B n fx vs T) (hB : B y q) (hf : sp_fal T y q) (hL : 0 < sp_top T) : ∃ j, sp_in y q j ∧ ∃ z, z ∈ T ∧ z.1 = j ∧ z.2.2.1 = sp_top T := by
  obtain ⟨T1, d, T0, hT, f1, f2, f3, f4, f5⟩ := sp_split h hL
  have hsub : ∀ z, z ∈ T0 → z ∈ T := by rw [hT]; exact sp_app_sub2 T1 d T0
  rcases f4 y q hB with hs | ⟨i, j, hij, hi, hj⟩
  · exact absurd (sp_sat_sub hsub hs) hf.1
  · exact ⟨i, hi.1, sp_upper hT f2 f5 (hf.2 i hi.1) hi.2⟩
end SP
/-- a clause and its reason put together, without the letter x -/
def sp_rs (p y : Int32) (x : Nat) : Int32 := (p ||| y) &&& (((1 : Int32) <<< (nI x &&& 31)) ^^^ (-1))
theorem sp_rs_b (p y : Int32) {x : Nat} (hx : x < 32) (i : Nat) : bt (sp_rs p y x) i = true ↔ (bt p i = true ∨ bt y i = true) ∧ i ≠ x := by
  unfold sp_rs
  rw [b_andn, b_or, b_bit hx]
  by_cases e : i = x
  · simp [e]
  · simp [e]
section SPR
variable {B : sp_DB} {n : Nat} {fx vs : Nat → Bool} {T T0 T2 : List sp_E} {p q y r : Int32} {x : sp_E}
theorem sp_resolve (h : sp_good B n fx vs T) (hT : T = T2 ++ x :: T0) (hx32 : x.1 < 32) (hx : x.2.2.2 = some (y, r)) (hf : sp_fal T p q) : sp_fal T (sp_rs p y x.1) (sp_rs q r x.1) := by
  have hsub : ∀ z, z ∈ T0 → z ∈ T := by rw [hT]; exact sp_app_sub2 T2 x T0
  have hok : sp_ok B n fx vs T0 x := sp_good_at (by rw [← hT]; exact h)
  rcases hok.2.2 with ⟨e1, -⟩ | ⟨y', q', e1, e2, hB, hns, hop, -⟩
  · rw [e1] at hx; cases hx
  · rw [e1] at hx
    cases hx
    have hasg : ∀ i, i ≠ x.1 → sp_in y r i → sp_a T0 i := by
      intro i hi hin
      apply Classical.byContradiction
      intro hn
      exact hi ((hop i).mp ⟨hin, hn⟩)
    have hyv : ∀ i, i ≠ x.1 → bt y i = true → sp_l T0 i false := by
      intro i hi hy
      obtain ⟨c, hc⟩ := sp_a_l (hasg i hi (Or.inl hy))
      cases c
      · exact hc
      · exact absurd ⟨i, Or.inr (Or.inl ⟨hy, hc⟩)⟩ hns
    have hrv : ∀ i, i ≠ x.1 → bt r i = true → sp_l T0 i true := by
      intro i hi hr
      obtain ⟨c, hc⟩ := sp_a_l (hasg i hi (Or.inr hr))
      cases c
      · exact absurd ⟨i, Or.inr (Or.inr ⟨hr, hc⟩)⟩ hns
      · exact hc
    refine ⟨?_, ?_⟩
    · rintro ⟨i, hi⟩
      rcases hi with ⟨h1, h2⟩ | ⟨h1, h2⟩ | ⟨h1, h2⟩
      · rw [sp_rs_b p y hx32] at h1
        rw [sp_rs_b q r hx32] at h2
        rcases h1 with ⟨h1 | h1, hne⟩ <;> rcases h2 with ⟨h2 | h2, -⟩
        · exact hf.1 ⟨i, Or.inl ⟨h1, h2⟩⟩
        · exact hf.1 ⟨i, Or.inr (Or.inl ⟨h1, sp_l_sub hsub (hrv i hne h2)⟩)⟩
        · exact hf.1 ⟨i, Or.inr (Or.inr ⟨h2, sp_l_sub hsub (hyv i hne h1)⟩)⟩
        · exact hns ⟨i, Or.inl ⟨h1, h2⟩⟩
      · rw [sp_rs_b p y hx32] at h1
        rcases h1 with ⟨h1 | h1, hne⟩
        · exact hf.1 ⟨i, Or.inr (Or.inl ⟨h1, h2⟩)⟩
        · have := sp_l_fun h (sp_l_sub hsub (hyv i hne h1)) h2
          cases this
      · rw [sp_rs_b q r hx32] at h1
        rcases h1 with ⟨h1 | h1, hne⟩
        · exact hf.1 ⟨i, Or.inr (Or.inr ⟨h1, h2⟩)⟩
        · have := sp_l_fun h (sp_l_sub hsub (hrv i hne h1)) h2
          cases this
    · intro i hi
      rcases hi with h1 | h1
      · rw [sp_rs_b p y hx32] at h1
        rcases h1 with ⟨h1 | h1, hne⟩
        · exact hf.2 i (Or.inl h1)
        · exact sp_a_sub hsub (hasg i hne (Or.inl h1))
      · rw [sp_rs_b q r hx32] at h1
        rcases h1 with ⟨h1 | h1, hne⟩
        · exact hf.2 i (Or.inr h1)
        · exact sp_a_sub hsub (hasg i hne (Or.inr h1))
theorem sp_res_imp (h : sp_good B n fx vs T) (hT : T = T2 ++ x :: T0) (hx32 : x.1 < 32) (hx : x.2.2.2 = some (y, r)) (hf : sp_fal T p q) {a : Nat → Bool} (h1 : sp_m a p q) (h2 : sp_m a y r) : sp_m a (sp_rs p y x.1) (sp_rs q r x.1) := by
  have hok : sp_ok B n fx vs T0 x := sp_good_at (by rw [← hT]; exact h)
  rcases hok.2.2 with ⟨e1, -⟩ | ⟨y', q', e1, e2, hB, hns, hop, hb⟩
  · rw [e1] at hx; cases hx
  · rw [e1] at hx
    cases hx
    have hxl : sp_l T x.1 x.2.1 := ⟨x, by rw [hT]; exact List.mem_append_right _ List.mem_cons_self, rfl, rfl⟩
    obtain ⟨i, hi⟩ := h1
    obtain ⟨j, hj⟩ := h2
    by_cases ei : i = x.1
    · by_cases ej : j = x.1
      · exfalso
        subst ei
        rw [ej] at hj
        cases hv : x.2.1
        · have hy : ¬ bt y x.1 = true := fun z => by rw [hb.mpr z] at hv; cases hv
          have hq : ¬ bt q x.1 = true := fun z => hf.1 ⟨x.1, Or.inr (Or.inr ⟨z, by rw [← hv]; exact hxl⟩)⟩
          rcases hi with hi | hi
          · rcases hj with hj | hj
            · exact hy hj.1
            · rw [hi.2] at hj; cases hj.2
          · exact hq hi.1
        · have hy : bt y x.1 = true := hb.mp hv
          have hr : ¬ bt r x.1 = true := fun z => hns ⟨x.1, Or.inl ⟨hy, z⟩⟩
          have hp : ¬ bt p x.1 = true := fun z => hf.1 ⟨x.1, Or.inr (Or.inl ⟨z, by rw [← hv]; exact hxl⟩)⟩
          rcases hi with hi | hi
          · exact hp hi.1
          · rcases hj with hj | hj
            · rw [hi.2] at hj; cases hj.2
            · exact hr hj.1
      · refine ⟨j, ?_⟩
        rcases hj with hj | hj
        · exact Or.inl ⟨(sp_rs_b p y hx32 j).mpr ⟨Or.inr hj.1, ej⟩, hj.2⟩
        · exact Or.inr ⟨(sp_rs_b q r hx32 j).mpr ⟨Or.inr hj.1, ej⟩, hj.2⟩
    · refine ⟨i, ?_⟩
      rcases hi with hi | hi
      · exact Or.inl ⟨(sp_rs_b p y hx32 i).mpr ⟨Or.inl hi.1, ei⟩, hi.2⟩
      · exact Or.inr ⟨(sp_rs_b q r hx32 i).mpr ⟨Or.inl hi.1, ei⟩, hi.2⟩
end SPR
/-- letter i is in the trail, of level L -/
def sp_at (T : List sp_E) (L i : Nat) : Prop := ∃ z, z ∈ T ∧ z.1 = i ∧ z.2.2.1 = L
/-- the clause (p, q) while a conflict is looked into, the trail read down to T0 -/
def sp_an (G : (Nat → Bool) → Prop) (n : Nat) (T T0 : List sp_E) (p q : Int32) : Prop :=
  (∃ T2, T = T2 ++ T0) ∧ sp_fal T p q ∧ (∀ a, G a → sp_m a p q) ∧ (∀ i, sp_in p q i → i < n) ∧ (∀ i, sp_in p q i → sp_at T (sp_top T) i → sp_a T0 i) ∧ ∃ i, sp_in p q i ∧ sp_at T (sp_top T) i
section SPA
variable {B : sp_DB} {G : (Nat → Bool) → Prop} {n : Nat} {fx vs : Nat → Bool} {T T0 : List sp_E} {p q : Int32}
theorem sp_an_init (h : sp_good B n fx vs T) (hG : ∀ y q, B y q → ∀ a, G a → sp_m a y q) (hn : ∀ y q, B y q → ∀ i, sp_in y q i → i < n) (hL : 0 < sp_top T) (hB : B p q) (hf : sp_fal T p q) : sp_an G n T T p q := by
  refine ⟨⟨[], rfl⟩, hf, hG p q hB, hn p q hB, fun i hi _ => hf.2 i hi, ?_⟩
  obtain ⟨j, h1, z, h2, h3, h4⟩ := sp_confl h hB hf hL
  exact ⟨j, h1, z, h2, h3, h4⟩
theorem sp_an_some (h : sp_an G n T T0 p q) : ∃ x T1, T0 = x :: T1 := by
  obtain ⟨-, -, -, -, h5, i, h6, h7⟩ := h
  obtain ⟨z, hz, -⟩ := h5 i h6 h7
  cases T0 with
  | nil => cases hz
  | cons x T1 => exact ⟨x, T1, rfl⟩
theorem sp_an_skip {x : sp_E} (h : sp_an G n T (x :: T0) p q) (hx : ¬ sp_in p q x.1) : sp_an G n T T0 p q := by
  obtain ⟨⟨T2, hT⟩, h2, h3, h4, h5, h6⟩ := h
  refine ⟨⟨T2 ++ [x], by rw [hT]; simp⟩, h2, h3, h4, fun i hi ha => ?_, h6⟩
  obtain ⟨z, hz, e⟩ := h5 i hi ha
  rcases List.mem_cons.mp hz with e1 | e1
  · exact absurd (by rw [← e1, e]; exact hi) hx
  · exact ⟨z, e1, e⟩
/-- the entry on top has a reason if two letters of the level are left -/
theorem sp_an_why (hg : sp_good B n fx vs T) {x : sp_E} (h : sp_an G n T (x :: T0) p q) (hx : sp_in p q x.1) {i j : Nat} (hij : i ≠ j) (hi : sp_in p q i ∧ sp_at T (sp_top T) i) (hj : sp_in p q j ∧ sp_at T (sp_top T) j) : x.2.2.1 = sp_top T ∧ ∃ y r, x.2.2.2 = some (y, r) ∧ B y r := by
  obtain ⟨⟨T2, hT⟩, h2, h3, h4, h5, h6⟩ := h
  have hgx : sp_good B n fx vs (x :: T0) := sp_good_app (by rw [← hT]; exact hg)
  have hxT : x ∈ T := by rw [hT]; exact List.mem_append_right _ List.mem_cons_self
  have lv : ∀ k, sp_in p q k → sp_at T (sp_top T) k → k ≠ x.1 → sp_top T ≤ sp_top T0 := by
    intro k hk hka hne
    obtain ⟨z, hz, e⟩ := h5 k hk hka
    obtain ⟨w, hw, e2, e3⟩ := hka
    rcases List.mem_cons.mp hz with e1 | e1
    · exact absurd (by rw [← e1]; exact e.symm) hne
    · have hzT : z ∈ T := by rw [hT]; exact List.mem_append_right _ hz
      have hzw := sp_uniq hg z hzT w hw (e.trans e2.symm)
      have := sp_lev hgx.1 z e1
      rw [hzw, e3] at this
      exact this
  have hle : sp_top T ≤ sp_top T0 := by
    by_cases e : i = x.1
    · exact lv j hj.1 hj.2 (fun h => hij (e.trans h.symm))
    · exact lv i hi.1 hi.2 e
  have hxl := sp_lev hg x hxT
  rcases hgx.2.2.2 with ⟨e1, e2, -⟩ | ⟨y, r, e1, e2, hB, -⟩
  · omega
  · exact ⟨by omega, y, r, e1, hB⟩
theorem sp_an_step (hg : sp_good B n fx vs T) (hG : ∀ y q, B y q → ∀ a, G a → sp_m a y q) (hn : ∀ y q, B y q → ∀ i, sp_in y q i → i < n) (hn12 : n ≤ 12) (hL : 0 < sp_top T) {x : sp_E} (h : sp_an G n T (x :: T0) p q) {y r : Int32} (hxl : x.2.2.1 = sp_top T) (hx : x.2.2.2 = some (y, r)) (hB : B y r) : sp_an G n T T0 (sp_rs p y x.1) (sp_rs q r x.1) := by
  obtain ⟨⟨T2, hT⟩, h2, h3, h4, h5, h6⟩ := h
  have hgx : sp_good B n fx vs (x :: T0) := sp_good_app (by rw [← hT]; exact hg)
  have hx32 : x.1 < 32 := by have := hgx.2.1; omega
  have hin : ∀ i, sp_in (sp_rs p y x.1) (sp_rs q r x.1) i ↔ (sp_in p q i ∨ sp_in y r i) ∧ i ≠ x.1 := by
    intro i
    unfold sp_in
    rw [sp_rs_b p y hx32, sp_rs_b q r hx32]
    constructor
    · rintro (⟨h1 | h1, h2⟩ | ⟨h1 | h1, h2⟩)
      · exact ⟨Or.inl (Or.inl h1), h2⟩
      · exact ⟨Or.inr (Or.inl h1), h2⟩
      · exact ⟨Or.inl (Or.inr h1), h2⟩
      · exact ⟨Or.inr (Or.inr h1), h2⟩
    · rintro ⟨(h1 | h1) | (h1 | h1), h2⟩
      · exact Or.inl ⟨Or.inl h1, h2⟩
      · exact Or.inr ⟨Or.inl h1, h2⟩
      · exact Or.inl ⟨Or.inr h1, h2⟩
      · exact Or.inr ⟨Or.inr h1, h2⟩
  refine ⟨⟨T2 ++ [x], by rw [hT]; simp⟩, sp_resolve hg hT hx32 hx h2, fun a ha => sp_res_imp hg hT hx32 hx h2 (h3 a ha) (hG y r hB a ha), ?_, ?_, ?_⟩
  · intro i hi
    rcases ((hin i).mp hi).1 with h | h
    · exact h4 i h
    · exact hn y r hB i h
  · intro i hi ha
    obtain ⟨hi1, hne⟩ := (hin i).mp hi
    rcases hi1 with h | h
    · obtain ⟨z, hz, e⟩ := h5 i h ha
      rcases List.mem_cons.mp hz with e1 | e1
      · exact absurd (by rw [← e1]; exact e.symm) hne
      · exact ⟨z, e1, e⟩
    · rcases hgx.2.2.2 with ⟨e1, -⟩ | ⟨y', q', e1, e2, -, -, hop, -⟩
      · rw [e1] at hx; cases hx
      · rw [e1] at hx
        cases hx
        apply Classical.byContradiction
        intro hna
        exact hne ((hop i).mp ⟨h, hna⟩)
  · obtain ⟨j, hj1, hj2, z, hz, e1, e2⟩ := sp_reason hgx hx (by rw [hxl]; exact hL)
    exact ⟨j, (hin j).mpr ⟨Or.inr hj2, hj1⟩, z, by rw [hT]; exact List.mem_append_right _ (List.mem_cons_of_mem _ hz), e1, by rw [e2, hxl]⟩
end SPA
end
section
/-! The search in plain words, II: what is learnt, going back, the bound on what is learnt -/
def sp_bk (to : Nat) (T : List sp_E) : List sp_E := T.dropWhile (fun x => decide (to < x.2.2.1))
theorem sp_bk_nil (to : Nat) : sp_bk to [] = [] := rfl
theorem sp_bk_pos {to : Nat} {x : sp_E} {T : List sp_E} (h : to < x.2.2.1) : sp_bk to (x :: T) = sp_bk to T := by
  unfold sp_bk
  rw [List.dropWhile_cons, if_pos (decide_eq_true h)]
theorem sp_bk_neg {to : Nat} {x : sp_E} {T : List sp_E} (h : ¬ to < x.2.2.1) : sp_bk to (x :: T) = x :: T := by
  unfold sp_bk
  rw [List.dropWhile_cons, if_neg (by rw [decide_eq_true_eq]; exact h)]
section SPB
variable {B : sp_DB} {n : Nat} {fx vs : Nat → Bool} {T T0 : List sp_E} {p q : Int32}
theorem sp_good_add {B' : sp_DB} (h : sp_good B n fx vs T) (h1 : ∀ y r, B y r → B' y r) (h2 : ∀ y r, B' y r → B y r ∨ (y = p ∧ r = q)) (hd : ∀ (T1 : List sp_E) (x : sp_E) (T0 : List sp_E), T = T1 ++ x :: T0 → x.2.2.2 = none → sp_two T0 p q) : sp_good B' n fx vs T := by
  induction T with
  | nil => exact trivial
  | cons x T ih =>
    refine ⟨ih h.1 (fun T1 z T0 e hz => hd (x :: T1) z T0 (by rw [e]; rfl) hz), h.2.1, h.2.2.1, ?_⟩
    rcases h.2.2.2 with ⟨e1, e2, e3, e4⟩ | ⟨y, r, e1, e2, hB, hr⟩
    · refine Or.inl ⟨e1, e2, fun y r hyr => ?_, e4⟩
      rcases h2 y r hyr with h | ⟨rfl, rfl⟩
      · exact e3 y r h
      · exact Or.inr (hd [] x T rfl e1)
    · exact Or.inr ⟨y, r, e1, e2, h1 y r hB, hr⟩
theorem sp_bk_low (h : sp_good B n fx vs T) {to : Nat} (hto : sp_top T ≤ to) : sp_bk to T = T := by
  cases T with
  | nil => rfl
  | cons x T => exact sp_bk_neg (fun z => absurd hto (Nat.not_le.mpr z))
theorem sp_bk_spec (h : sp_good B n fx vs T) {to : Nat} (hto : to < sp_top T) : ∃ (T1 : List sp_E) (d : sp_E), T = T1 ++ d :: sp_bk to T ∧ d.2.2.2 = none ∧ (∀ z, z ∈ T1 → to < z.2.2.1) ∧ to < d.2.2.1 ∧ sp_top (sp_bk to T) ≤ to := by
  induction T with
  | nil => exact absurd hto (Nat.not_lt_zero _)
  | cons x T ih =>
    have hx : to < x.2.2.1 := hto
    rw [sp_bk_pos hx]
    rcases Nat.lt_or_ge to (sp_top T) with hl | hl
    · obtain ⟨T1, d, e1, e2, e3, e4, e5⟩ := ih h.1 hl
      refine ⟨x :: T1, d, by rw [List.cons_append, ← e1], e2, fun z hz => ?_, e4, e5⟩
      rcases List.mem_cons.mp hz with e | e
      · rw [e]; exact hx
      · exact e3 z e
    · rw [sp_bk_low h.1 hl]
      refine ⟨[], x, rfl, ?_, ⟨fun z hz => (List.not_mem_nil hz).elim, hx, hl⟩⟩
      rcases h.2.2.2 with ⟨e1, -⟩ | ⟨y, r, e1, e2, -⟩
      · exact e1
      · omega
theorem sp_learn (hg : sp_good B n fx vs T) (hf : sp_fal T p q) {u tt : Nat} (hu : sp_in p q u ∧ sp_at T (sp_top T) u) (hone : ∀ i, sp_in p q i → sp_at T (sp_top T) i → i = u) (htt : tt < sp_top T) (hmax : ∀ i L, sp_in p q i → sp_at T L i → L < sp_top T → L ≤ tt) (hex : tt = 0 ∨ ∃ i, sp_in p q i ∧ sp_at T tt i) :
    (∃ (T1 : List sp_E) (d : sp_E), T = T1 ++ d :: sp_bk tt T ∧ d.2.2.2 = none) ∧ sp_top (sp_bk tt T) = tt ∧ (¬ sp_sat (sp_bk tt T) p q ∧ ∀ i, sp_op (sp_bk tt T) p q i ↔ i = u) ∧
    ∀ (T1 : List sp_E) (x : sp_E) (T0 : List sp_E), sp_bk tt T = T1 ++ x :: T0 → x.2.2.2 = none → sp_two T0 p q := by
  obtain ⟨T1, d, e1, e2, e3, e4, e5⟩ := sp_bk_spec hg htt
  generalize hT' : sp_bk tt T = T' at e1 e5 ⊢
  have hsub : ∀ z, z ∈ T' → z ∈ T := by rw [e1]; exact sp_app_sub2 T1 d T'
  have hg' : sp_good B n fx vs T' := by
    have h := hg
    rw [e1] at h
    exact (sp_good_app h).1
  have hlow : ∀ z, z ∈ T → z.2.2.1 ≤ tt → z ∈ T' := by
    intro z hz hl
    rw [e1] at hz
    rcases List.mem_append.mp hz with h | h
    · exact absurd (e3 z h) (by omega)
    · rcases List.mem_cons.mp h with h | h
      · rw [h] at hl; omega
      · exact h
  have hhi : ∀ z, z ∈ T' → z.2.2.1 ≤ tt := fun z hz => Nat.le_trans (sp_lev hg' z hz) e5
  have htop : sp_top T' = tt := by
    rcases hex with h0 | ⟨i, hi, z, hz, ez, el⟩
    · omega
    · have := sp_lev hg' z (hlow z hz (by omega))
      omega
  have hun : ¬ sp_a T' u := by
    rintro ⟨w, hw, ew⟩
    obtain ⟨z, hz, ez, el⟩ := hu.2
    have := sp_uniq hg w (hsub w hw) z hz (ew.trans ez.symm)
    have h2 := hhi w hw
    rw [this, el] at h2
    omega
  refine ⟨⟨T1, d, e1, e2⟩, htop, ⟨fun h => hf.1 (sp_sat_sub hsub h), fun i => ⟨fun hi => ?_, fun e => by rw [e]; exact ⟨hu.1, hun⟩⟩⟩, fun T2 x T0 hx hxn => ?_⟩
  · obtain ⟨z, hz, ez⟩ := hf.2 i hi.1
    have hl := sp_lev hg z hz
    rcases Nat.lt_or_ge z.2.2.1 (sp_top T) with h | h
    · exact absurd ⟨z, hlow z hz (hmax i _ hi.1 ⟨z, hz, ez, rfl⟩ h), ez⟩ hi.2
    · exact hone i hi.1 ⟨z, hz, ez, by omega⟩
  · have hgx : sp_good B n fx vs (x :: T0) := sp_good_app (by rw [← hx]; exact hg')
    have hxl : x.2.2.1 = sp_top T0 + 1 := by
      rcases hgx.2.2.2 with ⟨-, h, -⟩ | ⟨y, r, h, -⟩
      · exact h
      · rw [hxn] at h; cases h
    have hxm : x ∈ T' := by rw [hx]; exact List.mem_append_right _ List.mem_cons_self
    have hxt := hhi x hxm
    have hs0 : ∀ z, z ∈ T0 → z ∈ T' := by rw [hx]; exact sp_app_sub2 T2 x T0
    rcases hex with h0 | ⟨i, hi, z, hz, ez, el⟩
    · omega
    · refine ⟨u, i, ?_, ⟨hu.1, fun h => hun (sp_a_sub hs0 h)⟩, ⟨hi, ?_⟩⟩
      · intro e
        obtain ⟨w, hw, ew, ewl⟩ := hu.2
        have := sp_uniq hg w hw z hz (by rw [ew, ez, e])
        rw [this, el] at ewl
        omega
      · rintro ⟨w, hw, ew⟩
        have := sp_uniq hg w (hsub w (hs0 w hw)) z hz (ew.trans ez.symm)
        have h2 := sp_lev hgx.1 w hw
        rw [this, el] at h2
        omega
end SPB
/-- the weight of what followed -/
def sp_V : List sp_E → Nat
  | [] => 0
  | x :: T => sp_V T + (if x.2.2.2.isNone = true then 0 else 2 ^ (11 - T.length))
theorem sp_pow {k : Nat} (h : k < 12) : 2 ^ (12 - k) = 2 ^ (11 - k) + 2 ^ (11 - k) := by
  rw [show 12 - k = (11 - k) + 1 by omega, Nat.pow_succ]
  omega
theorem sp_V_le (x : sp_E) (T : List sp_E) : sp_V (x :: T) ≤ sp_V T + 2 ^ (11 - T.length) := by
  show sp_V T + (if x.2.2.2.isNone = true then 0 else 2 ^ (11 - T.length)) ≤ _
  split
  · exact Nat.le_add_right _ _
  · exact Nat.le_refl _
theorem sp_V_ge (x : sp_E) (T : List sp_E) : sp_V T ≤ sp_V (x :: T) := by
  show _ ≤ sp_V T + (if x.2.2.2.isNone = true then 0 else 2 ^ (11 - T.length))
  omega
theorem sp_V_none {x : sp_E} (T : List sp_E) (h : x.2.2.2 = none) : sp_V (x :: T) = sp_V T := by
  show sp_V T + (if x.2.2.2.isNone = true then 0 else 2 ^ (11 - T.length)) = _
  rw [h, if_pos (show Option.isNone (none : Option (Int32 × Int32)) = true from rfl), Nat.add_zero]
theorem sp_V_some {x : sp_E} (T : List sp_E) {c : Int32 × Int32} (h : x.2.2.2 = some c) : sp_V (x :: T) = sp_V T + 2 ^ (11 - T.length) := by
  show sp_V T + (if x.2.2.2.isNone = true then 0 else 2 ^ (11 - T.length)) = _
  rw [h, if_neg (fun q => by cases q)]
theorem sp_V_cap (T : List sp_E) : ∀ T1 : List sp_E, (T1 ++ T).length ≤ 12 → sp_V (T1 ++ T) + 2 ^ (12 - (T1 ++ T).length) ≤ sp_V T + 2 ^ (12 - T.length) := by
  intro T1
  induction T1 with
  | nil => intro _; exact Nat.le_refl _
  | cons x T1 ih =>
    intro h
    have hl : (x :: T1 ++ T).length = (T1 ++ T).length + 1 := rfl
    rw [hl] at h ⊢
    have h1 := ih (by omega)
    have h2 := sp_V_le x (T1 ++ T)
    have h3 := sp_pow (k := (T1 ++ T).length) (by omega)
    rw [show 12 - ((T1 ++ T).length + 1) = 11 - (T1 ++ T).length by omega]
    show sp_V (x :: (T1 ++ T)) + _ ≤ _
    omega
theorem sp_V_mono (T : List sp_E) : ∀ T1 : List sp_E, sp_V T ≤ sp_V (T1 ++ T) := by
  intro T1
  induction T1 with
  | nil => exact Nat.le_refl _
  | cons x T1 ih => exact Nat.le_trans ih (sp_V_ge x (T1 ++ T))
theorem sp_V_dec {x : sp_E} {T T1 : List sp_E} (hx : x.2.2.2 = none) (h : (T1 ++ x :: T).length ≤ 12) : sp_V (T1 ++ x :: T) < sp_V T + 2 ^ (11 - T.length) := by
  have h1 := sp_V_cap (x :: T) T1 h
  rw [sp_V_none T hx] at h1
  have h2 : (x :: T).length = T.length + 1 := rfl
  rw [h2, show 12 - (T.length + 1) = 11 - T.length by omega] at h1
  have h3 : 0 < 2 ^ (12 - (T1 ++ x :: T).length) := Nat.pow_pos (by omega)
  omega
theorem sp_V_max {T : List sp_E} (h : T.length ≤ 12) : sp_V T + 1 ≤ 4096 := by
  have h1 := sp_V_cap [] T (by rw [List.append_nil]; exact h)
  rw [List.append_nil] at h1
  have h3 : 0 < 2 ^ (12 - T.length) := Nat.pow_pos (by omega)
  have h4 : sp_V [] + 2 ^ (12 - ([] : List sp_E).length) = 4096 := by decide
  omega
theorem sp_V_prop {T E : List sp_E} (hE : E ≠ []) (hp : ∀ x, x ∈ E → ¬ x.2.2.2 = none) : sp_V T + 2 ^ (11 - T.length) ≤ sp_V (E ++ T) := by
  obtain ⟨E', x, rfl⟩ : ∃ E' x, E = E' ++ [x] := ⟨E.dropLast, E.getLast hE, (List.dropLast_concat_getLast hE).symm⟩
  have e : E' ++ [x] ++ T = E' ++ (x :: T) := by simp
  rw [e]
  have h1 := sp_V_mono (x :: T) E'
  have h2 := hp x (List.mem_append_right _ List.mem_cons_self)
  cases hc : x.2.2.2 with
  | none => exact absurd hc h2
  | some c => rw [sp_V_some T hc] at h1; exact h1
theorem sp_holes : ∀ (m n : Nat) (f : Nat → Nat), (∀ i, i < n → f i < m) → (∀ i j, i < j → j < n → f i ≠ f j) → n ≤ m := by
  intro m
  induction m with
  | zero =>
    intro n f h1 _
    rcases Nat.eq_zero_or_pos n with h | h
    · omega
    · exact absurd (h1 0 h) (Nat.not_lt_zero _)
  | succ m ih =>
    intro n f h1 h2
    by_cases hx : ∃ i, i < n ∧ f i = m
    · obtain ⟨a, ha, hfa⟩ := hx
      have hg := ih (n - 1) (fun i => if i < a then f i else f (i + 1)) (by
        intro i hi
        by_cases q : i < a
        · simp only [if_pos q]
          have b1 := h1 i (by omega)
          have b2 := h2 i a q ha
          omega
        · simp only [if_neg q]
          have b1 := h1 (i + 1) (by omega)
          have b2 := h2 a (i + 1) (by omega) (by omega)
          omega) (by
        intro i j hij hj
        by_cases q : i < a
        · by_cases r : j < a
          · simp only [if_pos q, if_pos r]
            exact h2 i j hij (by omega)
          · simp only [if_pos q, if_neg r]
            exact h2 i (j + 1) (by omega) (by omega)
        · have r : ¬ j < a := by omega
          simp only [if_neg q, if_neg r]
          exact h2 (i + 1) (j + 1) (by omega) (by omega))
      omega
    · have hg := ih n f (fun i hi => by
        have b1 := h1 i hi
        have b2 : f i ≠ m := fun e => hx ⟨i, hi, e⟩
        omega) h2
      omega
theorem sp_len {B : sp_DB} {n : Nat} {fx vs : Nat → Bool} {T : List sp_E} (h : sp_good B n fx vs T) : T.length ≤ n := by
  refine sp_holes n T.length (fun i => (T.getD i (0, false, 0, none)).1) (fun i hi => ?_) (fun i j hij hj e => ?_)
  · refine sp_lt h ⟨T[i], List.getElem_mem hi, ?_⟩
    simp [List.getD, List.getElem?_eq_getElem hi]
  · have hi : i < T.length := by omega
    have e1 : T[i].1 = T[j].1 := by
      simpa [List.getD, List.getElem?_eq_getElem hi, List.getElem?_eq_getElem hj] using e
    have e2 := sp_uniq h T[i] (List.getElem_mem hi) T[j] (List.getElem_mem hj) e1
    -- the earlier one is above the later one
    have hsp : T = T.take i ++ T[i] :: T.drop (i + 1) := by
      rw [List.getElem_cons_drop, List.take_append_drop]
    have hok : sp_ok B n fx vs (T.drop (i + 1)) T[i] := by
      have h' := h
      rw [hsp] at h'
      exact sp_good_at h'
    apply hok.2.1
    refine ⟨T[j], ?_, e1.symm⟩
    rw [List.mem_iff_getElem]
    refine ⟨j - (i + 1), by rw [List.length_drop]; omega, ?_⟩
    rw [List.getElem_drop]
    congr 1
    omega
theorem sp_len1 {B : sp_DB} {n : Nat} {fx vs : Nat → Bool} {T : List sp_E} (h : sp_good B n fx vs T) {u : Nat} (hu : u < n) (ha : ¬ sp_a T u) : T.length + 1 ≤ n := by
  refine sp_holes n (T.length + 1) (fun i => if i < T.length then (T.getD i (0, false, 0, none)).1 else u) (fun i hi => ?_) (fun i j hij hj e => ?_)
  · by_cases q : i < T.length
    · simp only [if_pos q]
      refine sp_lt h ⟨T[i], List.getElem_mem q, ?_⟩
      simp [List.getD, List.getElem?_eq_getElem q]
    · simp only [if_neg q]
      exact hu
  · have hi : i < T.length := by omega
    by_cases q : j < T.length
    · simp only [if_pos q, if_pos hi] at e
      have e1 : T[i].1 = T[j].1 := by
        simpa [List.getD, List.getElem?_eq_getElem hi, List.getElem?_eq_getElem q] using e
      have hsp : T = T.take i ++ T[i] :: T.drop (i + 1) := by
        rw [List.getElem_cons_drop, List.take_append_drop]
      have hok : sp_ok B n fx vs (T.drop (i + 1)) T[i] := by
        have h' := h
        rw [hsp] at h'
        exact sp_good_at h'
      apply hok.2.1
      refine ⟨T[j], ?_, e1.symm⟩
      rw [List.mem_iff_getElem]
      refine ⟨j - (i + 1), by rw [List.length_drop]; omega, ?_⟩
      rw [List.getElem_drop]
      congr 1
      omega
    · simp only [if_pos hi, if_neg q] at e
      exact ha ⟨T[i], List.getElem_mem hi, by simpa [List.getD, List.getElem?_eq_getElem hi] using e⟩
section SPE
variable {B : sp_DB} {G : (Nat → Bool) → Prop} {n : Nat} {fx vs : Nat → Bool} {T : List sp_E} {y q : Int32}
/-- a conflict with nothing tried: no row at all -/
theorem sp_end0 (h : sp_good B n fx vs T) (hG : ∀ y q, B y q → ∀ a, G a → sp_m a y q) (hL : sp_top T = 0) (hB : B y q) (hf : sp_fal T y q) (a : Nat → Bool) : ¬ G a := by
  intro ha
  refine sp_fal_no hf (sp_entails (fun y q hB => hG y q hB a ha) h (fun x hx hn => ?_)) (hG y q hB a ha)
  have hl := sp_lev h x hx
  obtain ⟨T1, T0, rfl⟩ := List.append_of_mem hx
  rcases (sp_good_at h).2.2 with ⟨-, e, -⟩ | ⟨_, _, e, -⟩
  · omega
  · rw [hn] at e; cases e
/-- a fixed letter can't be so: no row -/
theorem sp_end2 (h : sp_good B n fx vs T) (hG : ∀ y q, B y q → ∀ a, G a → sp_m a y q) {k : Nat} (hk : k < n) (hfx : fx k = true) (hl : sp_l T k (!vs k)) (a : Nat → Bool) (ha : G a) : ¬ ∀ j, j < n → fx j = true → a j = vs j := by
  intro hv
  have hall := sp_entails (a := a) (fun y q hB => hG y q hB a ha) h (fun x hx hn => by
    obtain ⟨T1, T0, rfl⟩ := List.append_of_mem hx
    have hok := sp_good_at h
    rcases hok.2.2 with ⟨-, -, -, hd⟩ | ⟨_, _, e, -⟩
    · rcases hd with ⟨h1, h2⟩ | ⟨h1, -⟩
      · rw [h2]; exact hv _ hok.1 h1
      · have := sp_l_fun h hl (sp_l_sub (sp_app_sub2 T1 x T0) (h1 k hk hfx))
        cases hvk : vs k <;> rw [hvk] at this <;> cases this
    · rw [hn] at e; cases e)
  have h1 := sp_agree hall hl
  rw [hv k hk hfx] at h1
  cases hvk : vs k <;> rw [hvk] at h1 <;> cases h1
/-- all letters known, and every clause holds: a row -/
theorem sp_end1 (hn : ∀ y q, B y q → ∀ i, sp_in y q i → i < n) (hF : sp_full B T) (hall : ∀ k, k < n → sp_a T k) {t : Nat → Bool} (ht : ∀ x, x ∈ T → t x.1 = x.2.1) : ∀ y q, B y q → sp_m t y q := by
  intro y q hB
  rcases hF y q hB with ⟨i, hi⟩ | ⟨i, j, -, ho, -⟩
  · refine ⟨i, ?_⟩
    rcases hi with h | h | h
    · cases hv : t i
      · exact Or.inr ⟨h.2, rfl⟩
      · exact Or.inl ⟨h.1, rfl⟩
    · exact Or.inl ⟨h.1, sp_agree ht h.2⟩
    · exact Or.inr ⟨h.1, sp_agree ht h.2⟩
  · exact absurd (hall i (hn y q hB i ho.1)) ho.2
/-- and the least -/
theorem sp_least (h : sp_good B n fx vs T) (hG : ∀ y q, B y q → ∀ a, G a → sp_m a y q) (hall : ∀ k, k < n → sp_a T k) {t a : Nat → Bool} (ht : ∀ x, x ∈ T → t x.1 = x.2.1) (ha : G a) (hv : ∀ j, j < n → fx j = true → a j = vs j) {k : Nat} (hk : k < n) (hhi : ∀ j, k < j → j < n → a j = t j) (htk : t k = true) : a k = true := by
  obtain ⟨x, hx, ex⟩ := hall k hk
  have hxv : x.2.1 = true := by rw [← ht x hx, ex]; exact htk
  obtain ⟨T1, T0, rfl⟩ := List.append_of_mem hx
  have hgx := sp_good_app h
  have hall2 := sp_entails (a := a) (fun y q hB => hG y q hB a ha) hgx (fun z hz hn => by
    rcases List.mem_cons.mp hz with e | e
    · subst e
      rcases hgx.2.2.2 with ⟨-, -, -, hd⟩ | ⟨_, _, e, -⟩
      · rcases hd with ⟨h1, h2⟩ | ⟨-, -, h1⟩
        · rw [h2]; exact hv _ hgx.2.1 h1
        · rw [hxv] at h1; cases h1
      · rw [hn] at e; cases e
    · obtain ⟨U1, U0, rfl⟩ := List.append_of_mem e
      have hok := sp_good_at hgx.1
      rcases hok.2.2 with ⟨-, -, -, hd⟩ | ⟨_, _, e, -⟩
      · rcases hd with ⟨h1, h2⟩ | ⟨-, h1, -⟩
        · rw [h2]; exact hv _ hok.1 h1
        · have hkz : k < z.1 := by
            apply Classical.byContradiction
            intro hc
            have hne : z.1 ≠ k := fun e2 => hgx.2.2.1 ⟨z, e, by rw [e2, ex]⟩
            have := sp_a_sub (sp_app_sub2 U1 z U0) (h1 k (by omega) hk)
            exact hgx.2.2.1 (by rw [ex]; exact this)
          rw [hhi z.1 hkz hok.1]
          exact ht z (List.mem_append_right _ (List.mem_cons_of_mem _ e))
      · rw [hn] at e; cases e)
  have := hall2 x List.mem_cons_self
  rw [ex, hxv] at this
  exact this
end SPE
/-! The trail as the machine holds it -/
def sp_tr (tr : Nat → Int32) : List sp_E → Prop
  | [] => True
  | x :: T => tr T.length = nI x.1 ∧ sp_tr tr T
def sp_why (Ix : Nat → Int32 → Int32 → Prop) (w : Int32) (c : Option (Int32 × Int32)) : Prop := ∀ z, c = some z → ∃ j, j < 6456 ∧ w = nI j ∧ Ix j z.1 z.2
def sp_rep (Ix : Nat → Int32 → Int32 → Prop) (T : List sp_E) (lv wy tr : Nat → Int32) (k t : Int32) : Prop :=
  sp_tr tr T ∧ (∀ x, x ∈ T → lv x.1 = nI x.2.2.1 ∧ sp_why Ix (wy x.1) x.2.2.2 ∧ bt t x.1 = x.2.1) ∧ ∀ i, bt k i = true ↔ sp_a T i
section SPM
variable {Ix : Nat → Int32 → Int32 → Prop} {T : List sp_E} {lv wy tr : Nat → Int32} {k t y q : Int32}
theorem sp_rep_l (h : sp_rep Ix T lv wy tr k t) (i : Nat) (b : Bool) : sp_l T i b ↔ bt k i = true ∧ bt t i = b := by
  constructor
  · rintro ⟨x, h1, h2, h3⟩
    refine ⟨(h.2.2 i).mpr ⟨x, h1, h2⟩, ?_⟩
    rw [← h2, ← h3]
    exact (h.2.1 x h1).2.2
  · rintro ⟨h1, h2⟩
    obtain ⟨x, h3, h4⟩ := (h.2.2 i).mp h1
    exact ⟨x, h3, h4, by rw [← h2, ← h4]; exact (h.2.1 x h3).2.2.symm⟩
theorem sp_rep_sat (h : sp_rep Ix T lv wy tr k t) : ¬ cl_h y q k t = 0 ↔ sp_sat T y q := by
  unfold cl_h
  rw [b_nz]
  constructor
  · rintro ⟨i, hi⟩
    rw [b_or, b_and, b_or, b_and, b_andn, b_and] at hi
    refine ⟨i, ?_⟩
    rw [sp_rep_l h, sp_rep_l h]
    revert hi
    cases bt y i <;> cases bt q i <;> cases bt k i <;> cases bt t i <;> simp
  · rintro ⟨i, hi⟩
    rw [sp_rep_l h, sp_rep_l h] at hi
    refine ⟨i, ?_⟩
    rw [b_or, b_and, b_or, b_and, b_andn, b_and]
    revert hi
    cases bt y i <;> cases bt q i <;> cases bt k i <;> cases bt t i <;> simp
theorem sp_rep_op (h : sp_rep Ix T lv wy tr k t) (i : Nat) : bt (cl_o y q k) i = true ↔ sp_op T y q i := by
  unfold cl_o sp_op sp_in
  rw [b_andn, b_or, ← h.2.2 i]
  cases bt y i <;> cases bt q i <;> cases bt k i <;> simp
theorem sp_tr_upd {m : Nat} {v : Int32} : ∀ {T : List sp_E}, T.length ≤ m → sp_tr tr T → sp_tr (upd tr m v) T
  | [], _, _ => trivial
  | x :: T, hm, h => by
    have hm' : T.length + 1 ≤ m := hm
    exact ⟨by rw [pk_un (by omega)]; exact h.1, sp_tr_upd (by omega) h.2⟩
theorem sp_tr_at : ∀ {T T2 T0 : List sp_E} {x : sp_E}, T = T2 ++ x :: T0 → sp_tr tr T → tr T0.length = nI x.1
  | _, [], T0, x, e, h => by subst e; exact h.1
  | _, z :: T2, T0, x, e, h => by
    subst e
    exact sp_tr_at (T2 := T2) rfl h.2
theorem sp_rep_push (h : sp_rep Ix T lv wy tr k t) {x L : Nat} {b : Bool} {w : Int32} {c : Option (Int32 × Int32)} (hx : ¬ sp_a T x) (hx32 : x < 32) (hw : sp_why Ix w c) :
    sp_rep Ix ((x, b, L, c) :: T) (upd lv x (nI L)) (upd wy x w) (upd tr T.length (nI x)) (k ||| (1 : Int32) <<< (nI x &&& 31)) (if b = true then t ||| (1 : Int32) <<< (nI x &&& 31) else t &&& (((1 : Int32) <<< (nI x &&& 31)) ^^^ (-1))) := by
  refine ⟨⟨pk_us, sp_tr_upd (Nat.le_refl _) h.1⟩, fun z hz => ?_, fun i => ?_⟩
  · rcases List.mem_cons.mp hz with e | e
    · subst e
      refine ⟨pk_us, by rw [pk_us]; exact hw, ?_⟩
      show bt (if b = true then _ else _) x = b
      cases b
      · rw [if_neg (by decide), b_andn, b_bit hx32, decide_eq_true rfl]
        simp
      · rw [if_pos rfl, b_or, b_bit hx32, decide_eq_true rfl]
        simp
    · have hne : z.1 ≠ x := fun e2 => hx ⟨z, e, e2⟩
      obtain ⟨h1, h2, h3⟩ := h.2.1 z e
      refine ⟨by rw [pk_un hne]; exact h1, by rw [pk_un hne]; exact h2, ?_⟩
      rw [← h3]
      cases b
      · rw [if_neg (by decide), b_andn, b_bit hx32, decide_eq_false hne]
        simp
      · rw [if_pos rfl, b_or, b_bit hx32, decide_eq_false hne]
        simp
  · rw [b_or, b_bit hx32, Bool.or_eq_true, decide_eq_true_eq]
    constructor
    · rintro (h1 | h1)
      · obtain ⟨z, h2, h3⟩ := (h.2.2 i).mp h1
        exact ⟨z, List.mem_cons_of_mem _ h2, h3⟩
      · exact ⟨_, List.mem_cons_self, h1.symm⟩
    · rintro ⟨z, h2, h3⟩
      rcases List.mem_cons.mp h2 with e | e
      · subst e; exact Or.inr h3.symm
      · exact Or.inl ((h.2.2 i).mpr ⟨z, e, h3⟩)
theorem sp_rep_pop {x : sp_E} (h : sp_rep Ix (x :: T) lv wy tr k t) (hx : ¬ sp_a T x.1) (hx32 : x.1 < 32) : sp_rep Ix T lv wy tr (k &&& (((1 : Int32) <<< (nI x.1 &&& 31)) ^^^ (-1))) t := by
  refine ⟨h.1.2, fun z hz => h.2.1 z (List.mem_cons_of_mem _ hz), fun i => ?_⟩
  rw [b_andn, b_bit hx32, Bool.and_eq_true, h.2.2 i]
  constructor
  · rintro ⟨⟨z, h2, h3⟩, h4⟩
    rcases List.mem_cons.mp h2 with e | e
    · subst e
      rw [decide_eq_true h3.symm] at h4
      cases h4
    · exact ⟨z, e, h3⟩
  · rintro ⟨z, h2, h3⟩
    refine ⟨⟨z, List.mem_cons_of_mem _ h2, h3⟩, ?_⟩
    have hne : ¬ i = x.1 := fun e => hx ⟨z, h2, by rw [h3, e]⟩
    rw [decide_eq_false hne]
    rfl
theorem sp_rep_mono {Ix' : Nat → Int32 → Int32 → Prop} (h : sp_rep Ix T lv wy tr k t) (hI : ∀ j y q, Ix j y q → Ix' j y q) : sp_rep Ix' T lv wy tr k t := by
  refine ⟨h.1, fun x hx => ?_, h.2.2⟩
  obtain ⟨h1, h2, h3⟩ := h.2.1 x hx
  refine ⟨h1, fun z hz => ?_, h3⟩
  obtain ⟨j, a1, a2, a3⟩ := h2 z hz
  exact ⟨j, a1, a2, hI j _ _ a3⟩
theorem sp_rep_nil (lv wy tr : Nat → Int32) (t : Int32) : sp_rep Ix [] lv wy tr 0 t := by
  refine ⟨trivial, fun x hx => (List.not_mem_nil hx).elim, fun i => ?_⟩
  rw [b_0]
  exact ⟨fun h => (by cases h), fun ⟨x, hx, _⟩ => (List.not_mem_nil hx).elim⟩
/-- a clause that has one letter left -/
theorem sp_rep_one (h : sp_rep Ix T lv wy tr k t) (h0 : ¬ cl_o y q k = 0) (h1 : cl_o y q k &&& (cl_o y q k - 1) = 0) : ∃ x, x < 32 ∧ cl_o y q k = (1 : Int32) <<< (nI x &&& 31) ∧ ∀ i, sp_op T y q i ↔ i = x := by
  obtain ⟨x, hx, e⟩ := b_one h0 h1
  refine ⟨x, hx, e, fun i => ?_⟩
  rw [← sp_rep_op h, e, b_bit hx, decide_eq_true_eq]
theorem sp_rep_two (h : sp_rep Ix T lv wy tr k t) (h1 : ¬ cl_o y q k &&& (cl_o y q k - 1) = 0) : sp_two T y q := by
  obtain ⟨i, j, hij, hi, hj⟩ := b_two h1
  exact ⟨i, j, hij, (sp_rep_op h i).mp hi, (sp_rep_op h j).mp hj⟩
theorem sp_rep_fal (h : sp_rep Ix T lv wy tr k t) (h0 : cl_h y q k t = 0) (h1 : cl_o y q k = 0) : sp_fal T y q := by
  refine ⟨fun hs => (sp_rep_sat h).mpr hs h0, fun i hi => ?_⟩
  apply Classical.byContradiction
  intro hn
  have := (sp_rep_op h i).mpr ⟨hi, hn⟩
  rw [h1, b_0] at this
  cases this
end SPM
end
section
/-! The search in plain words, III: the steps that the machine takes -/
theorem b_ab (y : Int32) {x : Nat} (hx : x < 32) : y &&& ((1 : Int32) <<< (nI x &&& 31)) = 0 ↔ bt y x = false := by
  rw [b_z]
  constructor
  · intro h
    have := h x
    rw [b_and, b_bit hx, decide_eq_true rfl, Bool.and_true] at this
    exact this
  · intro h i
    rw [b_and, b_bit hx]
    by_cases e : i = x
    · rw [e, h]; rfl
    · rw [decide_eq_false e, Bool.and_false]
section SPS
variable {B : sp_DB} {n : Nat} {fx vs : Nat → Bool} {T : List sp_E} {Ix : Nat → Int32 → Int32 → Prop} {lv wy tr : Nat → Int32} {k t y q : Int32}
theorem sp_top_len : ∀ {T : List sp_E}, sp_good B n fx vs T → sp_top T ≤ T.length
  | [], _ => Nat.le_refl _
  | x :: T, h => by
    have h1 := sp_top_len h.1
    show x.2.2.1 ≤ T.length + 1
    rcases h.2.2.2 with ⟨-, e, -⟩ | ⟨_, _, -, e, -⟩ <;> omega
theorem sp_lev_len (h : sp_good B n fx vs T) {x : sp_E} (hx : x ∈ T) : x.2.2.1 ≤ n := Nat.le_trans (sp_lev h x hx) (Nat.le_trans (sp_top_len h) (sp_len h))
/-- a letter that follows -/
theorem sp_unit (hg : sp_good B n fx vs T) (hr : sp_rep Ix T lv wy tr k t) (hn : ∀ i, sp_in y q i → i < n) (hB : B y q) (h0 : cl_h y q k t = 0) {x : Nat} (hop : ∀ i, sp_op T y q i ↔ i = x) : x < n ∧ ¬ sp_a T x ∧ sp_good B n fx vs ((x, bt y x, sp_top T, some (y, q)) :: T) := by
  have hx := (hop x).mpr rfl
  exact ⟨hn x hx.1, hx.2, hg, hn x hx.1, hx.2, Or.inr ⟨y, q, rfl, rfl, hB, fun hs => (sp_rep_sat hr).mpr hs h0, hop, Iff.rfl⟩⟩
end SPS
/-- a clause by its number: the given ones below 256, the learnt ones from there on -/
def sp_ix (gN : Nat) (gy gq : Nat → Int32) (lN : Nat) (ly lq : Nat → Int32) (j : Nat) (y q : Int32) : Prop := (j < 256 ∧ j < gN ∧ gy j = y ∧ gq j = q) ∨ (256 ≤ j ∧ j - 256 < lN ∧ ly (j - 256) = y ∧ lq (j - 256) = q)
def sp_db (gN : Nat) (gy gq : Nat → Int32) (lN : Nat) (ly lq : Nat → Int32) : sp_DB := fun y q => ∃ j, sp_ix gN gy gq lN ly lq j y q
/-- the rows that all given clauses hold for -/
def sp_G (gN : Nat) (gy gq : Nat → Int32) (a : Nat → Bool) : Prop := ∀ j, j < gN → sp_m a (gy j) (gq j)
/-- what is held of the learnt clauses between runs -/
def sp_lok (n gN : Nat) (gy gq : Nat → Int32) (lN : Nat) (ly lq : Nat → Int32) : Prop := ∀ j, j < lN → (∀ a, sp_G gN gy gq a → sp_m a (ly j) (lq j)) ∧ ∀ i, sp_in (ly j) (lq j) i → i < n
def sp_gok (n gN : Nat) (gy gq : Nat → Int32) : Prop := gN ≤ 256 ∧ ∀ j, j < gN → ∀ i, sp_in (gy j) (gq j) i → i < n
section SPX
variable {n gN lN : Nat} {gy gq ly lq : Nat → Int32}
theorem sp_db_G (hl : sp_lok n gN gy gq lN ly lq) : ∀ y q, sp_db gN gy gq lN ly lq y q → ∀ a, sp_G gN gy gq a → sp_m a y q := by
  rintro y q ⟨j, ⟨-, h1, rfl, rfl⟩ | ⟨-, h1, rfl, rfl⟩⟩ a ha
  · exact ha j h1
  · exact (hl _ h1).1 a ha
theorem sp_db_n (hg : sp_gok n gN gy gq) (hl : sp_lok n gN gy gq lN ly lq) : ∀ y q, sp_db gN gy gq lN ly lq y q → ∀ i, sp_in y q i → i < n := by
  rintro y q ⟨j, ⟨-, h1, rfl, rfl⟩ | ⟨-, h1, rfl, rfl⟩⟩ i hi
  · exact hg.2 j h1 i hi
  · exact (hl _ h1).2 i hi
theorem sp_ix_lt (hl : lN ≤ 6200) {j : Nat} {y q : Int32} (h : sp_ix gN gy gq lN ly lq j y q) : j < 6456 := by
  rcases h with ⟨h1, -⟩ | ⟨h1, h2, -⟩ <;> omega
theorem sp_ix_add {p r : Int32} {j : Nat} {y q : Int32} (h : sp_ix gN gy gq lN ly lq j y q) : sp_ix gN gy gq (lN + 1) (upd ly lN p) (upd lq lN r) j y q := by
  rcases h with h | ⟨h1, h2, h3, h4⟩
  · exact Or.inl h
  · exact Or.inr ⟨h1, by omega, by rw [pk_un (by omega)]; exact h3, by rw [pk_un (by omega)]; exact h4⟩
theorem sp_db_add {p r : Int32} : (∀ y q, sp_db gN gy gq lN ly lq y q → sp_db gN gy gq (lN + 1) (upd ly lN p) (upd lq lN r) y q) ∧ ∀ y q, sp_db gN gy gq (lN + 1) (upd ly lN p) (upd lq lN r) y q → sp_db gN gy gq lN ly lq y q ∨ (y = p ∧ q = r) := by
  refine ⟨fun y q ⟨j, h⟩ => ⟨j, sp_ix_add h⟩, fun y q ⟨j, h⟩ => ?_⟩
  rcases h with h | ⟨h1, h2, h3, h4⟩
  · exact Or.inl ⟨j, Or.inl h⟩
  · by_cases e : j - 256 = lN
    · rw [e, pk_us] at h3 h4
      exact Or.inr ⟨h3.symm, h4.symm⟩
    · rw [pk_un e] at h3 h4
      exact Or.inl ⟨j, Or.inr ⟨h1, by omega, h3, h4⟩⟩
theorem sp_lok_add {p r : Int32} (hl : sp_lok n gN gy gq lN ly lq) (h1 : ∀ a, sp_G gN gy gq a → sp_m a p r) (h2 : ∀ i, sp_in p r i → i < n) : sp_lok n gN gy gq (lN + 1) (upd ly lN p) (upd lq lN r) := by
  intro j hj
  by_cases e : j = lN
  · rw [e, pk_us, pk_us]
    exact ⟨h1, h2⟩
  · rw [pk_un e, pk_un e]
    exact hl j (by omega)
theorem sp_db_new {p r : Int32} : sp_db gN gy gq (lN + 1) (upd ly lN p) (upd lq lN r) p r := ⟨lN + 256, Or.inr ⟨by omega, by omega, by rw [show lN + 256 - 256 = lN by omega, pk_us], by rw [show lN + 256 - 256 = lN by omega, pk_us]⟩⟩
theorem sp_full_of {B : sp_DB} {T : List sp_E} (hB : B = sp_db gN gy gq lN ly lq) (hg : gN ≤ 256) (h1 : ∀ i, i < gN → sp_sat T (gy i) (gq i) ∨ sp_two T (gy i) (gq i)) (h2 : ∀ i, i < lN → sp_sat T (ly i) (lq i) ∨ sp_two T (ly i) (lq i)) : sp_full B T := by
  subst hB
  rintro y q ⟨j, ⟨-, h3, rfl, rfl⟩ | ⟨-, h3, rfl, rfl⟩⟩
  · exact h1 _ h3
  · exact h2 _ h3
end SPX
end
section
/-! Search: back and pass -/
set_option maxHeartbeats 4000000 in
set_option maxRecDepth 100000 in
theorem metX2_back (l : Launch) (dC : Nat → ClassId) (dI : Nat → Nat → Nat) (d : ClassId) (sz : Nat) (h g ln hv hw ht : Nat) (B : sp_DB) (Ix : Nat → Int32 → Int32 → Prop) (n : Nat) (f9 v9 : Nat → Bool) (T : List sp_E) (to : Nat) (lvs k t : Int32) (lv wy tr : Nat → Int32) (k_n : n ≤ 12) (k_to : to < 1000) (k_g : sp_good B n f9 v9 T) (k_r : sp_rep Ix T lv wy tr k t) : Met l yX2_back (ws_ yX2_back cX2_back 2 (none)) ({ frames := 0, cells := 0, slots := 0, locals := 0 }) (wk_M (dC, dI) [(d, .int)] [(h, .inr (2, [.ref g, .ref ln, .ref hv, .ref hw, .ref ht, .int (nI T.length), .int lvs, .int k, .int t])), (hv, .inl (d, 12, .inl lv)), (hw, .inl (d, 12, .inl wy)), (ht, .inl (d, 12, .inl tr))] [.ref h, .int (nI to)] sz) (va_Qv (fun u : Nat × Int32 => u.1 = (sp_bk to T).length ∧ sp_rep Ix (sp_bk to T) lv wy tr u.2 t) (wk_B (dC, dI) [(d, .int)] (va_A [(h, .inr (2, [.ref g, .ref ln, .ref hv, .ref hw, .ref ht, .int (nI T.length), .int lvs, .int k, .int t])), (hv, .inl (d, 12, .inl lv)), (hw, .inl (d, 12, .inl wy)), (ht, .inl (d, 12, .inl tr))] sz) (fun u => [(h, .inr (2, [.ref g, .ref ln, .ref hv, .ref hw, .ref ht, .int (nI u.1), .int (nI to), .int u.2, .int t])), (hv, .inl (d, 12, .inl lv)), (hw, .inl (d, 12, .inl wy)), (ht, .inl (d, 12, .inl tr))])) (va_A [(h, .inr (2, [.ref g, .ref ln, .ref hv, .ref hw, .ref ht, .int (nI T.length), .int lvs, .int k, .int t])), (hv, .inl (d, 12, .inl lv)), (hw, .inl (d, 12, .inl wy)), (ht, .inl (d, 12, .inl tr))] sz)) 0 0 (va_A [(h, .inr (2, [.ref g, .ref ln, .ref hv, .ref hw, .ref ht, .int (nI T.length), .int lvs, .int k, .int t])), (hv, .inl (d, 12, .inl lv)), (hw, .inl (d, 12, .inl wy)), (ht, .inl (d, 12, .inl tr))] sz) := by
  refine Met.ofW (cc := cX2_back) (maxL := 2) (ret := none) (by decide) rfl ?_
  intro p e s m args below meth c s₁ Bd hml hv
  obtain ⟨rfl, hsz, hP, hK, hD0⟩ := hv
  have hx := Bd.exec
  have hb := Bd.bytes
  have hr := Bd.returns
  have hts := atoms_spec (ws := ws_ yX2_back cX2_back 2 (none)) Bd.pre
  have hts : ∀ w ∈ lw_all, w.before _ s = true := fun w h => hts w (List.mem_cons_of_mem _ h)
  have hown : s.vm.findClass RX2 = some m.cls := findClass_of_methodNamed Bd.named
  have hlocks := Bd.notSynchronized
  have hK : va_K (dC, dI) vwCl [(d, .int)] s := hK
  subst hsz
  have hD := hD0.self (sz := s.heap.size)
  generalize hAe : va_A [(h, .inr (2, [.ref g, .ref ln, .ref hv, .ref hw, .ref ht, .int (nI T.length), .int lvs, .int k, .int t])), (hv, .inl (d, 12, .inl lv)), (hw, .inl (d, 12, .inl wy)), (ht, .inl (d, 12, .inl tr))] s.heap.size = A at hD ⊢
  have hA : ∀ q : Nat, s.heap.size ≤ q → A q := fun q h => by rw [← hAe]; exact Or.inr h
  have hS : va_S A s.heap s.heap [] := va_S.rf
  have hP : va_P (dC, dI) vwCl [(h, .inr (2, [.ref g, .ref ln, .ref hv, .ref hw, .ref ht, .int (nI T.length), .int lvs, .int k, .int t])), (hv, .inl (d, 12, .inl lv)), (hw, .inl (d, 12, .inl wy)), (ht, .inl (d, 12, .inl tr))] s.heap := hP
  have hl := lv_entry ([.ref h, .int (nI to)]) (n := 2) (Nat.le_of_ble_eq_true rfl)
  rw [lg_entry_eq]
  generalize (lg_sl ([.ref h, .int (nI to)]) ++ List.replicate (2 - (lg_sl ([.ref h, .int (nI to)])).length) Slot.unset).toArray = ls at hl ⊢
  have hl : lv_has ls 2 [(0, .ref h), (1, .int (nI to))] := hl
  have loop : ∀ (N9 : Nat) (U : List sp_E) (k : Int32), (U.length < N9) → (U.length ≤ 12) → (sp_bk to U = sp_bk to T) → (sp_good B n f9 v9 U) → (sp_rep Ix U lv wy tr k t) → ∀ (H : Heap) (locs : List Loc), va_P (dC, dI) vwCl [(h, .inr (2, [.ref g, .ref ln, .ref hv, .ref hw, .ref ht, .int (nI U.length), .int lvs, .int k, .int t])), (hv, .inl (d, 12, .inl lv)), (hw, .inl (d, 12, .inl wy)), (ht, .inl (d, 12, .inl tr))] H → va_D A [(h, .inr (2, [.ref g, .ref ln, .ref hv, .ref hw, .ref ht, .int (nI U.length), .int lvs, .int k, .int t])), (hv, .inl (d, 12, .inl lv)), (hw, .inl (d, 12, .inl wy)), (ht, .inl (d, 12, .inl tr))] → va_S A s.heap H locs → ∀ (ls : Array Slot), lv_has ls 2 [(0, .ref h), (1, .int (nI to))] → W p l e (headSpec (ws_ yX2_back cX2_back 2 (none)) ({ frames := 0, cells := 0, slots := 0, locals := 0 })).room s m ([.ref h, .int (nI to)] : List Value).toArray below meth c H locs 0 0 (MQ below (va_Qv (fun u : Nat × Int32 => u.1 = (sp_bk to T).length ∧ sp_rep Ix (sp_bk to T) lv wy tr u.2 t) (wk_B (dC, dI) [(d, .int)] (A) (fun u => [(h, .inr (2, [.ref g, .ref ln, .ref hv, .ref hw, .ref ht, .int (nI u.1), .int (nI to), .int u.2, .int t])), (hv, .inl (d, 12, .inl lv)), (hw, .inl (d, 12, .inl wy)), (ht, .inl (d, 12, .inl tr))])) (A)) ([.ref h, .int (nI to)] : List Value).toArray s 0 0 (A)) (F0 m 0 ls []) := by
    intro N9
    induction N9 with
    | zero =>
      intro U k h9
      exact absurd h9 (Nat.not_lt_zero _)
    | succ N9 ih =>
      intro U k h1 h2 h3 h4 h5 H locs hP hD hS ls hl
      refine lv_aload_n hx hb dX2_back_0 rfl (lv_at hl 0 rfl) ?_
      refine va_get (D := (dC, dI)) (ci := 2) (v := .int (nI U.length)) (C := RX2) (T := TX2) (N := 9) hx hb hts in_X2 hown hK hP 0 rfl rfl 5 (by decide) (hts _ q65) (fun _ h9 => h9) rfl dX2_back_1 ?_
      refine lv_if_le (tgt := 59) hx hb dX2_back_4 (by decide) (fun c_1 => ?_) (fun c_1 => ?_)
      · have hU : U = [] := by
          cases U with
          | nil => rfl
          | cons x V => exact absurd c_1 (nI_nle (Nat.succ_pos _) (by omega))
        subst hU
        have hP : va_P (dC, dI) vwCl [(h, .inr (2, [.ref g, .ref ln, .ref hv, .ref hw, .ref ht, .int (nI 0), .int lvs, .int k, .int t])), (hv, .inl (d, 12, .inl lv)), (hw, .inl (d, 12, .inl wy)), (ht, .inl (d, 12, .inl tr))] H := hP
        have hD : va_D A [(h, .inr (2, [.ref g, .ref ln, .ref hv, .ref hw, .ref ht, .int (nI 0), .int lvs, .int k, .int t])), (hv, .inl (d, 12, .inl lv)), (hw, .inl (d, 12, .inl wy)), (ht, .inl (d, 12, .inl tr))] := hD
        refine lv_aload_n hx hb dX2_back_59 rfl (lv_at hl 0 rfl) ?_
        refine lv_iload_n hx hb dX2_back_60 rfl (lv_at hl 1 rfl) ?_
        refine va_put (D := (dC, dI)) (ci := 2) (v := .int (nI to)) (ty := .int) (C := RX2) (T := TX2) (N := 9) hx hb hts in_X2 tyX2 tyX2_ok nmX2 hown hK hP hD hS 0 rfl rfl 6 (by decide) (hts _ q66) (fun _ h9 => h9) rfl (by decide +kernel) rfl rfl (Nat.le_of_ble_eq_true rfl) dX2_back_61 (fun H locs hP hD hS => ?_)
        have hP : va_P (dC, dI) vwCl [(h, .inr (2, [.ref g, .ref ln, .ref hv, .ref hw, .ref ht, .int (nI 0), .int (nI to), .int k, .int t])), (hv, .inl (d, 12, .inl lv)), (hw, .inl (d, 12, .inl wy)), (ht, .inl (d, 12, .inl tr))] H := hP
        have hD : va_D A [(h, .inr (2, [.ref g, .ref ln, .ref hv, .ref hw, .ref ht, .int (nI 0), .int (nI to), .int k, .int t])), (hv, .inl (d, 12, .inl lv)), (hw, .inl (d, 12, .inl wy)), (ht, .inl (d, 12, .inl tr))] := hD
        exact wk_vret ((0, k)) hx hb hr hlocks (by rw [← h3]; exact ⟨rfl, h5⟩) hK hP hD hS dX2_back_64
      · obtain ⟨x, V, rfl⟩ : ∃ x V, U = x :: V := by
          cases U with
          | nil => exact absurd (by decide) c_1
          | cons x V => exact ⟨x, V, rfl⟩
        have hV : V.length + 1 ≤ 12 := h2
        have hx12 : x.1 < 12 := by have := h4.2.1; omega
        have hxl : x.2.2.1 ≤ n := sp_lev_len h4 List.mem_cons_self
        have hxv : lv x.1 = nI x.2.2.1 := (h5.2.1 x List.mem_cons_self).1
        have hP : va_P (dC, dI) vwCl [(h, .inr (2, [.ref g, .ref ln, .ref hv, .ref hw, .ref ht, .int (nI (V.length + 1)), .int lvs, .int k, .int t])), (hv, .inl (d, 12, .inl lv)), (hw, .inl (d, 12, .inl wy)), (ht, .inl (d, 12, .inl tr))] H := hP
        have hD : va_D A [(h, .inr (2, [.ref g, .ref ln, .ref hv, .ref hw, .ref ht, .int (nI (V.length + 1)), .int lvs, .int k, .int t])), (hv, .inl (d, 12, .inl lv)), (hw, .inl (d, 12, .inl wy)), (ht, .inl (d, 12, .inl tr))] := hD
        refine lv_aload_n hx hb dX2_back_7 rfl (lv_at hl 0 rfl) ?_
        refine va_get (D := (dC, dI)) (ci := 2) (v := .ref hv) (C := RX2) (T := TX2) (N := 9) hx hb hts in_X2 hown hK hP 0 rfl rfl 2 (by decide) (hts _ q62) (fun _ h9 => h9) rfl dX2_back_8 ?_
        refine lv_aload_n hx hb dX2_back_11 rfl (lv_at hl 0 rfl) ?_
        refine va_get (D := (dC, dI)) (ci := 2) (v := .ref ht) (C := RX2) (T := TX2) (N := 9) hx hb hts in_X2 hown hK hP 0 rfl rfl 4 (by decide) (hts _ q64) (fun _ h9 => h9) rfl dX2_back_12 ?_
        refine lv_aload_n hx hb dX2_back_15 rfl (lv_at hl 0 rfl) ?_
        refine va_get (D := (dC, dI)) (ci := 2) (v := .int (nI (V.length + 1))) (C := RX2) (T := TX2) (N := 9) hx hb hts in_X2 hown hK hP 0 rfl rfl 5 (by decide) (hts _ q65) (fun _ h9 => h9) rfl dX2_back_16 ?_
        refine lv_iconst (v := 1) hx hb dX2_back_19 (by decide) ?_
        refine lv_isub hx hb dX2_back_20 ?_
        refine wk_top (y := nI V.length) (nI_pred V.length) ?_
        refine wk_iald hx hb hK hP 3 0 rfl rfl V.length (rfl) (by omega) (by omega) dX2_back_21 ?_
        refine wk_top (y := nI x.1) (h5.1.1) ?_
        refine wk_iald hx hb hK hP 1 0 rfl rfl x.1 (rfl) (by omega) (by omega) dX2_back_22 ?_
        refine wk_top (y := nI x.2.2.1) (hxv) ?_
        refine lv_iload_n hx hb dX2_back_23 rfl (lv_at hl 1 rfl) ?_
        refine lv_icmp_le (tgt := 59) hx hb dX2_back_24 (by decide) (fun c_2 => ?_) (fun c_2 => ?_)
        · have hle : ¬ to < x.2.2.1 := Nat.not_lt.mpr ((nI_leI (by omega) (by omega)).mp c_2)
          refine lv_aload_n hx hb dX2_back_59 rfl (lv_at hl 0 rfl) ?_
          refine lv_iload_n hx hb dX2_back_60 rfl (lv_at hl 1 rfl) ?_
          refine va_put (D := (dC, dI)) (ci := 2) (v := .int (nI to)) (ty := .int) (C := RX2) (T := TX2) (N := 9) hx hb hts in_X2 tyX2 tyX2_ok nmX2 hown hK hP hD hS 0 rfl rfl 6 (by decide) (hts _ q66) (fun _ h9 => h9) rfl (by decide +kernel) rfl rfl (Nat.le_of_ble_eq_true rfl) dX2_back_61 (fun H locs hP hD hS => ?_)
          have hP : va_P (dC, dI) vwCl [(h, .inr (2, [.ref g, .ref ln, .ref hv, .ref hw, .ref ht, .int (nI (V.length + 1)), .int (nI to), .int k, .int t])), (hv, .inl (d, 12, .inl lv)), (hw, .inl (d, 12, .inl wy)), (ht, .inl (d, 12, .inl tr))] H := hP
          have hD : va_D A [(h, .inr (2, [.ref g, .ref ln, .ref hv, .ref hw, .ref ht, .int (nI (V.length + 1)), .int (nI to), .int k, .int t])), (hv, .inl (d, 12, .inl lv)), (hw, .inl (d, 12, .inl wy)), (ht, .inl (d, 12, .inl tr))] := hD
          exact wk_vret ((V.length + 1, k)) hx hb hr hlocks (by rw [← h3, sp_bk_neg hle]; exact ⟨rfl, h5⟩) hK hP hD hS dX2_back_64
        · have hlt : to < x.2.2.1 := Nat.lt_of_not_le (fun q => c_2 ((nI_leI (by omega) (by omega)).mpr q))
          refine lv_aload_n hx hb dX2_back_27 rfl (lv_at hl 0 rfl) ?_
          refine lv_dup hx hb dX2_back_28 rfl ?_
          refine va_get (D := (dC, dI)) (ci := 2) (v := .int k) (C := RX2) (T := TX2) (N := 9) hx hb hts in_X2 hown hK hP 0 rfl rfl 7 (by decide) (hts _ q67) (fun _ h9 => h9) rfl dX2_back_29 ?_
          refine lv_iconst (v := 1) hx hb dX2_back_32 (by decide) ?_
          refine lv_aload_n hx hb dX2_back_33 rfl (lv_at hl 0 rfl) ?_
          refine va_get (D := (dC, dI)) (ci := 2) (v := .ref ht) (C := RX2) (T := TX2) (N := 9) hx hb hts in_X2 hown hK hP 0 rfl rfl 4 (by decide) (hts _ q64) (fun _ h9 => h9) rfl dX2_back_34 ?_
          refine lv_aload_n hx hb dX2_back_37 rfl (lv_at hl 0 rfl) ?_
          refine lv_dup hx hb dX2_back_38 rfl ?_
          refine va_get (D := (dC, dI)) (ci := 2) (v := .int (nI (V.length + 1))) (C := RX2) (T := TX2) (N := 9) hx hb hts in_X2 hown hK hP 0 rfl rfl 5 (by decide) (hts _ q65) (fun _ h9 => h9) rfl dX2_back_39 ?_
          refine lv_iconst (v := 1) hx hb dX2_back_42 (by decide) ?_
          refine lv_isub hx hb dX2_back_43 ?_
          refine wk_top (y := nI V.length) (nI_pred V.length) ?_
          refine lv_dup_x1 hx hb dX2_back_44 rfl rfl ?_
          refine va_put (D := (dC, dI)) (ci := 2) (v := .int (nI V.length)) (ty := .int) (C := RX2) (T := TX2) (N := 9) hx hb hts in_X2 tyX2 tyX2_ok nmX2 hown hK hP hD hS 0 rfl rfl 5 (by decide) (hts _ q65) (fun _ h9 => h9) rfl (by decide +kernel) rfl rfl (Nat.le_of_ble_eq_true rfl) dX2_back_45 (fun H locs hP hD hS => ?_)
          have hP : va_P (dC, dI) vwCl [(h, .inr (2, [.ref g, .ref ln, .ref hv, .ref hw, .ref ht, .int (nI V.length), .int lvs, .int k, .int t])), (hv, .inl (d, 12, .inl lv)), (hw, .inl (d, 12, .inl wy)), (ht, .inl (d, 12, .inl tr))] H := hP
          have hD : va_D A [(h, .inr (2, [.ref g, .ref ln, .ref hv, .ref hw, .ref ht, .int (nI V.length), .int lvs, .int k, .int t])), (hv, .inl (d, 12, .inl lv)), (hw, .inl (d, 12, .inl wy)), (ht, .inl (d, 12, .inl tr))] := hD
          refine wk_iald hx hb hK hP 3 0 rfl rfl V.length (rfl) (by omega) (by omega) dX2_back_48 ?_
          refine wk_top (y := nI x.1) (h5.1.1) ?_
          refine lv_ishl hx hb dX2_back_49 ?_
          refine lv_iconst (v := (-1)) hx hb dX2_back_50 (by decide) ?_
          refine lv_ixor hx hb dX2_back_51 ?_
          refine lv_iand hx hb dX2_back_52 ?_
          refine va_put (D := (dC, dI)) (ci := 2) (v := .int (k &&& (((1 : Int32) <<< ((nI x.1) &&& 31)) ^^^ (-1)))) (ty := .int) (C := RX2) (T := TX2) (N := 9) hx hb hts in_X2 tyX2 tyX2_ok nmX2 hown hK hP hD hS 0 rfl rfl 7 (by decide) (hts _ q67) (fun _ h9 => h9) rfl (by decide +kernel) rfl rfl (Nat.le_of_ble_eq_true rfl) dX2_back_53 (fun H locs hP hD hS => ?_)
          have hP : va_P (dC, dI) vwCl [(h, .inr (2, [.ref g, .ref ln, .ref hv, .ref hw, .ref ht, .int (nI V.length), .int lvs, .int (k &&& (((1 : Int32) <<< ((nI x.1) &&& 31)) ^^^ (-1))), .int t])), (hv, .inl (d, 12, .inl lv)), (hw, .inl (d, 12, .inl wy)), (ht, .inl (d, 12, .inl tr))] H := hP
          have hD : va_D A [(h, .inr (2, [.ref g, .ref ln, .ref hv, .ref hw, .ref ht, .int (nI V.length), .int lvs, .int (k &&& (((1 : Int32) <<< ((nI x.1) &&& 31)) ^^^ (-1))), .int t])), (hv, .inl (d, 12, .inl lv)), (hw, .inl (d, 12, .inl wy)), (ht, .inl (d, 12, .inl tr))] := hD
          refine lv_goto (tgt := 0) hx hb dX2_back_56 (by decide) ?_
          exact ih V _ (by have := h1; rw [List.length_cons] at this; omega) (by omega) (by rw [← h3, sp_bk_pos hlt]) h4.1 (sp_rep_pop h5 h4.2.2.1 (by omega)) H locs hP hD hS ls (lv_sub hl [0, 1] rfl)
  have hlen := sp_len k_g
  exact loop (T.length + 1) T k (Nat.lt_succ_self _) (by omega) rfl k_g k_r _ _ hP hD hS ls (lv_sub hl [0, 1] rfl)
/-- what a pass leaves -/
abbrev ps_S : Type := (Nat → Int32) × (Nat → Int32) × (Nat → Int32) × Nat × Int32 × Int32
def ps_st (B : sp_DB) (Ix : Nat → Int32 → Int32 → Prop) (n : Nat) (f9 v9 : Nat → Bool) (T E : List sp_E) (u : ps_S) : Prop :=
  sp_good B n f9 v9 (E ++ T) ∧ sp_rep Ix (E ++ T) u.1 u.2.1 u.2.2.1 u.2.2.2.2.1 u.2.2.2.2.2 ∧ u.2.2.2.1 = (E ++ T).length ∧ sp_top (E ++ T) = sp_top T ∧ ∀ x, x ∈ E → ¬ x.2.2.2 = none
def ps_post (B : sp_DB) (Ix : Nat → Int32 → Int32 → Prop) (n : Nat) (f9 v9 : Nat → Bool) (T : List sp_E) (F cN : Nat) (fy fn : Nat → Int32) (r : Int32) (u : ps_S) : Prop :=
  ∃ E, ps_st B Ix n f9 v9 T E u ∧ ((∃ i, i < cN ∧ r = nI (F + i) ∧ sp_fal (E ++ T) (fy i) (fn i)) ∨ (r = -2 ∧ E ≠ []) ∨ (r = -1 ∧ E = [] ∧ ∀ i, i < cN → sp_sat T (fy i) (fn i) ∨ sp_two T (fy i) (fn i)))
set_option maxHeartbeats 4000000 in
set_option maxRecDepth 100000 in
theorem metX2_pass (l : Launch) (dC : Nat → ClassId) (dI : Nat → Nat → Nat) (d : ClassId) (sz : Nat) (h g ln hv hw ht : Nat) (hc cy cn : Nat) (B : sp_DB) (Ix : Nat → Int32 → Int32 → Prop) (n : Nat) (f9 v9 : Nat → Bool) (T : List sp_E) (F cN M : Nat) (fy fn : Nat → Int32) (lvs k t : Int32) (lv wy tr : Nat → Int32) (k_n : n ≤ 12) (k_c : cN ≤ M) (k_M : M ≤ 6200) (k_F : F + M ≤ 6456) (k_I : ∀ i, i < cN → Ix (F + i) (fy i) (fn i) ∧ B (fy i) (fn i)) (k_B : ∀ y q, B y q → ∀ i, sp_in y q i → i < n) (k_g : sp_good B n f9 v9 T) (k_r : sp_rep Ix T lv wy tr k t) (k_l : lvs = nI (sp_top T)) : Met l yX2_pass (ws_ yX2_pass cX2_pass 6 (some .int)) ({ frames := 1, cells := 0, slots := 0, locals := 24 }) (wk_M (dC, dI) [(d, .int)] [(h, .inr (2, [.ref g, .ref ln, .ref hv, .ref hw, .ref ht, .int (nI T.length), .int lvs, .int k, .int t])), (hv, .inl (d, 12, .inl lv)), (hw, .inl (d, 12, .inl wy)), (ht, .inl (d, 12, .inl tr)), (hc, .inr (1, [.ref cy, .ref cn, .int (nI cN)])), (cy, .inl (d, M, .inl fy)), (cn, .inl (d, M, .inl fn))] [.ref h, .ref hc, .int (nI F)] sz) (va_Qi (ps_post B Ix n f9 v9 T F cN fy fn) (wk_B (dC, dI) [(d, .int)] (va_A [(h, .inr (2, [.ref g, .ref ln, .ref hv, .ref hw, .ref ht, .int (nI T.length), .int lvs, .int k, .int t])), (hv, .inl (d, 12, .inl lv)), (hw, .inl (d, 12, .inl wy)), (ht, .inl (d, 12, .inl tr)), (hc, .inr (1, [.ref cy, .ref cn, .int (nI cN)])), (cy, .inl (d, M, .inl fy)), (cn, .inl (d, M, .inl fn))] sz) (fun u : ps_S => [(h, .inr (2, [.ref g, .ref ln, .ref hv, .ref hw, .ref ht, .int (nI u.2.2.2.1), .int lvs, .int u.2.2.2.2.1, .int u.2.2.2.2.2])), (hv, .inl (d, 12, .inl u.1)), (hw, .inl (d, 12, .inl u.2.1)), (ht, .inl (d, 12, .inl u.2.2.1)), (hc, .inr (1, [.ref cy, .ref cn, .int (nI cN)])), (cy, .inl (d, M, .inl fy)), (cn, .inl (d, M, .inl fn))])) (va_A [(h, .inr (2, [.ref g, .ref ln, .ref hv, .ref hw, .ref ht, .int (nI T.length), .int lvs, .int k, .int t])), (hv, .inl (d, 12, .inl lv)), (hw, .inl (d, 12, .inl wy)), (ht, .inl (d, 12, .inl tr)), (hc, .inr (1, [.ref cy, .ref cn, .int (nI cN)])), (cy, .inl (d, M, .inl fy)), (cn, .inl (d, M, .inl fn))] sz)) 0 0 (va_A [(h, .inr (2, [.ref g, .ref ln, .ref hv, .ref hw, .ref ht, .int (nI T.length), .int lvs, .int k, .int t])), (hv, .inl (d, 12, .inl lv)), (hw, .inl (d, 12, .inl wy)), (ht, .inl (d, 12, .inl tr)), (hc, .inr (1, [.ref cy, .ref cn, .int (nI cN)])), (cy, .inl (d, M, .inl fy)), (cn, .inl (d, M, .inl fn))] sz) := by
  subst k_l
  refine Met.ofW (cc := cX2_pass) (maxL := 6) (ret := some .int) (by decide) rfl ?_
  intro p e s m args below meth c s₁ Bd hml hv
  obtain ⟨rfl, hsz, hP, hK, hD0⟩ := hv
  have hx := Bd.exec
  have hb := Bd.bytes
  have hr := Bd.returns
  have hts := atoms_spec (ws := ws_ yX2_pass cX2_pass 6 (some .int)) Bd.pre
  have hts : ∀ w ∈ lw_all, w.before _ s = true := fun w h => hts w (List.mem_cons_of_mem _ h)
  have hown : s.vm.findClass RX2 = some m.cls := findClass_of_methodNamed Bd.named
  have hlocks := Bd.notSynchronized
  have hK : va_K (dC, dI) vwCl [(d, .int)] s := hK
  subst hsz
  have hD := hD0.self (sz := s.heap.size)
  generalize hAe : va_A [(h, .inr (2, [.ref g, .ref ln, .ref hv, .ref hw, .ref ht, .int (nI T.length), .int (nI (sp_top T)), .int k, .int t])), (hv, .inl (d, 12, .inl lv)), (hw, .inl (d, 12, .inl wy)), (ht, .inl (d, 12, .inl tr)), (hc, .inr (1, [.ref cy, .ref cn, .int (nI cN)])), (cy, .inl (d, M, .inl fy)), (cn, .inl (d, M, .inl fn))] s.heap.size = A at hD ⊢
  have hA : ∀ q : Nat, s.heap.size ≤ q → A q := fun q h => by rw [← hAe]; exact Or.inr h
  have hS : va_S A s.heap s.heap [] := va_S.rf
  have hP : va_P (dC, dI) vwCl [(h, .inr (2, [.ref g, .ref ln, .ref hv, .ref hw, .ref ht, .int (nI T.length), .int (nI (sp_top T)), .int k, .int t])), (hv, .inl (d, 12, .inl lv)), (hw, .inl (d, 12, .inl wy)), (ht, .inl (d, 12, .inl tr)), (hc, .inr (1, [.ref cy, .ref cn, .int (nI cN)])), (cy, .inl (d, M, .inl fy)), (cn, .inl (d, M, .inl fn))] s.heap := hP
  have hl := lv_entry ([.ref h, .ref hc, .int (nI F)]) (n := 6) (Nat.le_of_ble_eq_true rfl)
  rw [lg_entry_eq]
  generalize (lg_sl ([.ref h, .ref hc, .int (nI F)]) ++ List.replicate (6 - (lg_sl ([.ref h, .ref hc, .int (nI F)])).length) Slot.unset).toArray = ls at hl ⊢
  have hl : lv_has ls 6 [(0, .ref h), (1, .ref hc), (2, .int (nI F))] := hl
  refine lv_iconst (v := (-1)) hx hb dX2_pass_0 (by decide) ?_
  refine lv_istore_n (lv' := [(3, .int (-1)), (0, .ref h), (1, .ref hc), (2, .int (nI F))]) hx hb dX2_pass_1 rfl hl (by decide) rfl (fun ls hl => ?_)
  refine lv_iconst (v := 0) hx hb dX2_pass_2 (by decide) ?_
  refine lv_istore (lv' := [(4, .int 0), (3, .int (-1)), (0, .ref h), (1, .ref hc), (2, .int (nI F))]) hx hb dX2_pass_3 hl (by decide) rfl (fun ls hl => ?_)
  have loop : ∀ (N9 : Nat) (i : Nat) (E : List sp_E) (z9 k t : Int32) (lv wy tr : Nat → Int32), (cN - i < N9) → (i ≤ cN) → (ps_st B Ix n f9 v9 T E (lv, wy, tr, (E ++ T).length, k, t)) → ((z9 = -1 ∧ E = [] ∧ ∀ j, j < i → (sp_sat T (fy j) (fn j) ∨ sp_two T (fy j) (fn j))) ∨ (z9 = -2 ∧ E ≠ [])) → ∀ (H : Heap) (locs : List Loc), va_P (dC, dI) vwCl [(h, .inr (2, [.ref g, .ref ln, .ref hv, .ref hw, .ref ht, .int (nI (E ++ T).length), .int (nI (sp_top T)), .int k, .int t])), (hv, .inl (d, 12, .inl lv)), (hw, .inl (d, 12, .inl wy)), (ht, .inl (d, 12, .inl tr)), (hc, .inr (1, [.ref cy, .ref cn, .int (nI cN)])), (cy, .inl (d, M, .inl fy)), (cn, .inl (d, M, .inl fn))] H → va_D A [(h, .inr (2, [.ref g, .ref ln, .ref hv, .ref hw, .ref ht, .int (nI (E ++ T).length), .int (nI (sp_top T)), .int k, .int t])), (hv, .inl (d, 12, .inl lv)), (hw, .inl (d, 12, .inl wy)), (ht, .inl (d, 12, .inl tr)), (hc, .inr (1, [.ref cy, .ref cn, .int (nI cN)])), (cy, .inl (d, M, .inl fy)), (cn, .inl (d, M, .inl fn))] → va_S A s.heap H locs → ∀ (ls : Array Slot), lv_has ls 6 [(4, .int (nI i)), (3, .int z9), (0, .ref h), (1, .ref hc), (2, .int (nI F))] → W p l e (headSpec (ws_ yX2_pass cX2_pass 6 (some .int)) ({ frames := 1, cells := 0, slots := 0, locals := 24 })).room s m ([.ref h, .ref hc, .int (nI F)] : List Value).toArray below meth c H locs 0 0 (MQ below (va_Qi (ps_post B Ix n f9 v9 T F cN fy fn) (wk_B (dC, dI) [(d, .int)] (A) (fun u : ps_S => [(h, .inr (2, [.ref g, .ref ln, .ref hv, .ref hw, .ref ht, .int (nI u.2.2.2.1), .int (nI (sp_top T)), .int u.2.2.2.2.1, .int u.2.2.2.2.2])), (hv, .inl (d, 12, .inl u.1)), (hw, .inl (d, 12, .inl u.2.1)), (ht, .inl (d, 12, .inl u.2.2.1)), (hc, .inr (1, [.ref cy, .ref cn, .int (nI cN)])), (cy, .inl (d, M, .inl fy)), (cn, .inl (d, M, .inl fn))])) (A)) ([.ref h, .ref hc, .int (nI F)] : List Value).toArray s 0 0 (A)) (F0 m 5 ls []) := by
    intro N9
    induction N9 with
    | zero =>
      intro i E z9 k t lv wy tr h9
      exact absurd h9 (Nat.not_lt_zero _)
    | succ N9 ih =>
      intro i E z9 k t lv wy tr h1 h2 h3 h4 H locs hP hD hS ls hl
      refine lv_iload hx hb dX2_pass_5 (lv_at hl 0 rfl) ?_
      refine lv_aload_n hx hb dX2_pass_7 rfl (lv_at hl 3 rfl) ?_
      refine va_get (D := (dC, dI)) (ci := 1) (v := .int (nI cN)) (C := RX1) (T := TX1) (N := 3) hx hb hts in_X1 hown hK hP 4 rfl rfl 2 (by decide) (hts _ q41) (fun _ h9 => h9) rfl dX2_pass_8 ?_
      refine lv_icmp_ge (tgt := 109) hx hb dX2_pass_11 (by decide) (fun c_1 => ?_) (fun c_1 => ?_)
      · have hi : i = cN := Nat.le_antisymm h2 ((nI_leI (by omega) (by omega)).mp c_1)
        subst hi
        refine lv_iload_n hx hb dX2_pass_109 rfl (lv_at hl 1 rfl) ?_
        exact wk_iret ((lv, wy, tr, (E ++ T).length, k, t)) hx hb hr hlocks (⟨E, h3, Or.inr (h4.symm.imp (fun q => q) (fun q => q))⟩) hK hP hD hS dX2_pass_110
      · have hi : i < cN := Nat.lt_of_not_le (fun q => c_1 ((nI_leI (by omega) (by omega)).mpr q))
        obtain ⟨hI, hB⟩ := k_I i hi
        obtain ⟨hg, hrp, -, htop, hE⟩ := h3
        have hrp : sp_rep Ix (E ++ T) lv wy tr k t := hrp
        have hlen := sp_len hg
        refine lv_aload_n hx hb dX2_pass_14 rfl (lv_at hl 3 rfl) ?_
        refine lv_iload hx hb dX2_pass_15 (lv_at hl 0 rfl) ?_
        refine lv_aload_n hx hb dX2_pass_17 rfl (lv_at hl 2 rfl) ?_
        refine va_get (D := (dC, dI)) (ci := 2) (v := .int k) (C := RX2) (T := TX2) (N := 9) hx hb hts in_X2 hown hK hP 0 rfl rfl 7 (by decide) (hts _ q67) (fun _ h9 => h9) rfl dX2_pass_18 ?_
        refine lv_aload_n hx hb dX2_pass_21 rfl (lv_at hl 2 rfl) ?_
        refine va_get (D := (dC, dI)) (ci := 2) (v := .int t) (C := RX2) (T := TX2) (N := 9) hx hb hts in_X2 hown hK hP 0 rfl rfl 8 (by decide) (hts _ q68) (fun _ h9 => h9) rfl dX2_pass_22 ?_
        have hPc := hP.sub (ws' := [(hc, .inr (1, [.ref cy, .ref cn, .int (nI cN)])), (cy, .inl (d, M, .inl fy)), (cn, .inl (d, M, .inl fn))]) [4, 5, 6] rfl
        refine vp_callSi (W.runV (As := [.int (nI i), .int k, .int t]) (rest := []) ⟨hx, hb, hml, hown, hts⟩ (metX1_holds l dC dI d hc cy cn M i fy fn (nI cN) k t (by omega) (by omega)) (cwV 3 hts (lw_V q156 q157 q158 q15 q159) rfl rfl rfl (by decide +kernel) ⟨Nat.le_of_ble_eq_true rfl, Nat.le_of_ble_eq_true rfl⟩) (wk_R.preV (q := (RX1, TX1, 3)) (ci := 1) (q0 := 0) hK hPc rfl rfl) rfl rfl hl.1 rfl (lv_room (Nat.le_of_ble_eq_true rfl)) dX2_pass_25 ⟨Nat.le_of_ble_eq_true rfl, Nat.le_of_ble_eq_true rfl⟩) (fun r1 hr1 => ?_)
        refine lv_if_eq (tgt := 34) hx hb dX2_pass_28 (by decide) (fun c_2 => ?_) (fun c_2 => ?_)
        · have hh0 : cl_h (fy i) (fn i) k t = 0 := by
            rw [hr1] at c_2
            split at c_2
            · assumption
            · exact absurd c_2 (by decide)
          refine lv_aload_n hx hb dX2_pass_34 rfl (lv_at hl 3 rfl) ?_
          refine lv_iload hx hb dX2_pass_35 (lv_at hl 0 rfl) ?_
          refine lv_aload_n hx hb dX2_pass_37 rfl (lv_at hl 2 rfl) ?_
          refine va_get (D := (dC, dI)) (ci := 2) (v := .int k) (C := RX2) (T := TX2) (N := 9) hx hb hts in_X2 hown hK hP 0 rfl rfl 7 (by decide) (hts _ q67) (fun _ h9 => h9) rfl dX2_pass_38 ?_
          have hPc := hP.sub (ws' := [(hc, .inr (1, [.ref cy, .ref cn, .int (nI cN)])), (cy, .inl (d, M, .inl fy)), (cn, .inl (d, M, .inl fn))]) [4, 5, 6] rfl
          refine vp_callSi (W.runV (As := [.int (nI i), .int k]) (rest := []) ⟨hx, hb, hml, hown, hts⟩ (metX1_open l dC dI d hc cy cn M i fy fn (nI cN) k (by omega) (by omega)) (cwV 2 hts (lw_V q160 q161 q162 q15 q163) rfl rfl rfl (by decide +kernel) ⟨Nat.le_of_ble_eq_true rfl, Nat.le_of_ble_eq_true rfl⟩) (wk_R.preV (q := (RX1, TX1, 3)) (ci := 1) (q0 := 0) hK hPc rfl rfl) rfl rfl hl.1 rfl (lv_room (Nat.le_of_ble_eq_true rfl)) dX2_pass_41 ⟨Nat.le_of_ble_eq_true rfl, Nat.le_of_ble_eq_true rfl⟩) (fun r2 hr2 => ?_)
          refine lv_istore (lv' := [(5, .int r2), (4, .int (nI i)), (3, .int z9), (0, .ref h), (1, .ref hc), (2, .int (nI F))]) hx hb dX2_pass_44 hl (by decide) rfl (fun ls hl => ?_)
          refine lv_iload hx hb dX2_pass_46 (lv_at hl 0 rfl) ?_
          refine lv_if_ne (tgt := 56) hx hb dX2_pass_48 (by decide) (fun c_3 => ?_) (fun c_3 => ?_)
          · refine lv_iload hx hb dX2_pass_56 (lv_at hl 0 rfl) ?_
            refine lv_iload hx hb dX2_pass_58 (lv_at hl 0 rfl) ?_
            refine lv_iconst (v := 1) hx hb dX2_pass_60 (by decide) ?_
            refine lv_isub hx hb dX2_pass_61 ?_
            refine lv_iand hx hb dX2_pass_62 ?_
            refine lv_if_eq (tgt := 69) hx hb dX2_pass_63 (by decide) (fun c_4 => ?_) (fun c_4 => ?_)
            · rw [hr2] at c_3 c_4
              obtain ⟨x, hx32, ex, hop⟩ := sp_rep_one hrp c_3 c_4
              obtain ⟨hxn, hxa, hgn⟩ := sp_unit hg hrp (k_B _ _ hB) hB hh0 hop
              have hlen1 := sp_len1 hg hxn hxa
              refine lv_aload_n hx hb dX2_pass_69 rfl (lv_at hl 3 rfl) ?_
              refine lv_iload hx hb dX2_pass_70 (lv_at hl 0 rfl) ?_
              refine wk_top (y := (1 : Int32) <<< (nI x &&& 31)) (hr2.trans ex) ?_
              refine vp_callSi (W.runS (As := [.int ((1 : Int32) <<< (nI x &&& 31))]) (rest := [.ref h]) ⟨hx, hb, hml, hown, hts⟩ (metJ0_ntz l dC dI d x (by omega)) (va_cwS 1 hts (lw_S q164 q165 q19 q166) rfl rfl rfl (by decide +kernel) ⟨Nat.le_of_ble_eq_true rfl, Nat.le_of_ble_eq_true rfl⟩) (wk_R.preS (hK.sub [] rfl) (hP.sub [] rfl)) rfl rfl hl.1 rfl (lv_room (Nat.le_of_ble_eq_true rfl)) dX2_pass_72 ⟨Nat.le_of_ble_eq_true rfl, Nat.le_of_ble_eq_true rfl⟩) (fun r3 hr3 => ?_)
              refine wk_top (y := nI x) (hr3) ?_
              refine lv_aload_n hx hb dX2_pass_75 rfl (lv_at hl 4 rfl) ?_
              refine va_get (D := (dC, dI)) (ci := 1) (v := .ref cy) (C := RX1) (T := TX1) (N := 3) hx hb hts in_X1 hown hK hP 4 rfl rfl 0 (by decide) (hts _ q37) (fun _ h9 => h9) rfl dX2_pass_76 ?_
              refine lv_iload hx hb dX2_pass_79 (lv_at hl 1 rfl) ?_
              refine wk_iald hx hb hK hP 5 0 rfl rfl i (rfl) (by omega) (by omega) dX2_pass_81 ?_
              refine lv_iload hx hb dX2_pass_82 (lv_at hl 0 rfl) ?_
              refine lv_iand hx hb dX2_pass_84 ?_
              skip
              refine lv_if_eq (tgt := 92) hx hb dX2_pass_85 (by decide) (fun c_5 => ?_) (fun c_5 => ?_)
              · refine lv_iconst (v := 0) hx hb dX2_pass_92 (by decide) ?_
                refine lv_iload_n hx hb dX2_pass_93 rfl (lv_at hl 5 rfl) ?_
                refine lv_iload hx hb dX2_pass_94 (lv_at hl 1 rfl) ?_
                refine lv_iadd hx hb dX2_pass_96 ?_
                refine wk_top (y := nI (F + i)) (nI_add F i) ?_
                have hPc := hP.sub (ws' := [(h, .inr (2, [.ref g, .ref ln, .ref hv, .ref hw, .ref ht, .int (nI (E ++ T).length), .int (nI (sp_top T)), .int k, .int t])), (hv, .inl (d, 12, .inl lv)), (hw, .inl (d, 12, .inl wy)), (ht, .inl (d, 12, .inl tr))]) [0, 1, 2, 3] rfl
                have hDc := hD.sub (ws' := [(h, .inr (2, [.ref g, .ref ln, .ref hv, .ref hw, .ref ht, .int (nI (E ++ T).length), .int (nI (sp_top T)), .int k, .int t])), (hv, .inl (d, 12, .inl lv)), (hw, .inl (d, 12, .inl wy)), (ht, .inl (d, 12, .inl tr))]) [0, 1, 2, 3] (by decide) rfl
                refine wk_cv (wr := [(hc, .inr (1, [.ref cy, .ref cn, .int (nI cN)])), (cy, .inl (d, M, .inl fy)), (cn, .inl (d, M, .inl fn))]) (wn := fun (u : Unit) => [(h, .inr (2, [.ref g, .ref ln, .ref hv, .ref hw, .ref ht, .int (nI ((E ++ T).length + 1)), .int (nI (sp_top T)), .int (k ||| ((1 : Int32) <<< (nI x &&& 31))), .int (sa_t 0 t x)])), (hv, .inl (d, 12, .inl (upd lv x (nI (sp_top T))))), (hw, .inl (d, 12, .inl (upd wy x (nI (F + i))))), (ht, .inl (d, 12, .inl (upd tr (E ++ T).length (nI x)))), (hc, .inr (1, [.ref cy, .ref cn, .int (nI cN)])), (cy, .inl (d, M, .inl fy)), (cn, .inl (d, M, .inl fn))]) (va_runV (As := [.int (nI x), .int 0, .int (nI (F + i))]) (rest := []) ⟨hx, hb, hml, hown, hts⟩ (metX2_assign l dC dI d H.size h g ln hv hw ht (E ++ T).length x (nI (sp_top T)) k t 0 (nI (F + i)) lv wy tr (by omega) (by omega)) (cwV 3 hts (lw_V q168 q170 qs3 q16 q171) rfl rfl rfl (by decide +kernel) ⟨Nat.le_of_ble_eq_true rfl, Nat.le_of_ble_eq_true rfl⟩) (wk_M.preV (q := (RX2, TX2, 9)) (ci := 2) (q0 := 0) hK hPc hDc rfl rfl) rfl rfl hl.1 rfl (lv_room (Nat.le_of_ble_eq_true rfl)) dX2_pass_97 ⟨Nat.le_of_ble_eq_true rfl, Nat.le_of_ble_eq_true rfl⟩) hP hD hS hA [0, 1, 2, 3] [4, 5, 6] [3, 4, 5, 6, 0, 1, 2] rfl rfl (by decide) (by decide) (by decide) (fun _ => rfl) (fun u H locs hp hK hP hD hS => ?_)
                have hP : va_P (dC, dI) vwCl [(h, .inr (2, [.ref g, .ref ln, .ref hv, .ref hw, .ref ht, .int (nI ((E ++ T).length + 1)), .int (nI (sp_top T)), .int (k ||| ((1 : Int32) <<< (nI x &&& 31))), .int (sa_t 0 t x)])), (hv, .inl (d, 12, .inl (upd lv x (nI (sp_top T))))), (hw, .inl (d, 12, .inl (upd wy x (nI (F + i))))), (ht, .inl (d, 12, .inl (upd tr (E ++ T).length (nI x)))), (hc, .inr (1, [.ref cy, .ref cn, .int (nI cN)])), (cy, .inl (d, M, .inl fy)), (cn, .inl (d, M, .inl fn))] H := hP
                have hD : va_D A [(h, .inr (2, [.ref g, .ref ln, .ref hv, .ref hw, .ref ht, .int (nI ((E ++ T).length + 1)), .int (nI (sp_top T)), .int (k ||| ((1 : Int32) <<< (nI x &&& 31))), .int (sa_t 0 t x)])), (hv, .inl (d, 12, .inl (upd lv x (nI (sp_top T))))), (hw, .inl (d, 12, .inl (upd wy x (nI (F + i))))), (ht, .inl (d, 12, .inl (upd tr (E ++ T).length (nI x)))), (hc, .inr (1, [.ref cy, .ref cn, .int (nI cN)])), (cy, .inl (d, M, .inl fy)), (cn, .inl (d, M, .inl fn))] := hD
                refine lv_bipush (v := (-2)) hx hb dX2_pass_100 (by decide) ?_
                refine lv_istore_n (lv' := [(3, .int (-2)), (5, .int r2), (4, .int (nI i)), (0, .ref h), (1, .ref hc), (2, .int (nI F))]) hx hb dX2_pass_102 rfl hl (by decide) rfl (fun ls hl => ?_)
                refine lv_iinc (v := nI (i + 1)) (lv' := [(4, .int (nI (i + 1))), (3, .int (-2)), (5, .int r2), (0, .ref h), (1, .ref hc), (2, .int (nI F))]) hx hb dX2_pass_103 hl (k := 2) rfl ((nI_succ _).symm) (by decide) rfl (fun ls hl => ?_)
                refine lv_goto (tgt := 5) hx hb dX2_pass_106 (by decide) ?_
                have hrn := sp_rep_push (b := bt (fy i) x) (L := sp_top T) (w := nI (F + i)) (c := some (fy i, fn i)) hrp hxa hx32 (fun z hz => by cases hz; exact ⟨F + i, by omega, rfl, hI⟩)
                rw [← sa_t_eq (bI := 0) (⟨fun _ => by rw [hr2, ex] at c_5; exact (b_ab _ hx32).mp c_5, fun _ => rfl⟩)] at hrn
                rw [htop] at hgn
                exact ih (i + 1) ((x, bt (fy i) x, sp_top T, some (fy i, fn i)) :: E) (-2) _ _ _ _ _ (by omega) (by omega) ⟨hgn, hrn, rfl, rfl, fun z hz => by
                  rcases List.mem_cons.mp hz with e | e
                  · rw [e]; exact fun q => by cases q
                  · exact hE z e⟩ (Or.inr ⟨rfl, fun q => by cases q⟩) H locs hP hD hS ls (lv_sub hl [0, 1, 3, 4, 5] rfl)
              · refine lv_iconst (v := 1) hx hb dX2_pass_88 (by decide) ?_
                refine lv_goto (tgt := 93) hx hb dX2_pass_89 (by decide) ?_
                refine lv_iload_n hx hb dX2_pass_93 rfl (lv_at hl 5 rfl) ?_
                refine lv_iload hx hb dX2_pass_94 (lv_at hl 1 rfl) ?_
                refine lv_iadd hx hb dX2_pass_96 ?_
                refine wk_top (y := nI (F + i)) (nI_add F i) ?_
                have hPc := hP.sub (ws' := [(h, .inr (2, [.ref g, .ref ln, .ref hv, .ref hw, .ref ht, .int (nI (E ++ T).length), .int (nI (sp_top T)), .int k, .int t])), (hv, .inl (d, 12, .inl lv)), (hw, .inl (d, 12, .inl wy)), (ht, .inl (d, 12, .inl tr))]) [0, 1, 2, 3] rfl
                have hDc := hD.sub (ws' := [(h, .inr (2, [.ref g, .ref ln, .ref hv, .ref hw, .ref ht, .int (nI (E ++ T).length), .int (nI (sp_top T)), .int k, .int t])), (hv, .inl (d, 12, .inl lv)), (hw, .inl (d, 12, .inl wy)), (ht, .inl (d, 12, .inl tr))]) [0, 1, 2, 3] (by decide) rfl
                refine wk_cv (wr := [(hc, .inr (1, [.ref cy, .ref cn, .int (nI cN)])), (cy, .inl (d, M, .inl fy)), (cn, .inl (d, M, .inl fn))]) (wn := fun (u : Unit) => [(h, .inr (2, [.ref g, .ref ln, .ref hv, .ref hw, .ref ht, .int (nI ((E ++ T).length + 1)), .int (nI (sp_top T)), .int (k ||| ((1 : Int32) <<< (nI x &&& 31))), .int (sa_t 1 t x)])), (hv, .inl (d, 12, .inl (upd lv x (nI (sp_top T))))), (hw, .inl (d, 12, .inl (upd wy x (nI (F + i))))), (ht, .inl (d, 12, .inl (upd tr (E ++ T).length (nI x)))), (hc, .inr (1, [.ref cy, .ref cn, .int (nI cN)])), (cy, .inl (d, M, .inl fy)), (cn, .inl (d, M, .inl fn))]) (va_runV (As := [.int (nI x), .int 1, .int (nI (F + i))]) (rest := []) ⟨hx, hb, hml, hown, hts⟩ (metX2_assign l dC dI d H.size h g ln hv hw ht (E ++ T).length x (nI (sp_top T)) k t 1 (nI (F + i)) lv wy tr (by omega) (by omega)) (cwV 3 hts (lw_V q168 q170 qs3 q16 q171) rfl rfl rfl (by decide +kernel) ⟨Nat.le_of_ble_eq_true rfl, Nat.le_of_ble_eq_true rfl⟩) (wk_M.preV (q := (RX2, TX2, 9)) (ci := 2) (q0 := 0) hK hPc hDc rfl rfl) rfl rfl hl.1 rfl (lv_room (Nat.le_of_ble_eq_true rfl)) dX2_pass_97 ⟨Nat.le_of_ble_eq_true rfl, Nat.le_of_ble_eq_true rfl⟩) hP hD hS hA [0, 1, 2, 3] [4, 5, 6] [3, 4, 5, 6, 0, 1, 2] rfl rfl (by decide) (by decide) (by decide) (fun _ => rfl) (fun u H locs hp hK hP hD hS => ?_)
                have hP : va_P (dC, dI) vwCl [(h, .inr (2, [.ref g, .ref ln, .ref hv, .ref hw, .ref ht, .int (nI ((E ++ T).length + 1)), .int (nI (sp_top T)), .int (k ||| ((1 : Int32) <<< (nI x &&& 31))), .int (sa_t 1 t x)])), (hv, .inl (d, 12, .inl (upd lv x (nI (sp_top T))))), (hw, .inl (d, 12, .inl (upd wy x (nI (F + i))))), (ht, .inl (d, 12, .inl (upd tr (E ++ T).length (nI x)))), (hc, .inr (1, [.ref cy, .ref cn, .int (nI cN)])), (cy, .inl (d, M, .inl fy)), (cn, .inl (d, M, .inl fn))] H := hP
                have hD : va_D A [(h, .inr (2, [.ref g, .ref ln, .ref hv, .ref hw, .ref ht, .int (nI ((E ++ T).length + 1)), .int (nI (sp_top T)), .int (k ||| ((1 : Int32) <<< (nI x &&& 31))), .int (sa_t 1 t x)])), (hv, .inl (d, 12, .inl (upd lv x (nI (sp_top T))))), (hw, .inl (d, 12, .inl (upd wy x (nI (F + i))))), (ht, .inl (d, 12, .inl (upd tr (E ++ T).length (nI x)))), (hc, .inr (1, [.ref cy, .ref cn, .int (nI cN)])), (cy, .inl (d, M, .inl fy)), (cn, .inl (d, M, .inl fn))] := hD
                refine lv_bipush (v := (-2)) hx hb dX2_pass_100 (by decide) ?_
                refine lv_istore_n (lv' := [(3, .int (-2)), (5, .int r2), (4, .int (nI i)), (0, .ref h), (1, .ref hc), (2, .int (nI F))]) hx hb dX2_pass_102 rfl hl (by decide) rfl (fun ls hl => ?_)
                refine lv_iinc (v := nI (i + 1)) (lv' := [(4, .int (nI (i + 1))), (3, .int (-2)), (5, .int r2), (0, .ref h), (1, .ref hc), (2, .int (nI F))]) hx hb dX2_pass_103 hl (k := 2) rfl ((nI_succ _).symm) (by decide) rfl (fun ls hl => ?_)
                refine lv_goto (tgt := 5) hx hb dX2_pass_106 (by decide) ?_
                have hrn := sp_rep_push (b := bt (fy i) x) (L := sp_top T) (w := nI (F + i)) (c := some (fy i, fn i)) hrp hxa hx32 (fun z hz => by cases hz; exact ⟨F + i, by omega, rfl, hI⟩)
                rw [← sa_t_eq (bI := 1) (⟨fun q => absurd q (by decide), fun q => absurd (by rw [hr2, ex]; exact (b_ab _ hx32).mpr q) c_5⟩)] at hrn
                rw [htop] at hgn
                exact ih (i + 1) ((x, bt (fy i) x, sp_top T, some (fy i, fn i)) :: E) (-2) _ _ _ _ _ (by omega) (by omega) ⟨hgn, hrn, rfl, rfl, fun z hz => by
                  rcases List.mem_cons.mp hz with e | e
                  · rw [e]; exact fun q => by cases q
                  · exact hE z e⟩ (Or.inr ⟨rfl, fun q => by cases q⟩) H locs hP hD hS ls (lv_sub hl [0, 1, 3, 4, 5] rfl)
            · refine lv_goto (tgt := 103) hx hb dX2_pass_66 (by decide) ?_
              refine lv_iinc (v := nI (i + 1)) (lv' := [(4, .int (nI (i + 1))), (5, .int r2), (3, .int z9), (0, .ref h), (1, .ref hc), (2, .int (nI F))]) hx hb dX2_pass_103 hl (k := 1) rfl ((nI_succ _).symm) (by decide) rfl (fun ls hl => ?_)
              refine lv_goto (tgt := 5) hx hb dX2_pass_106 (by decide) ?_
              exact ih (i + 1) E z9 k t lv wy tr (by omega) (by omega) ⟨hg, hrp, rfl, htop, hE⟩ (h4.imp (fun ⟨a1, a2, a3⟩ => ⟨a1, a2, fun j hj => by
                by_cases e : j = i
                · subst e
                  have h9 : sp_sat (E ++ T) (fy j) (fn j) ∨ sp_two (E ++ T) (fy j) (fn j) := Or.inr (sp_rep_two hrp (by rw [← hr2]; exact c_4))
                  rw [a2] at h9
                  exact h9
                · exact a3 j (by omega)⟩) (fun q => q)) H locs hP hD hS ls (lv_sub hl [0, 2, 3, 4, 5] rfl)
          · refine lv_iload_n hx hb dX2_pass_51 rfl (lv_at hl 5 rfl) ?_
            refine lv_iload hx hb dX2_pass_52 (lv_at hl 1 rfl) ?_
            refine lv_iadd hx hb dX2_pass_54 ?_
            refine wk_top (y := nI (F + i)) (nI_add F i) ?_
            exact wk_iret ((lv, wy, tr, (E ++ T).length, k, t)) hx hb hr hlocks (⟨E, ⟨hg, hrp, rfl, htop, hE⟩, Or.inl ⟨i, hi, rfl, sp_rep_fal hrp hh0 (by rw [← hr2]; exact c_3)⟩⟩) hK hP hD hS dX2_pass_55
        · have hh0 : ¬ cl_h (fy i) (fn i) k t = 0 := fun q => c_2 (by rw [hr1, if_pos q])
          refine lv_goto (tgt := 103) hx hb dX2_pass_31 (by decide) ?_
          refine lv_iinc (v := nI (i + 1)) (lv' := [(4, .int (nI (i + 1))), (3, .int z9), (0, .ref h), (1, .ref hc), (2, .int (nI F))]) hx hb dX2_pass_103 hl (k := 0) rfl ((nI_succ _).symm) (by decide) rfl (fun ls hl => ?_)
          refine lv_goto (tgt := 5) hx hb dX2_pass_106 (by decide) ?_
          exact ih (i + 1) E z9 k t lv wy tr (by omega) (by omega) ⟨hg, hrp, rfl, htop, hE⟩ (h4.imp (fun ⟨a1, a2, a3⟩ => ⟨a1, a2, fun j hj => by
            by_cases e : j = i
            · subst e
              have h9 : sp_sat (E ++ T) (fy j) (fn j) ∨ sp_two (E ++ T) (fy j) (fn j) := Or.inl ((sp_rep_sat hrp).mp hh0)
              rw [a2] at h9
              exact h9
            · exact a3 j (by omega)⟩) (fun q => q)) H locs hP hD hS ls (lv_sub hl [0, 1, 2, 3, 4] rfl)
  exact loop (cN + 1) 0 [] (-1) k t lv wy tr (by omega) (Nat.zero_le _) ⟨k_g, k_r, rfl, rfl, fun x hx => by cases hx⟩ (Or.inl ⟨rfl, rfl, fun j hj => by cases hj⟩) _ _ hP hD hS ls (lv_sub hl [0, 1, 2, 3, 4] rfl)
end
section
/-! Search: follow, learn -/
section PSA
variable {B : sp_DB} {Ix : Nat → Int32 → Int32 → Prop} {n : Nat} {f9 v9 : Nat → Bool} {T E E1 : List sp_E} {u : ps_S}
theorem ps_app (h1 : ps_st B Ix n f9 v9 (E ++ T) E1 u) (h2 : sp_top (E ++ T) = sp_top T) (h3 : ∀ x, x ∈ E → ¬ x.2.2.2 = none) : ps_st B Ix n f9 v9 T (E1 ++ E) u := by
  obtain ⟨a, b, c, d, e⟩ := h1
  rw [← List.append_assoc] at a b c d
  exact ⟨a, b, c, d.trans h2, fun x hx => (List.mem_append.mp hx).elim (e x) (h3 x)⟩
end PSA
def fu_post (n gN lN : Nat) (gy gq ly lq : Nat → Int32) (f9 v9 : Nat → Bool) (T : List sp_E) (r : Int32) (u : ps_S) : Prop :=
  ∃ E, ps_st (sp_db gN gy gq lN ly lq) (sp_ix gN gy gq lN ly lq) n f9 v9 T E u ∧ ((∃ j y q, r = nI j ∧ sp_ix gN gy gq lN ly lq j y q ∧ sp_fal (E ++ T) y q) ∨ (r = -1 ∧ sp_full (sp_db gN gy gq lN ly lq) (E ++ T)))
theorem nI_m2 {j : Nat} (h : j < 2 ^ 31) : ¬ nI j = -2 := fun e => absurd (show nI j < 0 by rw [e]; decide) (nI_pos h)
theorem nI_m1 {j : Nat} (h : j < 2 ^ 31) : ¬ nI j = -1 := fun e => absurd (show nI j < 0 by rw [e]; decide) (nI_pos h)
set_option maxHeartbeats 4000000 in
set_option maxRecDepth 100000 in
theorem metX2_follow (l : Launch) (dC : Nat → ClassId) (dI : Nat → Nat → Nat) (d : ClassId) (sz : Nat) (h g ln hv hw ht a1 a2 b1 b2 : Nat) (n gN lN : Nat) (gy gq ly lq : Nat → Int32) (f9 v9 : Nat → Bool) (T : List sp_E) (lvs k t : Int32) (lv wy tr : Nat → Int32) (k_n : n ≤ 12) (k_go : sp_gok n gN gy gq) (k_lo : sp_lok n gN gy gq lN ly lq) (k_lN : lN ≤ 6200) (k_g : sp_good (sp_db gN gy gq lN ly lq) n f9 v9 T) (k_r : sp_rep (sp_ix gN gy gq lN ly lq) T lv wy tr k t) (k_l : lvs = nI (sp_top T)) : Met l yX2_follow (ws_ yX2_follow cX2_follow 3 (some .int)) ({ frames := 2, cells := 0, slots := 0, locals := 60 }) (wk_M (dC, dI) [(d, .int)] [(h, .inr (2, [.ref g, .ref ln, .ref hv, .ref hw, .ref ht, .int (nI T.length), .int lvs, .int k, .int t])), (hv, .inl (d, 12, .inl lv)), (hw, .inl (d, 12, .inl wy)), (ht, .inl (d, 12, .inl tr)), (g, .inr (1, [.ref a1, .ref a2, .int (nI gN)])), (a1, .inl (d, 256, .inl gy)), (a2, .inl (d, 256, .inl gq)), (ln, .inr (1, [.ref b1, .ref b2, .int (nI lN)])), (b1, .inl (d, 6200, .inl ly)), (b2, .inl (d, 6200, .inl lq))] [.ref h] sz) (va_Qi (fu_post n gN lN gy gq ly lq f9 v9 T) (wk_B (dC, dI) [(d, .int)] (va_A [(h, .inr (2, [.ref g, .ref ln, .ref hv, .ref hw, .ref ht, .int (nI T.length), .int lvs, .int k, .int t])), (hv, .inl (d, 12, .inl lv)), (hw, .inl (d, 12, .inl wy)), (ht, .inl (d, 12, .inl tr)), (g, .inr (1, [.ref a1, .ref a2, .int (nI gN)])), (a1, .inl (d, 256, .inl gy)), (a2, .inl (d, 256, .inl gq)), (ln, .inr (1, [.ref b1, .ref b2, .int (nI lN)])), (b1, .inl (d, 6200, .inl ly)), (b2, .inl (d, 6200, .inl lq))] sz) (fun u : ps_S => [(h, .inr (2, [.ref g, .ref ln, .ref hv, .ref hw, .ref ht, .int (nI u.2.2.2.1), .int lvs, .int u.2.2.2.2.1, .int u.2.2.2.2.2])), (hv, .inl (d, 12, .inl u.1)), (hw, .inl (d, 12, .inl u.2.1)), (ht, .inl (d, 12, .inl u.2.2.1)), (g, .inr (1, [.ref a1, .ref a2, .int (nI gN)])), (a1, .inl (d, 256, .inl gy)), (a2, .inl (d, 256, .inl gq)), (ln, .inr (1, [.ref b1, .ref b2, .int (nI lN)])), (b1, .inl (d, 6200, .inl ly)), (b2, .inl (d, 6200, .inl lq))])) (va_A [(h, .inr (2, [.ref g, .ref ln, .ref hv, .ref hw, .ref ht, .int (nI T.length), .int lvs, .int k, .int t])), (hv, .inl (d, 12, .inl lv)), (hw, .inl (d, 12, .inl wy)), (ht, .inl (d, 12, .inl tr)), (g, .inr (1, [.ref a1, .ref a2, .int (nI gN)])), (a1, .inl (d, 256, .inl gy)), (a2, .inl (d, 256, .inl gq)), (ln, .inr (1, [.ref b1, .ref b2, .int (nI lN)])), (b1, .inl (d, 6200, .inl ly)), (b2, .inl (d, 6200, .inl lq))] sz)) 0 0 (va_A [(h, .inr (2, [.ref g, .ref ln, .ref hv, .ref hw, .ref ht, .int (nI T.length), .int lvs, .int k, .int t])), (hv, .inl (d, 12, .inl lv)), (hw, .inl (d, 12, .inl wy)), (ht, .inl (d, 12, .inl tr)), (g, .inr (1, [.ref a1, .ref a2, .int (nI gN)])), (a1, .inl (d, 256, .inl gy)), (a2, .inl (d, 256, .inl gq)), (ln, .inr (1, [.ref b1, .ref b2, .int (nI lN)])), (b1, .inl (d, 6200, .inl ly)), (b2, .inl (d, 6200, .inl lq))] sz) := by
  refine Met.ofW (cc := cX2_follow) (maxL := 3) (ret := some .int) (by decide) rfl ?_
  intro p e s m args below meth c s₁ Bd hml hv
  obtain ⟨rfl, hsz, hP, hK, hD0⟩ := hv
  have hx := Bd.exec
  have hb := Bd.bytes
  have hr := Bd.returns
  have hts := atoms_spec (ws := ws_ yX2_follow cX2_follow 3 (some .int)) Bd.pre
  have hts : ∀ w ∈ lw_all, w.before _ s = true := fun w h => hts w (List.mem_cons_of_mem _ h)
  have hown : s.vm.findClass RX2 = some m.cls := findClass_of_methodNamed Bd.named
  have hlocks := Bd.notSynchronized
  have hK : va_K (dC, dI) vwCl [(d, .int)] s := hK
  subst hsz
  have hD := hD0.self (sz := s.heap.size)
  generalize hAe : va_A [(h, .inr (2, [.ref g, .ref ln, .ref hv, .ref hw, .ref ht, .int (nI T.length), .int lvs, .int k, .int t])), (hv, .inl (d, 12, .inl lv)), (hw, .inl (d, 12, .inl wy)), (ht, .inl (d, 12, .inl tr)), (g, .inr (1, [.ref a1, .ref a2, .int (nI gN)])), (a1, .inl (d, 256, .inl gy)), (a2, .inl (d, 256, .inl gq)), (ln, .inr (1, [.ref b1, .ref b2, .int (nI lN)])), (b1, .inl (d, 6200, .inl ly)), (b2, .inl (d, 6200, .inl lq))] s.heap.size = A at hD ⊢
  have hA : ∀ q : Nat, s.heap.size ≤ q → A q := fun q h => by rw [← hAe]; exact Or.inr h
  have hS : va_S A s.heap s.heap [] := va_S.rf
  have hP : va_P (dC, dI) vwCl [(h, .inr (2, [.ref g, .ref ln, .ref hv, .ref hw, .ref ht, .int (nI T.length), .int lvs, .int k, .int t])), (hv, .inl (d, 12, .inl lv)), (hw, .inl (d, 12, .inl wy)), (ht, .inl (d, 12, .inl tr)), (g, .inr (1, [.ref a1, .ref a2, .int (nI gN)])), (a1, .inl (d, 256, .inl gy)), (a2, .inl (d, 256, .inl gq)), (ln, .inr (1, [.ref b1, .ref b2, .int (nI lN)])), (b1, .inl (d, 6200, .inl ly)), (b2, .inl (d, 6200, .inl lq))] s.heap := hP
  have hl := lv_entry ([.ref h]) (n := 3) (Nat.le_of_ble_eq_true rfl)
  rw [lg_entry_eq]
  generalize (lg_sl ([.ref h]) ++ List.replicate (3 - (lg_sl ([.ref h])).length) Slot.unset).toArray = ls at hl ⊢
  have hl : lv_has ls 3 [(0, .ref h)] := hl
  have k_B := sp_db_n k_go k_lo
  have k_gN := k_go.1
  refine lv_iconst (v := 1) hx hb dX2_follow_0 (by decide) ?_
  refine lv_istore_n (lv' := [(1, .int 1), (0, .ref h)]) hx hb dX2_follow_1 rfl hl (by decide) rfl (fun ls hl => ?_)
  have loop : ∀ (N9 : Nat) (E : List sp_E) (k t : Int32) (lv wy tr : Nat → Int32), (13 - (E ++ T).length < N9) → (ps_st (sp_db gN gy gq lN ly lq) (sp_ix gN gy gq lN ly lq) n f9 v9 T E (lv, wy, tr, (E ++ T).length, k, t)) → ∀ (H : Heap) (locs : List Loc), va_P (dC, dI) vwCl [(h, .inr (2, [.ref g, .ref ln, .ref hv, .ref hw, .ref ht, .int (nI (E ++ T).length), .int lvs, .int k, .int t])), (hv, .inl (d, 12, .inl lv)), (hw, .inl (d, 12, .inl wy)), (ht, .inl (d, 12, .inl tr)), (g, .inr (1, [.ref a1, .ref a2, .int (nI gN)])), (a1, .inl (d, 256, .inl gy)), (a2, .inl (d, 256, .inl gq)), (ln, .inr (1, [.ref b1, .ref b2, .int (nI lN)])), (b1, .inl (d, 6200, .inl ly)), (b2, .inl (d, 6200, .inl lq))] H → va_D A [(h, .inr (2, [.ref g, .ref ln, .ref hv, .ref hw, .ref ht, .int (nI (E ++ T).length), .int lvs, .int k, .int t])), (hv, .inl (d, 12, .inl lv)), (hw, .inl (d, 12, .inl wy)), (ht, .inl (d, 12, .inl tr)), (g, .inr (1, [.ref a1, .ref a2, .int (nI gN)])), (a1, .inl (d, 256, .inl gy)), (a2, .inl (d, 256, .inl gq)), (ln, .inr (1, [.ref b1, .ref b2, .int (nI lN)])), (b1, .inl (d, 6200, .inl ly)), (b2, .inl (d, 6200, .inl lq))] → va_S A s.heap H locs → ∀ (ls : Array Slot), lv_has ls 3 [(1, .int 1), (0, .ref h)] → W p l e (headSpec (ws_ yX2_follow cX2_follow 3 (some .int)) ({ frames := 2, cells := 0, slots := 0, locals := 60 })).room s m ([.ref h] : List Value).toArray below meth c H locs 0 0 (MQ below (va_Qi (fu_post n gN lN gy gq ly lq f9 v9 T) (wk_B (dC, dI) [(d, .int)] (A) (fun u : ps_S => [(h, .inr (2, [.ref g, .ref ln, .ref hv, .ref hw, .ref ht, .int (nI u.2.2.2.1), .int lvs, .int u.2.2.2.2.1, .int u.2.2.2.2.2])), (hv, .inl (d, 12, .inl u.1)), (hw, .inl (d, 12, .inl u.2.1)), (ht, .inl (d, 12, .inl u.2.2.1)), (g, .inr (1, [.ref a1, .ref a2, .int (nI gN)])), (a1, .inl (d, 256, .inl gy)), (a2, .inl (d, 256, .inl gq)), (ln, .inr (1, [.ref b1, .ref b2, .int (nI lN)])), (b1, .inl (d, 6200, .inl ly)), (b2, .inl (d, 6200, .inl lq))])) (A)) ([.ref h] : List Value).toArray s 0 0 (A)) (F0 m 2 ls []) := by
    intro N9
    induction N9 with
    | zero =>
      intro E k t lv wy tr h9
      exact absurd h9 (Nat.not_lt_zero _)
    | succ N9 ih =>
      intro E k t lv wy tr h1 h2 H locs hP hD hS ls hl
      refine lv_iload_n hx hb dX2_follow_2 rfl (lv_at hl 0 rfl) ?_
      refine lv_if_eq (tgt := 56) hx hb dX2_follow_3 (by decide) (fun c_1 => ?_) (fun c_1 => ?_)
      · exact absurd c_1 (by decide)
      · obtain ⟨hg, hrp, -, htop, hE⟩ := h2
        have hrp : sp_rep (sp_ix gN gy gq lN ly lq) (E ++ T) lv wy tr k t := hrp
        have hlen := sp_len hg
        refine lv_iconst (v := 0) hx hb dX2_follow_6 (by decide) ?_
        refine lv_istore_n (lv' := [(1, .int 0), (0, .ref h)]) hx hb dX2_follow_7 rfl hl (by decide) rfl (fun ls hl => ?_)
        refine lv_aload_n hx hb dX2_follow_8 rfl (lv_at hl 1 rfl) ?_
        refine lv_aload_n hx hb dX2_follow_9 rfl (lv_at hl 1 rfl) ?_
        refine va_get (D := (dC, dI)) (ci := 2) (v := .ref g) (C := RX2) (T := TX2) (N := 9) hx hb hts in_X2 hown hK hP 0 rfl rfl 0 (by decide) (hts _ q60) (fun _ h9 => h9) rfl dX2_follow_10 ?_
        refine lv_iconst (v := 0) hx hb dX2_follow_13 (by decide) ?_
        refine wk_top (y := nI 0) (nI_0.symm) ?_
        have hPc := hP.sub (ws' := [(h, .inr (2, [.ref g, .ref ln, .ref hv, .ref hw, .ref ht, .int (nI (E ++ T).length), .int lvs, .int k, .int t])), (hv, .inl (d, 12, .inl lv)), (hw, .inl (d, 12, .inl wy)), (ht, .inl (d, 12, .inl tr)), (g, .inr (1, [.ref a1, .ref a2, .int (nI gN)])), (a1, .inl (d, 256, .inl gy)), (a2, .inl (d, 256, .inl gq))]) [0, 1, 2, 3, 4, 5, 6] rfl
        have hDc := hD.sub (ws' := [(h, .inr (2, [.ref g, .ref ln, .ref hv, .ref hw, .ref ht, .int (nI (E ++ T).length), .int lvs, .int k, .int t])), (hv, .inl (d, 12, .inl lv)), (hw, .inl (d, 12, .inl wy)), (ht, .inl (d, 12, .inl tr)), (g, .inr (1, [.ref a1, .ref a2, .int (nI gN)])), (a1, .inl (d, 256, .inl gy)), (a2, .inl (d, 256, .inl gq))]) [0, 1, 2, 3, 4, 5, 6] (by decide) rfl
        refine wk_ci (wr := [(ln, .inr (1, [.ref b1, .ref b2, .int (nI lN)])), (b1, .inl (d, 6200, .inl ly)), (b2, .inl (d, 6200, .inl lq))]) (wn := fun (u : ps_S) => [(h, .inr (2, [.ref g, .ref ln, .ref hv, .ref hw, .ref ht, .int (nI u.2.2.2.1), .int lvs, .int u.2.2.2.2.1, .int u.2.2.2.2.2])), (hv, .inl (d, 12, .inl u.1)), (hw, .inl (d, 12, .inl u.2.1)), (ht, .inl (d, 12, .inl u.2.2.1)), (g, .inr (1, [.ref a1, .ref a2, .int (nI gN)])), (a1, .inl (d, 256, .inl gy)), (a2, .inl (d, 256, .inl gq)), (ln, .inr (1, [.ref b1, .ref b2, .int (nI lN)])), (b1, .inl (d, 6200, .inl ly)), (b2, .inl (d, 6200, .inl lq))]) (va_runV (As := [.ref g, .int (nI 0)]) (rest := []) ⟨hx, hb, hml, hown, hts⟩ (metX2_pass l dC dI d H.size h g ln hv hw ht g a1 a2 (sp_db gN gy gq lN ly lq) (sp_ix gN gy gq lN ly lq) n f9 v9 (E ++ T) 0 gN 256 gy gq lvs k t lv wy tr k_n (by omega) (by omega) (by omega) (fun i hi => ⟨Or.inl ⟨by omega, by omega, by rw [Nat.zero_add], by rw [Nat.zero_add]⟩, ⟨i, Or.inl ⟨by omega, hi, rfl, rfl⟩⟩⟩) k_B hg hrp (by rw [htop]; exact k_l)) (cwV 2 hts (lw_V q152 q154 qs2 q16 q155) rfl rfl rfl (by decide +kernel) ⟨Nat.le_of_ble_eq_true rfl, Nat.le_of_ble_eq_true rfl⟩) (wk_M.preV (q := (RX2, TX2, 9)) (ci := 2) (q0 := 0) hK hPc hDc rfl rfl) rfl rfl hl.1 rfl (lv_room (Nat.le_of_ble_eq_true rfl)) dX2_follow_14 ⟨Nat.le_of_ble_eq_true rfl, Nat.le_of_ble_eq_true rfl⟩) hP hD hS hA [0, 1, 2, 3, 4, 5, 6] [7, 8, 9] [3, 4, 5, 6, 7, 8, 9, 0, 1, 2] rfl rfl (by decide) (by decide) (by decide) (fun _ => rfl) (fun r1 u H locs hp hK hP hD hS => ?_)
        have hP : va_P (dC, dI) vwCl [(h, .inr (2, [.ref g, .ref ln, .ref hv, .ref hw, .ref ht, .int (nI u.2.2.2.1), .int lvs, .int u.2.2.2.2.1, .int u.2.2.2.2.2])), (hv, .inl (d, 12, .inl u.1)), (hw, .inl (d, 12, .inl u.2.1)), (ht, .inl (d, 12, .inl u.2.2.1)), (g, .inr (1, [.ref a1, .ref a2, .int (nI gN)])), (a1, .inl (d, 256, .inl gy)), (a2, .inl (d, 256, .inl gq)), (ln, .inr (1, [.ref b1, .ref b2, .int (nI lN)])), (b1, .inl (d, 6200, .inl ly)), (b2, .inl (d, 6200, .inl lq))] H := hP
        have hD : va_D A [(h, .inr (2, [.ref g, .ref ln, .ref hv, .ref hw, .ref ht, .int (nI u.2.2.2.1), .int lvs, .int u.2.2.2.2.1, .int u.2.2.2.2.2])), (hv, .inl (d, 12, .inl u.1)), (hw, .inl (d, 12, .inl u.2.1)), (ht, .inl (d, 12, .inl u.2.2.1)), (g, .inr (1, [.ref a1, .ref a2, .int (nI gN)])), (a1, .inl (d, 256, .inl gy)), (a2, .inl (d, 256, .inl gq)), (ln, .inr (1, [.ref b1, .ref b2, .int (nI lN)])), (b1, .inl (d, 6200, .inl ly)), (b2, .inl (d, 6200, .inl lq))] := hD
        obtain ⟨lv, wy, tr, td, k, t⟩ := u
        obtain ⟨E1, hst1, hc1⟩ := hp
        obtain rfl : td = (E1 ++ (E ++ T)).length := hst1.2.2.1
        have hP : va_P (dC, dI) vwCl [(h, .inr (2, [.ref g, .ref ln, .ref hv, .ref hw, .ref ht, .int (nI (E1 ++ (E ++ T)).length), .int lvs, .int k, .int t])), (hv, .inl (d, 12, .inl lv)), (hw, .inl (d, 12, .inl wy)), (ht, .inl (d, 12, .inl tr)), (g, .inr (1, [.ref a1, .ref a2, .int (nI gN)])), (a1, .inl (d, 256, .inl gy)), (a2, .inl (d, 256, .inl gq)), (ln, .inr (1, [.ref b1, .ref b2, .int (nI lN)])), (b1, .inl (d, 6200, .inl ly)), (b2, .inl (d, 6200, .inl lq))] H := hP
        have hD : va_D A [(h, .inr (2, [.ref g, .ref ln, .ref hv, .ref hw, .ref ht, .int (nI (E1 ++ (E ++ T)).length), .int lvs, .int k, .int t])), (hv, .inl (d, 12, .inl lv)), (hw, .inl (d, 12, .inl wy)), (ht, .inl (d, 12, .inl tr)), (g, .inr (1, [.ref a1, .ref a2, .int (nI gN)])), (a1, .inl (d, 256, .inl gy)), (a2, .inl (d, 256, .inl gq)), (ln, .inr (1, [.ref b1, .ref b2, .int (nI lN)])), (b1, .inl (d, 6200, .inl ly)), (b2, .inl (d, 6200, .inl lq))] := hD
        refine lv_istore_n (lv' := [(2, .int r1), (1, .int 0), (0, .ref h)]) hx hb dX2_follow_17 rfl hl (by decide) rfl (fun ls hl => ?_)
        refine lv_iload_n hx hb dX2_follow_18 rfl (lv_at hl 0 rfl) ?_
        refine lv_iconst (v := (-1)) hx hb dX2_follow_19 (by decide) ?_
        refine lv_icmp_ne (tgt := 35) hx hb dX2_follow_20 (by decide) (fun c_2 => ?_) (fun c_2 => ?_)
        · refine lv_iload_n hx hb dX2_follow_35 rfl (lv_at hl 0 rfl) ?_
          refine lv_if_lt (tgt := 41) hx hb dX2_follow_36 (by decide) (fun c_3 => ?_) (fun c_3 => ?_)
          · obtain ⟨e1, hE1n⟩ : r1 = -2 ∧ E1 ≠ [] := by
              rcases hc1 with ⟨i, hi, e1, -⟩ | h | h
              · exact absurd c_3 (by rw [e1]; exact nI_pos (by omega))
              · exact h
              · exact absurd h.1 c_2
            refine lv_iload_n hx hb dX2_follow_41 rfl (lv_at hl 0 rfl) ?_
            refine lv_bipush (v := (-2)) hx hb dX2_follow_42 (by decide) ?_
            refine lv_icmp_ne (tgt := 51) hx hb dX2_follow_44 (by decide) (fun c_4 => ?_) (fun c_4 => ?_)
            · exact absurd e1 c_4
            · refine lv_iconst (v := 1) hx hb dX2_follow_47 (by decide) ?_
              refine lv_goto (tgt := 52) hx hb dX2_follow_48 (by decide) ?_
              refine lv_istore_n (lv' := [(1, .int 1), (2, .int r1), (0, .ref h)]) hx hb dX2_follow_52 rfl hl (by decide) rfl (fun ls hl => ?_)
              refine lv_goto (tgt := 2) hx hb dX2_follow_53 (by decide) ?_
              have hst2 := ps_app hst1 htop hE
              have hl2 := sp_len hst2.1
              have hne : (E ++ T).length < (E1 ++ E ++ T).length := by
                rw [List.append_assoc, List.length_append (as := E1)]
                have : 0 < E1.length := List.length_pos_iff.mpr hE1n
                omega
              have hfu : 13 - (E1 ++ E ++ T).length < N9 := by clear hc1; omega
              rw [← List.append_assoc] at hP hD
              exact ih (E1 ++ E) k t lv wy tr hfu ⟨hst2.1, hst2.2.1, rfl, hst2.2.2.2.1, hst2.2.2.2.2⟩ H locs hP hD hS ls (lv_sub hl [0, 2] rfl)
          · obtain ⟨i, hi, e1, e2⟩ : ∃ i, i < gN ∧ r1 = nI (0 + i) ∧ sp_fal (E1 ++ (E ++ T)) (gy i) (gq i) := by
              rcases hc1 with h | h | h
              · exact h
              · exact absurd (show r1 < 0 by rw [h.1]; decide) c_3
              · exact absurd h.1 c_2
            refine lv_iload_n hx hb dX2_follow_39 rfl (lv_at hl 0 rfl) ?_
            exact wk_iret ((lv, wy, tr, (E1 ++ (E ++ T)).length, k, t)) hx hb hr hlocks (⟨E1 ++ E, ps_app hst1 htop hE, Or.inl ⟨0 + i, _, _, e1, Or.inl ⟨by omega, by omega, by rw [Nat.zero_add], by rw [Nat.zero_add]⟩, by rw [List.append_assoc]; exact e2⟩⟩) hK hP hD hS dX2_follow_40
        · obtain ⟨rfl, hfull1⟩ : E1 = [] ∧ ∀ i, i < gN → sp_sat (E ++ T) (gy i) (gq i) ∨ sp_two (E ++ T) (gy i) (gq i) := by
            rcases hc1 with ⟨i, hi, e1, -⟩ | h | h
            · exact absurd c_2 (by rw [e1]; exact nI_m1 (by omega))
            · exact absurd (h.1.symm.trans c_2) (by decide)
            · exact h.2
          have hrp : sp_rep (sp_ix gN gy gq lN ly lq) (E ++ T) lv wy tr k t := hst1.2.1
          have hP : va_P (dC, dI) vwCl [(h, .inr (2, [.ref g, .ref ln, .ref hv, .ref hw, .ref ht, .int (nI (E ++ T).length), .int lvs, .int k, .int t])), (hv, .inl (d, 12, .inl lv)), (hw, .inl (d, 12, .inl wy)), (ht, .inl (d, 12, .inl tr)), (g, .inr (1, [.ref a1, .ref a2, .int (nI gN)])), (a1, .inl (d, 256, .inl gy)), (a2, .inl (d, 256, .inl gq)), (ln, .inr (1, [.ref b1, .ref b2, .int (nI lN)])), (b1, .inl (d, 6200, .inl ly)), (b2, .inl (d, 6200, .inl lq))] H := hP
          have hD : va_D A [(h, .inr (2, [.ref g, .ref ln, .ref hv, .ref hw, .ref ht, .int (nI (E ++ T).length), .int lvs, .int k, .int t])), (hv, .inl (d, 12, .inl lv)), (hw, .inl (d, 12, .inl wy)), (ht, .inl (d, 12, .inl tr)), (g, .inr (1, [.ref a1, .ref a2, .int (nI gN)])), (a1, .inl (d, 256, .inl gy)), (a2, .inl (d, 256, .inl gq)), (ln, .inr (1, [.ref b1, .ref b2, .int (nI lN)])), (b1, .inl (d, 6200, .inl ly)), (b2, .inl (d, 6200, .inl lq))] := hD
          refine lv_aload_n hx hb dX2_follow_23 rfl (lv_at hl 2 rfl) ?_
          refine lv_aload_n hx hb dX2_follow_24 rfl (lv_at hl 2 rfl) ?_
          refine va_get (D := (dC, dI)) (ci := 2) (v := .ref ln) (C := RX2) (T := TX2) (N := 9) hx hb hts in_X2 hown hK hP 0 rfl rfl 1 (by decide) (hts _ q61) (fun _ h9 => h9) rfl dX2_follow_25 ?_
          refine lv_sipush (v := 256) hx hb dX2_follow_28 (by decide) ?_
          refine wk_top (y := nI 256) (by decide) ?_
          have hPc := hP.sub (ws' := [(h, .inr (2, [.ref g, .ref ln, .ref hv, .ref hw, .ref ht, .int (nI (E ++ T).length), .int lvs, .int k, .int t])), (hv, .inl (d, 12, .inl lv)), (hw, .inl (d, 12, .inl wy)), (ht, .inl (d, 12, .inl tr)), (ln, .inr (1, [.ref b1, .ref b2, .int (nI lN)])), (b1, .inl (d, 6200, .inl ly)), (b2, .inl (d, 6200, .inl lq))]) [0, 1, 2, 3, 7, 8, 9] rfl
          have hDc := hD.sub (ws' := [(h, .inr (2, [.ref g, .ref ln, .ref hv, .ref hw, .ref ht, .int (nI (E ++ T).length), .int lvs, .int k, .int t])), (hv, .inl (d, 12, .inl lv)), (hw, .inl (d, 12, .inl wy)), (ht, .inl (d, 12, .inl tr)), (ln, .inr (1, [.ref b1, .ref b2, .int (nI lN)])), (b1, .inl (d, 6200, .inl ly)), (b2, .inl (d, 6200, .inl lq))]) [0, 1, 2, 3, 7, 8, 9] (by decide) rfl
          refine wk_ci (wr := [(g, .inr (1, [.ref a1, .ref a2, .int (nI gN)])), (a1, .inl (d, 256, .inl gy)), (a2, .inl (d, 256, .inl gq))]) (wn := fun (u : ps_S) => [(h, .inr (2, [.ref g, .ref ln, .ref hv, .ref hw, .ref ht, .int (nI u.2.2.2.1), .int lvs, .int u.2.2.2.2.1, .int u.2.2.2.2.2])), (hv, .inl (d, 12, .inl u.1)), (hw, .inl (d, 12, .inl u.2.1)), (ht, .inl (d, 12, .inl u.2.2.1)), (g, .inr (1, [.ref a1, .ref a2, .int (nI gN)])), (a1, .inl (d, 256, .inl gy)), (a2, .inl (d, 256, .inl gq)), (ln, .inr (1, [.ref b1, .ref b2, .int (nI lN)])), (b1, .inl (d, 6200, .inl ly)), (b2, .inl (d, 6200, .inl lq))]) (va_runV (As := [.ref ln, .int (nI 256)]) (rest := []) ⟨hx, hb, hml, hown, hts⟩ (metX2_pass l dC dI d H.size h g ln hv hw ht ln b1 b2 (sp_db gN gy gq lN ly lq) (sp_ix gN gy gq lN ly lq) n f9 v9 (E ++ T) 256 lN 6200 ly lq lvs k t lv wy tr k_n (by omega) (by omega) (by omega) (fun i hi => ⟨Or.inr ⟨by omega, by omega, by rw [Nat.add_sub_cancel_left], by rw [Nat.add_sub_cancel_left]⟩, ⟨256 + i, Or.inr ⟨by omega, by omega, by rw [Nat.add_sub_cancel_left], by rw [Nat.add_sub_cancel_left]⟩⟩⟩) k_B hg hrp (by rw [htop]; exact k_l)) (cwV 2 hts (lw_V q152 q154 qs2 q16 q155) rfl rfl rfl (by decide +kernel) ⟨Nat.le_of_ble_eq_true rfl, Nat.le_of_ble_eq_true rfl⟩) (wk_M.preV (q := (RX2, TX2, 9)) (ci := 2) (q0 := 0) hK hPc hDc rfl rfl) rfl rfl hl.1 rfl (lv_room (Nat.le_of_ble_eq_true rfl)) dX2_follow_31 ⟨Nat.le_of_ble_eq_true rfl, Nat.le_of_ble_eq_true rfl⟩) hP hD hS hA [0, 1, 2, 3, 7, 8, 9] [4, 5, 6] [3, 4, 5, 6, 0, 1, 2, 7, 8, 9] rfl rfl (by decide) (by decide) (by decide) (fun _ => rfl) (fun r2 u H locs hp hK hP hD hS => ?_)
          have hP : va_P (dC, dI) vwCl [(h, .inr (2, [.ref g, .ref ln, .ref hv, .ref hw, .ref ht, .int (nI u.2.2.2.1), .int lvs, .int u.2.2.2.2.1, .int u.2.2.2.2.2])), (hv, .inl (d, 12, .inl u.1)), (hw, .inl (d, 12, .inl u.2.1)), (ht, .inl (d, 12, .inl u.2.2.1)), (g, .inr (1, [.ref a1, .ref a2, .int (nI gN)])), (a1, .inl (d, 256, .inl gy)), (a2, .inl (d, 256, .inl gq)), (ln, .inr (1, [.ref b1, .ref b2, .int (nI lN)])), (b1, .inl (d, 6200, .inl ly)), (b2, .inl (d, 6200, .inl lq))] H := hP
          have hD : va_D A [(h, .inr (2, [.ref g, .ref ln, .ref hv, .ref hw, .ref ht, .int (nI u.2.2.2.1), .int lvs, .int u.2.2.2.2.1, .int u.2.2.2.2.2])), (hv, .inl (d, 12, .inl u.1)), (hw, .inl (d, 12, .inl u.2.1)), (ht, .inl (d, 12, .inl u.2.2.1)), (g, .inr (1, [.ref a1, .ref a2, .int (nI gN)])), (a1, .inl (d, 256, .inl gy)), (a2, .inl (d, 256, .inl gq)), (ln, .inr (1, [.ref b1, .ref b2, .int (nI lN)])), (b1, .inl (d, 6200, .inl ly)), (b2, .inl (d, 6200, .inl lq))] := hD
          obtain ⟨lv, wy, tr, td, k, t⟩ := u
          obtain ⟨E1, hst1, hc1⟩ := hp
          obtain rfl : td = (E1 ++ (E ++ T)).length := hst1.2.2.1
          have hP : va_P (dC, dI) vwCl [(h, .inr (2, [.ref g, .ref ln, .ref hv, .ref hw, .ref ht, .int (nI (E1 ++ (E ++ T)).length), .int lvs, .int k, .int t])), (hv, .inl (d, 12, .inl lv)), (hw, .inl (d, 12, .inl wy)), (ht, .inl (d, 12, .inl tr)), (g, .inr (1, [.ref a1, .ref a2, .int (nI gN)])), (a1, .inl (d, 256, .inl gy)), (a2, .inl (d, 256, .inl gq)), (ln, .inr (1, [.ref b1, .ref b2, .int (nI lN)])), (b1, .inl (d, 6200, .inl ly)), (b2, .inl (d, 6200, .inl lq))] H := hP
          have hD : va_D A [(h, .inr (2, [.ref g, .ref ln, .ref hv, .ref hw, .ref ht, .int (nI (E1 ++ (E ++ T)).length), .int lvs, .int k, .int t])), (hv, .inl (d, 12, .inl lv)), (hw, .inl (d, 12, .inl wy)), (ht, .inl (d, 12, .inl tr)), (g, .inr (1, [.ref a1, .ref a2, .int (nI gN)])), (a1, .inl (d, 256, .inl gy)), (a2, .inl (d, 256, .inl gq)), (ln, .inr (1, [.ref b1, .ref b2, .int (nI lN)])), (b1, .inl (d, 6200, .inl ly)), (b2, .inl (d, 6200, .inl lq))] := hD
          refine lv_istore_n (lv' := [(2, .int r2), (1, .int 0), (0, .ref h)]) hx hb dX2_follow_34 rfl hl (by decide) rfl (fun ls hl => ?_)
          refine lv_iload_n hx hb dX2_follow_35 rfl (lv_at hl 0 rfl) ?_
          refine lv_if_lt (tgt := 41) hx hb dX2_follow_36 (by decide) (fun c_3 => ?_) (fun c_3 => ?_)
          · refine lv_iload_n hx hb dX2_follow_41 rfl (lv_at hl 0 rfl) ?_
            refine lv_bipush (v := (-2)) hx hb dX2_follow_42 (by decide) ?_
            refine lv_icmp_ne (tgt := 51) hx hb dX2_follow_44 (by decide) (fun c_4 => ?_) (fun c_4 => ?_)
            · obtain ⟨e1, rfl, hfull2⟩ : r2 = -1 ∧ E1 = [] ∧ ∀ i, i < lN → sp_sat (E ++ T) (ly i) (lq i) ∨ sp_two (E ++ T) (ly i) (lq i) := by
                rcases hc1 with ⟨i, hi, e1, -⟩ | h | h
                · exact absurd c_3 (by rw [e1]; exact nI_pos (by omega))
                · exact absurd h.1 c_4
                · exact h
              refine lv_iconst (v := 0) hx hb dX2_follow_51 (by decide) ?_
              refine lv_istore_n (lv' := [(1, .int 0), (2, .int r2), (0, .ref h)]) hx hb dX2_follow_52 rfl hl (by decide) rfl (fun ls hl => ?_)
              refine lv_goto (tgt := 2) hx hb dX2_follow_53 (by decide) ?_
              refine lv_iload_n hx hb dX2_follow_2 rfl (lv_at hl 0 rfl) ?_
              refine lv_if_eq (tgt := 56) hx hb dX2_follow_3 (by decide) (fun c_5 => ?_) (fun c_5 => ?_)
              · refine lv_iconst (v := (-1)) hx hb dX2_follow_56 (by decide) ?_
                exact wk_iret ((lv, wy, tr, ([] ++ (E ++ T)).length, k, t)) hx hb hr hlocks (⟨[] ++ E, ps_app hst1 htop hE, Or.inr ⟨rfl, sp_full_of rfl k_gN hfull1 hfull2⟩⟩) hK hP hD hS dX2_follow_57
              · exact absurd rfl c_5
            · have hE1n : E1 ≠ [] := by
                rcases hc1 with ⟨i, hi, e1, -⟩ | h | h
                · exact absurd c_3 (by rw [e1]; exact nI_pos (by omega))
                · exact h.2
                · exact absurd (h.1.symm.trans c_4) (by decide)
              refine lv_iconst (v := 1) hx hb dX2_follow_47 (by decide) ?_
              refine lv_goto (tgt := 52) hx hb dX2_follow_48 (by decide) ?_
              refine lv_istore_n (lv' := [(1, .int 1), (2, .int r2), (0, .ref h)]) hx hb dX2_follow_52 rfl hl (by decide) rfl (fun ls hl => ?_)
              refine lv_goto (tgt := 2) hx hb dX2_follow_53 (by decide) ?_
              have hst2 := ps_app hst1 htop hE
              have hl2 := sp_len hst2.1
              have hne : (E ++ T).length < (E1 ++ E ++ T).length := by
                rw [List.append_assoc, List.length_append (as := E1)]
                have : 0 < E1.length := List.length_pos_iff.mpr hE1n
                omega
              have hfu : 13 - (E1 ++ E ++ T).length < N9 := by clear hc1; omega
              rw [← List.append_assoc] at hP hD
              exact ih (E1 ++ E) k t lv wy tr hfu ⟨hst2.1, hst2.2.1, rfl, hst2.2.2.2.1, hst2.2.2.2.2⟩ H locs hP hD hS ls (lv_sub hl [0, 2] rfl)
          · obtain ⟨i, hi, e1, e2⟩ : ∃ i, i < lN ∧ r2 = nI (256 + i) ∧ sp_fal (E1 ++ (E ++ T)) (ly i) (lq i) := by
              rcases hc1 with h | h | h
              · exact h
              · exact absurd (show r2 < 0 by rw [h.1]; decide) c_3
              · exact absurd (show r2 < 0 by rw [h.1]; decide) c_3
            refine lv_iload_n hx hb dX2_follow_39 rfl (lv_at hl 0 rfl) ?_
            exact wk_iret ((lv, wy, tr, (E1 ++ (E ++ T)).length, k, t)) hx hb hr hlocks (⟨E1 ++ E, ps_app hst1 htop hE, Or.inl ⟨256 + i, _, _, e1, Or.inr ⟨by omega, by omega, by rw [Nat.add_sub_cancel_left], by rw [Nat.add_sub_cancel_left]⟩, by rw [List.append_assoc]; exact e2⟩⟩) hK hP hD hS dX2_follow_40
  exact loop 14 [] k t lv wy tr (by omega) ⟨k_g, k_r, rfl, rfl, fun x hx => (List.not_mem_nil hx).elim⟩ _ _ hP hD hS ls (lv_sub hl [0, 1] rfl)
end
section
/-! Search: learn -/
theorem le_in (p q : Int32) (i : Nat) : bt (p ||| q) i = true ↔ sp_in p q i := by
  unfold sp_in
  rw [b_or, Bool.or_eq_true]
section LE
variable {B : sp_DB} {n : Nat} {fx vs : Nat → Bool} {T : List sp_E} {Ix : Nat → Int32 → Int32 → Prop} {lv wy tr : Nat → Int32} {k t p q : Int32}
theorem sp_lv_at (hg : sp_good B n fx vs T) (hr : sp_rep Ix T lv wy tr k t) {i : Nat} (ha : sp_a T i) : ∃ L, sp_at T L i ∧ lv i = nI L ∧ L ≤ n := by
  obtain ⟨z, hz, e⟩ := ha
  exact ⟨z.2.2.1, ⟨z, hz, e, rfl⟩, by rw [← e]; exact (hr.2.1 z hz).1, sp_lev_len hg hz⟩
theorem sp_at_fun (hg : sp_good B n fx vs T) {i L L' : Nat} (h1 : sp_at T L i) (h2 : sp_at T L' i) : L = L' := by
  obtain ⟨z, hz, e1, e2⟩ := h1
  obtain ⟨w, hw, f1, f2⟩ := h2
  rw [← e2, ← f2, sp_uniq hg z hz w hw (e1.trans f1.symm)]
theorem le_P (hg : sp_good B n fx vs T) (hr : sp_rep Ix T lv wy tr k t) (hn : n ≤ 12) (hf : ∀ i, sp_in p q i → sp_a T i) (i : Nat) : hr_P (p ||| q) (nI (sp_top T)) lv i = true ↔ sp_in p q i ∧ sp_at T (sp_top T) i := by
  unfold hr_P
  rw [Bool.and_eq_true, le_in, decide_eq_true_eq]
  have htl := sp_top_len hg
  have hl := sp_len hg
  constructor
  · rintro ⟨h1, h2⟩
    obtain ⟨L, a1, a2, a3⟩ := sp_lv_at hg hr (hf i h1)
    rw [a2, nI_eq (by omega) (by omega)] at h2
    rw [← h2]
    exact ⟨h1, a1⟩
  · rintro ⟨h1, h2⟩
    obtain ⟨L, a1, a2, a3⟩ := sp_lv_at hg hr (hf i h1)
    rw [a2, sp_at_fun hg a1 h2]
    exact ⟨h1, rfl⟩
theorem le_two (hg : sp_good B n fx vs T) (hr : sp_rep Ix T lv wy tr k t) (hn : n ≤ 12) (hf : ∀ i, sp_in p q i → sp_a T i) (h : 1 < hc (hr_P (p ||| q) (nI (sp_top T)) lv) 12) : ∃ i j, i ≠ j ∧ (sp_in p q i ∧ sp_at T (sp_top T) i) ∧ sp_in p q j ∧ sp_at T (sp_top T) j := by
  obtain ⟨i, j, h1, -, -, h2, h3⟩ := hc_two h
  exact ⟨i, j, h1, (le_P hg hr hn hf i).mp h2, (le_P hg hr hn hf j).mp h3⟩
theorem le_one (hg : sp_good B n fx vs T) (hr : sp_rep Ix T lv wy tr k t) (hn : n ≤ 12) (hf : ∀ i, sp_in p q i → sp_a T i) (h : hc (hr_P (p ||| q) (nI (sp_top T)) lv) 12 ≤ 1) {i j : Nat} (hi : sp_in p q i ∧ sp_at T (sp_top T) i) (hj : sp_in p q j ∧ sp_at T (sp_top T) j) : i = j := by
  have bd : ∀ z, sp_in p q z → z < 12 := fun z hz => by have := sp_lt hg (hf z hz); omega
  exact hc_one h (bd i hi.1) (bd j hj.1) ((le_P hg hr hn hf i).mpr hi) ((le_P hg hr hn hf j).mpr hj)
end LE
theorem le_max {a b : Nat} (ha : a < 1000) (hb : b < 1000) : (if nI a < nI b then nI b else nI a) = nI (max a b) := by
  by_cases h : a < b
  · rw [if_pos ((nI_ltI (by omega) (by omega)).mpr h), Nat.max_eq_right (by omega)]
  · rw [if_neg (fun z => h ((nI_ltI (by omega) (by omega)).mp z)), Nat.max_eq_left (by omega)]
abbrev le_S : Type := Int32 × Int32 × Nat × Nat × Int32
def le_post (n gN lN : Nat) (gy gq ly lq : Nat → Int32) (f9 v9 : Nat → Bool) (T : List sp_E) (lv wy tr : Nat → Int32) (t : Int32) (u : le_S) : Prop :=
  (∀ a, sp_G gN gy gq a → sp_m a u.1 u.2.1) ∧ (∀ i, sp_in u.1 u.2.1 i → i < n) ∧ sp_good (sp_db gN gy gq (lN + 1) (upd ly lN u.1) (upd lq lN u.2.1)) n f9 v9 (sp_bk u.2.2.1 T) ∧ sp_rep (sp_ix gN gy gq (lN + 1) (upd ly lN u.1) (upd lq lN u.2.1)) (sp_bk u.2.2.1 T) lv wy tr u.2.2.2.2 t ∧ u.2.2.2.1 = (sp_bk u.2.2.1 T).length ∧ sp_top (sp_bk u.2.2.1 T) = u.2.2.1 ∧ (¬ sp_sat (sp_bk u.2.2.1 T) u.1 u.2.1 ∧ ∃ x, ∀ i, sp_op (sp_bk u.2.2.1 T) u.1 u.2.1 i ↔ i = x) ∧ ∃ (T1 : List sp_E) (d9 : sp_E), T = T1 ++ d9 :: sp_bk u.2.2.1 T ∧ d9.2.2.2 = none
theorem metX2_setG (l : Launch) (dC : Nat → ClassId) (dI : Nat → Nat → Nat) (d : ClassId) (h g ln hv hw ht : Nat) (j : Nat) (td lvs k t : Int32) (k_j : j < 6456) (k_h : j < 256) : Met l yX2_set (ws_ yX2_set cX2_set 2 (some (.object "ClauseDesk$Clauses"))) ({ frames := 0, cells := 0, slots := 0, locals := 0 }) (wk_R (dC, dI) [] [(h, .inr (2, [.ref g, .ref ln, .ref hv, .ref hw, .ref ht, .int td, .int lvs, .int k, .int t]))] [.ref h, .int (nI j)]) (wk_Sa (g)) 0 0 (fun _ => False) := by
  have h9 := metX2_set l dC dI d h g ln hv hw ht j td lvs k t k_j
  rw [if_pos k_h] at h9
  exact h9
theorem metX2_setL (l : Launch) (dC : Nat → ClassId) (dI : Nat → Nat → Nat) (d : ClassId) (h g ln hv hw ht : Nat) (j : Nat) (td lvs k t : Int32) (k_j : j < 6456) (k_h : ¬ j < 256) : Met l yX2_set (ws_ yX2_set cX2_set 2 (some (.object "ClauseDesk$Clauses"))) ({ frames := 0, cells := 0, slots := 0, locals := 0 }) (wk_R (dC, dI) [] [(h, .inr (2, [.ref g, .ref ln, .ref hv, .ref hw, .ref ht, .int td, .int lvs, .int k, .int t]))] [.ref h, .int (nI j)]) (wk_Sa (ln)) 0 0 (fun _ => False) := by
  have h9 := metX2_set l dC dI d h g ln hv hw ht j td lvs k t k_j
  rw [if_neg k_h] at h9
  exact h9
set_option maxHeartbeats 4000000 in
set_option maxRecDepth 100000 in
theorem metX2_learn (l : Launch) (dC : Nat → ClassId) (dI : Nat → Nat → Nat) (d : ClassId) (sz : Nat) (h g ln hv hw ht a1 a2 b1 b2 : Nat) (n gN lN : Nat) (gy gq ly lq : Nat → Int32) (f9 v9 : Nat → Bool) (T : List sp_E) (j : Nat) (y0 q0 lvs k t : Int32) (lv wy tr : Nat → Int32) (k_n : n ≤ 12) (k_go : sp_gok n gN gy gq) (k_lo : sp_lok n gN gy gq lN ly lq) (k_lN : lN < 6200) (k_g : sp_good (sp_db gN gy gq lN ly lq) n f9 v9 T) (k_r : sp_rep (sp_ix gN gy gq lN ly lq) T lv wy tr k t) (k_l : lvs = nI (sp_top T)) (k_L : 0 < sp_top T) (k_j : sp_ix gN gy gq lN ly lq j y0 q0) (k_f : sp_fal T y0 q0) : Met l yX2_learn (ws_ yX2_learn cX2_learn 9 (none)) ({ frames := 1, cells := 0, slots := 0, locals := 40 }) (wk_M (dC, dI) [(d, .int)] [(h, .inr (2, [.ref g, .ref ln, .ref hv, .ref hw, .ref ht, .int (nI T.length), .int lvs, .int k, .int t])), (hv, .inl (d, 12, .inl lv)), (hw, .inl (d, 12, .inl wy)), (ht, .inl (d, 12, .inl tr)), (g, .inr (1, [.ref a1, .ref a2, .int (nI gN)])), (a1, .inl (d, 256, .inl gy)), (a2, .inl (d, 256, .inl gq)), (ln, .inr (1, [.ref b1, .ref b2, .int (nI lN)])), (b1, .inl (d, 6200, .inl ly)), (b2, .inl (d, 6200, .inl lq))] [.ref h, .int (nI j)] sz) (va_Qv (le_post n gN lN gy gq ly lq f9 v9 T lv wy tr t) (wk_B (dC, dI) [(d, .int)] (va_A [(h, .inr (2, [.ref g, .ref ln, .ref hv, .ref hw, .ref ht, .int (nI T.length), .int lvs, .int k, .int t])), (hv, .inl (d, 12, .inl lv)), (hw, .inl (d, 12, .inl wy)), (ht, .inl (d, 12, .inl tr)), (g, .inr (1, [.ref a1, .ref a2, .int (nI gN)])), (a1, .inl (d, 256, .inl gy)), (a2, .inl (d, 256, .inl gq)), (ln, .inr (1, [.ref b1, .ref b2, .int (nI lN)])), (b1, .inl (d, 6200, .inl ly)), (b2, .inl (d, 6200, .inl lq))] sz) (fun u : le_S => [(h, .inr (2, [.ref g, .ref ln, .ref hv, .ref hw, .ref ht, .int (nI u.2.2.2.1), .int (nI u.2.2.1), .int u.2.2.2.2, .int t])), (hv, .inl (d, 12, .inl lv)), (hw, .inl (d, 12, .inl wy)), (ht, .inl (d, 12, .inl tr)), (g, .inr (1, [.ref a1, .ref a2, .int (nI gN)])), (a1, .inl (d, 256, .inl gy)), (a2, .inl (d, 256, .inl gq)), (ln, .inr (1, [.ref b1, .ref b2, .int (nI (lN + 1))])), (b1, .inl (d, 6200, .inl (upd ly lN u.1))), (b2, .inl (d, 6200, .inl (upd lq lN u.2.1)))])) (va_A [(h, .inr (2, [.ref g, .ref ln, .ref hv, .ref hw, .ref ht, .int (nI T.length), .int lvs, .int k, .int t])), (hv, .inl (d, 12, .inl lv)), (hw, .inl (d, 12, .inl wy)), (ht, .inl (d, 12, .inl tr)), (g, .inr (1, [.ref a1, .ref a2, .int (nI gN)])), (a1, .inl (d, 256, .inl gy)), (a2, .inl (d, 256, .inl gq)), (ln, .inr (1, [.ref b1, .ref b2, .int (nI lN)])), (b1, .inl (d, 6200, .inl ly)), (b2, .inl (d, 6200, .inl lq))] sz)) 0 0 (va_A [(h, .inr (2, [.ref g, .ref ln, .ref hv, .ref hw, .ref ht, .int (nI T.length), .int lvs, .int k, .int t])), (hv, .inl (d, 12, .inl lv)), (hw, .inl (d, 12, .inl wy)), (ht, .inl (d, 12, .inl tr)), (g, .inr (1, [.ref a1, .ref a2, .int (nI gN)])), (a1, .inl (d, 256, .inl gy)), (a2, .inl (d, 256, .inl gq)), (ln, .inr (1, [.ref b1, .ref b2, .int (nI lN)])), (b1, .inl (d, 6200, .inl ly)), (b2, .inl (d, 6200, .inl lq))] sz) := by
  subst k_l
  refine Met.ofW (cc := cX2_learn) (maxL := 9) (ret := none) (by decide) rfl ?_
  intro p e s m args below meth c s₁ Bd hml hv
  obtain ⟨rfl, hsz, hP, hK, hD0⟩ := hv
  have hx := Bd.exec
  have hb := Bd.bytes
  have hr := Bd.returns
  have hts := atoms_spec (ws := ws_ yX2_learn cX2_learn 9 (none)) Bd.pre
  have hts : ∀ w ∈ lw_all, w.before _ s = true := fun w h => hts w (List.mem_cons_of_mem _ h)
  have hown : s.vm.findClass RX2 = some m.cls := findClass_of_methodNamed Bd.named
  have hlocks := Bd.notSynchronized
  have hK : va_K (dC, dI) vwCl [(d, .int)] s := hK
  subst hsz
  have hD := hD0.self (sz := s.heap.size)
  generalize hAe : va_A [(h, .inr (2, [.ref g, .ref ln, .ref hv, .ref hw, .ref ht, .int (nI T.length), .int (nI (sp_top T)), .int k, .int t])), (hv, .inl (d, 12, .inl lv)), (hw, .inl (d, 12, .inl wy)), (ht, .inl (d, 12, .inl tr)), (g, .inr (1, [.ref a1, .ref a2, .int (nI gN)])), (a1, .inl (d, 256, .inl gy)), (a2, .inl (d, 256, .inl gq)), (ln, .inr (1, [.ref b1, .ref b2, .int (nI lN)])), (b1, .inl (d, 6200, .inl ly)), (b2, .inl (d, 6200, .inl lq))] s.heap.size = A at hD ⊢
  have hA : ∀ q : Nat, s.heap.size ≤ q → A q := fun q h => by rw [← hAe]; exact Or.inr h
  have hS : va_S A s.heap s.heap [] := va_S.rf
  have hP : va_P (dC, dI) vwCl [(h, .inr (2, [.ref g, .ref ln, .ref hv, .ref hw, .ref ht, .int (nI T.length), .int (nI (sp_top T)), .int k, .int t])), (hv, .inl (d, 12, .inl lv)), (hw, .inl (d, 12, .inl wy)), (ht, .inl (d, 12, .inl tr)), (g, .inr (1, [.ref a1, .ref a2, .int (nI gN)])), (a1, .inl (d, 256, .inl gy)), (a2, .inl (d, 256, .inl gq)), (ln, .inr (1, [.ref b1, .ref b2, .int (nI lN)])), (b1, .inl (d, 6200, .inl ly)), (b2, .inl (d, 6200, .inl lq))] s.heap := hP
  have hl := lv_entry ([.ref h, .int (nI j)]) (n := 9) (Nat.le_of_ble_eq_true rfl)
  rw [lg_entry_eq]
  generalize (lg_sl ([.ref h, .int (nI j)]) ++ List.replicate (9 - (lg_sl ([.ref h, .int (nI j)])).length) Slot.unset).toArray = ls at hl ⊢
  have hl : lv_has ls 9 [(0, .ref h), (1, .int (nI j))] := hl
  have k_B := sp_db_n k_go k_lo
  have k_G := sp_db_G k_lo
  have k_gN := k_go.1
  have hlen := sp_len k_g
  have htl := sp_top_len k_g
  have k_j9 := sp_ix_lt (Nat.le_of_lt k_lN) k_j
  have last : ∀ (N9 : Nat) (i tt : Nat) (T0 : List sp_E) (p9 q9 : Int32), (12 - i < N9) → (i ≤ 12) → (sp_an (sp_G gN gy gq) n T T0 p9 q9) → (hc (hr_P (p9 ||| q9) (nI (sp_top T)) lv) 12 ≤ 1) → (tt < sp_top T) → (∀ z L, z < i → sp_in p9 q9 z → sp_at T L z → L < sp_top T → L ≤ tt) → (tt = 0 ∨ ∃ z, sp_in p9 q9 z ∧ sp_at T tt z) → ∀ (H : Heap) (locs : List Loc), va_P (dC, dI) vwCl [(h, .inr (2, [.ref g, .ref ln, .ref hv, .ref hw, .ref ht, .int (nI T.length), .int (nI (sp_top T)), .int k, .int t])), (hv, .inl (d, 12, .inl lv)), (hw, .inl (d, 12, .inl wy)), (ht, .inl (d, 12, .inl tr)), (g, .inr (1, [.ref a1, .ref a2, .int (nI gN)])), (a1, .inl (d, 256, .inl gy)), (a2, .inl (d, 256, .inl gq)), (ln, .inr (1, [.ref b1, .ref b2, .int (nI lN)])), (b1, .inl (d, 6200, .inl ly)), (b2, .inl (d, 6200, .inl lq))] H → va_D A [(h, .inr (2, [.ref g, .ref ln, .ref hv, .ref hw, .ref ht, .int (nI T.length), .int (nI (sp_top T)), .int k, .int t])), (hv, .inl (d, 12, .inl lv)), (hw, .inl (d, 12, .inl wy)), (ht, .inl (d, 12, .inl tr)), (g, .inr (1, [.ref a1, .ref a2, .int (nI gN)])), (a1, .inl (d, 256, .inl gy)), (a2, .inl (d, 256, .inl gq)), (ln, .inr (1, [.ref b1, .ref b2, .int (nI lN)])), (b1, .inl (d, 6200, .inl ly)), (b2, .inl (d, 6200, .inl lq))] → va_S A s.heap H locs → ∀ (ls : Array Slot), lv_has ls 9 [(6, .int (nI i)), (5, .int (nI tt)), (3, .int p9), (4, .int q9), (0, .ref h)] → W p l e (headSpec (ws_ yX2_learn cX2_learn 9 (none)) ({ frames := 1, cells := 0, slots := 0, locals := 40 })).room s m ([.ref h, .int (nI j)] : List Value).toArray below meth c H locs 0 0 (MQ below (va_Qv (le_post n gN lN gy gq ly lq f9 v9 T lv wy tr t) (wk_B (dC, dI) [(d, .int)] (A) (fun u : le_S => [(h, .inr (2, [.ref g, .ref ln, .ref hv, .ref hw, .ref ht, .int (nI u.2.2.2.1), .int (nI u.2.2.1), .int u.2.2.2.2, .int t])), (hv, .inl (d, 12, .inl lv)), (hw, .inl (d, 12, .inl wy)), (ht, .inl (d, 12, .inl tr)), (g, .inr (1, [.ref a1, .ref a2, .int (nI gN)])), (a1, .inl (d, 256, .inl gy)), (a2, .inl (d, 256, .inl gq)), (ln, .inr (1, [.ref b1, .ref b2, .int (nI (lN + 1))])), (b1, .inl (d, 6200, .inl (upd ly lN u.1))), (b2, .inl (d, 6200, .inl (upd lq lN u.2.1)))])) (A)) ([.ref h, .int (nI j)] : List Value).toArray s 0 0 (A)) (F0 m 172 ls []) := by
    intro N9
    induction N9 with
    | zero =>
      intro i tt T0 p9 q9 h9
      exact absurd h9 (Nat.not_lt_zero _)
    | succ N9 ih =>
      intro i tt T0 p9 q9 h1 h2 han h3 h4 h5 h6 H locs hP hD hS ls hl
      have hfl := han.2.1
      have hasg := hfl.2
      refine lv_iload hx hb dX2_learn_172 (lv_at hl 0 rfl) ?_
      refine lv_bipush (v := 12) hx hb dX2_learn_174 (by decide) ?_
      refine lv_icmp_ge (tgt := 226) hx hb dX2_learn_176 (by decide) (fun c_1 => ?_) (fun c_1 => ?_)
      · have hi : i = 12 := Nat.le_antisymm h2 ((nI_leI (a := 12) (b := i) (by omega) (by omega)).mp c_1)
        subst hi
        obtain ⟨-, -, himp, hlt, -, x9, hx9⟩ := han
        obtain ⟨g1, g2, g3, g4⟩ := sp_learn k_g hfl hx9 (fun i hi ha => le_one k_g k_r k_n hasg h3 ⟨hi, ha⟩ hx9) h4 (fun i L hi ha hL => h5 i L (by have := hlt i hi; omega) hi ha hL) h6
        refine lv_aload_n hx hb dX2_learn_226 rfl (lv_at hl 4 rfl) ?_
        refine va_get (D := (dC, dI)) (ci := 2) (v := .ref ln) (C := RX2) (T := TX2) (N := 9) hx hb hts in_X2 hown hK hP 0 rfl rfl 1 (by decide) (hts _ q61) (fun _ h9 => h9) rfl dX2_learn_227 ?_
        refine lv_iload_n hx hb dX2_learn_230 rfl (lv_at hl 2 rfl) ?_
        refine lv_iload hx hb dX2_learn_231 (lv_at hl 3 rfl) ?_
        have hPc := hP.sub (ws' := [(ln, .inr (1, [.ref b1, .ref b2, .int (nI lN)])), (b1, .inl (d, 6200, .inl ly)), (b2, .inl (d, 6200, .inl lq))]) [7, 8, 9] rfl
        have hDc := hD.sub (ws' := [(ln, .inr (1, [.ref b1, .ref b2, .int (nI lN)])), (b1, .inl (d, 6200, .inl ly)), (b2, .inl (d, 6200, .inl lq))]) [7, 8, 9] (by decide) rfl
        refine wk_cv (wr := [(h, .inr (2, [.ref g, .ref ln, .ref hv, .ref hw, .ref ht, .int (nI T.length), .int (nI (sp_top T)), .int k, .int t])), (hv, .inl (d, 12, .inl lv)), (hw, .inl (d, 12, .inl wy)), (ht, .inl (d, 12, .inl tr)), (g, .inr (1, [.ref a1, .ref a2, .int (nI gN)])), (a1, .inl (d, 256, .inl gy)), (a2, .inl (d, 256, .inl gq))]) (wn := fun (u : Unit) => [(h, .inr (2, [.ref g, .ref ln, .ref hv, .ref hw, .ref ht, .int (nI T.length), .int (nI (sp_top T)), .int k, .int t])), (hv, .inl (d, 12, .inl lv)), (hw, .inl (d, 12, .inl wy)), (ht, .inl (d, 12, .inl tr)), (g, .inr (1, [.ref a1, .ref a2, .int (nI gN)])), (a1, .inl (d, 256, .inl gy)), (a2, .inl (d, 256, .inl gq)), (ln, .inr (1, [.ref b1, .ref b2, .int (nI (lN + 1))])), (b1, .inl (d, 6200, .inl (upd ly lN p9))), (b2, .inl (d, 6200, .inl (upd lq lN q9)))]) (va_runV (As := [.int p9, .int q9]) (rest := []) ⟨hx, hb, hml, hown, hts⟩ (metX1_add l dC dI d H.size ln b1 b2 6200 lN ly lq p9 q9 (by omega) (by omega)) (cwV 2 hts (lw_V q187 q133 q134 q15 q135) rfl rfl rfl (by decide +kernel) ⟨Nat.le_of_ble_eq_true rfl, Nat.le_of_ble_eq_true rfl⟩) (wk_M.preV (q := (RX1, TX1, 3)) (ci := 1) (q0 := 0) hK hPc hDc rfl rfl) rfl rfl hl.1 rfl (lv_room (Nat.le_of_ble_eq_true rfl)) dX2_learn_233 ⟨Nat.le_of_ble_eq_true rfl, Nat.le_of_ble_eq_true rfl⟩) hP hD hS hA [7, 8, 9] [0, 1, 2, 3, 4, 5, 6] [0, 1, 2, 3, 4, 5, 6, 7, 8, 9] rfl rfl (by decide) (by decide) (by decide) (fun _ => rfl) (fun u H locs hp hK hP hD hS => ?_)
        have hP : va_P (dC, dI) vwCl [(h, .inr (2, [.ref g, .ref ln, .ref hv, .ref hw, .ref ht, .int (nI T.length), .int (nI (sp_top T)), .int k, .int t])), (hv, .inl (d, 12, .inl lv)), (hw, .inl (d, 12, .inl wy)), (ht, .inl (d, 12, .inl tr)), (g, .inr (1, [.ref a1, .ref a2, .int (nI gN)])), (a1, .inl (d, 256, .inl gy)), (a2, .inl (d, 256, .inl gq)), (ln, .inr (1, [.ref b1, .ref b2, .int (nI (lN + 1))])), (b1, .inl (d, 6200, .inl (upd ly lN p9))), (b2, .inl (d, 6200, .inl (upd lq lN q9)))] H := hP
        have hD : va_D A [(h, .inr (2, [.ref g, .ref ln, .ref hv, .ref hw, .ref ht, .int (nI T.length), .int (nI (sp_top T)), .int k, .int t])), (hv, .inl (d, 12, .inl lv)), (hw, .inl (d, 12, .inl wy)), (ht, .inl (d, 12, .inl tr)), (g, .inr (1, [.ref a1, .ref a2, .int (nI gN)])), (a1, .inl (d, 256, .inl gy)), (a2, .inl (d, 256, .inl gq)), (ln, .inr (1, [.ref b1, .ref b2, .int (nI (lN + 1))])), (b1, .inl (d, 6200, .inl (upd ly lN p9))), (b2, .inl (d, 6200, .inl (upd lq lN q9)))] := hD
        refine lv_aload_n hx hb dX2_learn_236 rfl (lv_at hl 4 rfl) ?_
        refine lv_iload hx hb dX2_learn_237 (lv_at hl 1 rfl) ?_
        have hPc := hP.sub (ws' := [(h, .inr (2, [.ref g, .ref ln, .ref hv, .ref hw, .ref ht, .int (nI T.length), .int (nI (sp_top T)), .int k, .int t])), (hv, .inl (d, 12, .inl lv)), (hw, .inl (d, 12, .inl wy)), (ht, .inl (d, 12, .inl tr))]) [0, 1, 2, 3] rfl
        have hDc := hD.sub (ws' := [(h, .inr (2, [.ref g, .ref ln, .ref hv, .ref hw, .ref ht, .int (nI T.length), .int (nI (sp_top T)), .int k, .int t])), (hv, .inl (d, 12, .inl lv)), (hw, .inl (d, 12, .inl wy)), (ht, .inl (d, 12, .inl tr))]) [0, 1, 2, 3] (by decide) rfl
        refine wk_cv (wr := [(g, .inr (1, [.ref a1, .ref a2, .int (nI gN)])), (a1, .inl (d, 256, .inl gy)), (a2, .inl (d, 256, .inl gq)), (ln, .inr (1, [.ref b1, .ref b2, .int (nI (lN + 1))])), (b1, .inl (d, 6200, .inl (upd ly lN p9))), (b2, .inl (d, 6200, .inl (upd lq lN q9)))]) (wn := fun (u : Nat × Int32) => [(h, .inr (2, [.ref g, .ref ln, .ref hv, .ref hw, .ref ht, .int (nI u.1), .int (nI tt), .int u.2, .int t])), (hv, .inl (d, 12, .inl lv)), (hw, .inl (d, 12, .inl wy)), (ht, .inl (d, 12, .inl tr)), (g, .inr (1, [.ref a1, .ref a2, .int (nI gN)])), (a1, .inl (d, 256, .inl gy)), (a2, .inl (d, 256, .inl gq)), (ln, .inr (1, [.ref b1, .ref b2, .int (nI (lN + 1))])), (b1, .inl (d, 6200, .inl (upd ly lN p9))), (b2, .inl (d, 6200, .inl (upd lq lN q9)))]) (va_runV (As := [.int (nI tt)]) (rest := []) ⟨hx, hb, hml, hown, hts⟩ (metX2_back l dC dI d H.size h g ln hv hw ht (sp_db gN gy gq lN ly lq) (sp_ix gN gy gq (lN + 1) (upd ly lN p9) (upd lq lN q9)) n f9 v9 T tt (nI (sp_top T)) k t lv wy tr k_n (by omega) k_g (sp_rep_mono k_r (fun j y q => sp_ix_add))) (cwV 1 hts (lw_V q188 q190 qs7 q16 q191) rfl rfl rfl (by decide +kernel) ⟨Nat.le_of_ble_eq_true rfl, Nat.le_of_ble_eq_true rfl⟩) (wk_M.preV (q := (RX2, TX2, 9)) (ci := 2) (q0 := 0) hK hPc hDc rfl rfl) rfl rfl hl.1 rfl (lv_room (Nat.le_of_ble_eq_true rfl)) dX2_learn_239 ⟨Nat.le_of_ble_eq_true rfl, Nat.le_of_ble_eq_true rfl⟩) hP hD hS hA [0, 1, 2, 3] [4, 5, 6, 7, 8, 9] [6, 7, 8, 9, 0, 1, 2, 3, 4, 5] rfl rfl (by decide) (by decide) (by decide) (fun _ => rfl) (fun u H locs hp hK hP hD hS => ?_)
        have hP : va_P (dC, dI) vwCl [(h, .inr (2, [.ref g, .ref ln, .ref hv, .ref hw, .ref ht, .int (nI u.1), .int (nI tt), .int u.2, .int t])), (hv, .inl (d, 12, .inl lv)), (hw, .inl (d, 12, .inl wy)), (ht, .inl (d, 12, .inl tr)), (g, .inr (1, [.ref a1, .ref a2, .int (nI gN)])), (a1, .inl (d, 256, .inl gy)), (a2, .inl (d, 256, .inl gq)), (ln, .inr (1, [.ref b1, .ref b2, .int (nI (lN + 1))])), (b1, .inl (d, 6200, .inl (upd ly lN p9))), (b2, .inl (d, 6200, .inl (upd lq lN q9)))] H := hP
        have hD : va_D A [(h, .inr (2, [.ref g, .ref ln, .ref hv, .ref hw, .ref ht, .int (nI u.1), .int (nI tt), .int u.2, .int t])), (hv, .inl (d, 12, .inl lv)), (hw, .inl (d, 12, .inl wy)), (ht, .inl (d, 12, .inl tr)), (g, .inr (1, [.ref a1, .ref a2, .int (nI gN)])), (a1, .inl (d, 256, .inl gy)), (a2, .inl (d, 256, .inl gq)), (ln, .inr (1, [.ref b1, .ref b2, .int (nI (lN + 1))])), (b1, .inl (d, 6200, .inl (upd ly lN p9))), (b2, .inl (d, 6200, .inl (upd lq lN q9)))] := hD
        have hgb : sp_good (sp_db gN gy gq lN ly lq) n f9 v9 (sp_bk tt T) := by
          obtain ⟨T1, d9, e, -⟩ := g1
          have h9 := k_g
          rw [e] at h9
          exact (sp_good_app h9).1
        exact wk_vret ((p9, q9, tt, u.1, u.2)) hx hb hr hlocks (⟨himp, hlt, sp_good_add hgb sp_db_add.1 sp_db_add.2 g4, hp.2, hp.1, g2, ⟨g3.1, x9, g3.2⟩, g1⟩) hK hP hD hS dX2_learn_242
      · have hi : i < 12 := Nat.lt_of_not_le (fun q => c_1 ((nI_leI (a := 12) (b := i) (by omega) (by omega)).mpr q))
        refine lv_iload_n hx hb dX2_learn_179 rfl (lv_at hl 2 rfl) ?_
        refine lv_iload hx hb dX2_learn_180 (lv_at hl 3 rfl) ?_
        refine lv_ior hx hb dX2_learn_182 ?_
        refine lv_iload hx hb dX2_learn_183 (lv_at hl 0 rfl) ?_
        refine lv_ishr hx hb dX2_learn_185 ?_
        refine lv_iconst (v := 1) hx hb dX2_learn_186 (by decide) ?_
        refine lv_iand hx hb dX2_learn_187 ?_
        refine lv_iconst (v := 1) hx hb dX2_learn_188 (by decide) ?_
        refine lv_icmp_ne (tgt := 220) hx hb dX2_learn_189 (by decide) (fun c_2 => ?_) (fun c_2 => ?_)
        · refine lv_iinc (v := nI (i + 1)) (lv' := [(6, .int (nI (i + 1))), (5, .int (nI tt)), (3, .int p9), (4, .int q9), (0, .ref h)]) hx hb dX2_learn_220 hl (k := 0) rfl ((nI_succ _).symm) (by decide) rfl (fun ls hl => ?_)
          refine lv_goto (tgt := 172) hx hb dX2_learn_223 (by decide) ?_
          exact ih (i + 1) tt T0 p9 q9 (by omega) (by omega) han h3 h4 (fun z L hz hin hat hL => by
            by_cases e : z = i
            · subst e
              exact absurd ((b_t1 _ (by omega)).mpr ((le_in p9 q9 z).mpr hin)) c_2
            · exact h5 z L (by omega) hin hat hL) h6 H locs hP hD hS ls (lv_sub hl [0, 1, 2, 3, 4] rfl)
        · have hin : sp_in p9 q9 i := (le_in p9 q9 i).mp ((b_t1 _ (by omega)).mp c_2)
          obtain ⟨L, hat, hlv, hL9⟩ := sp_lv_at k_g k_r (hasg i hin)
          refine lv_aload_n hx hb dX2_learn_192 rfl (lv_at hl 4 rfl) ?_
          refine va_get (D := (dC, dI)) (ci := 2) (v := .ref hv) (C := RX2) (T := TX2) (N := 9) hx hb hts in_X2 hown hK hP 0 rfl rfl 2 (by decide) (hts _ q62) (fun _ h9 => h9) rfl dX2_learn_193 ?_
          refine lv_iload hx hb dX2_learn_196 (lv_at hl 0 rfl) ?_
          refine wk_iald hx hb hK hP 1 0 rfl rfl i (rfl) (by omega) (by omega) dX2_learn_198 ?_
          refine wk_top (y := nI L) (hlv) ?_
          refine lv_aload_n hx hb dX2_learn_199 rfl (lv_at hl 4 rfl) ?_
          refine va_get (D := (dC, dI)) (ci := 2) (v := .int (nI (sp_top T))) (C := RX2) (T := TX2) (N := 9) hx hb hts in_X2 hown hK hP 0 rfl rfl 6 (by decide) (hts _ q66) (fun _ h9 => h9) rfl dX2_learn_200 ?_
          refine lv_icmp_ge (tgt := 220) hx hb dX2_learn_203 (by decide) (fun c_3 => ?_) (fun c_3 => ?_)
          · refine lv_iinc (v := nI (i + 1)) (lv' := [(6, .int (nI (i + 1))), (5, .int (nI tt)), (3, .int p9), (4, .int q9), (0, .ref h)]) hx hb dX2_learn_220 hl (k := 0) rfl ((nI_succ _).symm) (by decide) rfl (fun ls hl => ?_)
            refine lv_goto (tgt := 172) hx hb dX2_learn_223 (by decide) ?_
            exact ih (i + 1) tt T0 p9 q9 (by omega) (by omega) han h3 h4 (fun z L2 hz hin2 hat2 hL2 => by
              by_cases e : z = i
              · subst e
                have h8 := (nI_leI (by omega) (by omega)).mp c_3
                rw [sp_at_fun k_g hat2 hat] at hL2
                omega
              · exact h5 z L2 (by omega) hin2 hat2 hL2) h6 H locs hP hD hS ls (lv_sub hl [0, 1, 2, 3, 4] rfl)
          · have hLt : L < sp_top T := Nat.lt_of_not_le (fun q => c_3 ((nI_leI (by omega) (by omega)).mpr q))
            refine lv_iload hx hb dX2_learn_206 (lv_at hl 1 rfl) ?_
            refine lv_aload_n hx hb dX2_learn_208 rfl (lv_at hl 4 rfl) ?_
            refine va_get (D := (dC, dI)) (ci := 2) (v := .ref hv) (C := RX2) (T := TX2) (N := 9) hx hb hts in_X2 hown hK hP 0 rfl rfl 2 (by decide) (hts _ q62) (fun _ h9 => h9) rfl dX2_learn_209 ?_
            refine lv_iload hx hb dX2_learn_212 (lv_at hl 0 rfl) ?_
            refine wk_iald hx hb hK hP 1 0 rfl rfl i (rfl) (by omega) (by omega) dX2_learn_214 ?_
            refine wk_top (y := nI L) (hlv) ?_
            refine va_mmax hx hb (by rw [hml]; exact hl.1.symm) hown (hts _ q184) (hts _ q185) (hts _ q20) (hts _ q186) (Nat.le_of_ble_eq_true rfl) (Nat.le_of_ble_eq_true rfl) (Nat.le_of_ble_eq_true rfl) (Nat.le_of_ble_eq_true rfl) dX2_learn_215 ?_
            refine wk_top (y := nI (max tt L)) (le_max (by omega) (by omega)) ?_
            refine lv_istore (lv' := [(5, .int (nI (max tt L))), (6, .int (nI i)), (3, .int p9), (4, .int q9), (0, .ref h)]) hx hb dX2_learn_218 hl (by decide) rfl (fun ls hl => ?_)
            refine lv_iinc (v := nI (i + 1)) (lv' := [(6, .int (nI (i + 1))), (5, .int (nI (max tt L))), (3, .int p9), (4, .int q9), (0, .ref h)]) hx hb dX2_learn_220 hl (k := 1) rfl ((nI_succ _).symm) (by decide) rfl (fun ls hl => ?_)
            refine lv_goto (tgt := 172) hx hb dX2_learn_223 (by decide) ?_
            exact ih (i + 1) (max tt L) T0 p9 q9 (by omega) (by omega) han h3 (by omega) (fun z L2 hz hin2 hat2 hL2 => by
              by_cases e : z = i
              · subst e
                rw [sp_at_fun k_g hat2 hat]; exact Nat.le_max_right _ _
              · exact Nat.le_trans (h5 z L2 (by omega) hin2 hat2 hL2) (Nat.le_max_left _ _)) (by
              rcases Nat.le_total tt L with hm | hm
              · rw [Nat.max_eq_right hm]; exact Or.inr ⟨i, hin, hat⟩
              · rw [Nat.max_eq_left hm]; exact h6) H locs hP hD hS ls (lv_sub hl [0, 1, 2, 3, 4] rfl)
  have look : ∀ (N9 : Nat) (T0 : List sp_E) (p9 q9 : Int32), (T0.length < N9) → (sp_an (sp_G gN gy gq) n T T0 p9 q9) → ∀ (H : Heap) (locs : List Loc), va_P (dC, dI) vwCl [(h, .inr (2, [.ref g, .ref ln, .ref hv, .ref hw, .ref ht, .int (nI T.length), .int (nI (sp_top T)), .int k, .int t])), (hv, .inl (d, 12, .inl lv)), (hw, .inl (d, 12, .inl wy)), (ht, .inl (d, 12, .inl tr)), (g, .inr (1, [.ref a1, .ref a2, .int (nI gN)])), (a1, .inl (d, 256, .inl gy)), (a2, .inl (d, 256, .inl gq)), (ln, .inr (1, [.ref b1, .ref b2, .int (nI lN)])), (b1, .inl (d, 6200, .inl ly)), (b2, .inl (d, 6200, .inl lq))] H → va_D A [(h, .inr (2, [.ref g, .ref ln, .ref hv, .ref hw, .ref ht, .int (nI T.length), .int (nI (sp_top T)), .int k, .int t])), (hv, .inl (d, 12, .inl lv)), (hw, .inl (d, 12, .inl wy)), (ht, .inl (d, 12, .inl tr)), (g, .inr (1, [.ref a1, .ref a2, .int (nI gN)])), (a1, .inl (d, 256, .inl gy)), (a2, .inl (d, 256, .inl gq)), (ln, .inr (1, [.ref b1, .ref b2, .int (nI lN)])), (b1, .inl (d, 6200, .inl ly)), (b2, .inl (d, 6200, .inl lq))] → va_S A s.heap H locs → ∀ (ls : Array Slot), lv_has ls 9 [(5, .int (nI T0.length - 1)), (3, .int p9), (4, .int q9), (0, .ref h)] → W p l e (headSpec (ws_ yX2_learn cX2_learn 9 (none)) ({ frames := 1, cells := 0, slots := 0, locals := 40 })).room s m ([.ref h, .int (nI j)] : List Value).toArray below meth c H locs 0 0 (MQ below (va_Qv (le_post n gN lN gy gq ly lq f9 v9 T lv wy tr t) (wk_B (dC, dI) [(d, .int)] (A) (fun u : le_S => [(h, .inr (2, [.ref g, .ref ln, .ref hv, .ref hw, .ref ht, .int (nI u.2.2.2.1), .int (nI u.2.2.1), .int u.2.2.2.2, .int t])), (hv, .inl (d, 12, .inl lv)), (hw, .inl (d, 12, .inl wy)), (ht, .inl (d, 12, .inl tr)), (g, .inr (1, [.ref a1, .ref a2, .int (nI gN)])), (a1, .inl (d, 256, .inl gy)), (a2, .inl (d, 256, .inl gq)), (ln, .inr (1, [.ref b1, .ref b2, .int (nI (lN + 1))])), (b1, .inl (d, 6200, .inl (upd ly lN u.1))), (b2, .inl (d, 6200, .inl (upd lq lN u.2.1)))])) (A)) ([.ref h, .int (nI j)] : List Value).toArray s 0 0 (A)) (F0 m 48 ls []) := by
    intro N9
    induction N9 with
    | zero =>
      intro T0 p9 q9 h9
      exact absurd h9 (Nat.not_lt_zero _)
    | succ N9 ih =>
      intro T0 p9 q9 h1 han H locs hP hD hS ls hl
      have hfl := han.2.1
      have hasg := hfl.2
      refine lv_aload_n hx hb dX2_learn_48 rfl (lv_at hl 3 rfl) ?_
      refine lv_iload_n hx hb dX2_learn_49 rfl (lv_at hl 1 rfl) ?_
      refine lv_iload hx hb dX2_learn_50 (lv_at hl 2 rfl) ?_
      refine lv_ior hx hb dX2_learn_52 ?_
      have hPc := hP.sub (ws' := [(h, .inr (2, [.ref g, .ref ln, .ref hv, .ref hw, .ref ht, .int (nI T.length), .int (nI (sp_top T)), .int k, .int t])), (hv, .inl (d, 12, .inl lv))]) [0, 1] rfl
      refine vp_callSi (W.runV (As := [.int (p9 ||| q9)]) (rest := []) ⟨hx, hb, hml, hown, hts⟩ (metX2_here l dC dI d h g ln hv hw ht (nI T.length) (nI (sp_top T)) k t (p9 ||| q9) lv) (cwV 1 hts (lw_V q180 q182 qs6 q16 q183) rfl rfl rfl (by decide +kernel) ⟨Nat.le_of_ble_eq_true rfl, Nat.le_of_ble_eq_true rfl⟩) (wk_R.preV (q := (RX2, TX2, 9)) (ci := 2) (q0 := 0) hK hPc rfl rfl) rfl rfl hl.1 rfl (lv_room (Nat.le_of_ble_eq_true rfl)) dX2_learn_53 ⟨Nat.le_of_ble_eq_true rfl, Nat.le_of_ble_eq_true rfl⟩) (fun r1 hr1 => ?_)
      refine wk_top (y := nI (hc (hr_P (p9 ||| q9) (nI (sp_top T)) lv) 12)) (hr1) ?_
      have hc12 := hc_le (hr_P (p9 ||| q9) (nI (sp_top T)) lv) 12
      refine lv_iconst (v := 1) hx hb dX2_learn_56 (by decide) ?_
      refine lv_icmp_le (tgt := 166) hx hb dX2_learn_57 (by decide) (fun c_1 => ?_) (fun c_1 => ?_)
      · have hone : hc (hr_P (p9 ||| q9) (nI (sp_top T)) lv) 12 ≤ 1 := (nI_leI (b := 1) (by omega) (by omega)).mp c_1
        refine lv_iconst (v := 0) hx hb dX2_learn_166 (by decide) ?_
        refine lv_istore (lv' := [(5, .int 0), (3, .int p9), (4, .int q9), (0, .ref h)]) hx hb dX2_learn_167 hl (by decide) rfl (fun ls hl => ?_)
        refine lv_iconst (v := 0) hx hb dX2_learn_169 (by decide) ?_
        refine lv_istore (lv' := [(6, .int 0), (5, .int 0), (3, .int p9), (4, .int q9), (0, .ref h)]) hx hb dX2_learn_170 hl (by decide) rfl (fun ls hl => ?_)
        exact last 13 0 0 T0 p9 q9 (by omega) (by omega) han hone k_L (fun z L hz => absurd hz (Nat.not_lt_zero _)) (Or.inl rfl) H locs hP hD hS ls (lv_sub hl [0, 1, 2, 3, 4] rfl)
      · have htwo : 1 < hc (hr_P (p9 ||| q9) (nI (sp_top T)) lv) 12 := Nat.lt_of_not_le (fun q => c_1 ((nI_leI (b := 1) (by omega) (by omega)).mpr q))
        obtain ⟨i1, j1, hij, hi1, hj1⟩ := le_two k_g k_r k_n hasg htwo
        obtain ⟨x, T1, rfl⟩ := sp_an_some han
        obtain ⟨T2, hT⟩ := han.1
        have hxT : x ∈ T := by rw [hT]; exact List.mem_append_right _ List.mem_cons_self
        have hx12 : x.1 < 12 := by have := sp_lt k_g ⟨x, hxT, rfl⟩; omega
        have htr : tr T1.length = nI x.1 := sp_tr_at hT k_r.1
        have hT1 : T1.length < 12 := by
          have h9 := congrArg List.length hT
          rw [List.length_append, List.length_cons] at h9
          omega
        have hl : lv_has ls 9 [(5, .int (nI (T1.length + 1) - 1)), (3, .int p9), (4, .int q9), (0, .ref h)] := hl
        refine lv_aload_n hx hb dX2_learn_60 rfl (lv_at hl 3 rfl) ?_
        refine va_get (D := (dC, dI)) (ci := 2) (v := .ref ht) (C := RX2) (T := TX2) (N := 9) hx hb hts in_X2 hown hK hP 0 rfl rfl 4 (by decide) (hts _ q64) (fun _ h9 => h9) rfl dX2_learn_61 ?_
        refine lv_iload hx hb dX2_learn_64 (lv_at hl 0 rfl) ?_
        refine wk_top (y := nI T1.length) (nI_pred T1.length) ?_
        refine wk_iald hx hb hK hP 3 0 rfl rfl T1.length (rfl) (by omega) (by omega) dX2_learn_66 ?_
        refine wk_top (y := nI x.1) (htr) ?_
        refine lv_istore (lv' := [(6, .int (nI x.1)), (5, .int (nI (T1.length + 1) - 1)), (3, .int p9), (4, .int q9), (0, .ref h)]) hx hb dX2_learn_67 hl (by decide) rfl (fun ls hl => ?_)
        refine lv_iload_n hx hb dX2_learn_69 rfl (lv_at hl 2 rfl) ?_
        refine lv_iload hx hb dX2_learn_70 (lv_at hl 3 rfl) ?_
        refine lv_ior hx hb dX2_learn_72 ?_
        refine lv_iload hx hb dX2_learn_73 (lv_at hl 0 rfl) ?_
        refine lv_ishr hx hb dX2_learn_75 ?_
        refine lv_iconst (v := 1) hx hb dX2_learn_76 (by decide) ?_
        refine lv_iand hx hb dX2_learn_77 ?_
        refine lv_if_ne (tgt := 84) hx hb dX2_learn_78 (by decide) (fun c_2 => ?_) (fun c_2 => ?_)
        · have hin : sp_in p9 q9 x.1 := (le_in p9 q9 x.1).mp (by cases hb9 : bt (p9 ||| q9) x.1 with | false => exact absurd ((b_t0 _ (by omega)).mpr hb9) c_2 | true => rfl)
          obtain ⟨hxl, y, r, hxr, hBy⟩ := sp_an_why k_g han hin hij hi1 hj1
          obtain ⟨j2, hj2, hw2, hix2⟩ := (k_r.2.1 x hxT).2.1 (y, r) hxr
          have hix2 : sp_ix gN gy gq lN ly lq j2 y r := hix2
          refine lv_aload_n hx hb dX2_learn_84 rfl (lv_at hl 4 rfl) ?_
          refine va_get (D := (dC, dI)) (ci := 2) (v := .ref hw) (C := RX2) (T := TX2) (N := 9) hx hb hts in_X2 hown hK hP 0 rfl rfl 3 (by decide) (hts _ q63) (fun _ h9 => h9) rfl dX2_learn_85 ?_
          refine lv_iload hx hb dX2_learn_88 (lv_at hl 0 rfl) ?_
          refine wk_iald hx hb hK hP 2 0 rfl rfl x.1 (rfl) (by omega) (by omega) dX2_learn_90 ?_
          refine wk_top (y := nI j2) (hw2) ?_
          refine lv_istore (lv' := [(7, .int (nI j2)), (6, .int (nI x.1)), (5, .int (nI (T1.length + 1) - 1)), (3, .int p9), (4, .int q9), (0, .ref h)]) hx hb dX2_learn_91 hl (by decide) rfl (fun ls hl => ?_)
          refine lv_iload hx hb dX2_learn_93 (lv_at hl 0 rfl) ?_
          refine lv_sipush (v := 256) hx hb dX2_learn_95 (by decide) ?_
          refine lv_icmp_ge (tgt := 106) hx hb dX2_learn_98 (by decide) (fun c_3 => ?_) (fun c_3 => ?_)
          · have hj256 : ¬ j2 < 256 := Nat.not_lt.mpr ((nI_leI (a := 256) (by omega) (by omega)).mp c_3)
            obtain ⟨hjN, ey, er⟩ : j2 - 256 < lN ∧ ly (j2 - 256) = y ∧ lq (j2 - 256) = r := by
              rcases hix2 with h9 | h9
              · omega
              · exact h9.2
            refine lv_iload hx hb dX2_learn_106 (lv_at hl 0 rfl) ?_
            refine lv_sipush (v := 256) hx hb dX2_learn_108 (by decide) ?_
            refine lv_isub hx hb dX2_learn_111 ?_
            refine wk_top (y := nI (j2 - 256)) (pk_sub (b := 256) (by omega)) ?_
            refine lv_istore (lv' := [(8, .int (nI (j2 - 256))), (7, .int (nI j2)), (6, .int (nI x.1)), (5, .int (nI (T1.length + 1) - 1)), (3, .int p9), (4, .int q9), (0, .ref h)]) hx hb dX2_learn_112 hl (by decide) rfl (fun ls hl => ?_)
            refine lv_iload_n hx hb dX2_learn_114 rfl (lv_at hl 4 rfl) ?_
            refine lv_aload_n hx hb dX2_learn_115 rfl (lv_at hl 6 rfl) ?_
            refine lv_iload hx hb dX2_learn_116 (lv_at hl 1 rfl) ?_
            have hK0 := hK
            have hK : va_K (dC, dI) vwCl [] s := hK.sub [] rfl
            have hPc := hP.sub (ws' := [(h, .inr (2, [.ref g, .ref ln, .ref hv, .ref hw, .ref ht, .int (nI T.length), .int (nI (sp_top T)), .int k, .int t]))]) [0] rfl
            refine wk_ca (b := ln) (W.runV (As := [.int (nI j2)]) (rest := [.int p9]) ⟨hx, hb, hml, hown, hts⟩ (metX2_setL l dC dI d h g ln hv hw ht j2 (nI T.length) (nI (sp_top T)) k t hj2 hj256) (cwV 1 hts (lw_V q176 q178 qs5 q16 q179) rfl rfl rfl (by decide +kernel) ⟨Nat.le_of_ble_eq_true rfl, Nat.le_of_ble_eq_true rfl⟩) (wk_R.preV (q := (RX2, TX2, 9)) (ci := 2) (q0 := 0) hK hPc rfl rfl) rfl rfl hl.1 rfl (lv_room (Nat.le_of_ble_eq_true rfl)) dX2_learn_118 ⟨Nat.le_of_ble_eq_true rfl, Nat.le_of_ble_eq_true rfl⟩) ?_
            have hK := hK0
            refine va_get (D := (dC, dI)) (ci := 1) (v := .ref b1) (C := RX1) (T := TX1) (N := 3) hx hb hts in_X1 hown hK hP 7 rfl rfl 0 (by decide) (hts _ q37) (fun _ h9 => h9) rfl dX2_learn_121 ?_
            refine lv_iload hx hb dX2_learn_124 (lv_at hl 0 rfl) ?_
            refine wk_iald hx hb hK hP 8 0 rfl rfl (j2 - 256) (rfl) (by omega) (by omega) dX2_learn_126 ?_
            refine wk_top (y := y) (ey) ?_
            refine lv_ior hx hb dX2_learn_127 ?_
            refine lv_iconst (v := 1) hx hb dX2_learn_128 (by decide) ?_
            refine lv_iload hx hb dX2_learn_129 (lv_at hl 2 rfl) ?_
            refine lv_ishl hx hb dX2_learn_131 ?_
            refine lv_iconst (v := (-1)) hx hb dX2_learn_132 (by decide) ?_
            refine lv_ixor hx hb dX2_learn_133 ?_
            refine lv_iand hx hb dX2_learn_134 ?_
            refine wk_top (y := sp_rs p9 y x.1) (rfl) ?_
            refine lv_istore_n (lv' := [(3, .int (sp_rs p9 y x.1)), (8, .int (nI (j2 - 256))), (7, .int (nI j2)), (6, .int (nI x.1)), (5, .int (nI (T1.length + 1) - 1)), (4, .int q9), (0, .ref h)]) hx hb dX2_learn_135 rfl hl (by decide) rfl (fun ls hl => ?_)
            refine lv_iload hx hb dX2_learn_136 (lv_at hl 5 rfl) ?_
            refine lv_aload_n hx hb dX2_learn_138 rfl (lv_at hl 6 rfl) ?_
            refine lv_iload hx hb dX2_learn_139 (lv_at hl 2 rfl) ?_
            have hK : va_K (dC, dI) vwCl [] s := hK.sub [] rfl
            have hPc := hP.sub (ws' := [(h, .inr (2, [.ref g, .ref ln, .ref hv, .ref hw, .ref ht, .int (nI T.length), .int (nI (sp_top T)), .int k, .int t]))]) [0] rfl
            refine wk_ca (b := ln) (W.runV (As := [.int (nI j2)]) (rest := [.int q9]) ⟨hx, hb, hml, hown, hts⟩ (metX2_setL l dC dI d h g ln hv hw ht j2 (nI T.length) (nI (sp_top T)) k t hj2 hj256) (cwV 1 hts (lw_V q176 q178 qs5 q16 q179) rfl rfl rfl (by decide +kernel) ⟨Nat.le_of_ble_eq_true rfl, Nat.le_of_ble_eq_true rfl⟩) (wk_R.preV (q := (RX2, TX2, 9)) (ci := 2) (q0 := 0) hK hPc rfl rfl) rfl rfl hl.1 rfl (lv_room (Nat.le_of_ble_eq_true rfl)) dX2_learn_141 ⟨Nat.le_of_ble_eq_true rfl, Nat.le_of_ble_eq_true rfl⟩) ?_
            have hK := hK0
            refine va_get (D := (dC, dI)) (ci := 1) (v := .ref b2) (C := RX1) (T := TX1) (N := 3) hx hb hts in_X1 hown hK hP 7 rfl rfl 1 (by decide) (hts _ q39) (fun _ h9 => h9) rfl dX2_learn_144 ?_
            refine lv_iload hx hb dX2_learn_147 (lv_at hl 1 rfl) ?_
            refine wk_iald hx hb hK hP 9 0 rfl rfl (j2 - 256) (rfl) (by omega) (by omega) dX2_learn_149 ?_
            refine wk_top (y := r) (er) ?_
            refine lv_ior hx hb dX2_learn_150 ?_
            refine lv_iconst (v := 1) hx hb dX2_learn_151 (by decide) ?_
            refine lv_iload hx hb dX2_learn_152 (lv_at hl 3 rfl) ?_
            refine lv_ishl hx hb dX2_learn_154 ?_
            refine lv_iconst (v := (-1)) hx hb dX2_learn_155 (by decide) ?_
            refine lv_ixor hx hb dX2_learn_156 ?_
            refine lv_iand hx hb dX2_learn_157 ?_
            refine wk_top (y := sp_rs q9 r x.1) (rfl) ?_
            refine lv_istore (lv' := [(4, .int (sp_rs q9 r x.1)), (3, .int (sp_rs p9 y x.1)), (8, .int (nI (j2 - 256))), (7, .int (nI j2)), (6, .int (nI x.1)), (5, .int (nI (T1.length + 1) - 1)), (0, .ref h)]) hx hb dX2_learn_158 hl (by decide) rfl (fun ls hl => ?_)
            refine lv_iinc (v := nI T1.length - 1) (lv' := [(5, .int (nI T1.length - 1)), (4, .int (sp_rs q9 r x.1)), (3, .int (sp_rs p9 y x.1)), (8, .int (nI (j2 - 256))), (7, .int (nI j2)), (6, .int (nI x.1)), (0, .ref h)]) hx hb dX2_learn_160 hl (k := 5) rfl (by rw [nI_pred, Int32.sub_eq_add_neg]; rfl) (by decide) rfl (fun ls hl => ?_)
            refine lv_goto (tgt := 48) hx hb dX2_learn_163 (by decide) ?_
            exact ih T1 (sp_rs p9 y x.1) (sp_rs q9 r x.1) (by have h9 : T1.length + 1 < N9 + 1 := h1; omega) (sp_an_step k_g k_G k_B k_n k_L han hxl hxr hBy) H locs hP hD hS ls (lv_sub hl [0, 2, 1, 6] rfl)
          · have hj256 : j2 < 256 := Nat.lt_of_not_le (fun q => c_3 ((nI_leI (a := 256) (by omega) (by omega)).mpr q))
            obtain ⟨hjN, ey, er⟩ : j2 < gN ∧ gy j2 = y ∧ gq j2 = r := by
              rcases hix2 with h9 | h9
              · exact h9.2
              · omega
            refine lv_iload hx hb dX2_learn_101 (lv_at hl 0 rfl) ?_
            refine lv_goto (tgt := 112) hx hb dX2_learn_103 (by decide) ?_
            refine lv_istore (lv' := [(8, .int (nI j2)), (7, .int (nI j2)), (6, .int (nI x.1)), (5, .int (nI (T1.length + 1) - 1)), (3, .int p9), (4, .int q9), (0, .ref h)]) hx hb dX2_learn_112 hl (by decide) rfl (fun ls hl => ?_)
            refine lv_iload_n hx hb dX2_learn_114 rfl (lv_at hl 4 rfl) ?_
            refine lv_aload_n hx hb dX2_learn_115 rfl (lv_at hl 6 rfl) ?_
            refine lv_iload hx hb dX2_learn_116 (lv_at hl 1 rfl) ?_
            have hK0 := hK
            have hK : va_K (dC, dI) vwCl [] s := hK.sub [] rfl
            have hPc := hP.sub (ws' := [(h, .inr (2, [.ref g, .ref ln, .ref hv, .ref hw, .ref ht, .int (nI T.length), .int (nI (sp_top T)), .int k, .int t]))]) [0] rfl
            refine wk_ca (b := g) (W.runV (As := [.int (nI j2)]) (rest := [.int p9]) ⟨hx, hb, hml, hown, hts⟩ (metX2_setG l dC dI d h g ln hv hw ht j2 (nI T.length) (nI (sp_top T)) k t hj2 hj256) (cwV 1 hts (lw_V q176 q178 qs5 q16 q179) rfl rfl rfl (by decide +kernel) ⟨Nat.le_of_ble_eq_true rfl, Nat.le_of_ble_eq_true rfl⟩) (wk_R.preV (q := (RX2, TX2, 9)) (ci := 2) (q0 := 0) hK hPc rfl rfl) rfl rfl hl.1 rfl (lv_room (Nat.le_of_ble_eq_true rfl)) dX2_learn_118 ⟨Nat.le_of_ble_eq_true rfl, Nat.le_of_ble_eq_true rfl⟩) ?_
            have hK := hK0
            refine va_get (D := (dC, dI)) (ci := 1) (v := .ref a1) (C := RX1) (T := TX1) (N := 3) hx hb hts in_X1 hown hK hP 4 rfl rfl 0 (by decide) (hts _ q37) (fun _ h9 => h9) rfl dX2_learn_121 ?_
            refine lv_iload hx hb dX2_learn_124 (lv_at hl 0 rfl) ?_
            refine wk_iald hx hb hK hP 5 0 rfl rfl j2 (rfl) (by omega) (by omega) dX2_learn_126 ?_
            refine wk_top (y := y) (ey) ?_
            refine lv_ior hx hb dX2_learn_127 ?_
            refine lv_iconst (v := 1) hx hb dX2_learn_128 (by decide) ?_
            refine lv_iload hx hb dX2_learn_129 (lv_at hl 2 rfl) ?_
            refine lv_ishl hx hb dX2_learn_131 ?_
            refine lv_iconst (v := (-1)) hx hb dX2_learn_132 (by decide) ?_
            refine lv_ixor hx hb dX2_learn_133 ?_
            refine lv_iand hx hb dX2_learn_134 ?_
            refine wk_top (y := sp_rs p9 y x.1) (rfl) ?_
            refine lv_istore_n (lv' := [(3, .int (sp_rs p9 y x.1)), (8, .int (nI j2)), (7, .int (nI j2)), (6, .int (nI x.1)), (5, .int (nI (T1.length + 1) - 1)), (4, .int q9), (0, .ref h)]) hx hb dX2_learn_135 rfl hl (by decide) rfl (fun ls hl => ?_)
            refine lv_iload hx hb dX2_learn_136 (lv_at hl 5 rfl) ?_
            refine lv_aload_n hx hb dX2_learn_138 rfl (lv_at hl 6 rfl) ?_
            refine lv_iload hx hb dX2_learn_139 (lv_at hl 2 rfl) ?_
            have hK : va_K (dC, dI) vwCl [] s := hK.sub [] rfl
            have hPc := hP.sub (ws' := [(h, .inr (2, [.ref g, .ref ln, .ref hv, .ref hw, .ref ht, .int (nI T.length), .int (nI (sp_top T)), .int k, .int t]))]) [0] rfl
            refine wk_ca (b := g) (W.runV (As := [.int (nI j2)]) (rest := [.int q9]) ⟨hx, hb, hml, hown, hts⟩ (metX2_setG l dC dI d h g ln hv hw ht j2 (nI T.length) (nI (sp_top T)) k t hj2 hj256) (cwV 1 hts (lw_V q176 q178 qs5 q16 q179) rfl rfl rfl (by decide +kernel) ⟨Nat.le_of_ble_eq_true rfl, Nat.le_of_ble_eq_true rfl⟩) (wk_R.preV (q := (RX2, TX2, 9)) (ci := 2) (q0 := 0) hK hPc rfl rfl) rfl rfl hl.1 rfl (lv_room (Nat.le_of_ble_eq_true rfl)) dX2_learn_141 ⟨Nat.le_of_ble_eq_true rfl, Nat.le_of_ble_eq_true rfl⟩) ?_
            have hK := hK0
            refine va_get (D := (dC, dI)) (ci := 1) (v := .ref a2) (C := RX1) (T := TX1) (N := 3) hx hb hts in_X1 hown hK hP 4 rfl rfl 1 (by decide) (hts _ q39) (fun _ h9 => h9) rfl dX2_learn_144 ?_
            refine lv_iload hx hb dX2_learn_147 (lv_at hl 1 rfl) ?_
            refine wk_iald hx hb hK hP 6 0 rfl rfl j2 (rfl) (by omega) (by omega) dX2_learn_149 ?_
            refine wk_top (y := r) (er) ?_
            refine lv_ior hx hb dX2_learn_150 ?_
            refine lv_iconst (v := 1) hx hb dX2_learn_151 (by decide) ?_
            refine lv_iload hx hb dX2_learn_152 (lv_at hl 3 rfl) ?_
            refine lv_ishl hx hb dX2_learn_154 ?_
            refine lv_iconst (v := (-1)) hx hb dX2_learn_155 (by decide) ?_
            refine lv_ixor hx hb dX2_learn_156 ?_
            refine lv_iand hx hb dX2_learn_157 ?_
            refine wk_top (y := sp_rs q9 r x.1) (rfl) ?_
            refine lv_istore (lv' := [(4, .int (sp_rs q9 r x.1)), (3, .int (sp_rs p9 y x.1)), (8, .int (nI j2)), (7, .int (nI j2)), (6, .int (nI x.1)), (5, .int (nI (T1.length + 1) - 1)), (0, .ref h)]) hx hb dX2_learn_158 hl (by decide) rfl (fun ls hl => ?_)
            refine lv_iinc (v := nI T1.length - 1) (lv' := [(5, .int (nI T1.length - 1)), (4, .int (sp_rs q9 r x.1)), (3, .int (sp_rs p9 y x.1)), (8, .int (nI j2)), (7, .int (nI j2)), (6, .int (nI x.1)), (0, .ref h)]) hx hb dX2_learn_160 hl (k := 5) rfl (by rw [nI_pred, Int32.sub_eq_add_neg]; rfl) (by decide) rfl (fun ls hl => ?_)
            refine lv_goto (tgt := 48) hx hb dX2_learn_163 (by decide) ?_
            exact ih T1 (sp_rs p9 y x.1) (sp_rs q9 r x.1) (by have h9 : T1.length + 1 < N9 + 1 := h1; omega) (sp_an_step k_g k_G k_B k_n k_L han hxl hxr hBy) H locs hP hD hS ls (lv_sub hl [0, 2, 1, 6] rfl)
        · refine lv_goto (tgt := 160) hx hb dX2_learn_81 (by decide) ?_
          refine lv_iinc (v := nI T1.length - 1) (lv' := [(5, .int (nI T1.length - 1)), (6, .int (nI x.1)), (3, .int p9), (4, .int q9), (0, .ref h)]) hx hb dX2_learn_160 hl (k := 1) rfl (by rw [nI_pred, Int32.sub_eq_add_neg]; rfl) (by decide) rfl (fun ls hl => ?_)
          refine lv_goto (tgt := 48) hx hb dX2_learn_163 (by decide) ?_
          exact ih T1 p9 q9 (by have h9 : T1.length + 1 < N9 + 1 := h1; omega) (sp_an_skip han (fun z => absurd ((b_t0 _ (by omega)).mp c_2) (by rw [(le_in p9 q9 x.1).mpr z]; decide))) H locs hP hD hS ls (lv_sub hl [0, 2, 3, 4] rfl)
  have rest : ∀ (H : Heap) (locs : List Loc), va_P (dC, dI) vwCl [(h, .inr (2, [.ref g, .ref ln, .ref hv, .ref hw, .ref ht, .int (nI T.length), .int (nI (sp_top T)), .int k, .int t])), (hv, .inl (d, 12, .inl lv)), (hw, .inl (d, 12, .inl wy)), (ht, .inl (d, 12, .inl tr)), (g, .inr (1, [.ref a1, .ref a2, .int (nI gN)])), (a1, .inl (d, 256, .inl gy)), (a2, .inl (d, 256, .inl gq)), (ln, .inr (1, [.ref b1, .ref b2, .int (nI lN)])), (b1, .inl (d, 6200, .inl ly)), (b2, .inl (d, 6200, .inl lq))] H → va_D A [(h, .inr (2, [.ref g, .ref ln, .ref hv, .ref hw, .ref ht, .int (nI T.length), .int (nI (sp_top T)), .int k, .int t])), (hv, .inl (d, 12, .inl lv)), (hw, .inl (d, 12, .inl wy)), (ht, .inl (d, 12, .inl tr)), (g, .inr (1, [.ref a1, .ref a2, .int (nI gN)])), (a1, .inl (d, 256, .inl gy)), (a2, .inl (d, 256, .inl gq)), (ln, .inr (1, [.ref b1, .ref b2, .int (nI lN)])), (b1, .inl (d, 6200, .inl ly)), (b2, .inl (d, 6200, .inl lq))] → va_S A s.heap H locs → ∀ (ls : Array Slot), lv_has ls 9 [(4, .int q0), (3, .int y0), (0, .ref h)] → W p l e (headSpec (ws_ yX2_learn cX2_learn 9 (none)) ({ frames := 1, cells := 0, slots := 0, locals := 40 })).room s m ([.ref h, .int (nI j)] : List Value).toArray below meth c H locs 0 0 (MQ below (va_Qv (le_post n gN lN gy gq ly lq f9 v9 T lv wy tr t) (wk_B (dC, dI) [(d, .int)] (A) (fun u : le_S => [(h, .inr (2, [.ref g, .ref ln, .ref hv, .ref hw, .ref ht, .int (nI u.2.2.2.1), .int (nI u.2.2.1), .int u.2.2.2.2, .int t])), (hv, .inl (d, 12, .inl lv)), (hw, .inl (d, 12, .inl wy)), (ht, .inl (d, 12, .inl tr)), (g, .inr (1, [.ref a1, .ref a2, .int (nI gN)])), (a1, .inl (d, 256, .inl gy)), (a2, .inl (d, 256, .inl gq)), (ln, .inr (1, [.ref b1, .ref b2, .int (nI (lN + 1))])), (b1, .inl (d, 6200, .inl (upd ly lN u.1))), (b2, .inl (d, 6200, .inl (upd lq lN u.2.1)))])) (A)) ([.ref h, .int (nI j)] : List Value).toArray s 0 0 (A)) (F0 m 40 ls []) := by
    intro   H locs hP hD hS ls hl
    refine lv_aload_n hx hb dX2_learn_40 rfl (lv_at hl 2 rfl) ?_
    refine va_get (D := (dC, dI)) (ci := 2) (v := .int (nI T.length)) (C := RX2) (T := TX2) (N := 9) hx hb hts in_X2 hown hK hP 0 rfl rfl 5 (by decide) (hts _ q65) (fun _ h9 => h9) rfl dX2_learn_41 ?_
    refine lv_iconst (v := 1) hx hb dX2_learn_44 (by decide) ?_
    refine lv_isub hx hb dX2_learn_45 ?_
    refine lv_istore (lv' := [(5, .int ((nI T.length) - 1)), (4, .int q0), (3, .int y0), (0, .ref h)]) hx hb dX2_learn_46 hl (by decide) rfl (fun ls hl => ?_)
    exact look (T.length + 1) T y0 q0 (Nat.lt_succ_self _) (sp_an_init k_g k_G k_B k_L ⟨j, k_j⟩ k_f) H locs hP hD hS ls (lv_sub hl [0, 2, 1, 3] rfl)
  refine lv_iload_n hx hb dX2_learn_0 rfl (lv_at hl 1 rfl) ?_
  refine lv_sipush (v := 256) hx hb dX2_learn_1 (by decide) ?_
  refine lv_icmp_ge (tgt := 11) hx hb dX2_learn_4 (by decide) (fun c_1 => ?_) (fun c_1 => ?_)
  · have hj256 : ¬ j < 256 := Nat.not_lt.mpr ((nI_leI (a := 256) (by omega) (by omega)).mp c_1)
    obtain ⟨hjN, ey, er⟩ : j - 256 < lN ∧ ly (j - 256) = y0 ∧ lq (j - 256) = q0 := by
      rcases k_j with h9 | h9
      · omega
      · exact h9.2
    refine lv_iload_n hx hb dX2_learn_11 rfl (lv_at hl 1 rfl) ?_
    refine lv_sipush (v := 256) hx hb dX2_learn_12 (by decide) ?_
    refine lv_isub hx hb dX2_learn_15 ?_
    refine wk_top (y := nI (j - 256)) (pk_sub (b := 256) (by omega)) ?_
    refine lv_istore_n (lv' := [(2, .int (nI (j - 256))), (0, .ref h), (1, .int (nI j))]) hx hb dX2_learn_16 rfl hl (by decide) rfl (fun ls hl => ?_)
    refine lv_aload_n hx hb dX2_learn_17 rfl (lv_at hl 1 rfl) ?_
    refine lv_iload_n hx hb dX2_learn_18 rfl (lv_at hl 2 rfl) ?_
    have hK0 := hK
    have hK : va_K (dC, dI) vwCl [] s := hK.sub [] rfl
    have hPc := hP.sub (ws' := [(h, .inr (2, [.ref g, .ref ln, .ref hv, .ref hw, .ref ht, .int (nI T.length), .int (nI (sp_top T)), .int k, .int t]))]) [0] rfl
    refine wk_ca (b := ln) (W.runV (As := [.int (nI j)]) (rest := []) ⟨hx, hb, hml, hown, hts⟩ (metX2_setL l dC dI d h g ln hv hw ht j (nI T.length) (nI (sp_top T)) k t k_j9 hj256) (cwV 1 hts (lw_V q176 q178 qs5 q16 q179) rfl rfl rfl (by decide +kernel) ⟨Nat.le_of_ble_eq_true rfl, Nat.le_of_ble_eq_true rfl⟩) (wk_R.preV (q := (RX2, TX2, 9)) (ci := 2) (q0 := 0) hK hPc rfl rfl) rfl rfl hl.1 rfl (lv_room (Nat.le_of_ble_eq_true rfl)) dX2_learn_19 ⟨Nat.le_of_ble_eq_true rfl, Nat.le_of_ble_eq_true rfl⟩) ?_
    have hK := hK0
    refine va_get (D := (dC, dI)) (ci := 1) (v := .ref b1) (C := RX1) (T := TX1) (N := 3) hx hb hts in_X1 hown hK hP 7 rfl rfl 0 (by decide) (hts _ q37) (fun _ h9 => h9) rfl dX2_learn_22 ?_
    refine lv_iload_n hx hb dX2_learn_25 rfl (lv_at hl 0 rfl) ?_
    refine wk_iald hx hb hK hP 8 0 rfl rfl (j - 256) (rfl) (by omega) (by omega) dX2_learn_26 ?_
    refine wk_top (y := y0) (ey) ?_
    refine lv_istore_n (lv' := [(3, .int y0), (2, .int (nI (j - 256))), (0, .ref h), (1, .int (nI j))]) hx hb dX2_learn_27 rfl hl (by decide) rfl (fun ls hl => ?_)
    refine lv_aload_n hx hb dX2_learn_28 rfl (lv_at hl 2 rfl) ?_
    refine lv_iload_n hx hb dX2_learn_29 rfl (lv_at hl 3 rfl) ?_
    have hK : va_K (dC, dI) vwCl [] s := hK.sub [] rfl
    have hPc := hP.sub (ws' := [(h, .inr (2, [.ref g, .ref ln, .ref hv, .ref hw, .ref ht, .int (nI T.length), .int (nI (sp_top T)), .int k, .int t]))]) [0] rfl
    refine wk_ca (b := ln) (W.runV (As := [.int (nI j)]) (rest := []) ⟨hx, hb, hml, hown, hts⟩ (metX2_setL l dC dI d h g ln hv hw ht j (nI T.length) (nI (sp_top T)) k t k_j9 hj256) (cwV 1 hts (lw_V q176 q178 qs5 q16 q179) rfl rfl rfl (by decide +kernel) ⟨Nat.le_of_ble_eq_true rfl, Nat.le_of_ble_eq_true rfl⟩) (wk_R.preV (q := (RX2, TX2, 9)) (ci := 2) (q0 := 0) hK hPc rfl rfl) rfl rfl hl.1 rfl (lv_room (Nat.le_of_ble_eq_true rfl)) dX2_learn_30 ⟨Nat.le_of_ble_eq_true rfl, Nat.le_of_ble_eq_true rfl⟩) ?_
    have hK := hK0
    refine va_get (D := (dC, dI)) (ci := 1) (v := .ref b2) (C := RX1) (T := TX1) (N := 3) hx hb hts in_X1 hown hK hP 7 rfl rfl 1 (by decide) (hts _ q39) (fun _ h9 => h9) rfl dX2_learn_33 ?_
    refine lv_iload_n hx hb dX2_learn_36 rfl (lv_at hl 1 rfl) ?_
    refine wk_iald hx hb hK hP 9 0 rfl rfl (j - 256) (rfl) (by omega) (by omega) dX2_learn_37 ?_
    refine wk_top (y := q0) (er) ?_
    refine lv_istore (lv' := [(4, .int q0), (3, .int y0), (2, .int (nI (j - 256))), (0, .ref h), (1, .int (nI j))]) hx hb dX2_learn_38 hl (by decide) rfl (fun ls hl => ?_)
    exact rest _ _ hP hD hS ls (lv_sub hl [0, 1, 3] rfl)
  · have hj256 : j < 256 := Nat.lt_of_not_le (fun q => c_1 ((nI_leI (a := 256) (by omega) (by omega)).mpr q))
    obtain ⟨hjN, ey, er⟩ : j < gN ∧ gy j = y0 ∧ gq j = q0 := by
      rcases k_j with h9 | h9
      · exact h9.2
      · omega
    refine lv_iload_n hx hb dX2_learn_7 rfl (lv_at hl 1 rfl) ?_
    refine lv_goto (tgt := 16) hx hb dX2_learn_8 (by decide) ?_
    refine lv_istore_n (lv' := [(2, .int (nI j)), (0, .ref h), (1, .int (nI j))]) hx hb dX2_learn_16 rfl hl (by decide) rfl (fun ls hl => ?_)
    refine lv_aload_n hx hb dX2_learn_17 rfl (lv_at hl 1 rfl) ?_
    refine lv_iload_n hx hb dX2_learn_18 rfl (lv_at hl 2 rfl) ?_
    have hK0 := hK
    have hK : va_K (dC, dI) vwCl [] s := hK.sub [] rfl
    have hPc := hP.sub (ws' := [(h, .inr (2, [.ref g, .ref ln, .ref hv, .ref hw, .ref ht, .int (nI T.length), .int (nI (sp_top T)), .int k, .int t]))]) [0] rfl
    refine wk_ca (b := g) (W.runV (As := [.int (nI j)]) (rest := []) ⟨hx, hb, hml, hown, hts⟩ (metX2_setG l dC dI d h g ln hv hw ht j (nI T.length) (nI (sp_top T)) k t k_j9 hj256) (cwV 1 hts (lw_V q176 q178 qs5 q16 q179) rfl rfl rfl (by decide +kernel) ⟨Nat.le_of_ble_eq_true rfl, Nat.le_of_ble_eq_true rfl⟩) (wk_R.preV (q := (RX2, TX2, 9)) (ci := 2) (q0 := 0) hK hPc rfl rfl) rfl rfl hl.1 rfl (lv_room (Nat.le_of_ble_eq_true rfl)) dX2_learn_19 ⟨Nat.le_of_ble_eq_true rfl, Nat.le_of_ble_eq_true rfl⟩) ?_
    have hK := hK0
    refine va_get (D := (dC, dI)) (ci := 1) (v := .ref a1) (C := RX1) (T := TX1) (N := 3) hx hb hts in_X1 hown hK hP 4 rfl rfl 0 (by decide) (hts _ q37) (fun _ h9 => h9) rfl dX2_learn_22 ?_
    refine lv_iload_n hx hb dX2_learn_25 rfl (lv_at hl 0 rfl) ?_
    refine wk_iald hx hb hK hP 5 0 rfl rfl j (rfl) (by omega) (by omega) dX2_learn_26 ?_
    refine wk_top (y := y0) (ey) ?_
    refine lv_istore_n (lv' := [(3, .int y0), (2, .int (nI j)), (0, .ref h), (1, .int (nI j))]) hx hb dX2_learn_27 rfl hl (by decide) rfl (fun ls hl => ?_)
    refine lv_aload_n hx hb dX2_learn_28 rfl (lv_at hl 2 rfl) ?_
    refine lv_iload_n hx hb dX2_learn_29 rfl (lv_at hl 3 rfl) ?_
    have hK : va_K (dC, dI) vwCl [] s := hK.sub [] rfl
    have hPc := hP.sub (ws' := [(h, .inr (2, [.ref g, .ref ln, .ref hv, .ref hw, .ref ht, .int (nI T.length), .int (nI (sp_top T)), .int k, .int t]))]) [0] rfl
    refine wk_ca (b := g) (W.runV (As := [.int (nI j)]) (rest := []) ⟨hx, hb, hml, hown, hts⟩ (metX2_setG l dC dI d h g ln hv hw ht j (nI T.length) (nI (sp_top T)) k t k_j9 hj256) (cwV 1 hts (lw_V q176 q178 qs5 q16 q179) rfl rfl rfl (by decide +kernel) ⟨Nat.le_of_ble_eq_true rfl, Nat.le_of_ble_eq_true rfl⟩) (wk_R.preV (q := (RX2, TX2, 9)) (ci := 2) (q0 := 0) hK hPc rfl rfl) rfl rfl hl.1 rfl (lv_room (Nat.le_of_ble_eq_true rfl)) dX2_learn_30 ⟨Nat.le_of_ble_eq_true rfl, Nat.le_of_ble_eq_true rfl⟩) ?_
    have hK := hK0
    refine va_get (D := (dC, dI)) (ci := 1) (v := .ref a2) (C := RX1) (T := TX1) (N := 3) hx hb hts in_X1 hown hK hP 4 rfl rfl 1 (by decide) (hts _ q39) (fun _ h9 => h9) rfl dX2_learn_33 ?_
    refine lv_iload_n hx hb dX2_learn_36 rfl (lv_at hl 1 rfl) ?_
    refine wk_iald hx hb hK hP 6 0 rfl rfl j (rfl) (by omega) (by omega) dX2_learn_37 ?_
    refine wk_top (y := q0) (er) ?_
    refine lv_istore (lv' := [(4, .int q0), (3, .int y0), (2, .int (nI j)), (0, .ref h), (1, .int (nI j))]) hx hb dX2_learn_38 hl (by decide) rfl (fun ls hl => ?_)
    exact rest _ _ hP hD hS ls (lv_sub hl [0, 1, 3] rfl)
end
section
/-! Search: run -/
abbrev rn_S : Type := (Nat → Int32) × (Nat → Int32) × (Nat → Int32) × Int32 × Int32 × Int32 × Int32 × Nat × (Nat → Int32) × (Nat → Int32)
/-- what a run leaves and answers: the learnt clauses follow from the given ones; 1: the least row is in truth; 0: there is none -/
def rn_ans (n gN : Nat) (gy gq : Nat → Int32) (fx vs r t : Int32) : Prop :=
  (r = 1 ∧ sp_G gN gy gq (bt t) ∧ (∀ j, j < n → bt fx j = true → bt t j = bt vs j) ∧ ∀ a, sp_G gN gy gq a → (∀ j, j < n → bt fx j = true → a j = bt vs j) → ∀ z, z < n → (∀ j, z < j → j < n → a j = bt t j) → bt t z = true → a z = true) ∨
  (r = 0 ∧ ∀ a, sp_G gN gy gq a → ¬ ∀ j, j < n → bt fx j = true → a j = bt vs j)
def rn_post (n gN : Nat) (gy gq : Nat → Int32) (fx vs : Int32) (r : Int32) (u : rn_S) : Prop :=
  u.2.2.2.2.2.2.2.1 ≤ 6200 ∧ sp_lok n gN gy gq u.2.2.2.2.2.2.2.1 u.2.2.2.2.2.2.2.2.1 u.2.2.2.2.2.2.2.2.2 ∧ rn_ans n gN gy gq fx vs r u.2.2.2.2.2.2.1
/-- a clause is left with one letter, and none fails -/
def rn_pend (B : sp_DB) (T : List sp_E) : Prop := (∀ y q, B y q → ¬ sp_fal T y q) ∧ ∃ p q x, B p q ∧ ¬ sp_sat T p q ∧ ∀ i, sp_op T p q i ↔ i = x
def rn_phi (B : sp_DB) (T : List sp_E) (ph : Nat) : Prop := ph ≤ 4096 ∧ (ph ≤ sp_V T ∨ (ph ≤ sp_V T + 2 ^ (11 - T.length) ∧ rn_pend B T))
section RN
variable {B B' : sp_DB} {n : Nat} {fx vs : Nat → Bool} {T E : List sp_E} {p q : Int32}
theorem rn_follow {ph : Nat} (h : rn_phi B T ph) (hE : ∀ x, x ∈ E → ¬ x.2.2.2 = none) (hr : (∃ y q, B y q ∧ sp_fal (E ++ T) y q) ∨ sp_full B (E ++ T)) : ph ≤ sp_V (E ++ T) := by
  rcases h.2 with h1 | ⟨h1, h2, p, q, x, hB, hns, hop⟩
  · exact Nat.le_trans h1 (sp_V_mono T E)
  · by_cases e : E = []
    · exfalso
      subst e
      rcases hr with ⟨y, q, h3, h4⟩ | h3
      · exact h2 y q h3 h4
      · rcases h3 p q hB with h4 | ⟨i, j, hij, hi, hj⟩
        · exact hns h4
        · exact hij (((hop i).mp hi).trans ((hop j).mp hj).symm)
    · exact Nat.le_trans h1 (sp_V_prop e hE)
theorem rn_learnt {T1 : List sp_E} {d9 : sp_E} (hg : sp_good B n fx vs T) (hn : n ≤ 12) (hT : T = T1 ++ d9 :: E) (hd : d9.2.2.2 = none) (h2 : ∀ y r, B' y r → B y r ∨ (y = p ∧ r = q)) (hB : B' p q) (hns : ¬ sp_sat E p q) (hop : ∃ x, ∀ i, sp_op E p q i ↔ i = x) : rn_phi B' E (sp_V T + 1) := by
  have hl := sp_len hg
  have hv := sp_V_max (T := T) (by omega)
  refine ⟨by omega, Or.inr ⟨?_, ?_⟩⟩
  · have h9 : sp_V T < sp_V E + 2 ^ (11 - E.length) := by
      rw [hT]
      exact sp_V_dec hd (by rw [← hT]; omega)
    omega
  · obtain ⟨x, hx⟩ := hop
    refine ⟨fun y r hy hf => ?_, p, q, x, hB, hns, hx⟩
    rcases h2 y r hy with h3 | ⟨rfl, rfl⟩
    · have hok : sp_ok B n fx vs E d9 := sp_good_at (by rw [← hT]; exact hg)
      rcases hok.2.2 with ⟨-, -, hF, -⟩ | ⟨_, _, e, -⟩
      · rcases hF y r h3 with h4 | ⟨i, j, -, hi, -⟩
        · exact hf.1 h4
        · exact hi.2 (hf.2 i hi.1)
      · rw [hd] at e; cases e
    · have hxo := (hx x).mpr rfl
      exact hxo.2 (hf.2 x hxo.1)
/-- a letter is tried -/
theorem rn_try {Ix : Nat → Int32 → Int32 → Prop} {lv wy tr : Nat → Int32} {k t : Int32} {x : Nat} {b : Bool} (hg : sp_good B n fx vs T) (hF : sp_full B T) (hr : sp_rep Ix T lv wy tr k t) (hx : x < n) (hk : bt k x = false) (hd : sp_dec n fx vs T x b) : ¬ sp_a T x ∧ sp_good B n fx vs ((x, b, sp_top T + 1, none) :: T) := by
  have hna : ¬ sp_a T x := fun h => by rw [(hr.2.2 x).mpr h] at hk; cases hk
  exact ⟨hna, hg, hx, hna, Or.inl ⟨rfl, rfl, hF, hd⟩⟩
end RN
set_option maxHeartbeats 4000000 in
set_option maxRecDepth 100000 in
theorem metX2_run (l : Launch) (dC : Nat → ClassId) (dI : Nat → Nat → Nat) (d : ClassId) (sz : Nat) (h g ln hv hw ht a1 a2 b1 b2 : Nat) (n gN lN : Nat) (gy gq ly lq : Nat → Int32) (fx vs td lvs k t : Int32) (lv wy tr : Nat → Int32) (k_n : n ≤ 12) (k_go : sp_gok n gN gy gq) (k_lo : sp_lok n gN gy gq lN ly lq) (k_lN : lN ≤ 6200) : Met l yX2_run (ws_ yX2_run cX2_run 6 (some .boolean)) ({ frames := 3, cells := 0, slots := 0, locals := 90 }) (wk_M (dC, dI) [(d, .int)] [(h, .inr (2, [.ref g, .ref ln, .ref hv, .ref hw, .ref ht, .int td, .int lvs, .int k, .int t])), (hv, .inl (d, 12, .inl lv)), (hw, .inl (d, 12, .inl wy)), (ht, .inl (d, 12, .inl tr)), (g, .inr (1, [.ref a1, .ref a2, .int (nI gN)])), (a1, .inl (d, 256, .inl gy)), (a2, .inl (d, 256, .inl gq)), (ln, .inr (1, [.ref b1, .ref b2, .int (nI lN)])), (b1, .inl (d, 6200, .inl ly)), (b2, .inl (d, 6200, .inl lq))] [.ref h, .int (nI n), .int fx, .int vs] sz) (va_Qi (rn_post n gN gy gq fx vs) (wk_B (dC, dI) [(d, .int)] (va_A [(h, .inr (2, [.ref g, .ref ln, .ref hv, .ref hw, .ref ht, .int td, .int lvs, .int k, .int t])), (hv, .inl (d, 12, .inl lv)), (hw, .inl (d, 12, .inl wy)), (ht, .inl (d, 12, .inl tr)), (g, .inr (1, [.ref a1, .ref a2, .int (nI gN)])), (a1, .inl (d, 256, .inl gy)), (a2, .inl (d, 256, .inl gq)), (ln, .inr (1, [.ref b1, .ref b2, .int (nI lN)])), (b1, .inl (d, 6200, .inl ly)), (b2, .inl (d, 6200, .inl lq))] sz) (fun u : rn_S => [(h, .inr (2, [.ref g, .ref ln, .ref hv, .ref hw, .ref ht, .int u.2.2.2.1, .int u.2.2.2.2.1, .int u.2.2.2.2.2.1, .int u.2.2.2.2.2.2.1])), (hv, .inl (d, 12, .inl u.1)), (hw, .inl (d, 12, .inl u.2.1)), (ht, .inl (d, 12, .inl u.2.2.1)), (g, .inr (1, [.ref a1, .ref a2, .int (nI gN)])), (a1, .inl (d, 256, .inl gy)), (a2, .inl (d, 256, .inl gq)), (ln, .inr (1, [.ref b1, .ref b2, .int (nI u.2.2.2.2.2.2.2.1)])), (b1, .inl (d, 6200, .inl u.2.2.2.2.2.2.2.2.1)), (b2, .inl (d, 6200, .inl u.2.2.2.2.2.2.2.2.2))])) (va_A [(h, .inr (2, [.ref g, .ref ln, .ref hv, .ref hw, .ref ht, .int td, .int lvs, .int k, .int t])), (hv, .inl (d, 12, .inl lv)), (hw, .inl (d, 12, .inl wy)), (ht, .inl (d, 12, .inl tr)), (g, .inr (1, [.ref a1, .ref a2, .int (nI gN)])), (a1, .inl (d, 256, .inl gy)), (a2, .inl (d, 256, .inl gq)), (ln, .inr (1, [.ref b1, .ref b2, .int (nI lN)])), (b1, .inl (d, 6200, .inl ly)), (b2, .inl (d, 6200, .inl lq))] sz)) 0 0 (va_A [(h, .inr (2, [.ref g, .ref ln, .ref hv, .ref hw, .ref ht, .int td, .int lvs, .int k, .int t])), (hv, .inl (d, 12, .inl lv)), (hw, .inl (d, 12, .inl wy)), (ht, .inl (d, 12, .inl tr)), (g, .inr (1, [.ref a1, .ref a2, .int (nI gN)])), (a1, .inl (d, 256, .inl gy)), (a2, .inl (d, 256, .inl gq)), (ln, .inr (1, [.ref b1, .ref b2, .int (nI lN)])), (b1, .inl (d, 6200, .inl ly)), (b2, .inl (d, 6200, .inl lq))] sz) := by
  refine Met.ofW (cc := cX2_run) (maxL := 6) (ret := some .boolean) (by decide) rfl ?_
  intro p e s m args below meth c s₁ Bd hml hv
  obtain ⟨rfl, hsz, hP, hK, hD0⟩ := hv
  have hx := Bd.exec
  have hb := Bd.bytes
  have hr := Bd.returns
  have hts := atoms_spec (ws := ws_ yX2_run cX2_run 6 (some .boolean)) Bd.pre
  have hts : ∀ w ∈ lw_all, w.before _ s = true := fun w h => hts w (List.mem_cons_of_mem _ h)
  have hown : s.vm.findClass RX2 = some m.cls := findClass_of_methodNamed Bd.named
  have hlocks := Bd.notSynchronized
  have hK : va_K (dC, dI) vwCl [(d, .int)] s := hK
  subst hsz
  have hD := hD0.self (sz := s.heap.size)
  generalize hAe : va_A [(h, .inr (2, [.ref g, .ref ln, .ref hv, .ref hw, .ref ht, .int td, .int lvs, .int k, .int t])), (hv, .inl (d, 12, .inl lv)), (hw, .inl (d, 12, .inl wy)), (ht, .inl (d, 12, .inl tr)), (g, .inr (1, [.ref a1, .ref a2, .int (nI gN)])), (a1, .inl (d, 256, .inl gy)), (a2, .inl (d, 256, .inl gq)), (ln, .inr (1, [.ref b1, .ref b2, .int (nI lN)])), (b1, .inl (d, 6200, .inl ly)), (b2, .inl (d, 6200, .inl lq))] s.heap.size = A at hD ⊢
  have hA : ∀ q : Nat, s.heap.size ≤ q → A q := fun q h => by rw [← hAe]; exact Or.inr h
  have hS : va_S A s.heap s.heap [] := va_S.rf
  have hP : va_P (dC, dI) vwCl [(h, .inr (2, [.ref g, .ref ln, .ref hv, .ref hw, .ref ht, .int td, .int lvs, .int k, .int t])), (hv, .inl (d, 12, .inl lv)), (hw, .inl (d, 12, .inl wy)), (ht, .inl (d, 12, .inl tr)), (g, .inr (1, [.ref a1, .ref a2, .int (nI gN)])), (a1, .inl (d, 256, .inl gy)), (a2, .inl (d, 256, .inl gq)), (ln, .inr (1, [.ref b1, .ref b2, .int (nI lN)])), (b1, .inl (d, 6200, .inl ly)), (b2, .inl (d, 6200, .inl lq))] s.heap := hP
  have hl := lv_entry ([.ref h, .int (nI n), .int fx, .int vs]) (n := 6) (Nat.le_of_ble_eq_true rfl)
  rw [lg_entry_eq]
  generalize (lg_sl ([.ref h, .int (nI n), .int fx, .int vs]) ++ List.replicate (6 - (lg_sl ([.ref h, .int (nI n), .int fx, .int vs])).length) Slot.unset).toArray = ls at hl ⊢
  have hl : lv_has ls 6 [(0, .ref h), (1, .int (nI n)), (2, .int fx), (3, .int vs)] := hl
  have k_gN := k_go.1
  have loop : ∀ (N9 : Nat) (ph lN : Nat) (T : List sp_E) (k t : Int32) (ly lq lv wy tr : Nat → Int32), ((4096 - ph) * 13 + (12 - T.length) < N9) → (rn_phi (sp_db gN gy gq lN ly lq) T ph) → (lN ≤ 2000 + ph) → (sp_lok n gN gy gq lN ly lq) → (sp_good (sp_db gN gy gq lN ly lq) n (fun i => bt fx i) (fun i => bt vs i) T) → (sp_rep (sp_ix gN gy gq lN ly lq) T lv wy tr k t) → ∀ (H : Heap) (locs : List Loc), va_P (dC, dI) vwCl [(h, .inr (2, [.ref g, .ref ln, .ref hv, .ref hw, .ref ht, .int (nI T.length), .int (nI (sp_top T)), .int k, .int t])), (hv, .inl (d, 12, .inl lv)), (hw, .inl (d, 12, .inl wy)), (ht, .inl (d, 12, .inl tr)), (g, .inr (1, [.ref a1, .ref a2, .int (nI gN)])), (a1, .inl (d, 256, .inl gy)), (a2, .inl (d, 256, .inl gq)), (ln, .inr (1, [.ref b1, .ref b2, .int (nI lN)])), (b1, .inl (d, 6200, .inl ly)), (b2, .inl (d, 6200, .inl lq))] H → va_D A [(h, .inr (2, [.ref g, .ref ln, .ref hv, .ref hw, .ref ht, .int (nI T.length), .int (nI (sp_top T)), .int k, .int t])), (hv, .inl (d, 12, .inl lv)), (hw, .inl (d, 12, .inl wy)), (ht, .inl (d, 12, .inl tr)), (g, .inr (1, [.ref a1, .ref a2, .int (nI gN)])), (a1, .inl (d, 256, .inl gy)), (a2, .inl (d, 256, .inl gq)), (ln, .inr (1, [.ref b1, .ref b2, .int (nI lN)])), (b1, .inl (d, 6200, .inl ly)), (b2, .inl (d, 6200, .inl lq))] → va_S A s.heap H locs → ∀ (ls : Array Slot), lv_has ls 6 [(0, .ref h), (1, .int (nI n)), (2, .int fx), (3, .int vs)] → W p l e (headSpec (ws_ yX2_run cX2_run 6 (some .boolean)) ({ frames := 3, cells := 0, slots := 0, locals := 90 })).room s m ([.ref h, .int (nI n), .int fx, .int vs] : List Value).toArray below meth c H locs 0 0 (MQ below (va_Qi (rn_post n gN gy gq fx vs) (wk_B (dC, dI) [(d, .int)] (A) (fun u : rn_S => [(h, .inr (2, [.ref g, .ref ln, .ref hv, .ref hw, .ref ht, .int u.2.2.2.1, .int u.2.2.2.2.1, .int u.2.2.2.2.2.1, .int u.2.2.2.2.2.2.1])), (hv, .inl (d, 12, .inl u.1)), (hw, .inl (d, 12, .inl u.2.1)), (ht, .inl (d, 12, .inl u.2.2.1)), (g, .inr (1, [.ref a1, .ref a2, .int (nI gN)])), (a1, .inl (d, 256, .inl gy)), (a2, .inl (d, 256, .inl gq)), (ln, .inr (1, [.ref b1, .ref b2, .int (nI u.2.2.2.2.2.2.2.1)])), (b1, .inl (d, 6200, .inl u.2.2.2.2.2.2.2.2.1)), (b2, .inl (d, 6200, .inl u.2.2.2.2.2.2.2.2.2))])) (A)) ([.ref h, .int (nI n), .int fx, .int vs] : List Value).toArray s 0 0 (A)) (F0 m 41 ls []) := by
    intro N9
    induction N9 with
    | zero =>
      intro ph lN T k t ly lq lv wy tr h9
      exact absurd h9 (Nat.not_lt_zero _)
    | succ N9 ih =>
      intro ph lN T k t ly lq lv wy tr h1 h2 h3 h4 h5 h6 H locs hP hD hS ls hl
      have hph := h2.1
      have hlen0 := sp_len h5
      refine lv_aload_n hx hb dX2_run_41 rfl (lv_at hl 0 rfl) ?_
      have hPc := hP.sub (ws' := [(h, .inr (2, [.ref g, .ref ln, .ref hv, .ref hw, .ref ht, .int (nI T.length), .int (nI (sp_top T)), .int k, .int t])), (hv, .inl (d, 12, .inl lv)), (hw, .inl (d, 12, .inl wy)), (ht, .inl (d, 12, .inl tr)), (g, .inr (1, [.ref a1, .ref a2, .int (nI gN)])), (a1, .inl (d, 256, .inl gy)), (a2, .inl (d, 256, .inl gq)), (ln, .inr (1, [.ref b1, .ref b2, .int (nI lN)])), (b1, .inl (d, 6200, .inl ly)), (b2, .inl (d, 6200, .inl lq))]) [0, 1, 2, 3, 4, 5, 6, 7, 8, 9] rfl
      have hDc := hD.sub (ws' := [(h, .inr (2, [.ref g, .ref ln, .ref hv, .ref hw, .ref ht, .int (nI T.length), .int (nI (sp_top T)), .int k, .int t])), (hv, .inl (d, 12, .inl lv)), (hw, .inl (d, 12, .inl wy)), (ht, .inl (d, 12, .inl tr)), (g, .inr (1, [.ref a1, .ref a2, .int (nI gN)])), (a1, .inl (d, 256, .inl gy)), (a2, .inl (d, 256, .inl gq)), (ln, .inr (1, [.ref b1, .ref b2, .int (nI lN)])), (b1, .inl (d, 6200, .inl ly)), (b2, .inl (d, 6200, .inl lq))]) [0, 1, 2, 3, 4, 5, 6, 7, 8, 9] (by decide) rfl
      refine wk_ci (wr := []) (wn := fun (u : ps_S) => [(h, .inr (2, [.ref g, .ref ln, .ref hv, .ref hw, .ref ht, .int (nI u.2.2.2.1), .int (nI (sp_top T)), .int u.2.2.2.2.1, .int u.2.2.2.2.2])), (hv, .inl (d, 12, .inl u.1)), (hw, .inl (d, 12, .inl u.2.1)), (ht, .inl (d, 12, .inl u.2.2.1)), (g, .inr (1, [.ref a1, .ref a2, .int (nI gN)])), (a1, .inl (d, 256, .inl gy)), (a2, .inl (d, 256, .inl gq)), (ln, .inr (1, [.ref b1, .ref b2, .int (nI lN)])), (b1, .inl (d, 6200, .inl ly)), (b2, .inl (d, 6200, .inl lq))]) (va_runV (As := []) (rest := []) ⟨hx, hb, hml, hown, hts⟩ (metX2_follow l dC dI d H.size h g ln hv hw ht a1 a2 b1 b2 n gN lN gy gq ly lq (fun i => bt fx i) (fun i => bt vs i) T (nI (sp_top T)) k t lv wy tr k_n k_go h4 (by omega) h5 h6 rfl) (cwV 0 hts (lw_V q148 q150 qs1 q16 q151) rfl rfl rfl (by decide +kernel) ⟨Nat.le_of_ble_eq_true rfl, Nat.le_of_ble_eq_true rfl⟩) (wk_M.preV (q := (RX2, TX2, 9)) (ci := 2) (q0 := 0) hK hPc hDc rfl rfl) rfl rfl hl.1 rfl (lv_room (Nat.le_of_ble_eq_true rfl)) dX2_run_42 ⟨Nat.le_of_ble_eq_true rfl, Nat.le_of_ble_eq_true rfl⟩) hP hD hS hA [0, 1, 2, 3, 4, 5, 6, 7, 8, 9] [] [0, 1, 2, 3, 4, 5, 6, 7, 8, 9] rfl rfl (by decide) (by decide) (by decide) (fun _ => rfl) (fun r1 u H locs hp hK hP hD hS => ?_)
      have hP : va_P (dC, dI) vwCl [(h, .inr (2, [.ref g, .ref ln, .ref hv, .ref hw, .ref ht, .int (nI u.2.2.2.1), .int (nI (sp_top T)), .int u.2.2.2.2.1, .int u.2.2.2.2.2])), (hv, .inl (d, 12, .inl u.1)), (hw, .inl (d, 12, .inl u.2.1)), (ht, .inl (d, 12, .inl u.2.2.1)), (g, .inr (1, [.ref a1, .ref a2, .int (nI gN)])), (a1, .inl (d, 256, .inl gy)), (a2, .inl (d, 256, .inl gq)), (ln, .inr (1, [.ref b1, .ref b2, .int (nI lN)])), (b1, .inl (d, 6200, .inl ly)), (b2, .inl (d, 6200, .inl lq))] H := hP
      have hD : va_D A [(h, .inr (2, [.ref g, .ref ln, .ref hv, .ref hw, .ref ht, .int (nI u.2.2.2.1), .int (nI (sp_top T)), .int u.2.2.2.2.1, .int u.2.2.2.2.2])), (hv, .inl (d, 12, .inl u.1)), (hw, .inl (d, 12, .inl u.2.1)), (ht, .inl (d, 12, .inl u.2.2.1)), (g, .inr (1, [.ref a1, .ref a2, .int (nI gN)])), (a1, .inl (d, 256, .inl gy)), (a2, .inl (d, 256, .inl gq)), (ln, .inr (1, [.ref b1, .ref b2, .int (nI lN)])), (b1, .inl (d, 6200, .inl ly)), (b2, .inl (d, 6200, .inl lq))] := hD
      obtain ⟨lv, wy, tr, td9, k, t⟩ := u
      obtain ⟨E, ⟨hg, hrp, hl9, htop, hE⟩, hc1⟩ := hp
      obtain rfl : td9 = (E ++ T).length := hl9
      have hrp : sp_rep (sp_ix gN gy gq lN ly lq) (E ++ T) lv wy tr k t := hrp
      have hlen := sp_len hg
      have htl := sp_top_len hg
      have hphi : ph ≤ sp_V (E ++ T) := rn_follow h2 hE (by
        rcases hc1 with ⟨j, y, q, -, h7, h8⟩ | h7
        · exact Or.inl ⟨y, q, ⟨j, h7⟩, h8⟩
        · exact Or.inr h7.2)
      have hvm := sp_V_max (T := E ++ T) (by omega)
      have hlE : (E ++ T).length = E.length + T.length := List.length_append
      rw [← htop] at hP hD
      have hP : va_P (dC, dI) vwCl [(h, .inr (2, [.ref g, .ref ln, .ref hv, .ref hw, .ref ht, .int (nI (E ++ T).length), .int (nI (sp_top (E ++ T))), .int k, .int t])), (hv, .inl (d, 12, .inl lv)), (hw, .inl (d, 12, .inl wy)), (ht, .inl (d, 12, .inl tr)), (g, .inr (1, [.ref a1, .ref a2, .int (nI gN)])), (a1, .inl (d, 256, .inl gy)), (a2, .inl (d, 256, .inl gq)), (ln, .inr (1, [.ref b1, .ref b2, .int (nI lN)])), (b1, .inl (d, 6200, .inl ly)), (b2, .inl (d, 6200, .inl lq))] H := hP
      have hD : va_D A [(h, .inr (2, [.ref g, .ref ln, .ref hv, .ref hw, .ref ht, .int (nI (E ++ T).length), .int (nI (sp_top (E ++ T))), .int k, .int t])), (hv, .inl (d, 12, .inl lv)), (hw, .inl (d, 12, .inl wy)), (ht, .inl (d, 12, .inl tr)), (g, .inr (1, [.ref a1, .ref a2, .int (nI gN)])), (a1, .inl (d, 256, .inl gy)), (a2, .inl (d, 256, .inl gq)), (ln, .inr (1, [.ref b1, .ref b2, .int (nI lN)])), (b1, .inl (d, 6200, .inl ly)), (b2, .inl (d, 6200, .inl lq))] := hD
      refine lv_istore (lv' := [(4, .int r1), (0, .ref h), (1, .int (nI n)), (2, .int fx), (3, .int vs)]) hx hb dX2_run_45 hl (by decide) rfl (fun ls hl => ?_)
      refine lv_iload hx hb dX2_run_47 (lv_at hl 0 rfl) ?_
      refine lv_if_lt (tgt := 70) hx hb dX2_run_49 (by decide) (fun c_1 => ?_) (fun c_1 => ?_)
      · have hfull : sp_full (sp_db gN gy gq lN ly lq) (E ++ T) := by
          rcases hc1 with ⟨j, y, q, e1, h7, -⟩ | h7
          · exact absurd c_1 (by rw [e1]; exact nI_pos (by have := sp_ix_lt (by omega) h7; omega))
          · exact h7.2
        clear hc1
        refine lv_aload_n hx hb dX2_run_70 rfl (lv_at hl 1 rfl) ?_
        refine lv_iload_n hx hb dX2_run_71 rfl (lv_at hl 2 rfl) ?_
        refine lv_iload_n hx hb dX2_run_72 rfl (lv_at hl 3 rfl) ?_
        refine lv_iload_n hx hb dX2_run_73 rfl (lv_at hl 4 rfl) ?_
        have hK0 := hK
        have hK : va_K (dC, dI) vwCl [] s := hK.sub [] rfl
        have hPc := hP.sub (ws' := [(h, .inr (2, [.ref g, .ref ln, .ref hv, .ref hw, .ref ht, .int (nI (E ++ T).length), .int (nI (sp_top (E ++ T))), .int k, .int t]))]) [0] rfl
        refine vp_callSi (W.runV (As := [.int (nI n), .int fx, .int vs]) (rest := []) ⟨hx, hb, hml, hown, hts⟩ (metX2_next l dC dI d h g ln hv hw ht n (nI (E ++ T).length) (nI (sp_top (E ++ T))) k t fx vs k_n) (cwV 3 hts (lw_V q192 q194 qs8 q16 q195) rfl rfl rfl (by decide +kernel) ⟨Nat.le_of_ble_eq_true rfl, Nat.le_of_ble_eq_true rfl⟩) (wk_R.preV (q := (RX2, TX2, 9)) (ci := 2) (q0 := 0) hK hPc rfl rfl) rfl rfl hl.1 rfl (lv_room (Nat.le_of_ble_eq_true rfl)) dX2_run_74 ⟨Nat.le_of_ble_eq_true rfl, Nat.le_of_ble_eq_true rfl⟩) (fun r2 hn2 => ?_)
        have hK := hK0
        refine lv_istore (lv' := [(5, .int r2), (4, .int r1), (0, .ref h), (1, .int (nI n)), (2, .int fx), (3, .int vs)]) hx hb dX2_run_77 hl (by decide) rfl (fun ls hl => ?_)
        refine lv_iload hx hb dX2_run_79 (lv_at hl 0 rfl) ?_
        refine lv_bipush (v := (-2)) hx hb dX2_run_81 (by decide) ?_
        refine lv_icmp_ne (tgt := 88) hx hb dX2_run_83 (by decide) (fun c_3 => ?_) (fun c_3 => ?_)
        · refine lv_iload hx hb dX2_run_88 (lv_at hl 0 rfl) ?_
          refine lv_iconst (v := (-1)) hx hb dX2_run_90 (by decide) ?_
          refine lv_icmp_ne (tgt := 96) hx hb dX2_run_91 (by decide) (fun c_4 => ?_) (fun c_4 => ?_)
          · obtain ⟨x, e2, hxn, hxk, hxd⟩ : ∃ x, r2 = nI x ∧ x < n ∧ bt k x = false ∧ (bt fx x = true ∨ ((∀ z, z < n → bt fx z = true → bt k z = true ∧ bt t z = bt vs z) ∧ ∀ j, x < j → j < n → bt k j = true)) := by
              rcases hn2 with h7 | h7 | h7
              · exact absurd h7.1 c_3
              · exact absurd h7.1 c_4
              · exact h7
            refine lv_aload_n hx hb dX2_run_96 rfl (lv_at hl 2 rfl) ?_
            refine lv_dup hx hb dX2_run_97 rfl ?_
            refine va_get (D := (dC, dI)) (ci := 2) (v := .int (nI (sp_top (E ++ T)))) (C := RX2) (T := TX2) (N := 9) hx hb hts in_X2 hown hK hP 0 rfl rfl 6 (by decide) (hts _ q66) (fun _ h9 => h9) rfl dX2_run_98 ?_
            refine lv_iconst (v := 1) hx hb dX2_run_101 (by decide) ?_
            refine lv_iadd hx hb dX2_run_102 ?_
            refine wk_top (y := nI (sp_top (E ++ T) + 1)) ((nI_succ _).symm) ?_
            refine va_put (D := (dC, dI)) (ci := 2) (v := .int (nI (sp_top (E ++ T) + 1))) (ty := .int) (C := RX2) (T := TX2) (N := 9) hx hb hts in_X2 tyX2 tyX2_ok nmX2 hown hK hP hD hS 0 rfl rfl 6 (by decide) (hts _ q66) (fun _ h9 => h9) rfl (by decide +kernel) rfl rfl (Nat.le_of_ble_eq_true rfl) dX2_run_103 (fun H locs hP hD hS => ?_)
            have hP : va_P (dC, dI) vwCl [(h, .inr (2, [.ref g, .ref ln, .ref hv, .ref hw, .ref ht, .int (nI (E ++ T).length), .int (nI (sp_top (E ++ T) + 1)), .int k, .int t])), (hv, .inl (d, 12, .inl lv)), (hw, .inl (d, 12, .inl wy)), (ht, .inl (d, 12, .inl tr)), (g, .inr (1, [.ref a1, .ref a2, .int (nI gN)])), (a1, .inl (d, 256, .inl gy)), (a2, .inl (d, 256, .inl gq)), (ln, .inr (1, [.ref b1, .ref b2, .int (nI lN)])), (b1, .inl (d, 6200, .inl ly)), (b2, .inl (d, 6200, .inl lq))] H := hP
            have hD : va_D A [(h, .inr (2, [.ref g, .ref ln, .ref hv, .ref hw, .ref ht, .int (nI (E ++ T).length), .int (nI (sp_top (E ++ T) + 1)), .int k, .int t])), (hv, .inl (d, 12, .inl lv)), (hw, .inl (d, 12, .inl wy)), (ht, .inl (d, 12, .inl tr)), (g, .inr (1, [.ref a1, .ref a2, .int (nI gN)])), (a1, .inl (d, 256, .inl gy)), (a2, .inl (d, 256, .inl gq)), (ln, .inr (1, [.ref b1, .ref b2, .int (nI lN)])), (b1, .inl (d, 6200, .inl ly)), (b2, .inl (d, 6200, .inl lq))] := hD
            refine lv_aload_n hx hb dX2_run_106 rfl (lv_at hl 2 rfl) ?_
            refine lv_iload hx hb dX2_run_107 (lv_at hl 0 rfl) ?_
            refine wk_top (y := nI x) (e2) ?_
            subst e2
            have hl : lv_has ls 6 [(5, .int (nI x)), (4, .int r1), (0, .ref h), (1, .int (nI n)), (2, .int fx), (3, .int vs)] := hl
            refine lv_iload_n hx hb dX2_run_109 rfl (lv_at hl 4 rfl) ?_
            refine lv_iload hx hb dX2_run_110 (lv_at hl 0 rfl) ?_
            refine lv_ishr hx hb dX2_run_112 ?_
            refine lv_iconst (v := 1) hx hb dX2_run_113 (by decide) ?_
            refine lv_iand hx hb dX2_run_114 ?_
            refine lv_iconst (v := 1) hx hb dX2_run_115 (by decide) ?_
            refine lv_icmp_ne (tgt := 133) hx hb dX2_run_116 (by decide) (fun c_5 => ?_) (fun c_5 => ?_)
            · refine lv_iconst (v := 0) hx hb dX2_run_133 (by decide) ?_
              refine lv_iconst (v := (-1)) hx hb dX2_run_134 (by decide) ?_
              have hd : sp_dec n (fun i => bt fx i) (fun i => bt vs i) (E ++ T) x false := Or.inr (by
                rcases hxd with h7 | ⟨h7, h8⟩
                · exact absurd h7 (fun q => c_5 ((b_t1 fx (by omega)).mpr q))
                · exact ⟨fun z hz hz2 => (sp_rep_l hrp z _).mpr (h7 z hz hz2), fun z hz hz2 => (hrp.2.2 z).mp (h8 z hz hz2), rfl⟩)
              obtain ⟨hxa, hgn⟩ := rn_try hg hfull hrp hxn hxk hd
              have hlen1 := sp_len1 hg hxn hxa
              have hPc := hP.sub (ws' := [(h, .inr (2, [.ref g, .ref ln, .ref hv, .ref hw, .ref ht, .int (nI (E ++ T).length), .int (nI (sp_top (E ++ T) + 1)), .int k, .int t])), (hv, .inl (d, 12, .inl lv)), (hw, .inl (d, 12, .inl wy)), (ht, .inl (d, 12, .inl tr))]) [0, 1, 2, 3] rfl
              have hDc := hD.sub (ws' := [(h, .inr (2, [.ref g, .ref ln, .ref hv, .ref hw, .ref ht, .int (nI (E ++ T).length), .int (nI (sp_top (E ++ T) + 1)), .int k, .int t])), (hv, .inl (d, 12, .inl lv)), (hw, .inl (d, 12, .inl wy)), (ht, .inl (d, 12, .inl tr))]) [0, 1, 2, 3] (by decide) rfl
              refine wk_cv (wr := [(g, .inr (1, [.ref a1, .ref a2, .int (nI gN)])), (a1, .inl (d, 256, .inl gy)), (a2, .inl (d, 256, .inl gq)), (ln, .inr (1, [.ref b1, .ref b2, .int (nI lN)])), (b1, .inl (d, 6200, .inl ly)), (b2, .inl (d, 6200, .inl lq))]) (wn := fun (u : Unit) => [(h, .inr (2, [.ref g, .ref ln, .ref hv, .ref hw, .ref ht, .int (nI ((E ++ T).length + 1)), .int (nI (sp_top (E ++ T) + 1)), .int (k ||| ((1 : Int32) <<< (nI x &&& 31))), .int (sa_t 0 t x)])), (hv, .inl (d, 12, .inl (upd lv x (nI (sp_top (E ++ T) + 1))))), (hw, .inl (d, 12, .inl (upd wy x (-1)))), (ht, .inl (d, 12, .inl (upd tr (E ++ T).length (nI x)))), (g, .inr (1, [.ref a1, .ref a2, .int (nI gN)])), (a1, .inl (d, 256, .inl gy)), (a2, .inl (d, 256, .inl gq)), (ln, .inr (1, [.ref b1, .ref b2, .int (nI lN)])), (b1, .inl (d, 6200, .inl ly)), (b2, .inl (d, 6200, .inl lq))]) (va_runV (As := [.int (nI x), .int 0, .int (-1)]) (rest := []) ⟨hx, hb, hml, hown, hts⟩ (metX2_assign l dC dI d H.size h g ln hv hw ht (E ++ T).length x (nI (sp_top (E ++ T) + 1)) k t 0 (-1) lv wy tr (by omega) (by omega)) (cwV 3 hts (lw_V q168 q170 qs3 q16 q171) rfl rfl rfl (by decide +kernel) ⟨Nat.le_of_ble_eq_true rfl, Nat.le_of_ble_eq_true rfl⟩) (wk_M.preV (q := (RX2, TX2, 9)) (ci := 2) (q0 := 0) hK hPc hDc rfl rfl) rfl rfl hl.1 rfl (lv_room (Nat.le_of_ble_eq_true rfl)) dX2_run_135 ⟨Nat.le_of_ble_eq_true rfl, Nat.le_of_ble_eq_true rfl⟩) hP hD hS hA [0, 1, 2, 3] [4, 5, 6, 7, 8, 9] [6, 7, 8, 9, 0, 1, 2, 3, 4, 5] rfl rfl (by decide) (by decide) (by decide) (fun _ => rfl) (fun u H locs hp hK hP hD hS => ?_)
              have hP : va_P (dC, dI) vwCl [(h, .inr (2, [.ref g, .ref ln, .ref hv, .ref hw, .ref ht, .int (nI ((E ++ T).length + 1)), .int (nI (sp_top (E ++ T) + 1)), .int (k ||| ((1 : Int32) <<< (nI x &&& 31))), .int (sa_t 0 t x)])), (hv, .inl (d, 12, .inl (upd lv x (nI (sp_top (E ++ T) + 1))))), (hw, .inl (d, 12, .inl (upd wy x (-1)))), (ht, .inl (d, 12, .inl (upd tr (E ++ T).length (nI x)))), (g, .inr (1, [.ref a1, .ref a2, .int (nI gN)])), (a1, .inl (d, 256, .inl gy)), (a2, .inl (d, 256, .inl gq)), (ln, .inr (1, [.ref b1, .ref b2, .int (nI lN)])), (b1, .inl (d, 6200, .inl ly)), (b2, .inl (d, 6200, .inl lq))] H := hP
              have hD : va_D A [(h, .inr (2, [.ref g, .ref ln, .ref hv, .ref hw, .ref ht, .int (nI ((E ++ T).length + 1)), .int (nI (sp_top (E ++ T) + 1)), .int (k ||| ((1 : Int32) <<< (nI x &&& 31))), .int (sa_t 0 t x)])), (hv, .inl (d, 12, .inl (upd lv x (nI (sp_top (E ++ T) + 1))))), (hw, .inl (d, 12, .inl (upd wy x (-1)))), (ht, .inl (d, 12, .inl (upd tr (E ++ T).length (nI x)))), (g, .inr (1, [.ref a1, .ref a2, .int (nI gN)])), (a1, .inl (d, 256, .inl gy)), (a2, .inl (d, 256, .inl gq)), (ln, .inr (1, [.ref b1, .ref b2, .int (nI lN)])), (b1, .inl (d, 6200, .inl ly)), (b2, .inl (d, 6200, .inl lq))] := hD
              refine lv_goto (tgt := 41) hx hb dX2_run_138 (by decide) ?_
              have hrn := sp_rep_push (b := false) (L := sp_top (E ++ T) + 1) (w := -1) (c := none) hrp hxa (by omega) (fun z hz => by cases hz)
              rw [← sa_t_eq (bI := 0) (⟨fun _ => rfl, fun _ => rfl⟩)] at hrn
              have hv9 := sp_V_none (x := (x, false, sp_top (E ++ T) + 1, none)) (E ++ T) rfl
              have hl9 : ((x, false, sp_top (E ++ T) + 1, none) :: (E ++ T) : List sp_E).length = (E ++ T).length + 1 := rfl
              exact ih (sp_V (E ++ T)) lN ((x, false, sp_top (E ++ T) + 1, none) :: (E ++ T)) _ _ ly lq _ _ _ (by omega) ⟨by omega, Or.inl (by omega)⟩ (by omega) h4 hgn hrn H locs hP hD hS ls (lv_sub hl [2, 3, 4, 5] rfl)
            · have hfx : bt fx x = true := (b_t1 fx (by omega)).mp c_5
              refine lv_iload_n hx hb dX2_run_119 rfl (lv_at hl 5 rfl) ?_
              refine lv_iload hx hb dX2_run_120 (lv_at hl 0 rfl) ?_
              refine lv_ishr hx hb dX2_run_122 ?_
              refine lv_iconst (v := 1) hx hb dX2_run_123 (by decide) ?_
              refine lv_iand hx hb dX2_run_124 ?_
              refine lv_iconst (v := 1) hx hb dX2_run_125 (by decide) ?_
              refine lv_icmp_ne (tgt := 133) hx hb dX2_run_126 (by decide) (fun c_6 => ?_) (fun c_6 => ?_)
              · refine lv_iconst (v := 0) hx hb dX2_run_133 (by decide) ?_
                refine lv_iconst (v := (-1)) hx hb dX2_run_134 (by decide) ?_
                have hd : sp_dec n (fun i => bt fx i) (fun i => bt vs i) (E ++ T) x false := Or.inl ⟨hfx, by
                  cases hb9 : bt vs x with
                  | false => exact hb9.symm
                  | true => exact absurd ((b_t1 vs (by omega)).mpr hb9) c_6⟩
                obtain ⟨hxa, hgn⟩ := rn_try hg hfull hrp hxn hxk hd
                have hlen1 := sp_len1 hg hxn hxa
                have hPc := hP.sub (ws' := [(h, .inr (2, [.ref g, .ref ln, .ref hv, .ref hw, .ref ht, .int (nI (E ++ T).length), .int (nI (sp_top (E ++ T) + 1)), .int k, .int t])), (hv, .inl (d, 12, .inl lv)), (hw, .inl (d, 12, .inl wy)), (ht, .inl (d, 12, .inl tr))]) [0, 1, 2, 3] rfl
                have hDc := hD.sub (ws' := [(h, .inr (2, [.ref g, .ref ln, .ref hv, .ref hw, .ref ht, .int (nI (E ++ T).length), .int (nI (sp_top (E ++ T) + 1)), .int k, .int t])), (hv, .inl (d, 12, .inl lv)), (hw, .inl (d, 12, .inl wy)), (ht, .inl (d, 12, .inl tr))]) [0, 1, 2, 3] (by decide) rfl
                refine wk_cv (wr := [(g, .inr (1, [.ref a1, .ref a2, .int (nI gN)])), (a1, .inl (d, 256, .inl gy)), (a2, .inl (d, 256, .inl gq)), (ln, .inr (1, [.ref b1, .ref b2, .int (nI lN)])), (b1, .inl (d, 6200, .inl ly)), (b2, .inl (d, 6200, .inl lq))]) (wn := fun (u : Unit) => [(h, .inr (2, [.ref g, .ref ln, .ref hv, .ref hw, .ref ht, .int (nI ((E ++ T).length + 1)), .int (nI (sp_top (E ++ T) + 1)), .int (k ||| ((1 : Int32) <<< (nI x &&& 31))), .int (sa_t 0 t x)])), (hv, .inl (d, 12, .inl (upd lv x (nI (sp_top (E ++ T) + 1))))), (hw, .inl (d, 12, .inl (upd wy x (-1)))), (ht, .inl (d, 12, .inl (upd tr (E ++ T).length (nI x)))), (g, .inr (1, [.ref a1, .ref a2, .int (nI gN)])), (a1, .inl (d, 256, .inl gy)), (a2, .inl (d, 256, .inl gq)), (ln, .inr (1, [.ref b1, .ref b2, .int (nI lN)])), (b1, .inl (d, 6200, .inl ly)), (b2, .inl (d, 6200, .inl lq))]) (va_runV (As := [.int (nI x), .int 0, .int (-1)]) (rest := []) ⟨hx, hb, hml, hown, hts⟩ (metX2_assign l dC dI d H.size h g ln hv hw ht (E ++ T).length x (nI (sp_top (E ++ T) + 1)) k t 0 (-1) lv wy tr (by omega) (by omega)) (cwV 3 hts (lw_V q168 q170 qs3 q16 q171) rfl rfl rfl (by decide +kernel) ⟨Nat.le_of_ble_eq_true rfl, Nat.le_of_ble_eq_true rfl⟩) (wk_M.preV (q := (RX2, TX2, 9)) (ci := 2) (q0 := 0) hK hPc hDc rfl rfl) rfl rfl hl.1 rfl (lv_room (Nat.le_of_ble_eq_true rfl)) dX2_run_135 ⟨Nat.le_of_ble_eq_true rfl, Nat.le_of_ble_eq_true rfl⟩) hP hD hS hA [0, 1, 2, 3] [4, 5, 6, 7, 8, 9] [6, 7, 8, 9, 0, 1, 2, 3, 4, 5] rfl rfl (by decide) (by decide) (by decide) (fun _ => rfl) (fun u H locs hp hK hP hD hS => ?_)
                have hP : va_P (dC, dI) vwCl [(h, .inr (2, [.ref g, .ref ln, .ref hv, .ref hw, .ref ht, .int (nI ((E ++ T).length + 1)), .int (nI (sp_top (E ++ T) + 1)), .int (k ||| ((1 : Int32) <<< (nI x &&& 31))), .int (sa_t 0 t x)])), (hv, .inl (d, 12, .inl (upd lv x (nI (sp_top (E ++ T) + 1))))), (hw, .inl (d, 12, .inl (upd wy x (-1)))), (ht, .inl (d, 12, .inl (upd tr (E ++ T).length (nI x)))), (g, .inr (1, [.ref a1, .ref a2, .int (nI gN)])), (a1, .inl (d, 256, .inl gy)), (a2, .inl (d, 256, .inl gq)), (ln, .inr (1, [.ref b1, .ref b2, .int (nI lN)])), (b1, .inl (d, 6200, .inl ly)), (b2, .inl (d, 6200, .inl lq))] H := hP
                have hD : va_D A [(h, .inr (2, [.ref g, .ref ln, .ref hv, .ref hw, .ref ht, .int (nI ((E ++ T).length + 1)), .int (nI (sp_top (E ++ T) + 1)), .int (k ||| ((1 : Int32) <<< (nI x &&& 31))), .int (sa_t 0 t x)])), (hv, .inl (d, 12, .inl (upd lv x (nI (sp_top (E ++ T) + 1))))), (hw, .inl (d, 12, .inl (upd wy x (-1)))), (ht, .inl (d, 12, .inl (upd tr (E ++ T).length (nI x)))), (g, .inr (1, [.ref a1, .ref a2, .int (nI gN)])), (a1, .inl (d, 256, .inl gy)), (a2, .inl (d, 256, .inl gq)), (ln, .inr (1, [.ref b1, .ref b2, .int (nI lN)])), (b1, .inl (d, 6200, .inl ly)), (b2, .inl (d, 6200, .inl lq))] := hD
                refine lv_goto (tgt := 41) hx hb dX2_run_138 (by decide) ?_
                have hrn := sp_rep_push (b := false) (L := sp_top (E ++ T) + 1) (w := -1) (c := none) hrp hxa (by omega) (fun z hz => by cases hz)
                rw [← sa_t_eq (bI := 0) (⟨fun _ => rfl, fun _ => rfl⟩)] at hrn
                have hv9 := sp_V_none (x := (x, false, sp_top (E ++ T) + 1, none)) (E ++ T) rfl
                have hl9 : ((x, false, sp_top (E ++ T) + 1, none) :: (E ++ T) : List sp_E).length = (E ++ T).length + 1 := rfl
                exact ih (sp_V (E ++ T)) lN ((x, false, sp_top (E ++ T) + 1, none) :: (E ++ T)) _ _ ly lq _ _ _ (by omega) ⟨by omega, Or.inl (by omega)⟩ (by omega) h4 hgn hrn H locs hP hD hS ls (lv_sub hl [2, 3, 4, 5] rfl)
              · refine lv_iconst (v := 1) hx hb dX2_run_129 (by decide) ?_
                refine lv_goto (tgt := 134) hx hb dX2_run_130 (by decide) ?_
                refine lv_iconst (v := (-1)) hx hb dX2_run_134 (by decide) ?_
                have hd : sp_dec n (fun i => bt fx i) (fun i => bt vs i) (E ++ T) x true := Or.inl ⟨hfx, ((b_t1 vs (by omega)).mp c_6).symm⟩
                obtain ⟨hxa, hgn⟩ := rn_try hg hfull hrp hxn hxk hd
                have hlen1 := sp_len1 hg hxn hxa
                have hPc := hP.sub (ws' := [(h, .inr (2, [.ref g, .ref ln, .ref hv, .ref hw, .ref ht, .int (nI (E ++ T).length), .int (nI (sp_top (E ++ T) + 1)), .int k, .int t])), (hv, .inl (d, 12, .inl lv)), (hw, .inl (d, 12, .inl wy)), (ht, .inl (d, 12, .inl tr))]) [0, 1, 2, 3] rfl
                have hDc := hD.sub (ws' := [(h, .inr (2, [.ref g, .ref ln, .ref hv, .ref hw, .ref ht, .int (nI (E ++ T).length), .int (nI (sp_top (E ++ T) + 1)), .int k, .int t])), (hv, .inl (d, 12, .inl lv)), (hw, .inl (d, 12, .inl wy)), (ht, .inl (d, 12, .inl tr))]) [0, 1, 2, 3] (by decide) rfl
                refine wk_cv (wr := [(g, .inr (1, [.ref a1, .ref a2, .int (nI gN)])), (a1, .inl (d, 256, .inl gy)), (a2, .inl (d, 256, .inl gq)), (ln, .inr (1, [.ref b1, .ref b2, .int (nI lN)])), (b1, .inl (d, 6200, .inl ly)), (b2, .inl (d, 6200, .inl lq))]) (wn := fun (u : Unit) => [(h, .inr (2, [.ref g, .ref ln, .ref hv, .ref hw, .ref ht, .int (nI ((E ++ T).length + 1)), .int (nI (sp_top (E ++ T) + 1)), .int (k ||| ((1 : Int32) <<< (nI x &&& 31))), .int (sa_t 1 t x)])), (hv, .inl (d, 12, .inl (upd lv x (nI (sp_top (E ++ T) + 1))))), (hw, .inl (d, 12, .inl (upd wy x (-1)))), (ht, .inl (d, 12, .inl (upd tr (E ++ T).length (nI x)))), (g, .inr (1, [.ref a1, .ref a2, .int (nI gN)])), (a1, .inl (d, 256, .inl gy)), (a2, .inl (d, 256, .inl gq)), (ln, .inr (1, [.ref b1, .ref b2, .int (nI lN)])), (b1, .inl (d, 6200, .inl ly)), (b2, .inl (d, 6200, .inl lq))]) (va_runV (As := [.int (nI x), .int 1, .int (-1)]) (rest := []) ⟨hx, hb, hml, hown, hts⟩ (metX2_assign l dC dI d H.size h g ln hv hw ht (E ++ T).length x (nI (sp_top (E ++ T) + 1)) k t 1 (-1) lv wy tr (by omega) (by omega)) (cwV 3 hts (lw_V q168 q170 qs3 q16 q171) rfl rfl rfl (by decide +kernel) ⟨Nat.le_of_ble_eq_true rfl, Nat.le_of_ble_eq_true rfl⟩) (wk_M.preV (q := (RX2, TX2, 9)) (ci := 2) (q0 := 0) hK hPc hDc rfl rfl) rfl rfl hl.1 rfl (lv_room (Nat.le_of_ble_eq_true rfl)) dX2_run_135 ⟨Nat.le_of_ble_eq_true rfl, Nat.le_of_ble_eq_true rfl⟩) hP hD hS hA [0, 1, 2, 3] [4, 5, 6, 7, 8, 9] [6, 7, 8, 9, 0, 1, 2, 3, 4, 5] rfl rfl (by decide) (by decide) (by decide) (fun _ => rfl) (fun u H locs hp hK hP hD hS => ?_)
                have hP : va_P (dC, dI) vwCl [(h, .inr (2, [.ref g, .ref ln, .ref hv, .ref hw, .ref ht, .int (nI ((E ++ T).length + 1)), .int (nI (sp_top (E ++ T) + 1)), .int (k ||| ((1 : Int32) <<< (nI x &&& 31))), .int (sa_t 1 t x)])), (hv, .inl (d, 12, .inl (upd lv x (nI (sp_top (E ++ T) + 1))))), (hw, .inl (d, 12, .inl (upd wy x (-1)))), (ht, .inl (d, 12, .inl (upd tr (E ++ T).length (nI x)))), (g, .inr (1, [.ref a1, .ref a2, .int (nI gN)])), (a1, .inl (d, 256, .inl gy)), (a2, .inl (d, 256, .inl gq)), (ln, .inr (1, [.ref b1, .ref b2, .int (nI lN)])), (b1, .inl (d, 6200, .inl ly)), (b2, .inl (d, 6200, .inl lq))] H := hP
                have hD : va_D A [(h, .inr (2, [.ref g, .ref ln, .ref hv, .ref hw, .ref ht, .int (nI ((E ++ T).length + 1)), .int (nI (sp_top (E ++ T) + 1)), .int (k ||| ((1 : Int32) <<< (nI x &&& 31))), .int (sa_t 1 t x)])), (hv, .inl (d, 12, .inl (upd lv x (nI (sp_top (E ++ T) + 1))))), (hw, .inl (d, 12, .inl (upd wy x (-1)))), (ht, .inl (d, 12, .inl (upd tr (E ++ T).length (nI x)))), (g, .inr (1, [.ref a1, .ref a2, .int (nI gN)])), (a1, .inl (d, 256, .inl gy)), (a2, .inl (d, 256, .inl gq)), (ln, .inr (1, [.ref b1, .ref b2, .int (nI lN)])), (b1, .inl (d, 6200, .inl ly)), (b2, .inl (d, 6200, .inl lq))] := hD
                refine lv_goto (tgt := 41) hx hb dX2_run_138 (by decide) ?_
                have hrn := sp_rep_push (b := true) (L := sp_top (E ++ T) + 1) (w := -1) (c := none) hrp hxa (by omega) (fun z hz => by cases hz)
                rw [← sa_t_eq (bI := 1) (⟨fun q => absurd q (by decide), fun q => by cases q⟩)] at hrn
                have hv9 := sp_V_none (x := (x, true, sp_top (E ++ T) + 1, none)) (E ++ T) rfl
                have hl9 : ((x, true, sp_top (E ++ T) + 1, none) :: (E ++ T) : List sp_E).length = (E ++ T).length + 1 := rfl
                exact ih (sp_V (E ++ T)) lN ((x, true, sp_top (E ++ T) + 1, none) :: (E ++ T)) _ _ ly lq _ _ _ (by omega) ⟨by omega, Or.inl (by omega)⟩ (by omega) h4 hgn hrn H locs hP hD hS ls (lv_sub hl [2, 3, 4, 5] rfl)
          · obtain ⟨h7, h8⟩ : (∀ z, z < n → bt fx z = true → bt k z = true ∧ bt t z = bt vs z) ∧ ∀ z, z < n → bt k z = true := by
              rcases hn2 with h7 | h7 | ⟨z, e2, h7, -⟩
              · exact absurd (h7.1.symm.trans c_4) (by decide)
              · exact h7.2
              · exact absurd (e2.symm.trans c_4) (nI_m1 (by omega))
            have hall : ∀ z, z < n → sp_a (E ++ T) z := fun z hz => (hrp.2.2 z).mp (h8 z hz)
            have ht9 : ∀ x, x ∈ E ++ T → bt t x.1 = x.2.1 := fun x hx => (hrp.2.1 x hx).2.2
            refine lv_iconst (v := 1) hx hb dX2_run_94 (by decide) ?_
            exact wk_zret ((lv, wy, tr, nI (E ++ T).length, nI (sp_top (E ++ T)), k, t, lN, ly, lq)) hx hb hr hlocks (by decide) (⟨by show lN ≤ 6200; omega, h4, Or.inl ⟨rfl, fun j hj => sp_end1 (sp_db_n k_go h4) hfull hall ht9 _ _ ⟨j, Or.inl ⟨by omega, hj, rfl, rfl⟩⟩, fun j hj hf => (h7 j hj hf).2, fun a ha hv z hz hh hz1 => sp_least hg (sp_db_G h4) hall ht9 ha hv hz hh hz1⟩⟩) hK hP hD hS dX2_run_95
        · obtain ⟨z, h7, h8, h9, h10⟩ : ∃ z, z < n ∧ bt fx z = true ∧ bt k z = true ∧ ¬ bt t z = bt vs z := by
            rcases hn2 with h7 | h7 | ⟨z, e2, h7, -⟩
            · exact h7.2
            · exact absurd (h7.1.symm.trans c_3) (by decide)
            · exact absurd (e2.symm.trans c_3) (nI_m2 (by omega))
          have hlz : sp_l (E ++ T) z (!bt vs z) := (sp_rep_l hrp z _).mpr ⟨h9, by cases ha9 : bt t z <;> cases hb9 : bt vs z <;> simp_all⟩
          refine lv_iconst (v := 0) hx hb dX2_run_86 (by decide) ?_
          exact wk_zret ((lv, wy, tr, nI (E ++ T).length, nI (sp_top (E ++ T)), k, t, lN, ly, lq)) hx hb hr hlocks (by decide) (⟨by show lN ≤ 6200; omega, h4, Or.inr ⟨rfl, fun a ha => sp_end2 hg (sp_db_G h4) h7 h8 hlz a ha⟩⟩) hK hP hD hS dX2_run_87
      · obtain ⟨j, y, q, e1, hix, hfal⟩ : ∃ j y q, r1 = nI j ∧ sp_ix gN gy gq lN ly lq j y q ∧ sp_fal (E ++ T) y q := by
          rcases hc1 with h7 | h7
          · exact h7
          · exact absurd (show r1 < 0 by rw [h7.1]; decide) c_1
        clear hc1
        refine lv_aload_n hx hb dX2_run_52 rfl (lv_at hl 1 rfl) ?_
        refine va_get (D := (dC, dI)) (ci := 2) (v := .int (nI (sp_top (E ++ T)))) (C := RX2) (T := TX2) (N := 9) hx hb hts in_X2 hown hK hP 0 rfl rfl 6 (by decide) (hts _ q66) (fun _ h9 => h9) rfl dX2_run_53 ?_
        refine lv_if_ne (tgt := 61) hx hb dX2_run_56 (by decide) (fun c_2 => ?_) (fun c_2 => ?_)
        · have hL : 0 < sp_top (E ++ T) := Nat.pos_of_ne_zero (fun z => c_2 (by rw [z]; rfl))
          refine lv_aload_n hx hb dX2_run_61 rfl (lv_at hl 1 rfl) ?_
          refine lv_iload hx hb dX2_run_62 (lv_at hl 0 rfl) ?_
          refine wk_top (y := nI j) (e1) ?_
          have hPc := hP.sub (ws' := [(h, .inr (2, [.ref g, .ref ln, .ref hv, .ref hw, .ref ht, .int (nI (E ++ T).length), .int (nI (sp_top (E ++ T))), .int k, .int t])), (hv, .inl (d, 12, .inl lv)), (hw, .inl (d, 12, .inl wy)), (ht, .inl (d, 12, .inl tr)), (g, .inr (1, [.ref a1, .ref a2, .int (nI gN)])), (a1, .inl (d, 256, .inl gy)), (a2, .inl (d, 256, .inl gq)), (ln, .inr (1, [.ref b1, .ref b2, .int (nI lN)])), (b1, .inl (d, 6200, .inl ly)), (b2, .inl (d, 6200, .inl lq))]) [0, 1, 2, 3, 4, 5, 6, 7, 8, 9] rfl
          have hDc := hD.sub (ws' := [(h, .inr (2, [.ref g, .ref ln, .ref hv, .ref hw, .ref ht, .int (nI (E ++ T).length), .int (nI (sp_top (E ++ T))), .int k, .int t])), (hv, .inl (d, 12, .inl lv)), (hw, .inl (d, 12, .inl wy)), (ht, .inl (d, 12, .inl tr)), (g, .inr (1, [.ref a1, .ref a2, .int (nI gN)])), (a1, .inl (d, 256, .inl gy)), (a2, .inl (d, 256, .inl gq)), (ln, .inr (1, [.ref b1, .ref b2, .int (nI lN)])), (b1, .inl (d, 6200, .inl ly)), (b2, .inl (d, 6200, .inl lq))]) [0, 1, 2, 3, 4, 5, 6, 7, 8, 9] (by decide) rfl
          refine wk_cv (wr := []) (wn := fun (u : le_S) => [(h, .inr (2, [.ref g, .ref ln, .ref hv, .ref hw, .ref ht, .int (nI u.2.2.2.1), .int (nI u.2.2.1), .int u.2.2.2.2, .int t])), (hv, .inl (d, 12, .inl lv)), (hw, .inl (d, 12, .inl wy)), (ht, .inl (d, 12, .inl tr)), (g, .inr (1, [.ref a1, .ref a2, .int (nI gN)])), (a1, .inl (d, 256, .inl gy)), (a2, .inl (d, 256, .inl gq)), (ln, .inr (1, [.ref b1, .ref b2, .int (nI (lN + 1))])), (b1, .inl (d, 6200, .inl (upd ly lN u.1))), (b2, .inl (d, 6200, .inl (upd lq lN u.2.1)))]) (va_runV (As := [.int (nI j)]) (rest := []) ⟨hx, hb, hml, hown, hts⟩ (metX2_learn l dC dI d H.size h g ln hv hw ht a1 a2 b1 b2 n gN lN gy gq ly lq (fun i => bt fx i) (fun i => bt vs i) (E ++ T) j y q (nI (sp_top (E ++ T))) k t lv wy tr k_n k_go h4 (by omega) hg hrp rfl hL hix hfal) (cwV 1 hts (lw_V q172 q174 qs4 q16 q175) rfl rfl rfl (by decide +kernel) ⟨Nat.le_of_ble_eq_true rfl, Nat.le_of_ble_eq_true rfl⟩) (wk_M.preV (q := (RX2, TX2, 9)) (ci := 2) (q0 := 0) hK hPc hDc rfl rfl) rfl rfl hl.1 rfl (lv_room (Nat.le_of_ble_eq_true rfl)) dX2_run_64 ⟨Nat.le_of_ble_eq_true rfl, Nat.le_of_ble_eq_true rfl⟩) hP hD hS hA [0, 1, 2, 3, 4, 5, 6, 7, 8, 9] [] [0, 1, 2, 3, 4, 5, 6, 7, 8, 9] rfl rfl (by decide) (by decide) (by decide) (fun _ => rfl) (fun u H locs hp hK hP hD hS => ?_)
          have hP : va_P (dC, dI) vwCl [(h, .inr (2, [.ref g, .ref ln, .ref hv, .ref hw, .ref ht, .int (nI u.2.2.2.1), .int (nI u.2.2.1), .int u.2.2.2.2, .int t])), (hv, .inl (d, 12, .inl lv)), (hw, .inl (d, 12, .inl wy)), (ht, .inl (d, 12, .inl tr)), (g, .inr (1, [.ref a1, .ref a2, .int (nI gN)])), (a1, .inl (d, 256, .inl gy)), (a2, .inl (d, 256, .inl gq)), (ln, .inr (1, [.ref b1, .ref b2, .int (nI (lN + 1))])), (b1, .inl (d, 6200, .inl (upd ly lN u.1))), (b2, .inl (d, 6200, .inl (upd lq lN u.2.1)))] H := hP
          have hD : va_D A [(h, .inr (2, [.ref g, .ref ln, .ref hv, .ref hw, .ref ht, .int (nI u.2.2.2.1), .int (nI u.2.2.1), .int u.2.2.2.2, .int t])), (hv, .inl (d, 12, .inl lv)), (hw, .inl (d, 12, .inl wy)), (ht, .inl (d, 12, .inl tr)), (g, .inr (1, [.ref a1, .ref a2, .int (nI gN)])), (a1, .inl (d, 256, .inl gy)), (a2, .inl (d, 256, .inl gq)), (ln, .inr (1, [.ref b1, .ref b2, .int (nI (lN + 1))])), (b1, .inl (d, 6200, .inl (upd ly lN u.1))), (b2, .inl (d, 6200, .inl (upd lq lN u.2.1)))] := hD
          obtain ⟨p2, q2, tt, td2, k2⟩ := u
          obtain ⟨g1, g2, g3, g4, g5, g6, ⟨g7, g8⟩, T1, d9, g9, g10⟩ := hp
          obtain rfl : td2 = (sp_bk tt (E ++ T)).length := g5
          have g6 : sp_top (sp_bk tt (E ++ T)) = tt := g6
          have hP : va_P (dC, dI) vwCl [(h, .inr (2, [.ref g, .ref ln, .ref hv, .ref hw, .ref ht, .int (nI (sp_bk tt (E ++ T)).length), .int (nI tt), .int k2, .int t])), (hv, .inl (d, 12, .inl lv)), (hw, .inl (d, 12, .inl wy)), (ht, .inl (d, 12, .inl tr)), (g, .inr (1, [.ref a1, .ref a2, .int (nI gN)])), (a1, .inl (d, 256, .inl gy)), (a2, .inl (d, 256, .inl gq)), (ln, .inr (1, [.ref b1, .ref b2, .int (nI (lN + 1))])), (b1, .inl (d, 6200, .inl (upd ly lN p2))), (b2, .inl (d, 6200, .inl (upd lq lN q2)))] H := hP
          have hD : va_D A [(h, .inr (2, [.ref g, .ref ln, .ref hv, .ref hw, .ref ht, .int (nI (sp_bk tt (E ++ T)).length), .int (nI tt), .int k2, .int t])), (hv, .inl (d, 12, .inl lv)), (hw, .inl (d, 12, .inl wy)), (ht, .inl (d, 12, .inl tr)), (g, .inr (1, [.ref a1, .ref a2, .int (nI gN)])), (a1, .inl (d, 256, .inl gy)), (a2, .inl (d, 256, .inl gq)), (ln, .inr (1, [.ref b1, .ref b2, .int (nI (lN + 1))])), (b1, .inl (d, 6200, .inl (upd ly lN p2))), (b2, .inl (d, 6200, .inl (upd lq lN q2)))] := hD
          rw [show nI tt = nI (sp_top (sp_bk tt (E ++ T))) by rw [g6]] at hP hD
          refine lv_goto (tgt := 41) hx hb dX2_run_67 (by decide) ?_
          exact ih (sp_V (E ++ T) + 1) (lN + 1) (sp_bk tt (E ++ T)) k2 t _ _ lv wy tr (by omega) (rn_learnt hg k_n g9 g10 sp_db_add.2 sp_db_new g7 g8) (by omega) (sp_lok_add h4 g1 g2) g3 g4 H locs hP hD hS ls (lv_sub hl [1, 2, 3, 4] rfl)
        · have hL : sp_top (E ++ T) = 0 := (nI_eq (b := 0) (by omega) (by omega)).mp c_2
          refine lv_iconst (v := 0) hx hb dX2_run_59 (by decide) ?_
          exact wk_zret ((lv, wy, tr, nI (E ++ T).length, nI (sp_top (E ++ T)), k, t, lN, ly, lq)) hx hb hr hlocks (by decide) (⟨by show lN ≤ 6200; omega, h4, Or.inr ⟨rfl, fun a ha _ => sp_end0 hg (sp_db_G h4) hL ⟨j, hix⟩ hfal a ha⟩⟩) hK hP hD hS dX2_run_60
  have rest : ∀ (lN : Nat), (lN ≤ 2000) → (sp_lok n gN gy gq lN ly lq) → ∀ (H : Heap) (locs : List Loc), va_P (dC, dI) vwCl [(h, .inr (2, [.ref g, .ref ln, .ref hv, .ref hw, .ref ht, .int td, .int lvs, .int k, .int t])), (hv, .inl (d, 12, .inl lv)), (hw, .inl (d, 12, .inl wy)), (ht, .inl (d, 12, .inl tr)), (g, .inr (1, [.ref a1, .ref a2, .int (nI gN)])), (a1, .inl (d, 256, .inl gy)), (a2, .inl (d, 256, .inl gq)), (ln, .inr (1, [.ref b1, .ref b2, .int (nI lN)])), (b1, .inl (d, 6200, .inl ly)), (b2, .inl (d, 6200, .inl lq))] H → va_D A [(h, .inr (2, [.ref g, .ref ln, .ref hv, .ref hw, .ref ht, .int td, .int lvs, .int k, .int t])), (hv, .inl (d, 12, .inl lv)), (hw, .inl (d, 12, .inl wy)), (ht, .inl (d, 12, .inl tr)), (g, .inr (1, [.ref a1, .ref a2, .int (nI gN)])), (a1, .inl (d, 256, .inl gy)), (a2, .inl (d, 256, .inl gq)), (ln, .inr (1, [.ref b1, .ref b2, .int (nI lN)])), (b1, .inl (d, 6200, .inl ly)), (b2, .inl (d, 6200, .inl lq))] → va_S A s.heap H locs → ∀ (ls : Array Slot), lv_has ls 6 [(0, .ref h), (1, .int (nI n)), (2, .int fx), (3, .int vs)] → W p l e (headSpec (ws_ yX2_run cX2_run 6 (some .boolean)) ({ frames := 3, cells := 0, slots := 0, locals := 90 })).room s m ([.ref h, .int (nI n), .int fx, .int vs] : List Value).toArray below meth c H locs 0 0 (MQ below (va_Qi (rn_post n gN gy gq fx vs) (wk_B (dC, dI) [(d, .int)] (A) (fun u : rn_S => [(h, .inr (2, [.ref g, .ref ln, .ref hv, .ref hw, .ref ht, .int u.2.2.2.1, .int u.2.2.2.2.1, .int u.2.2.2.2.2.1, .int u.2.2.2.2.2.2.1])), (hv, .inl (d, 12, .inl u.1)), (hw, .inl (d, 12, .inl u.2.1)), (ht, .inl (d, 12, .inl u.2.2.1)), (g, .inr (1, [.ref a1, .ref a2, .int (nI gN)])), (a1, .inl (d, 256, .inl gy)), (a2, .inl (d, 256, .inl gq)), (ln, .inr (1, [.ref b1, .ref b2, .int (nI u.2.2.2.2.2.2.2.1)])), (b1, .inl (d, 6200, .inl u.2.2.2.2.2.2.2.2.1)), (b2, .inl (d, 6200, .inl u.2.2.2.2.2.2.2.2.2))])) (A)) ([.ref h, .int (nI n), .int fx, .int vs] : List Value).toArray s 0 0 (A)) (F0 m 21 ls []) := by
    intro lN h1 h2 H locs hP hD hS ls hl
    refine lv_aload_n hx hb dX2_run_21 rfl (lv_at hl 0 rfl) ?_
    refine lv_iconst (v := 0) hx hb dX2_run_22 (by decide) ?_
    refine va_put (D := (dC, dI)) (ci := 2) (v := .int 0) (ty := .int) (C := RX2) (T := TX2) (N := 9) hx hb hts in_X2 tyX2 tyX2_ok nmX2 hown hK hP hD hS 0 rfl rfl 5 (by decide) (hts _ q65) (fun _ h9 => h9) rfl (by decide +kernel) rfl rfl (Nat.le_of_ble_eq_true rfl) dX2_run_23 (fun H locs hP hD hS => ?_)
    have hP : va_P (dC, dI) vwCl [(h, .inr (2, [.ref g, .ref ln, .ref hv, .ref hw, .ref ht, .int 0, .int lvs, .int k, .int t])), (hv, .inl (d, 12, .inl lv)), (hw, .inl (d, 12, .inl wy)), (ht, .inl (d, 12, .inl tr)), (g, .inr (1, [.ref a1, .ref a2, .int (nI gN)])), (a1, .inl (d, 256, .inl gy)), (a2, .inl (d, 256, .inl gq)), (ln, .inr (1, [.ref b1, .ref b2, .int (nI lN)])), (b1, .inl (d, 6200, .inl ly)), (b2, .inl (d, 6200, .inl lq))] H := hP
    have hD : va_D A [(h, .inr (2, [.ref g, .ref ln, .ref hv, .ref hw, .ref ht, .int 0, .int lvs, .int k, .int t])), (hv, .inl (d, 12, .inl lv)), (hw, .inl (d, 12, .inl wy)), (ht, .inl (d, 12, .inl tr)), (g, .inr (1, [.ref a1, .ref a2, .int (nI gN)])), (a1, .inl (d, 256, .inl gy)), (a2, .inl (d, 256, .inl gq)), (ln, .inr (1, [.ref b1, .ref b2, .int (nI lN)])), (b1, .inl (d, 6200, .inl ly)), (b2, .inl (d, 6200, .inl lq))] := hD
    refine lv_aload_n hx hb dX2_run_26 rfl (lv_at hl 0 rfl) ?_
    refine lv_iconst (v := 0) hx hb dX2_run_27 (by decide) ?_
    refine va_put (D := (dC, dI)) (ci := 2) (v := .int 0) (ty := .int) (C := RX2) (T := TX2) (N := 9) hx hb hts in_X2 tyX2 tyX2_ok nmX2 hown hK hP hD hS 0 rfl rfl 6 (by decide) (hts _ q66) (fun _ h9 => h9) rfl (by decide +kernel) rfl rfl (Nat.le_of_ble_eq_true rfl) dX2_run_28 (fun H locs hP hD hS => ?_)
    have hP : va_P (dC, dI) vwCl [(h, .inr (2, [.ref g, .ref ln, .ref hv, .ref hw, .ref ht, .int 0, .int 0, .int k, .int t])), (hv, .inl (d, 12, .inl lv)), (hw, .inl (d, 12, .inl wy)), (ht, .inl (d, 12, .inl tr)), (g, .inr (1, [.ref a1, .ref a2, .int (nI gN)])), (a1, .inl (d, 256, .inl gy)), (a2, .inl (d, 256, .inl gq)), (ln, .inr (1, [.ref b1, .ref b2, .int (nI lN)])), (b1, .inl (d, 6200, .inl ly)), (b2, .inl (d, 6200, .inl lq))] H := hP
    have hD : va_D A [(h, .inr (2, [.ref g, .ref ln, .ref hv, .ref hw, .ref ht, .int 0, .int 0, .int k, .int t])), (hv, .inl (d, 12, .inl lv)), (hw, .inl (d, 12, .inl wy)), (ht, .inl (d, 12, .inl tr)), (g, .inr (1, [.ref a1, .ref a2, .int (nI gN)])), (a1, .inl (d, 256, .inl gy)), (a2, .inl (d, 256, .inl gq)), (ln, .inr (1, [.ref b1, .ref b2, .int (nI lN)])), (b1, .inl (d, 6200, .inl ly)), (b2, .inl (d, 6200, .inl lq))] := hD
    refine lv_aload_n hx hb dX2_run_31 rfl (lv_at hl 0 rfl) ?_
    refine lv_iconst (v := 0) hx hb dX2_run_32 (by decide) ?_
    refine va_put (D := (dC, dI)) (ci := 2) (v := .int 0) (ty := .int) (C := RX2) (T := TX2) (N := 9) hx hb hts in_X2 tyX2 tyX2_ok nmX2 hown hK hP hD hS 0 rfl rfl 7 (by decide) (hts _ q67) (fun _ h9 => h9) rfl (by decide +kernel) rfl rfl (Nat.le_of_ble_eq_true rfl) dX2_run_33 (fun H locs hP hD hS => ?_)
    have hP : va_P (dC, dI) vwCl [(h, .inr (2, [.ref g, .ref ln, .ref hv, .ref hw, .ref ht, .int 0, .int 0, .int 0, .int t])), (hv, .inl (d, 12, .inl lv)), (hw, .inl (d, 12, .inl wy)), (ht, .inl (d, 12, .inl tr)), (g, .inr (1, [.ref a1, .ref a2, .int (nI gN)])), (a1, .inl (d, 256, .inl gy)), (a2, .inl (d, 256, .inl gq)), (ln, .inr (1, [.ref b1, .ref b2, .int (nI lN)])), (b1, .inl (d, 6200, .inl ly)), (b2, .inl (d, 6200, .inl lq))] H := hP
    have hD : va_D A [(h, .inr (2, [.ref g, .ref ln, .ref hv, .ref hw, .ref ht, .int 0, .int 0, .int 0, .int t])), (hv, .inl (d, 12, .inl lv)), (hw, .inl (d, 12, .inl wy)), (ht, .inl (d, 12, .inl tr)), (g, .inr (1, [.ref a1, .ref a2, .int (nI gN)])), (a1, .inl (d, 256, .inl gy)), (a2, .inl (d, 256, .inl gq)), (ln, .inr (1, [.ref b1, .ref b2, .int (nI lN)])), (b1, .inl (d, 6200, .inl ly)), (b2, .inl (d, 6200, .inl lq))] := hD
    refine lv_aload_n hx hb dX2_run_36 rfl (lv_at hl 0 rfl) ?_
    refine lv_iconst (v := 0) hx hb dX2_run_37 (by decide) ?_
    refine va_put (D := (dC, dI)) (ci := 2) (v := .int 0) (ty := .int) (C := RX2) (T := TX2) (N := 9) hx hb hts in_X2 tyX2 tyX2_ok nmX2 hown hK hP hD hS 0 rfl rfl 8 (by decide) (hts _ q68) (fun _ h9 => h9) rfl (by decide +kernel) rfl rfl (Nat.le_of_ble_eq_true rfl) dX2_run_38 (fun H locs hP hD hS => ?_)
    have hP : va_P (dC, dI) vwCl [(h, .inr (2, [.ref g, .ref ln, .ref hv, .ref hw, .ref ht, .int 0, .int 0, .int 0, .int 0])), (hv, .inl (d, 12, .inl lv)), (hw, .inl (d, 12, .inl wy)), (ht, .inl (d, 12, .inl tr)), (g, .inr (1, [.ref a1, .ref a2, .int (nI gN)])), (a1, .inl (d, 256, .inl gy)), (a2, .inl (d, 256, .inl gq)), (ln, .inr (1, [.ref b1, .ref b2, .int (nI lN)])), (b1, .inl (d, 6200, .inl ly)), (b2, .inl (d, 6200, .inl lq))] H := hP
    have hD : va_D A [(h, .inr (2, [.ref g, .ref ln, .ref hv, .ref hw, .ref ht, .int 0, .int 0, .int 0, .int 0])), (hv, .inl (d, 12, .inl lv)), (hw, .inl (d, 12, .inl wy)), (ht, .inl (d, 12, .inl tr)), (g, .inr (1, [.ref a1, .ref a2, .int (nI gN)])), (a1, .inl (d, 256, .inl gy)), (a2, .inl (d, 256, .inl gq)), (ln, .inr (1, [.ref b1, .ref b2, .int (nI lN)])), (b1, .inl (d, 6200, .inl ly)), (b2, .inl (d, 6200, .inl lq))] := hD
    exact loop (4096 * 13 + 13) 0 lN [] 0 0 ly lq lv wy tr (by show (4096 - 0) * 13 + (12 - 0) < _; omega) ⟨by omega, Or.inl (Nat.zero_le _)⟩ (by omega) h2 trivial (sp_rep_nil lv wy tr 0) H locs hP hD hS ls (lv_sub hl [0, 1, 2, 3] rfl)
  refine lv_aload_n hx hb dX2_run_0 rfl (lv_at hl 0 rfl) ?_
  refine va_get (D := (dC, dI)) (ci := 2) (v := .ref ln) (C := RX2) (T := TX2) (N := 9) hx hb hts in_X2 hown hK hP 0 rfl rfl 1 (by decide) (hts _ q61) (fun _ h9 => h9) rfl dX2_run_1 ?_
  refine va_get (D := (dC, dI)) (ci := 1) (v := .int (nI lN)) (C := RX1) (T := TX1) (N := 3) hx hb hts in_X1 hown hK hP 7 rfl rfl 2 (by decide) (hts _ q41) (fun _ h9 => h9) rfl dX2_run_4 ?_
  refine lv_sipush (v := 2000) hx hb dX2_run_7 (by decide) ?_
  refine lv_icmp_le (tgt := 21) hx hb dX2_run_10 (by decide) (fun c_1 => ?_) (fun c_1 => ?_)
  · exact rest lN ((nI_leI (b := 2000) (by omega) (by omega)).mp c_1) k_lo _ _ hP hD hS ls (lv_sub hl [0, 1, 2, 3] rfl)
  · refine lv_aload_n hx hb dX2_run_13 rfl (lv_at hl 0 rfl) ?_
    refine va_get (D := (dC, dI)) (ci := 2) (v := .ref ln) (C := RX2) (T := TX2) (N := 9) hx hb hts in_X2 hown hK hP 0 rfl rfl 1 (by decide) (hts _ q61) (fun _ h9 => h9) rfl dX2_run_14 ?_
    refine lv_iconst (v := 0) hx hb dX2_run_17 (by decide) ?_
    refine va_put (D := (dC, dI)) (ci := 1) (v := .int 0) (ty := .int) (C := RX1) (T := TX1) (N := 3) hx hb hts in_X1 tyX1 tyX1_ok nmX1 hown hK hP hD hS 7 rfl rfl 2 (by decide) (hts _ q41) (fun _ h9 => h9) rfl (by decide +kernel) rfl rfl (Nat.le_of_ble_eq_true rfl) dX2_run_18 (fun H locs hP hD hS => ?_)
    have hP : va_P (dC, dI) vwCl [(h, .inr (2, [.ref g, .ref ln, .ref hv, .ref hw, .ref ht, .int td, .int lvs, .int k, .int t])), (hv, .inl (d, 12, .inl lv)), (hw, .inl (d, 12, .inl wy)), (ht, .inl (d, 12, .inl tr)), (g, .inr (1, [.ref a1, .ref a2, .int (nI gN)])), (a1, .inl (d, 256, .inl gy)), (a2, .inl (d, 256, .inl gq)), (ln, .inr (1, [.ref b1, .ref b2, .int 0])), (b1, .inl (d, 6200, .inl ly)), (b2, .inl (d, 6200, .inl lq))] H := hP
    have hD : va_D A [(h, .inr (2, [.ref g, .ref ln, .ref hv, .ref hw, .ref ht, .int td, .int lvs, .int k, .int t])), (hv, .inl (d, 12, .inl lv)), (hw, .inl (d, 12, .inl wy)), (ht, .inl (d, 12, .inl tr)), (g, .inr (1, [.ref a1, .ref a2, .int (nI gN)])), (a1, .inl (d, 256, .inl gy)), (a2, .inl (d, 256, .inl gq)), (ln, .inr (1, [.ref b1, .ref b2, .int 0])), (b1, .inl (d, 6200, .inl ly)), (b2, .inl (d, 6200, .inl lq))] := hD
    exact rest 0 (by omega) (fun j hj => absurd hj (Nat.not_lt_zero _)) _ _ hP hD hS ls (lv_sub hl [0, 1, 2, 3] rfl)
end
section
/-! Counting rows: letters are taken one by one -/
def cn_up (a : Nat → Bool) (x : Nat) (b : Bool) : Nat → Bool := fun i => if i = x then b else a i
theorem cn_up_s (a : Nat → Bool) (x : Nat) (b : Bool) : cn_up a x b x = b := if_pos rfl
theorem cn_up_n {a : Nat → Bool} {x i : Nat} {b : Bool} (h : i ≠ x) : cn_up a x b i = a i := if_neg h
theorem cn_up_c {a : Nat → Bool} {x z : Nat} {b c : Bool} (h : x ≠ z) : cn_up (cn_up a x b) z c = cn_up (cn_up a z c) x b := by
  funext i
  by_cases e1 : i = z
  · rw [e1, cn_up_s, cn_up_n (Ne.symm h), cn_up_s]
  · rw [cn_up_n e1]
    by_cases e2 : i = x
    · rw [e2, cn_up_s, cn_up_s]
    · rw [cn_up_n e2, cn_up_n e2, cn_up_n e1]
noncomputable def cn0 (p : Prop) : Nat := @ite Nat p (Classical.propDecidable p) 1 0
theorem cn0_t {p : Prop} (h : p) : cn0 p = 1 := @if_pos p (Classical.propDecidable p) h Nat 1 0
theorem cn0_f {p : Prop} (h : ¬ p) : cn0 p = 0 := @if_neg p (Classical.propDecidable p) h Nat 1 0
theorem cn0_c {p q : Prop} (h : p ↔ q) : cn0 p = cn0 q := by rw [propext h]
noncomputable def cn (P : (Nat → Bool) → Prop) (s : Nat → Bool) : Nat → (Nat → Bool) → Nat
  | 0, a => cn0 (P a)
  | k + 1, a => if s k = true then cn P s k (cn_up a k false) + cn P s k (cn_up a k true) else cn P s k a
section CN
variable {P P' P1 P2 : (Nat → Bool) → Prop} {s s' s1 s2 D D1 D2 : Nat → Bool} {k : Nat} {a b : Nat → Bool}
theorem cn_t (h : s k = true) : cn P s (k + 1) a = cn P s k (cn_up a k false) + cn P s k (cn_up a k true) := if_pos h
theorem cn_f (h : ¬ s k = true) : cn P s (k + 1) a = cn P s k a := if_neg h
theorem cn_ag {c : Bool} (hs : s k = true) {a' : Nat → Bool} (h : ∀ i, s i = false → a' i = cn_up a k c i) : ∀ i, s i = false → a' i = a i := by
  intro i hi
  rw [h i hi]
  refine cn_up_n (fun e => ?_)
  rw [e, hs] at hi
  cases hi
theorem cn_congr : ∀ {k : Nat} {a : Nat → Bool}, (∀ a', (∀ i, s i = false → a' i = a i) → (P a' ↔ P' a')) → (∀ i, i < k → s i = s' i) → cn P s k a = cn P' s' k a
  | 0, a, h, _ => cn0_c (h a (fun _ _ => rfl))
  | k + 1, a, h, hs => by
    by_cases e : s k = true
    · rw [cn_t e, cn_t (by rw [← hs k (Nat.lt_succ_self k)]; exact e)]
      rw [cn_congr (fun a' ha => h a' (cn_ag e ha)) (fun i hi => hs i (by omega)), cn_congr (fun a' ha => h a' (cn_ag e ha)) (fun i hi => hs i (by omega))]
    · rw [cn_f e, cn_f (by rw [← hs k (Nat.lt_succ_self k)]; exact e)]
      exact cn_congr h (fun i hi => hs i (by omega))
theorem cn_zero : ∀ {k : Nat} {a : Nat → Bool}, (∀ a', (∀ i, s i = false → a' i = a i) → ¬ P a') → cn P s k a = 0
  | 0, a, h => cn0_f (h a (fun _ _ => rfl))
  | k + 1, a, h => by
    by_cases e : s k = true
    · rw [cn_t e, cn_zero (fun a' ha => h a' (cn_ag e ha)), cn_zero (fun a' ha => h a' (cn_ag e ha))]
    · rw [cn_f e]
      exact cn_zero h
theorem cn_empty : ∀ {k : Nat} {a : Nat → Bool}, (∀ i, i < k → s i = false) → cn P s k a = cn0 (P a)
  | 0, _, _ => rfl
  | k + 1, a, h => by
    rw [cn_f (by rw [h k (Nat.lt_succ_self k)]; decide)]
    exact cn_empty (fun i hi => h i (by omega))
theorem cn_split {x : Nat} : ∀ {k : Nat} {a : Nat → Bool}, x < k → s x = true → (∀ i, i ≠ x → s' i = s i) → s' x = false → cn P s k a = cn P s' k (cn_up a x false) + cn P s' k (cn_up a x true)
  | 0, _, hx, _, _, _ => absurd hx (Nat.not_lt_zero _)
  | k + 1, a, hx, hsx, hs, hs' => by
    by_cases e : x = k
    · subst e
      rw [cn_t hsx, cn_f (by rw [hs']; decide), cn_f (by rw [hs']; decide)]
      rw [cn_congr (s' := s') (P' := P) (fun _ _ => Iff.rfl) (fun i hi => (hs i (by omega)).symm), cn_congr (s' := s') (P' := P) (fun _ _ => Iff.rfl) (fun i hi => (hs i (by omega)).symm)]
    · have hk : x < k := by omega
      by_cases e2 : s k = true
      · have e3 : s' k = true := by rw [hs k (Ne.symm e)]; exact e2
        rw [cn_t e2, cn_t e3, cn_t e3, cn_split (a := cn_up a k false) hk hsx hs hs', cn_split (a := cn_up a k true) hk hsx hs hs']
        rw [cn_up_c (a := a) (b := false) (c := false) (Ne.symm e), cn_up_c (a := a) (b := false) (c := true) (Ne.symm e), cn_up_c (a := a) (b := true) (c := false) (Ne.symm e), cn_up_c (a := a) (b := true) (c := true) (Ne.symm e)]
        omega
      · have e3 : ¬ s' k = true := by rw [hs k (Ne.symm e)]; exact e2
        rw [cn_f e2, cn_f e3, cn_f e3]
        exact cn_split hk hsx hs hs'
/-- a letter that can be in one way alone -/
theorem cn_forced {x : Nat} {c : Bool} (hx : x < k) (hsx : s x = true) (hs : ∀ i, i ≠ x → s' i = s i) (hs' : s' x = false) (h : ∀ a', (∀ i, s i = false → a' i = a i) → P a' → a' x = c) : cn P s k a = cn P s' k (cn_up a x c) := by
  have ag : ∀ (c' : Bool) (a' : Nat → Bool), (∀ i, s' i = false → a' i = cn_up a x c' i) → (∀ i, s i = false → a' i = a i) ∧ a' x = c' := by
    intro c' a' ha
    refine ⟨fun i hi => ?_, by rw [ha x hs', cn_up_s]⟩
    have hne : i ≠ x := fun e => by rw [e, hsx] at hi; cases hi
    rw [ha i (by rw [hs i hne]; exact hi), cn_up_n hne]
  rw [cn_split hx hsx hs hs']
  cases c
  · rw [cn_zero (a := cn_up a x true) (fun a' ha hp => by
      obtain ⟨h1, h2⟩ := ag true a' ha
      have := h a' h1 hp
      rw [h2] at this
      cases this), Nat.add_zero]
  · rw [cn_zero (a := cn_up a x false) (fun a' ha hp => by
      obtain ⟨h1, h2⟩ := ag false a' ha
      have := h a' h1 hp
      rw [h2] at this
      cases this), Nat.zero_add]
/-- P looks at the letters of D alone -/
def cn_on (P : (Nat → Bool) → Prop) (D : Nat → Bool) : Prop := ∀ a b : Nat → Bool, (∀ i, D i = true → a i = b i) → (P a ↔ P b)
theorem cn_dep (hD : cn_on P D) : ∀ {k : Nat} {a b : Nat → Bool}, (∀ i, D i = true → a i = b i) → cn P s k a = cn P s k b
  | 0, a, b, h => cn0_c (hD a b h)
  | k + 1, a, b, h => by
    have up : ∀ c i, D i = true → cn_up a k c i = cn_up b k c i := by
      intro c i hi
      by_cases e : i = k
      · rw [e, cn_up_s, cn_up_s]
      · rw [cn_up_n e, cn_up_n e, h i hi]
    by_cases e : s k = true
    · rw [cn_t e, cn_t e, cn_dep hD (up false), cn_dep hD (up true)]
    · rw [cn_f e, cn_f e]
      exact cn_dep hD h
theorem cn_mul (h1 : cn_on P1 D1) (h2 : cn_on P2 D2) (d1 : ∀ i, s2 i = true → D1 i = false) (d2 : ∀ i, s1 i = true → D2 i = false) (d12 : ∀ i, s1 i = true → s2 i = false) (hs : ∀ i, s i = (s1 i || s2 i)) :
    ∀ {k : Nat} {a : Nat → Bool}, (∀ a', (∀ i, s i = false → a' i = a i) → (P a' ↔ P1 a' ∧ P2 a')) → cn P s k a = cn P1 s1 k a * cn P2 s2 k a
  | 0, a, h => by
    have hp := h a (fun _ _ => rfl)
    show cn0 (P a) = cn0 (P1 a) * cn0 (P2 a)
    rw [cn0_c hp]
    by_cases q1 : P1 a
    · by_cases q2 : P2 a
      · rw [cn0_t ⟨q1, q2⟩, cn0_t q1, cn0_t q2]
      · rw [cn0_f (fun z => q2 z.2), cn0_f q2, Nat.mul_zero]
    · rw [cn0_f (fun z => q1 z.1), cn0_f q1, Nat.zero_mul]
  | k + 1, a, h => by
    by_cases e1 : s1 k = true
    · have e2 : ¬ s2 k = true := by rw [d12 k e1]; decide
      have e : s k = true := by rw [hs, e1]; rfl
      have nd : ∀ c, cn P2 s2 k (cn_up a k c) = cn P2 s2 k a := fun c => cn_dep h2 (fun i hi => cn_up_n (fun z => by rw [z, d2 k e1] at hi; cases hi))
      rw [cn_t e, cn_t e1, cn_f e2, cn_mul h1 h2 d1 d2 d12 hs (fun a' ha => h a' (cn_ag e ha)), cn_mul h1 h2 d1 d2 d12 hs (fun a' ha => h a' (cn_ag e ha)), nd, nd, Nat.add_mul]
    · by_cases e2 : s2 k = true
      · have e : s k = true := by rw [hs, e2, Bool.or_true]
        have nd : ∀ c, cn P1 s1 k (cn_up a k c) = cn P1 s1 k a := fun c => cn_dep h1 (fun i hi => cn_up_n (fun z => by rw [z, d1 k e2] at hi; cases hi))
        rw [cn_t e, cn_f e1, cn_t e2, cn_mul h1 h2 d1 d2 d12 hs (fun a' ha => h a' (cn_ag e ha)), cn_mul h1 h2 d1 d2 d12 hs (fun a' ha => h a' (cn_ag e ha)), nd, nd, Nat.mul_add]
      · have e : ¬ s k = true := by
          rw [hs]
          cases q1 : s1 k
          · cases q2 : s2 k
            · decide
            · exact absurd q2 e2
          · exact absurd q1 e1
        rw [cn_f e, cn_f e1, cn_f e2]
        exact cn_mul h1 h2 d1 d2 d12 hs h
theorem cn_ext (h : ∀ i, s i = s' i) : cn P s k a = cn P s' k a := cn_congr (fun _ _ => Iff.rfl) (fun i _ => h i)
theorem cn_high {n : Nat} (h : ∀ i, n ≤ i → s i = false) : ∀ j, cn P s (n + j) a = cn P s n a
  | 0 => rfl
  | j + 1 => by
    rw [show n + (j + 1) = (n + j) + 1 from rfl, cn_f (by rw [h _ (Nat.le_add_right n j)]; decide)]
    exact cn_high h j
end CN
/-- the rows below 2 ^ n one by one -/
theorem cn_rows {P : (Nat → Bool) → Prop} {pb : Nat → Bool} (hp : ∀ r, pb r = true ↔ P (fun i => r.testBit i)) {s : Nat → Bool} : ∀ (k r0 : Nat), (∀ i, i < k → s i = true) → r0 % 2 ^ k = 0 → hc pb (r0 + 2 ^ k) = hc pb r0 + cn P s k (fun i => r0.testBit i)
  | 0, r0, _, _ => by
    show hc pb (r0 + 1) = hc pb r0 + cn0 _
    by_cases e : pb r0 = true
    · rw [hc_s e, cn0_t ((hp r0).mp e)]
    · rw [hc_n e, cn0_f (fun z => e ((hp r0).mpr z))]
      rfl
  | k + 1, r0, hs, h0 => by
    have hpow : 2 ^ (k + 1) = 2 ^ k + 2 ^ k := by rw [Nat.pow_succ]; omega
    have hd : (2 ^ k) ∣ r0 := Nat.dvd_trans ⟨2, by rw [Nat.pow_succ]⟩ (Nat.dvd_of_mod_eq_zero h0)
    have m1 : r0 % 2 ^ k = 0 := Nat.mod_eq_zero_of_dvd hd
    have m2 : (r0 + 2 ^ k) % 2 ^ k = 0 := by rw [Nat.add_mod_right]; exact m1
    obtain ⟨c, hcc⟩ := Nat.dvd_of_mod_eq_zero h0
    have b0 : r0.testBit k = false := by
      rw [hcc, Nat.pow_succ, Nat.mul_assoc, Nat.testBit_two_pow_mul]
      simp [Nat.testBit_zero]
    have b1 : ∀ i, (r0 + 2 ^ k).testBit i = cn_up (fun i => r0.testBit i) k true i := by
      intro i
      have e : r0 + 2 ^ k = 2 ^ k * (2 * c + 1) := by rw [hcc, Nat.pow_succ, Nat.mul_add, Nat.mul_one, Nat.mul_assoc]
      have e0 : r0 = 2 ^ k * (2 * c) := by rw [hcc, Nat.pow_succ, Nat.mul_assoc]
      by_cases ei : i = k
      · rw [ei, cn_up_s, e, Nat.testBit_two_pow_mul]
        simp [Nat.testBit_zero]
      · rw [cn_up_n ei, e, Nat.testBit_two_pow_mul]
        show _ = r0.testBit i
        rw [e0, Nat.testBit_two_pow_mul]
        by_cases ek : k ≤ i
        · obtain ⟨j, hj⟩ : ∃ j, i - k = j + 1 := ⟨i - k - 1, by omega⟩
          rw [hj, Nat.testBit_succ, Nat.testBit_succ]
          rw [show (2 * c + 1) / 2 = 2 * c / 2 by omega]
        · simp [ek]
    have up0 : cn_up (fun i => r0.testBit i) k false = fun i => r0.testBit i := by
      funext i
      by_cases ei : i = k
      · rw [ei, cn_up_s]; exact b0.symm
      · rw [cn_up_n ei]
    have hs' : ∀ i, i < k → s i = true := fun i hi => hs i (by omega)
    rw [hpow, ← Nat.add_assoc, cn_rows hp k (r0 + 2 ^ k) hs' m2, cn_rows hp k r0 hs' m1, cn_t (hs k (Nat.lt_succ_self k)), up0]
    rw [show (fun i => (r0 + 2 ^ k).testBit i) = cn_up (fun i => r0.testBit i) k true from funext b1]
    omega
end
section
/-! The counter in plain words: k known letters, t their values, S the letters to be counted over -/
def cw_P (gN : Nat) (gy gq : Nat → Int32) (k S : Int32) (a : Nat → Bool) : Prop := ∀ j, j < gN → (∀ i, sp_in (gy j) (gq j) i → bt k i = true ∨ bt S i = true) → sp_m a (gy j) (gq j)
def cw_sep (gN : Nat) (gy gq : Nat → Int32) (k t S : Int32) : Prop := ∀ j, j < gN → ¬ cl_h (gy j) (gq j) k t = 0 ∨ cl_o (gy j) (gq j) k &&& S = 0 ∨ ∀ i, sp_in (gy j) (gq j) i → bt k i = true ∨ bt S i = true
def cw_pre (gN : Nat) (gy gq : Nat → Int32) (k t S : Int32) : Prop := (∀ i, bt t i = true → bt k i = true) ∧ (∀ i, bt S i = true → bt k i = false ∧ i < 12) ∧ cw_sep gN gy gq k t S
noncomputable def cw_n (gN : Nat) (gy gq : Nat → Int32) (k t S : Int32) : Nat := cn (cw_P gN gy gq k S) (bt S) 12 (bt t)
/-- no clause fails -/
def cw_nf (gN : Nat) (gy gq : Nat → Int32) (k t : Int32) : Prop := ∀ j, j < gN → ¬ cl_h (gy j) (gq j) k t = 0 ∨ ¬ cl_o (gy j) (gq j) k = 0
theorem cl_h_b (y q k t : Int32) : ¬ cl_h y q k t = 0 ↔ ∃ i, (bt y i = true ∧ bt q i = true) ∨ (bt y i = true ∧ bt k i = true ∧ bt t i = true) ∨ (bt q i = true ∧ bt k i = true ∧ bt t i = false) := by
  unfold cl_h
  rw [b_nz]
  constructor
  · rintro ⟨i, hi⟩
    rw [b_or, b_and, b_or, b_and, b_andn, b_and] at hi
    refine ⟨i, ?_⟩
    revert hi
    cases bt y i <;> cases bt q i <;> cases bt k i <;> cases bt t i <;> simp
  · rintro ⟨i, hi⟩
    refine ⟨i, ?_⟩
    rw [b_or, b_and, b_or, b_and, b_andn, b_and]
    revert hi
    cases bt y i <;> cases bt q i <;> cases bt k i <;> cases bt t i <;> simp
theorem cl_o_b (y q k : Int32) (i : Nat) : bt (cl_o y q k) i = true ↔ sp_in y q i ∧ bt k i = false := by
  unfold cl_o sp_in
  rw [b_andn, b_or]
  cases bt y i <;> cases bt q i <;> cases bt k i <;> simp
theorem cl_oS {y q k S : Int32} : cl_o y q k &&& S = 0 ↔ ∀ i, sp_in y q i → bt k i = false → bt S i = false := by
  rw [b_z]
  constructor
  · intro h i h1 h2
    have h3 := h i
    rw [b_and, (cl_o_b y q k i).mpr ⟨h1, h2⟩, Bool.true_and] at h3
    exact h3
  · intro h i
    rw [b_and]
    cases hb : bt (cl_o y q k) i
    · rfl
    · obtain ⟨h1, h2⟩ := (cl_o_b y q k i).mp hb
      rw [h i h1 h2]
      rfl
theorem cw_hold {y q k t : Int32} {a : Nat → Bool} (h : ¬ cl_h y q k t = 0) (ha : ∀ i, bt k i = true → a i = bt t i) : sp_m a y q := by
  obtain ⟨i, h⟩ := (cl_h_b y q k t).mp h
  refine ⟨i, ?_⟩
  rcases h with h | h | h
  · cases hv : a i
    · exact Or.inr ⟨h.2, rfl⟩
    · exact Or.inl ⟨h.1, rfl⟩
  · exact Or.inl ⟨h.1, by rw [ha i h.2.1]; exact h.2.2⟩
  · exact Or.inr ⟨h.1, by rw [ha i h.2.1]; exact h.2.2⟩
/-- where a clause that doesn't hold yet can hold: at a letter that isn't known -/
theorem cw_at {y q k t : Int32} {a : Nat → Bool} (h : cl_h y q k t = 0) (ha : ∀ i, bt k i = true → a i = bt t i) {i : Nat} (hi : (bt y i = true ∧ a i = true) ∨ (bt q i = true ∧ a i = false)) : bt k i = false := by
  cases hk : bt k i
  · rfl
  · exfalso
    apply (cl_h_b y q k t).mpr _ h
    rcases hi with hi | hi
    · exact ⟨i, Or.inr (Or.inl ⟨hi.1, hk, by rw [← ha i hk]; exact hi.2⟩)⟩
    · exact ⟨i, Or.inr (Or.inr ⟨hi.1, hk, by rw [← ha i hk]; exact hi.2⟩)⟩
theorem cw_in {y q : Int32} {a : Nat → Bool} {i : Nat} (hi : (bt y i = true ∧ a i = true) ∨ (bt q i = true ∧ a i = false)) : sp_in y q i := hi.imp (fun h => h.1) (fun h => h.1)
theorem cw_none {y q k t : Int32} {a : Nat → Bool} (h : cl_h y q k t = 0) (ho : cl_o y q k = 0) (ha : ∀ i, bt k i = true → a i = bt t i) : ¬ sp_m a y q := by
  rintro ⟨i, hi⟩
  have h1 := (cl_o_b y q k i).mpr ⟨cw_in hi, cw_at h ha hi⟩
  rw [ho, b_0] at h1
  cases h1
theorem cw_unit {y q k t : Int32} {a : Nat → Bool} {x : Nat} (h : cl_h y q k t = 0) (hx : x < 32) (ho : cl_o y q k = (1 : Int32) <<< (nI x &&& 31)) (ha : ∀ i, bt k i = true → a i = bt t i) (hm : sp_m a y q) : a x = bt y x := by
  obtain ⟨i, hi⟩ := hm
  have h1 := (cl_o_b y q k i).mpr ⟨cw_in hi, cw_at h ha hi⟩
  rw [ho, b_bit hx, decide_eq_true_eq] at h1
  subst h1
  rcases hi with hi | hi
  · rw [hi.1, hi.2]
  · rw [hi.2]
    cases hy : bt y i
    · rfl
    · exact absurd ((cl_h_b y q k t).mpr ⟨i, Or.inl ⟨hy, hi.1⟩⟩) (fun z => z h)
theorem cl_h_up {y q k t k' t' : Int32} (h1 : ∀ i, bt k i = true → bt k' i = true) (h2 : ∀ i, bt k i = true → bt t' i = bt t i) (h : ¬ cl_h y q k t = 0) : ¬ cl_h y q k' t' = 0 := by
  obtain ⟨i, h⟩ := (cl_h_b y q k t).mp h
  refine (cl_h_b y q k' t').mpr ⟨i, ?_⟩
  rcases h with h | h | h
  · exact Or.inl h
  · exact Or.inr (Or.inl ⟨h.1, h1 i h.2.1, by rw [h2 i h.2.1]; exact h.2.2⟩)
  · exact Or.inr (Or.inr ⟨h.1, h1 i h.2.1, by rw [h2 i h.2.1]; exact h.2.2⟩)
/-- the state of the loop that follows clauses with one letter: K known, T their values -/
def cw_up (gN : Nat) (gy gq : Nat → Int32) (k t S K T : Int32) : Prop := (∀ i, bt k i = true → bt K i = true) ∧ (∀ i, bt K i = true → bt k i = true ∨ bt S i = true) ∧ (∀ i, bt T i = true → bt K i = true) ∧ (∀ i, bt k i = true → bt T i = bt t i) ∧ cn (cw_P gN gy gq k S) (fun i => bt S i && !bt K i) 12 (bt T) = cw_n gN gy gq k t S
section CW
variable {gN : Nat} {gy gq : Nat → Int32} {k t S K T : Int32}
theorem cw_up0 (h : cw_pre gN gy gq k t S) : cw_up gN gy gq k t S k t := by
  refine ⟨fun _ h => h, fun _ h => Or.inl h, h.1, fun _ _ => rfl, cn_ext (fun i => ?_)⟩
  cases hb : bt S i
  · rfl
  · rw [(h.2.1 i hb).1]
    rfl
/-- what agrees outside the letters that are left agrees on the known ones -/
theorem cw_ag {a : Nat → Bool} (ha : ∀ i, (bt S i && !bt K i) = false → a i = bt T i) : ∀ i, bt K i = true → a i = bt T i := fun i hi => ha i (by rw [hi]; exact Bool.and_false _)
theorem cw_up_zero (hu : cw_up gN gy gq k t S K T) {j : Nat} (hj : j < gN) (h0 : cl_h (gy j) (gq j) K T = 0) (ho : cl_o (gy j) (gq j) K = 0) : cw_n gN gy gq k t S = 0 := by
  rw [← hu.2.2.2.2]
  refine cn_zero (fun a ha hP => ?_)
  refine cw_none h0 ho (cw_ag ha) (hP j hj (fun i hi => ?_))
  apply hu.2.1
  cases hk : bt K i
  · have := (cl_o_b (gy j) (gq j) K i).mpr ⟨hi, hk⟩
    rw [ho, b_0] at this
    cases this
  · rfl
theorem cw_up_step (hp : cw_pre gN gy gq k t S) (hu : cw_up gN gy gq k t S K T) {j x : Nat} (hj : j < gN) (h0 : cl_h (gy j) (gq j) K T = 0) (hx : x < 32) (ho : cl_o (gy j) (gq j) K = (1 : Int32) <<< (nI x &&& 31)) (hS : bt S x = true) :
    bt K x = false ∧ cw_up gN gy gq k t S (K ||| (1 : Int32) <<< (nI x &&& 31)) (if bt (gy j) x = true then T ||| (1 : Int32) <<< (nI x &&& 31) else T) := by
  obtain ⟨u1, u2, u3, u4, u5⟩ := hu
  have hxo : bt (cl_o (gy j) (gq j) K) x = true := by rw [ho, b_bit hx, decide_eq_true rfl]
  obtain ⟨hxin, hxK⟩ := (cl_o_b _ _ _ _).mp hxo
  have hx12 := (hp.2.1 x hS).2
  have hTx : bt T x = false := by
    cases hb : bt T x
    · rfl
    · rw [u3 x hb] at hxK
      cases hxK
  have hkx : bt k x = false := (hp.2.1 x hS).1
  have hrel : ∀ i, sp_in (gy j) (gq j) i → bt k i = true ∨ bt S i = true := by
    rcases hp.2.2 j hj with h | h | h
    · exact absurd h0 (cl_h_up u1 u4 h)
    · have := cl_oS.mp h x hxin hkx
      rw [hS] at this
      cases this
    · exact h
  have hTn : ∀ i, bt (if bt (gy j) x = true then T ||| (1 : Int32) <<< (nI x &&& 31) else T) i = cn_up (bt T) x (bt (gy j) x) i := by
    intro i
    by_cases e : i = x
    · subst e
      rw [cn_up_s]
      cases hy : bt (gy j) i
      · rw [if_neg (by decide)]; exact hTx
      · rw [if_pos rfl, b_or, b_bit hx, decide_eq_true rfl, Bool.or_true]
    · rw [cn_up_n e]
      cases hy : bt (gy j) x
      · rw [if_neg (by decide)]
      · rw [if_pos rfl, b_or, b_bit hx, decide_eq_false e, Bool.or_false]
  have hKn : ∀ i, bt (K ||| (1 : Int32) <<< (nI x &&& 31)) i = true ↔ bt K i = true ∨ i = x := by
    intro i
    rw [b_or, b_bit hx, Bool.or_eq_true, decide_eq_true_eq]
  refine ⟨hxK, fun i hi => (hKn i).mpr (Or.inl (u1 i hi)), fun i hi => ?_, fun i hi => ?_, fun i hi => ?_, ?_⟩
  · rcases (hKn i).mp hi with h | h
    · exact u2 i h
    · rw [h]; exact Or.inr hS
  · rw [hTn] at hi
    by_cases e : i = x
    · exact (hKn i).mpr (Or.inr e)
    · rw [cn_up_n e] at hi
      exact (hKn i).mpr (Or.inl (u3 i hi))
  · rw [hTn]
    have e : i ≠ x := fun e => by rw [e, hkx] at hi; cases hi
    rw [cn_up_n e]
    exact u4 i hi
  · rw [← u5, funext hTn]
    symm
    refine cn_forced (by omega) ?_ (fun i hi => ?_) ?_ (fun a ha hP => ?_)
    · show (bt S x && !bt K x) = true
      rw [hS, hxK]; rfl
    · show (bt S i && !bt (K ||| (1 : Int32) <<< (nI x &&& 31)) i) = (bt S i && !bt K i)
      rw [b_or, b_bit hx, decide_eq_false hi, Bool.or_false]
    · show (bt S x && !bt (K ||| (1 : Int32) <<< (nI x &&& 31)) x) = false
      rw [b_or, b_bit hx, decide_eq_true rfl, Bool.or_true]
      exact Bool.and_false _
    · exact cw_unit h0 hx ho (cw_ag ha) (hP j hj hrel)
/-- behind that loop: the letters that are left -/
theorem cw_rest (hp : cw_pre gN gy gq k t S) (hu : cw_up gN gy gq k t S K T) : cw_pre gN gy gq K T (S &&& (K ^^^ (-1))) ∧ cw_n gN gy gq K T (S &&& (K ^^^ (-1))) = cw_n gN gy gq k t S := by
  obtain ⟨u1, u2, u3, u4, u5⟩ := hu
  have hR : ∀ i, bt (S &&& (K ^^^ (-1))) i = (bt S i && !bt K i) := fun i => b_andn S K i
  have hu2 : ∀ i, (bt K i = true ∨ bt (S &&& (K ^^^ (-1))) i = true) ↔ (bt k i = true ∨ bt S i = true) := by
    intro i
    rw [hR]
    constructor
    · rintro (h | h)
      · exact u2 i h
      · rw [Bool.and_eq_true] at h; exact Or.inr h.1
    · rintro (h | h)
      · exact Or.inl (u1 i h)
      · cases hk : bt K i
        · rw [h]; exact Or.inr rfl
        · exact Or.inl rfl
  refine ⟨⟨u3, fun i hi => ?_, fun j hj => ?_⟩, ?_⟩
  · rw [hR, Bool.and_eq_true] at hi
    refine ⟨?_, (hp.2.1 i hi.1).2⟩
    cases hk : bt K i
    · rfl
    · rw [hk] at hi; exact absurd hi.2 (by decide)
  · rcases hp.2.2 j hj with h | h | h
    · exact Or.inl (cl_h_up u1 u4 h)
    · refine Or.inr (Or.inl (cl_oS.mpr (fun i h1 h2 => ?_)))
      rw [hR]
      have hk : bt k i = false := by
        cases hk : bt k i
        · rfl
        · rw [u1 i hk] at h2; cases h2
      rw [cl_oS.mp h i h1 hk]
      rfl
    · exact Or.inr (Or.inr (fun i hi => (hu2 i).mpr (h i hi)))
  · rw [← u5]
    unfold cw_n
    refine cn_congr (fun a _ => ?_) (fun i _ => hR i)
    exact ⟨fun h j hj hr => h j hj (fun i hi => (hu2 i).mpr (hr i hi)), fun h j hj hr => h j hj (fun i hi => (hu2 i).mp (hr i hi))⟩
theorem cw_on (k S : Int32) : cn_on (cw_P gN gy gq k S) (fun i => bt k i || bt S i) := by
  have one : ∀ a b : Nat → Bool, (∀ i, (bt k i || bt S i) = true → a i = b i) → cw_P gN gy gq k S a → cw_P gN gy gq k S b := by
    intro a b hab h j hj hr
    obtain ⟨i, hi⟩ := h j hj hr
    have e : a i = b i := hab i (by
      rcases hr i (cw_in hi) with h | h
      · rw [h]; rfl
      · rw [h, Bool.or_true])
    rw [e] at hi
    exact ⟨i, hi⟩
  exact fun a b hab => ⟨one a b hab, one b a (fun i hi => (hab i hi).symm)⟩
/-- a part of the letters that no clause joins to the rest -/
theorem cw_part (hp : cw_pre gN gy gq k t S) (hnf : cw_nf gN gy gq k t) {Q : Int32} (hQ : ∀ i, bt Q i = true → bt S i = true) (hc : ∀ j, j < gN → ¬ cl_h (gy j) (gq j) k t = 0 ∨ cl_o (gy j) (gq j) k &&& Q = 0 ∨ ∀ i, sp_in (gy j) (gq j) i → bt k i = false → bt S i = true → bt Q i = true) :
    cw_pre gN gy gq k t Q ∧ cw_pre gN gy gq k t (S &&& (Q ^^^ (-1))) ∧ cw_n gN gy gq k t S = cw_n gN gy gq k t Q * cw_n gN gy gq k t (S &&& (Q ^^^ (-1))) := by
  have hR : ∀ i, bt (S &&& (Q ^^^ (-1))) i = true ↔ bt S i = true ∧ bt Q i = false := by
    intro i
    rw [b_andn]
    cases bt S i <;> cases bt Q i <;> simp
  -- a clause that doesn't hold and touches S lies in Q or apart from it
  have key : ∀ j, j < gN → ¬ cl_h (gy j) (gq j) k t = 0 ∨ cl_o (gy j) (gq j) k &&& S = 0 ∨ (∀ i, sp_in (gy j) (gq j) i → bt k i = true ∨ bt Q i = true) ∨ ((∀ i, sp_in (gy j) (gq j) i → bt k i = true ∨ bt (S &&& (Q ^^^ (-1))) i = true) ∧ cl_o (gy j) (gq j) k &&& Q = 0) := by
    intro j hj
    rcases hp.2.2 j hj with h | h | h
    · exact Or.inl h
    · exact Or.inr (Or.inl h)
    · rcases hc j hj with h2 | h2 | h2
      · exact Or.inl h2
      · refine Or.inr (Or.inr (Or.inr ⟨fun i hi => ?_, h2⟩))
        cases hk : bt k i
        · rcases h i hi with h3 | h3
          · rw [hk] at h3; cases h3
          · exact Or.inr ((hR i).mpr ⟨h3, cl_oS.mp h2 i hi hk⟩)
        · exact Or.inl rfl
      · refine Or.inr (Or.inr (Or.inl (fun i hi => ?_)))
        cases hk : bt k i
        · rcases h i hi with h3 | h3
          · rw [hk] at h3; cases h3
          · exact Or.inr (h2 i hi hk h3)
        · exact Or.inl rfl
  refine ⟨⟨hp.1, fun i hi => hp.2.1 i (hQ i hi), fun j hj => ?_⟩, ⟨hp.1, fun i hi => hp.2.1 i ((hR i).mp hi).1, fun j hj => ?_⟩, ?_⟩
  · rcases key j hj with h | h | h | h
    · exact Or.inl h
    · refine Or.inr (Or.inl (cl_oS.mpr (fun i h1 h2 => ?_)))
      cases hq : bt Q i
      · rfl
      · rw [← cl_oS.mp h i h1 h2]; exact (hQ i hq).symm
    · exact Or.inr (Or.inr h)
    · exact Or.inr (Or.inl h.2)
  · rcases key j hj with h | h | h | h
    · exact Or.inl h
    · refine Or.inr (Or.inl (cl_oS.mpr (fun i h1 h2 => ?_)))
      cases hq : bt (S &&& (Q ^^^ (-1))) i
      · rfl
      · rw [← cl_oS.mp h i h1 h2]; exact ((hR i).mp hq).1.symm
    · refine Or.inr (Or.inl (cl_oS.mpr (fun i h1 h2 => ?_)))
      cases hq : bt (S &&& (Q ^^^ (-1))) i
      · rfl
      · rcases h i h1 with h3 | h3
        · rw [h2] at h3; cases h3
        · rw [((hR i).mp hq).2] at h3; cases h3
    · exact Or.inr (Or.inr h.1)
  · unfold cw_n
    refine cn_mul (cw_on k Q) (cw_on k (S &&& (Q ^^^ (-1)))) (fun i hi => ?_) (fun i hi => ?_) (fun i hi => ?_) (fun i => ?_) (fun a ha => ?_)
    · obtain ⟨h1, h2⟩ := (hR i).mp hi
      show (bt k i || bt Q i) = false
      rw [(hp.2.1 i h1).1, h2]
      rfl
    · show (bt k i || bt (S &&& (Q ^^^ (-1))) i) = false
      rw [(hp.2.1 i (hQ i hi)).1, b_andn, hi]
      simp
    · rw [b_andn, hi]
      simp
    · rw [b_andn]
      cases hq : bt Q i
      · simp
      · rw [hQ i hq]; rfl
    · have ha' : ∀ i, bt k i = true → a i = bt t i := fun i hi => ha i (by
        cases hs : bt S i
        · rfl
        · rw [(hp.2.1 i hs).1] at hi; cases hi)
      constructor
      · intro h
        refine ⟨fun j hj hr => h j hj (fun i hi => (hr i hi).imp (fun z => z) (hQ i)), fun j hj hr => h j hj (fun i hi => (hr i hi).imp (fun z => z) (fun z => ((hR i).mp z).1))⟩
      · rintro ⟨h1, h2⟩ j hj hr
        rcases key j hj with h | h | h | h
        · exact cw_hold h ha'
        · rcases hnf j hj with h3 | h3
          · exact cw_hold h3 ha'
          · obtain ⟨i, hi⟩ := b_nz.mp h3
            obtain ⟨h4, h5⟩ := (cl_o_b _ _ _ _).mp hi
            have h6 := cl_oS.mp h i h4 h5
            rcases hr i h4 with h7 | h7
            · rw [h5] at h7; cases h7
            · rw [h6] at h7; cases h7
        · exact h1 j hj h
        · exact h2 j hj h.1
/-- no letter is left -/
theorem cw_done (hnf : cw_nf gN gy gq k t) : cw_n gN gy gq k t 0 = 1 := by
  unfold cw_n
  rw [cn_empty (fun i _ => b_0 i)]
  refine cn0_t (fun j hj hr => ?_)
  rcases hnf j hj with h | h
  · exact cw_hold h (fun _ _ => rfl)
  · obtain ⟨i, hi⟩ := b_nz.mp h
    obtain ⟨h4, h5⟩ := (cl_o_b _ _ _ _).mp hi
    rcases hr i h4 with h7 | h7
    · rw [h5] at h7; cases h7
    · rw [b_0] at h7; cases h7
/-- one letter by itself, that no clause has -/
theorem cw_alone {x : Nat} (hx : x < 32) (hS : S = (1 : Int32) <<< (nI x &&& 31)) (hp : cw_pre gN gy gq k t S) (hnf : cw_nf gN gy gq k t) (hu : ∀ j, j < gN → ¬ cl_h (gy j) (gq j) k t = 0 ∨ cl_o (gy j) (gq j) k &&& S = 0) : cw_n gN gy gq k t S = 2 := by
  have hSx : bt S x = true := by rw [hS, b_bit hx, decide_eq_true rfl]
  have hSn : ∀ i, i ≠ x → bt S i = false := fun i hi => by rw [hS, b_bit hx, decide_eq_false hi]
  obtain ⟨hkx, hx12⟩ := hp.2.1 x hSx
  unfold cw_n
  rw [cn_split (s' := fun _ => false) (by omega) hSx (fun i hi => (hSn i hi).symm) rfl, cn_empty (fun _ _ => rfl), cn_empty (fun _ _ => rfl)]
  have all : ∀ c, cw_P gN gy gq k S (cn_up (bt t) x c) := by
    intro c j hj hr
    have ha : ∀ i, bt k i = true → cn_up (bt t) x c i = bt t i := fun i hi => cn_up_n (fun e => by rw [e, hkx] at hi; cases hi)
    rcases hu j hj with h | h
    · exact cw_hold h ha
    · rcases hnf j hj with h3 | h3
      · exact cw_hold h3 ha
      · obtain ⟨i, hi⟩ := b_nz.mp h3
        obtain ⟨h4, h5⟩ := (cl_o_b _ _ _ _).mp hi
        have h6 := cl_oS.mp h i h4 h5
        rcases hr i h4 with h7 | h7
        · rw [h5] at h7; cases h7
        · rw [h6] at h7; cases h7
  rw [cn0_t (all false), cn0_t (all true)]
/-- one letter is tried both ways -/
theorem cw_split {x : Nat} (hx : x < 32) (hS : bt S x = true) (hp : cw_pre gN gy gq k t S) :
    cw_pre gN gy gq (k ||| (1 : Int32) <<< (nI x &&& 31)) (t &&& (((1 : Int32) <<< (nI x &&& 31)) ^^^ (-1))) (S &&& (((1 : Int32) <<< (nI x &&& 31)) ^^^ (-1))) ∧
    cw_pre gN gy gq (k ||| (1 : Int32) <<< (nI x &&& 31)) (t ||| (1 : Int32) <<< (nI x &&& 31)) (S &&& (((1 : Int32) <<< (nI x &&& 31)) ^^^ (-1))) ∧
    cw_n gN gy gq k t S = cw_n gN gy gq (k ||| (1 : Int32) <<< (nI x &&& 31)) (t &&& (((1 : Int32) <<< (nI x &&& 31)) ^^^ (-1))) (S &&& (((1 : Int32) <<< (nI x &&& 31)) ^^^ (-1))) + cw_n gN gy gq (k ||| (1 : Int32) <<< (nI x &&& 31)) (t ||| (1 : Int32) <<< (nI x &&& 31)) (S &&& (((1 : Int32) <<< (nI x &&& 31)) ^^^ (-1))) := by
  obtain ⟨hkx, hx12⟩ := hp.2.1 x hS
  have htx : bt t x = false := by
    cases hb : bt t x
    · rfl
    · rw [hp.1 x hb] at hkx; cases hkx
  have hR : ∀ i, bt (S &&& (((1 : Int32) <<< (nI x &&& 31)) ^^^ (-1))) i = true ↔ bt S i = true ∧ i ≠ x := by
    intro i
    rw [b_andn, b_bit hx]
    by_cases e : i = x
    · simp [e]
    · simp [e]
  have hk' : ∀ i, bt (k ||| (1 : Int32) <<< (nI x &&& 31)) i = true ↔ bt k i = true ∨ i = x := by
    intro i
    rw [b_or, b_bit hx, Bool.or_eq_true, decide_eq_true_eq]
  have ht0 : ∀ i, bt (t &&& (((1 : Int32) <<< (nI x &&& 31)) ^^^ (-1))) i = cn_up (bt t) x false i := by
    intro i
    rw [b_andn, b_bit hx]
    by_cases e : i = x
    · rw [e, cn_up_s]; simp
    · rw [cn_up_n e]; simp [e]
  have ht1 : ∀ i, bt (t ||| (1 : Int32) <<< (nI x &&& 31)) i = cn_up (bt t) x true i := by
    intro i
    rw [b_or, b_bit hx]
    by_cases e : i = x
    · rw [e, cn_up_s]; simp
    · rw [cn_up_n e]; simp [e]
  have hu : ∀ i, (bt (k ||| (1 : Int32) <<< (nI x &&& 31)) i = true ∨ bt (S &&& (((1 : Int32) <<< (nI x &&& 31)) ^^^ (-1))) i = true) ↔ (bt k i = true ∨ bt S i = true) := by
    intro i
    rw [hk', hR]
    constructor
    · rintro ((h | h) | h)
      · exact Or.inl h
      · rw [h]; exact Or.inr hS
      · exact Or.inr h.1
    · rintro (h | h)
      · exact Or.inl (Or.inl h)
      · by_cases e : i = x
        · exact Or.inl (Or.inr e)
        · exact Or.inr ⟨h, e⟩
  have pre : ∀ (t' : Int32) (c : Bool), (∀ i, bt t' i = cn_up (bt t) x c i) → cw_pre gN gy gq (k ||| (1 : Int32) <<< (nI x &&& 31)) t' (S &&& (((1 : Int32) <<< (nI x &&& 31)) ^^^ (-1))) := by
    intro t' c ht'
    refine ⟨fun i hi => ?_, fun i hi => ?_, fun j hj => ?_⟩
    · rw [ht'] at hi
      by_cases e : i = x
      · exact (hk' i).mpr (Or.inr e)
      · rw [cn_up_n e] at hi
        exact (hk' i).mpr (Or.inl (hp.1 i hi))
    · obtain ⟨h1, h2⟩ := (hR i).mp hi
      refine ⟨?_, (hp.2.1 i h1).2⟩
      cases hb : bt (k ||| (1 : Int32) <<< (nI x &&& 31)) i
      · rfl
      · rcases (hk' i).mp hb with h | h
        · rw [(hp.2.1 i h1).1] at h; cases h
        · exact absurd h h2
    · rcases hp.2.2 j hj with h | h | h
      · refine Or.inl (cl_h_up (fun i hi => (hk' i).mpr (Or.inl hi)) (fun i hi => ?_) h)
        rw [ht', cn_up_n (fun e => by rw [e, hkx] at hi; cases hi)]
      · refine Or.inr (Or.inl (cl_oS.mpr (fun i h1 h2 => ?_)))
        cases hb : bt (S &&& (((1 : Int32) <<< (nI x &&& 31)) ^^^ (-1))) i
        · rfl
        · have h3 := ((hR i).mp hb).1
          rw [← h3]
          refine cl_oS.mp h i h1 ?_
          cases hk : bt k i
          · rfl
          · rw [(hk' i).mpr (Or.inl hk)] at h2; cases h2
      · exact Or.inr (Or.inr (fun i hi => (hu i).mpr (h i hi)))
  have same : ∀ a, cw_P gN gy gq k S a ↔ cw_P gN gy gq (k ||| (1 : Int32) <<< (nI x &&& 31)) (S &&& (((1 : Int32) <<< (nI x &&& 31)) ^^^ (-1))) a := fun a =>
    ⟨fun h j hj hr => h j hj (fun i hi => (hu i).mp (hr i hi)), fun h j hj hr => h j hj (fun i hi => (hu i).mpr (hr i hi))⟩
  refine ⟨pre _ false ht0, pre _ true ht1, ?_⟩
  unfold cw_n
  rw [funext ht0, funext ht1]
  have hsp := cn_split (P := cw_P gN gy gq k S) (s := bt S) (s' := bt (S &&& (((1 : Int32) <<< (nI x &&& 31)) ^^^ (-1)))) (k := 12) (a := bt t) (by omega) hS (fun i hi => by
    cases hb : bt S i
    · cases hb2 : bt (S &&& (((1 : Int32) <<< (nI x &&& 31)) ^^^ (-1))) i
      · rfl
      · rw [((hR i).mp hb2).1] at hb; cases hb
    · exact (hR i).mpr ⟨hb, hi⟩) (by
    cases hb2 : bt (S &&& (((1 : Int32) <<< (nI x &&& 31)) ^^^ (-1))) x
    · rfl
    · exact absurd rfl ((hR x).mp hb2).2)
  rw [hsp, cn_congr (fun a _ => same a) (fun _ _ => rfl), cn_congr (a := cn_up (bt t) x true) (fun a _ => same a) (fun _ _ => rfl)]
end CW
/-- how many letters a word has -/
theorem hc_sub {P P' : Nat → Bool} : ∀ {n : Nat}, (∀ i, i < n → P i = true → P' i = true) → hc P n ≤ hc P' n
  | 0, _ => Nat.le_refl _
  | n + 1, h => by
    have ih := hc_sub (n := n) (fun i hi => h i (by omega))
    by_cases q : P n = true
    · rw [hc_s q, hc_s (h n (Nat.lt_succ_self n) q)]; omega
    · rw [hc_n q]
      by_cases q2 : P' n = true
      · rw [hc_s q2]; omega
      · rw [hc_n q2]; exact ih
theorem hc_lt {P P' : Nat → Bool} {x : Nat} : ∀ {n : Nat}, (∀ i, i < n → P i = true → P' i = true) → x < n → P x = false → P' x = true → hc P n < hc P' n
  | 0, _, hx, _, _ => absurd hx (Nat.not_lt_zero _)
  | n + 1, h, hx, h1, h2 => by
    by_cases e : x = n
    · subst e
      rw [hc_n (by rw [h1]; decide), hc_s h2]
      have := hc_sub (n := x) (fun i hi => h i (by omega))
      omega
    · have ih := hc_lt (n := n) (fun i hi => h i (by omega)) (by omega) h1 h2
      by_cases q : P n = true
      · rw [hc_s q, hc_s (h n (Nat.lt_succ_self n) q)]; omega
      · rw [hc_n q]
        by_cases q2 : P' n = true
        · rw [hc_s q2]; omega
        · rw [hc_n q2]; exact ih
end
section
/-! Counter: touched, grown, split, ways -/
set_option maxHeartbeats 4000000 in
set_option maxRecDepth 100000 in
theorem metX3_init (l : Launch) (dC : Nat → ClassId) (dI : Nat → Nat → Nat) (d : ClassId) (sz : Nat) (h g : Nat) : Met l yX3_init (ws_ yX3_init cX3_init 2 (none)) ({ frames := 1, cells := 0, slots := 0, locals := 12 }) (wk_M (dC, dI) [] [(h, .inr (3, [.null]))] [.ref h, .ref g] sz) (va_Qv (fun _ : Unit => True) (wk_B (dC, dI) [] (va_A [(h, .inr (3, [.null]))] sz) (fun _ => [(h, .inr (3, [.ref g]))])) (va_A [(h, .inr (3, [.null]))] sz)) 0 0 (va_A [(h, .inr (3, [.null]))] sz) := by
  refine Met.ofW (cc := cX3_init) (maxL := 2) (ret := none) (by decide) rfl ?_
  intro p e s m args below meth c s₁ Bd hml hv
  obtain ⟨rfl, hsz, hP, hK, hD0⟩ := hv
  have hx := Bd.exec
  have hb := Bd.bytes
  have hr := Bd.returns
  have hts := atoms_spec (ws := ws_ yX3_init cX3_init 2 (none)) Bd.pre
  have hts : ∀ w ∈ lw_all, w.before _ s = true := fun w h => hts w (List.mem_cons_of_mem _ h)
  have hown : s.vm.findClass RX3 = some m.cls := findClass_of_methodNamed Bd.named
  have hlocks := Bd.notSynchronized
  have hin : meth.name = "<init>" := (name_of_methodNamed Bd.named Bd.method).1
  have hK : va_K (dC, dI) vwCl [] s := hK
  subst hsz
  have hD := hD0.self (sz := s.heap.size)
  generalize hAe : va_A [(h, .inr (3, [.null]))] s.heap.size = A at hD ⊢
  have hA : ∀ q : Nat, s.heap.size ≤ q → A q := fun q h => by rw [← hAe]; exact Or.inr h
  have hS : va_S A s.heap s.heap [] := va_S.rf
  have hP : va_P (dC, dI) vwCl [(h, .inr (3, [.null]))] s.heap := hP
  have hl := lv_entry ([.ref h, .ref g]) (n := 2) (Nat.le_of_ble_eq_true rfl)
  rw [lg_entry_eq]
  generalize (lg_sl ([.ref h, .ref g]) ++ List.replicate (2 - (lg_sl ([.ref h, .ref g])).length) Slot.unset).toArray = ls at hl ⊢
  have hl : lv_has ls 2 [(0, .ref h), (1, .ref g)] := hl
  refine lv_aload_n hx hb dX3_init_0 rfl (lv_at hl 0 rfl) ?_
  refine W.objInit hx hb hown (hts _ q94) (hts _ q27) (hts _ q28) rfl (by rw [hml]; exact hl.1) rfl dX3_init_1 (Nat.le_of_ble_eq_true rfl) (Nat.le_of_ble_eq_true rfl) ?_
  refine W.eq (g2 := F0 m 4 ls []) rfl ?_
  refine lv_aload_n hx hb dX3_init_4 rfl (lv_at hl 0 rfl) ?_
  refine lv_aload_n hx hb dX3_init_5 rfl (lv_at hl 1 rfl) ?_
  refine va_putF (D := (dC, dI)) (ci := 3) (v := .ref g) (ty := .object "ClauseDesk$Clauses") (C := RX3) (T := TX3) (N := 1) hx hb hts in_X3 tyX3 tyX3_ok nmX3 hown hK hP hD hS 0 rfl rfl 0 (by decide) (hts _ q95) (fun _ h9 => h9) rfl hin rfl (by decide +kernel) rfl rfl (Nat.le_of_ble_eq_true rfl) dX3_init_6 (fun H locs hP hD hS => ?_)
  have hP : va_P (dC, dI) vwCl [(h, .inr (3, [.ref g]))] H := hP
  have hD : va_D A [(h, .inr (3, [.ref g]))] := hD
  exact wk_vret (()) hx hb hr hlocks (trivial) hK hP hD hS dX3_init_9
set_option maxHeartbeats 4000000 in
set_option maxRecDepth 100000 in
theorem metX3_touched (l : Launch) (dC : Nat → ClassId) (dI : Nat → Nat → Nat) (d : ClassId) (h g a1 a2 gN : Nat) (gy gq : Nat → Int32) (Q k t : Int32) (k_gN : gN ≤ 256) : Met l yX3_touched (ws_ yX3_touched cX3_touched 5 (some .boolean)) ({ frames := 1, cells := 0, slots := 0, locals := 24 }) (wk_R (dC, dI) [(d, .int)] [(h, .inr (3, [.ref g])), (g, .inr (1, [.ref a1, .ref a2, .int (nI gN)])), (a1, .inl (d, 256, .inl gy)), (a2, .inl (d, 256, .inl gq))] [.ref h, .int Q, .int k, .int t]) (vp_Si (fun r : Int32 => r = 0 → ∀ j, j < gN → ¬ cl_h (gy j) (gq j) k t = 0 ∨ cl_o (gy j) (gq j) k &&& Q = 0)) 0 0 (fun _ => False) := by
  refine Met.ofW (cc := cX3_touched) (maxL := 5) (ret := some .boolean) (by decide) rfl ?_
  intro p e s m args below meth c s₁ Bd hml hv
  obtain ⟨rfl, hP, hK⟩ := hv
  have hx := Bd.exec
  have hb := Bd.bytes
  have hr := Bd.returns
  have hts := atoms_spec (ws := ws_ yX3_touched cX3_touched 5 (some .boolean)) Bd.pre
  have hts : ∀ w ∈ lw_all, w.before _ s = true := fun w h => hts w (List.mem_cons_of_mem _ h)
  have hown : s.vm.findClass RX3 = some m.cls := findClass_of_methodNamed Bd.named
  have hlocks := Bd.notSynchronized
  have hK : va_K (dC, dI) vwCl [(d, .int)] s := hK
  have hP : va_P (dC, dI) vwCl [(h, .inr (3, [.ref g])), (g, .inr (1, [.ref a1, .ref a2, .int (nI gN)])), (a1, .inl (d, 256, .inl gy)), (a2, .inl (d, 256, .inl gq))] s.heap := hP
  have hl := lv_entry ([.ref h, .int Q, .int k, .int t]) (n := 5) (Nat.le_of_ble_eq_true rfl)
  rw [lg_entry_eq]
  generalize (lg_sl ([.ref h, .int Q, .int k, .int t]) ++ List.replicate (5 - (lg_sl ([.ref h, .int Q, .int k, .int t])).length) Slot.unset).toArray = ls at hl ⊢
  have hl : lv_has ls 5 [(0, .ref h), (1, .int Q), (2, .int k), (3, .int t)] := hl
  refine lv_iconst (v := 0) hx hb dX3_touched_0 (by decide) ?_
  refine lv_istore (lv' := [(4, .int 0), (0, .ref h), (1, .int Q), (2, .int k), (3, .int t)]) hx hb dX3_touched_1 hl (by decide) rfl (fun ls hl => ?_)
  have loop : ∀ (N9 : Nat) (i : Nat), (gN - i < N9) → (i ≤ gN) → (∀ j, j < i → ¬ cl_h (gy j) (gq j) k t = 0 ∨ cl_o (gy j) (gq j) k &&& Q = 0) → ∀ (ls : Array Slot), lv_has ls 5 [(4, .int (nI i)), (0, .ref h), (1, .int Q), (2, .int k), (3, .int t)] → W p l e (headSpec (ws_ yX3_touched cX3_touched 5 (some .boolean)) ({ frames := 1, cells := 0, slots := 0, locals := 24 })).room s m ([.ref h, .int Q, .int k, .int t] : List Value).toArray below meth c s.heap [] 0 0 (MQ below (vp_Si (fun r : Int32 => r = 0 → ∀ j, j < gN → ¬ cl_h (gy j) (gq j) k t = 0 ∨ cl_o (gy j) (gq j) k &&& Q = 0)) ([.ref h, .int Q, .int k, .int t] : List Value).toArray s 0 0 (fun _ => False)) (F0 m 3 ls []) := by
    intro N9
    induction N9 with
    | zero =>
      intro i h9
      exact absurd h9 (Nat.not_lt_zero _)
    | succ N9 ih =>
      intro i h1 h2 h3 ls hl
      refine lv_iload hx hb dX3_touched_3 (lv_at hl 0 rfl) ?_
      refine lv_aload_n hx hb dX3_touched_5 rfl (lv_at hl 1 rfl) ?_
      refine va_get (D := (dC, dI)) (ci := 3) (v := .ref g) (C := RX3) (T := TX3) (N := 1) hx hb hts in_X3 hown hK hP 0 rfl rfl 0 (by decide) (hts _ q95) (fun _ h9 => h9) rfl dX3_touched_6 ?_
      refine va_get (D := (dC, dI)) (ci := 1) (v := .int (nI gN)) (C := RX1) (T := TX1) (N := 3) hx hb hts in_X1 hown hK hP 1 rfl rfl 2 (by decide) (hts _ q42) (fun _ h9 => h9) rfl dX3_touched_9 ?_
      refine lv_icmp_ge (tgt := 52) hx hb dX3_touched_12 (by decide) (fun c_1 => ?_) (fun c_1 => ?_)
      · have hi : i = gN := Nat.le_antisymm h2 ((nI_leI (by omega) (by omega)).mp c_1)
        subst hi
        refine lv_iconst (v := 0) hx hb dX3_touched_52 (by decide) ?_
        exact wk_zretR hx hb hr hlocks (by decide) (fun _ => h3) dX3_touched_53
      · have hi : i < gN := Nat.lt_of_not_le (fun q => c_1 ((nI_leI (by omega) (by omega)).mpr q))
        refine lv_aload_n hx hb dX3_touched_15 rfl (lv_at hl 1 rfl) ?_
        refine va_get (D := (dC, dI)) (ci := 3) (v := .ref g) (C := RX3) (T := TX3) (N := 1) hx hb hts in_X3 hown hK hP 0 rfl rfl 0 (by decide) (hts _ q95) (fun _ h9 => h9) rfl dX3_touched_16 ?_
        refine lv_iload hx hb dX3_touched_19 (lv_at hl 0 rfl) ?_
        refine lv_iload_n hx hb dX3_touched_21 rfl (lv_at hl 3 rfl) ?_
        refine lv_iload_n hx hb dX3_touched_22 rfl (lv_at hl 4 rfl) ?_
        have hPc := hP.sub (ws' := [(g, .inr (1, [.ref a1, .ref a2, .int (nI gN)])), (a1, .inl (d, 256, .inl gy)), (a2, .inl (d, 256, .inl gq))]) [1, 2, 3] rfl
        refine vp_callSi (W.runV (As := [.int (nI i), .int k, .int t]) (rest := []) ⟨hx, hb, hml, hown, hts⟩ (metX1_holds l dC dI d g a1 a2 256 i gy gq (nI gN) k t (by omega) (by omega)) (cwV 3 hts (lw_V q208 q157 q158 q15 q159) rfl rfl rfl (by decide +kernel) ⟨Nat.le_of_ble_eq_true rfl, Nat.le_of_ble_eq_true rfl⟩) (wk_R.preV (q := (RX1, TX1, 3)) (ci := 1) (q0 := 0) hK hPc rfl rfl) rfl rfl hl.1 rfl (lv_room (Nat.le_of_ble_eq_true rfl)) dX3_touched_23 ⟨Nat.le_of_ble_eq_true rfl, Nat.le_of_ble_eq_true rfl⟩) (fun r1 hr1 => ?_)
        refine lv_if_ne (tgt := 46) hx hb dX3_touched_26 (by decide) (fun c_2 => ?_) (fun c_2 => ?_)
        · refine lv_iinc (v := nI (i + 1)) (lv' := [(4, .int (nI (i + 1))), (0, .ref h), (1, .int Q), (2, .int k), (3, .int t)]) hx hb dX3_touched_46 hl (k := 0) rfl ((nI_succ _).symm) (by decide) rfl (fun ls hl => ?_)
          refine lv_goto (tgt := 3) hx hb dX3_touched_49 (by decide) ?_
          exact ih (i + 1) (by omega) (by omega) (fun j hj => by
            by_cases e : j = i
            · rw [e]; exact Or.inl (fun q => c_2 (by rw [hr1, if_pos q]))
            · exact h3 j (by omega)) ls (lv_sub hl [0, 1, 2, 3, 4] rfl)
        · refine lv_aload_n hx hb dX3_touched_29 rfl (lv_at hl 1 rfl) ?_
          refine va_get (D := (dC, dI)) (ci := 3) (v := .ref g) (C := RX3) (T := TX3) (N := 1) hx hb hts in_X3 hown hK hP 0 rfl rfl 0 (by decide) (hts _ q95) (fun _ h9 => h9) rfl dX3_touched_30 ?_
          refine lv_iload hx hb dX3_touched_33 (lv_at hl 0 rfl) ?_
          refine lv_iload_n hx hb dX3_touched_35 rfl (lv_at hl 3 rfl) ?_
          have hPc := hP.sub (ws' := [(g, .inr (1, [.ref a1, .ref a2, .int (nI gN)])), (a1, .inl (d, 256, .inl gy)), (a2, .inl (d, 256, .inl gq))]) [1, 2, 3] rfl
          refine vp_callSi (W.runV (As := [.int (nI i), .int k]) (rest := []) ⟨hx, hb, hml, hown, hts⟩ (metX1_open l dC dI d g a1 a2 256 i gy gq (nI gN) k (by omega) (by omega)) (cwV 2 hts (lw_V q209 q161 q162 q15 q163) rfl rfl rfl (by decide +kernel) ⟨Nat.le_of_ble_eq_true rfl, Nat.le_of_ble_eq_true rfl⟩) (wk_R.preV (q := (RX1, TX1, 3)) (ci := 1) (q0 := 0) hK hPc rfl rfl) rfl rfl hl.1 rfl (lv_room (Nat.le_of_ble_eq_true rfl)) dX3_touched_36 ⟨Nat.le_of_ble_eq_true rfl, Nat.le_of_ble_eq_true rfl⟩) (fun r2 hr2 => ?_)
          refine lv_iload_n hx hb dX3_touched_39 rfl (lv_at hl 2 rfl) ?_
          refine lv_iand hx hb dX3_touched_40 ?_
          refine lv_if_eq (tgt := 46) hx hb dX3_touched_41 (by decide) (fun c_3 => ?_) (fun c_3 => ?_)
          · refine lv_iinc (v := nI (i + 1)) (lv' := [(4, .int (nI (i + 1))), (0, .ref h), (1, .int Q), (2, .int k), (3, .int t)]) hx hb dX3_touched_46 hl (k := 0) rfl ((nI_succ _).symm) (by decide) rfl (fun ls hl => ?_)
            refine lv_goto (tgt := 3) hx hb dX3_touched_49 (by decide) ?_
            exact ih (i + 1) (by omega) (by omega) (fun j hj => by
              by_cases e : j = i
              · rw [e]; exact Or.inr (by rw [← hr2]; exact c_3)
              · exact h3 j (by omega)) ls (lv_sub hl [0, 1, 2, 3, 4] rfl)
          · refine lv_iconst (v := 1) hx hb dX3_touched_44 (by decide) ?_
            exact wk_zretR hx hb hr hlocks (by decide) (fun q => absurd q (by decide)) dX3_touched_45
  exact loop (gN + 1) 0 (by omega) (by omega) (fun j hj => absurd hj (Nat.not_lt_zero _)) ls (lv_sub hl [0, 1, 2, 3, 4] rfl)
set_option maxHeartbeats 4000000 in
set_option maxRecDepth 100000 in
theorem metX3_grown (l : Launch) (dC : Nat → ClassId) (dI : Nat → Nat → Nat) (d : ClassId) (h g a1 a2 gN : Nat) (gy gq : Nat → Int32) (p0 R k t : Int32) (k_gN : gN ≤ 256) (k_p : ∀ z, bt p0 z = true → bt R z = true) (k_R : ∀ z, bt R z = true → z < 12) : Met l yX3_grown (ws_ yX3_grown cX3_grown 9 (some .int)) ({ frames := 1, cells := 0, slots := 0, locals := 24 }) (wk_R (dC, dI) [(d, .int)] [(h, .inr (3, [.ref g])), (g, .inr (1, [.ref a1, .ref a2, .int (nI gN)])), (a1, .inl (d, 256, .inl gy)), (a2, .inl (d, 256, .inl gq))] [.ref h, .int p0, .int R, .int k, .int t]) (vp_Si (fun r : Int32 => (∀ z, bt p0 z = true → bt r z = true) ∧ (∀ z, bt r z = true → bt R z = true) ∧ (∀ j, j < gN → ¬ cl_h (gy j) (gq j) k t = 0 ∨ cl_o (gy j) (gq j) k &&& r = 0 ∨ ∀ z, sp_in (gy j) (gq j) z → bt k z = false → bt R z = true → bt r z = true))) 0 0 (fun _ => False) := by
  refine Met.ofW (cc := cX3_grown) (maxL := 9) (ret := some .int) (by decide) rfl ?_
  intro p e s m args below meth c s₁ Bd hml hv
  obtain ⟨rfl, hP, hK⟩ := hv
  have hx := Bd.exec
  have hb := Bd.bytes
  have hr := Bd.returns
  have hts := atoms_spec (ws := ws_ yX3_grown cX3_grown 9 (some .int)) Bd.pre
  have hts : ∀ w ∈ lw_all, w.before _ s = true := fun w h => hts w (List.mem_cons_of_mem _ h)
  have hown : s.vm.findClass RX3 = some m.cls := findClass_of_methodNamed Bd.named
  have hlocks := Bd.notSynchronized
  have hK : va_K (dC, dI) vwCl [(d, .int)] s := hK
  have hP : va_P (dC, dI) vwCl [(h, .inr (3, [.ref g])), (g, .inr (1, [.ref a1, .ref a2, .int (nI gN)])), (a1, .inl (d, 256, .inl gy)), (a2, .inl (d, 256, .inl gq))] s.heap := hP
  have hl := lv_entry ([.ref h, .int p0, .int R, .int k, .int t]) (n := 9) (Nat.le_of_ble_eq_true rfl)
  rw [lg_entry_eq]
  generalize (lg_sl ([.ref h, .int p0, .int R, .int k, .int t]) ++ List.replicate (9 - (lg_sl ([.ref h, .int p0, .int R, .int k, .int t])).length) Slot.unset).toArray = ls at hl ⊢
  have hl : lv_has ls 9 [(0, .ref h), (1, .int p0), (2, .int R), (3, .int k), (4, .int t)] := hl
  refine lv_iload_n hx hb dX3_grown_0 rfl (lv_at hl 1 rfl) ?_
  refine lv_istore (lv' := [(5, .int p0), (0, .ref h), (1, .int p0), (2, .int R), (3, .int k), (4, .int t)]) hx hb dX3_grown_1 hl (by decide) rfl (fun ls hl => ?_)
  refine lv_iconst (v := 0) hx hb dX3_grown_3 (by decide) ?_
  refine lv_istore (lv' := [(6, .int 0), (5, .int p0), (0, .ref h), (1, .int p0), (2, .int R), (3, .int k), (4, .int t)]) hx hb dX3_grown_4 hl (by decide) rfl (fun ls hl => ?_)
  have loop : ∀ (N9 : Nat) (bf pt : Int32), (13 - hc (bt bf) 12 < N9) → (∀ z, bt bf z = true → bt pt z = true) → (∀ z, bt pt z = true → bt R z = true) → (∀ z, bt p0 z = true → bt pt z = true) → (∀ j, j < gN → ¬ cl_h (gy j) (gq j) k t = 0 ∨ cl_o (gy j) (gq j) k &&& bf = 0 ∨ ∀ z, sp_in (gy j) (gq j) z → bt k z = false → bt R z = true → bt pt z = true) → ∀ (ls : Array Slot), lv_has ls 9 [(6, .int bf), (5, .int pt), (0, .ref h), (1, .int p0), (2, .int R), (3, .int k), (4, .int t)] → W p l e (headSpec (ws_ yX3_grown cX3_grown 9 (some .int)) ({ frames := 1, cells := 0, slots := 0, locals := 24 })).room s m ([.ref h, .int p0, .int R, .int k, .int t] : List Value).toArray below meth c s.heap [] 0 0 (MQ below (vp_Si (fun r : Int32 => (∀ z, bt p0 z = true → bt r z = true) ∧ (∀ z, bt r z = true → bt R z = true) ∧ (∀ j, j < gN → ¬ cl_h (gy j) (gq j) k t = 0 ∨ cl_o (gy j) (gq j) k &&& r = 0 ∨ ∀ z, sp_in (gy j) (gq j) z → bt k z = false → bt R z = true → bt r z = true))) ([.ref h, .int p0, .int R, .int k, .int t] : List Value).toArray s 0 0 (fun _ => False)) (F0 m 6 ls []) := by
    intro N9
    induction N9 with
    | zero =>
      intro bf pt h9
      exact absurd h9 (Nat.not_lt_zero _)
    | succ N9 ih =>
      intro bf pt h1 h2 h3 h4 h5 ls hl
      refine lv_iload hx hb dX3_grown_6 (lv_at hl 1 rfl) ?_
      refine lv_iload hx hb dX3_grown_8 (lv_at hl 0 rfl) ?_
      refine lv_icmp_eq (tgt := 88) hx hb dX3_grown_10 (by decide) (fun c_1 => ?_) (fun c_1 => ?_)
      · subst c_1
        refine lv_iload hx hb dX3_grown_88 (lv_at hl 1 rfl) ?_
        exact wk_iretR hx hb hr hlocks (⟨h4, h3, h5⟩) dX3_grown_90
      · have hlt : hc (bt bf) 12 < hc (bt pt) 12 := by
          have hne : ∃ z, bt pt z = true ∧ bt bf z = false := by
            apply Classical.byContradiction
            intro hn
            apply c_1
            apply b_ext
            intro z _
            cases hb : bt bf z
            · cases hp : bt pt z
              · rfl
              · exact absurd ⟨z, hp, hb⟩ hn
            · exact h2 z hb
          obtain ⟨z, hz1, hz2⟩ := hne
          exact hc_lt (fun i _ => h2 i) (k_R z (h3 z hz1)) hz2 hz1
        have hle12 := hc_le (bt pt) 12
        refine lv_iload hx hb dX3_grown_13 (lv_at hl 1 rfl) ?_
        refine lv_istore (lv' := [(6, .int pt), (5, .int pt), (0, .ref h), (1, .int p0), (2, .int R), (3, .int k), (4, .int t)]) hx hb dX3_grown_15 hl (by decide) rfl (fun ls hl => ?_)
        refine lv_iconst (v := 0) hx hb dX3_grown_17 (by decide) ?_
        refine lv_istore (lv' := [(7, .int 0), (6, .int pt), (5, .int pt), (0, .ref h), (1, .int p0), (2, .int R), (3, .int k), (4, .int t)]) hx hb dX3_grown_18 hl (by decide) rfl (fun ls hl => ?_)
        have inner : ∀ (M9 : Nat) (i : Nat) (pn : Int32), (gN - i < M9) → (i ≤ gN) → (∀ z, bt pt z = true → bt pn z = true) → (∀ z, bt pn z = true → bt R z = true) → (∀ j, j < i → ¬ cl_h (gy j) (gq j) k t = 0 ∨ cl_o (gy j) (gq j) k &&& pt = 0 ∨ ∀ z, sp_in (gy j) (gq j) z → bt k z = false → bt R z = true → bt pn z = true) → ∀ (ls : Array Slot), lv_has ls 9 [(7, .int (nI i)), (6, .int pt), (5, .int pn), (0, .ref h), (1, .int p0), (2, .int R), (3, .int k), (4, .int t)] → W p l e (headSpec (ws_ yX3_grown cX3_grown 9 (some .int)) ({ frames := 1, cells := 0, slots := 0, locals := 24 })).room s m ([.ref h, .int p0, .int R, .int k, .int t] : List Value).toArray below meth c s.heap [] 0 0 (MQ below (vp_Si (fun r : Int32 => (∀ z, bt p0 z = true → bt r z = true) ∧ (∀ z, bt r z = true → bt R z = true) ∧ (∀ j, j < gN → ¬ cl_h (gy j) (gq j) k t = 0 ∨ cl_o (gy j) (gq j) k &&& r = 0 ∨ ∀ z, sp_in (gy j) (gq j) z → bt k z = false → bt R z = true → bt r z = true))) ([.ref h, .int p0, .int R, .int k, .int t] : List Value).toArray s 0 0 (fun _ => False)) (F0 m 20 ls []) := by
          intro M9
          induction M9 with
          | zero =>
            intro i pn h9
            exact absurd h9 (Nat.not_lt_zero _)
          | succ M9 ih2 =>
            intro i pn g1 h2 g3 g4 g5 ls hl
            refine lv_iload hx hb dX3_grown_20 (lv_at hl 0 rfl) ?_
            refine lv_aload_n hx hb dX3_grown_22 rfl (lv_at hl 3 rfl) ?_
            refine va_get (D := (dC, dI)) (ci := 3) (v := .ref g) (C := RX3) (T := TX3) (N := 1) hx hb hts in_X3 hown hK hP 0 rfl rfl 0 (by decide) (hts _ q95) (fun _ h9 => h9) rfl dX3_grown_23 ?_
            refine va_get (D := (dC, dI)) (ci := 1) (v := .int (nI gN)) (C := RX1) (T := TX1) (N := 3) hx hb hts in_X1 hown hK hP 1 rfl rfl 2 (by decide) (hts _ q42) (fun _ h9 => h9) rfl dX3_grown_26 ?_
            refine lv_icmp_ge (tgt := 85) hx hb dX3_grown_29 (by decide) (fun c_1 => ?_) (fun c_1 => ?_)
            · have hi : i = gN := Nat.le_antisymm h2 ((nI_leI (by omega) (by omega)).mp c_1)
              subst hi
              refine lv_goto (tgt := 6) hx hb dX3_grown_85 (by decide) ?_
              exact ih pt pn (by omega) g3 g4 (fun z hz => g3 z (h4 z hz)) g5 ls (lv_sub hl [1, 2, 3, 4, 5, 6, 7] rfl)
            · have hi : i < gN := Nat.lt_of_not_le (fun q => c_1 ((nI_leI (by omega) (by omega)).mpr q))
              refine lv_aload_n hx hb dX3_grown_32 rfl (lv_at hl 3 rfl) ?_
              refine va_get (D := (dC, dI)) (ci := 3) (v := .ref g) (C := RX3) (T := TX3) (N := 1) hx hb hts in_X3 hown hK hP 0 rfl rfl 0 (by decide) (hts _ q95) (fun _ h9 => h9) rfl dX3_grown_33 ?_
              refine lv_iload hx hb dX3_grown_36 (lv_at hl 0 rfl) ?_
              refine lv_iload_n hx hb dX3_grown_38 rfl (lv_at hl 6 rfl) ?_
              refine lv_iload hx hb dX3_grown_39 (lv_at hl 7 rfl) ?_
              have hPc := hP.sub (ws' := [(g, .inr (1, [.ref a1, .ref a2, .int (nI gN)])), (a1, .inl (d, 256, .inl gy)), (a2, .inl (d, 256, .inl gq))]) [1, 2, 3] rfl
              refine vp_callSi (W.runV (As := [.int (nI i), .int k, .int t]) (rest := []) ⟨hx, hb, hml, hown, hts⟩ (metX1_holds l dC dI d g a1 a2 256 i gy gq (nI gN) k t (by omega) (by omega)) (cwV 3 hts (lw_V q208 q157 q158 q15 q159) rfl rfl rfl (by decide +kernel) ⟨Nat.le_of_ble_eq_true rfl, Nat.le_of_ble_eq_true rfl⟩) (wk_R.preV (q := (RX1, TX1, 3)) (ci := 1) (q0 := 0) hK hPc rfl rfl) rfl rfl hl.1 rfl (lv_room (Nat.le_of_ble_eq_true rfl)) dX3_grown_41 ⟨Nat.le_of_ble_eq_true rfl, Nat.le_of_ble_eq_true rfl⟩) (fun r1 hr1 => ?_)
              refine lv_if_eq (tgt := 50) hx hb dX3_grown_44 (by decide) (fun c_2 => ?_) (fun c_2 => ?_)
              · refine lv_aload_n hx hb dX3_grown_50 rfl (lv_at hl 3 rfl) ?_
                refine va_get (D := (dC, dI)) (ci := 3) (v := .ref g) (C := RX3) (T := TX3) (N := 1) hx hb hts in_X3 hown hK hP 0 rfl rfl 0 (by decide) (hts _ q95) (fun _ h9 => h9) rfl dX3_grown_51 ?_
                refine lv_iload hx hb dX3_grown_54 (lv_at hl 0 rfl) ?_
                refine lv_iload_n hx hb dX3_grown_56 rfl (lv_at hl 6 rfl) ?_
                have hPc := hP.sub (ws' := [(g, .inr (1, [.ref a1, .ref a2, .int (nI gN)])), (a1, .inl (d, 256, .inl gy)), (a2, .inl (d, 256, .inl gq))]) [1, 2, 3] rfl
                refine vp_callSi (W.runV (As := [.int (nI i), .int k]) (rest := []) ⟨hx, hb, hml, hown, hts⟩ (metX1_open l dC dI d g a1 a2 256 i gy gq (nI gN) k (by omega) (by omega)) (cwV 2 hts (lw_V q209 q161 q162 q15 q163) rfl rfl rfl (by decide +kernel) ⟨Nat.le_of_ble_eq_true rfl, Nat.le_of_ble_eq_true rfl⟩) (wk_R.preV (q := (RX1, TX1, 3)) (ci := 1) (q0 := 0) hK hPc rfl rfl) rfl rfl hl.1 rfl (lv_room (Nat.le_of_ble_eq_true rfl)) dX3_grown_57 ⟨Nat.le_of_ble_eq_true rfl, Nat.le_of_ble_eq_true rfl⟩) (fun r2 hr2 => ?_)
                refine lv_istore (lv' := [(8, .int r2), (7, .int (nI i)), (6, .int pt), (5, .int pn), (0, .ref h), (1, .int p0), (2, .int R), (3, .int k), (4, .int t)]) hx hb dX3_grown_60 hl (by decide) rfl (fun ls hl => ?_)
                refine lv_iload hx hb dX3_grown_62 (lv_at hl 0 rfl) ?_
                refine lv_iload hx hb dX3_grown_64 (lv_at hl 3 rfl) ?_
                refine lv_iand hx hb dX3_grown_66 ?_
                refine lv_if_eq (tgt := 79) hx hb dX3_grown_67 (by decide) (fun c_3 => ?_) (fun c_3 => ?_)
                · refine lv_iinc (v := nI (i + 1)) (lv' := [(7, .int (nI (i + 1))), (8, .int r2), (6, .int pt), (5, .int pn), (0, .ref h), (1, .int p0), (2, .int R), (3, .int k), (4, .int t)]) hx hb dX3_grown_79 hl (k := 1) rfl ((nI_succ _).symm) (by decide) rfl (fun ls hl => ?_)
                  refine lv_goto (tgt := 20) hx hb dX3_grown_82 (by decide) ?_
                  exact ih2 (i + 1) pn (by omega) (by omega) g3 g4 (fun j hj => by
                    by_cases e : j = i
                    · rw [e]; exact Or.inr (Or.inl (cl_oS.mpr (fun z a1 a2 => by
                        cases hb : bt pt z
                        · rfl
                        · have h9 := cl_oS.mp (show cl_o (gy i) (gq i) k &&& pn = 0 by rw [← hr2]; exact c_3) z a1 a2
                          rw [g3 z hb] at h9; cases h9)))
                    · exact g5 j (by omega)) ls (lv_sub hl [0, 2, 3, 4, 5, 6, 7, 8] rfl)
                · have hmo : ∀ z, bt pn z = true → bt (pn ||| (r2 &&& R)) z = true := fun z hz => by rw [b_or, hz]; rfl
                  have hmR : ∀ z, bt (pn ||| (r2 &&& R)) z = true → bt R z = true := fun z hz => by
                    rw [b_or, b_and, Bool.or_eq_true, Bool.and_eq_true] at hz
                    exact hz.elim (g4 z) (fun q => q.2)
                  refine lv_iload hx hb dX3_grown_70 (lv_at hl 3 rfl) ?_
                  refine lv_iload hx hb dX3_grown_72 (lv_at hl 0 rfl) ?_
                  refine lv_iload_n hx hb dX3_grown_74 rfl (lv_at hl 6 rfl) ?_
                  refine lv_iand hx hb dX3_grown_75 ?_
                  refine lv_ior hx hb dX3_grown_76 ?_
                  refine lv_istore (lv' := [(5, .int (pn ||| (r2 &&& R))), (8, .int r2), (7, .int (nI i)), (6, .int pt), (0, .ref h), (1, .int p0), (2, .int R), (3, .int k), (4, .int t)]) hx hb dX3_grown_77 hl (by decide) rfl (fun ls hl => ?_)
                  refine lv_iinc (v := nI (i + 1)) (lv' := [(7, .int (nI (i + 1))), (5, .int (pn ||| (r2 &&& R))), (8, .int r2), (6, .int pt), (0, .ref h), (1, .int p0), (2, .int R), (3, .int k), (4, .int t)]) hx hb dX3_grown_79 hl (k := 2) rfl ((nI_succ _).symm) (by decide) rfl (fun ls hl => ?_)
                  refine lv_goto (tgt := 20) hx hb dX3_grown_82 (by decide) ?_
                  exact ih2 (i + 1) (pn ||| (r2 &&& R)) (by omega) (by omega) (fun z hz => hmo z (g3 z hz)) hmR (fun j hj => by
                    by_cases e : j = i
                    · rw [e]; exact Or.inr (Or.inr (fun z a1 a2 a3 => by rw [b_or, b_and, hr2, (cl_o_b _ _ _ _).mpr ⟨a1, a2⟩, a3]; exact Bool.or_true _))
                    · exact (g5 j (by omega)).imp (fun q => q) (fun q => q.imp (fun q => q) (fun q z a1 a2 a3 => hmo z (q z a1 a2 a3)))) ls (lv_sub hl [0, 3, 1, 4, 5, 6, 7, 8] rfl)
              · refine lv_goto (tgt := 79) hx hb dX3_grown_47 (by decide) ?_
                refine lv_iinc (v := nI (i + 1)) (lv' := [(7, .int (nI (i + 1))), (6, .int pt), (5, .int pn), (0, .ref h), (1, .int p0), (2, .int R), (3, .int k), (4, .int t)]) hx hb dX3_grown_79 hl (k := 0) rfl ((nI_succ _).symm) (by decide) rfl (fun ls hl => ?_)
                refine lv_goto (tgt := 20) hx hb dX3_grown_82 (by decide) ?_
                exact ih2 (i + 1) pn (by omega) (by omega) g3 g4 (fun j hj => by
                  by_cases e : j = i
                  · rw [e]; exact Or.inl (fun q => c_2 (by rw [hr1, if_pos q]))
                  · exact g5 j (by omega)) ls (lv_sub hl [0, 1, 2, 3, 4, 5, 6, 7] rfl)
        exact inner (gN + 1) 0 pt (by omega) (by omega) (fun _ h => h) h3 (fun j hj => absurd hj (Nat.not_lt_zero _)) ls (lv_sub hl [0, 1, 2, 3, 4, 5, 6, 7] rfl)
  exact loop 14 0 p0 (by omega) (fun z hz => by rw [b_0] at hz; cases hz) k_p (fun _ h => h) (fun j hj => Or.inr (Or.inl (cl_oS.mpr (fun z _ _ => b_0 z)))) ls (lv_sub hl [0, 1, 2, 3, 4, 5, 6] rfl)
set_option maxHeartbeats 4000000 in
set_option maxRecDepth 100000 in
theorem metX3_split_open (l : Launch) (dC : Nat → ClassId) (dI : Nat → Nat → Nat) (d : ClassId) (h g a1 a2 gN : Nat) (gy gq : Nat → Int32) (dd : Nat) (k_W : ∀ (S k t : Int32), cw_pre gN gy gq k t S → hc (bt S) 12 ≤ dd → Met l yX3_ways (ws_ yX3_ways cX3_ways 10 (some .int)) ({ frames := (2 * dd + 2), cells := 0, slots := 0, locals := (60 + 60 * dd) }) (wk_R (dC, dI) [(d, .int)] [(h, .inr (3, [.ref g])), (g, .inr (1, [.ref a1, .ref a2, .int (nI gN)])), (a1, .inl (d, 256, .inl gy)), (a2, .inl (d, 256, .inl gq))] [.ref h, .int S, .int k, .int t]) (vp_Si (fun r : Int32 => r = nI (cw_n gN gy gq k t S))) 0 0 (fun _ => False)) (Q k t : Int32) (k_gN : gN ≤ 256) (k_p : cw_pre gN gy gq k t Q) (k_0 : ¬ Q = 0) (k_d : hc (bt Q) 12 ≤ dd + 1) : Met l yX3_split (ws_ yX3_split cX3_split 6 (some .int)) ({ frames := (2 * (dd + 1) + 1), cells := 0, slots := 0, locals := (30 + 60 * (dd + 1)) }) (wk_R (dC, dI) [(d, .int)] [(h, .inr (3, [.ref g])), (g, .inr (1, [.ref a1, .ref a2, .int (nI gN)])), (a1, .inl (d, 256, .inl gy)), (a2, .inl (d, 256, .inl gq))] [.ref h, .int Q, .int k, .int t]) (vp_Si (fun r : Int32 => r = nI (cw_n gN gy gq k t Q))) 0 0 (fun _ => False) := by
  refine Met.ofW (cc := cX3_split) (maxL := 6) (ret := some .int) (by decide) rfl ?_
  intro p e s m args below meth c s₁ Bd hml hv
  obtain ⟨rfl, hP, hK⟩ := hv
  have hx := Bd.exec
  have hb := Bd.bytes
  have hr := Bd.returns
  have hts := atoms_spec (ws := ws_ yX3_split cX3_split 6 (some .int)) Bd.pre
  have hts : ∀ w ∈ lw_all, w.before _ s = true := fun w h => hts w (List.mem_cons_of_mem _ h)
  have hown : s.vm.findClass RX3 = some m.cls := findClass_of_methodNamed Bd.named
  have hlocks := Bd.notSynchronized
  have hK : va_K (dC, dI) vwCl [(d, .int)] s := hK
  have hP : va_P (dC, dI) vwCl [(h, .inr (3, [.ref g])), (g, .inr (1, [.ref a1, .ref a2, .int (nI gN)])), (a1, .inl (d, 256, .inl gy)), (a2, .inl (d, 256, .inl gq))] s.heap := hP
  have hl := lv_entry ([.ref h, .int Q, .int k, .int t]) (n := 6) (Nat.le_of_ble_eq_true rfl)
  rw [lg_entry_eq]
  generalize (lg_sl ([.ref h, .int Q, .int k, .int t]) ++ List.replicate (6 - (lg_sl ([.ref h, .int Q, .int k, .int t])).length) Slot.unset).toArray = ls at hl ⊢
  have hl : lv_has ls 6 [(0, .ref h), (1, .int Q), (2, .int k), (3, .int t)] := hl
  obtain ⟨x, hx3, hQx, ex⟩ := b_low k_0
  obtain ⟨hp0, hp1, hsum⟩ := cw_split hx3 hQx k_p
  have hlt : hc (bt (Q &&& (((1 : Int32) <<< (nI x &&& 31)) ^^^ (-1)))) 12 < hc (bt Q) 12 := hc_lt (x := x) (fun i _ hi => by
    rw [b_andn, Bool.and_eq_true] at hi
    exact hi.1) (k_p.2.1 x hQx).2 (by rw [b_andn, b_bit hx3, decide_eq_true rfl]; simp) hQx
  refine lv_iload_n hx hb dX3_split_0 rfl (lv_at hl 1 rfl) ?_
  refine lv_iload_n hx hb dX3_split_1 rfl (lv_at hl 1 rfl) ?_
  refine lv_ineg hx hb dX3_split_2 ?_
  refine lv_iand hx hb dX3_split_3 ?_
  refine wk_top (y := ((1 : Int32) <<< (nI x &&& 31))) (ex) ?_
  refine lv_istore (lv' := [(4, .int ((1 : Int32) <<< (nI x &&& 31))), (0, .ref h), (1, .int Q), (2, .int k), (3, .int t)]) hx hb dX3_split_4 hl (by decide) rfl (fun ls hl => ?_)
  refine lv_iload_n hx hb dX3_split_6 rfl (lv_at hl 2 rfl) ?_
  refine lv_iload hx hb dX3_split_7 (lv_at hl 0 rfl) ?_
  refine lv_iconst (v := (-1)) hx hb dX3_split_9 (by decide) ?_
  refine lv_ixor hx hb dX3_split_10 ?_
  refine lv_iand hx hb dX3_split_11 ?_
  refine lv_istore (lv' := [(5, .int (Q &&& (((1 : Int32) <<< (nI x &&& 31)) ^^^ (-1)))), (4, .int ((1 : Int32) <<< (nI x &&& 31))), (0, .ref h), (1, .int Q), (2, .int k), (3, .int t)]) hx hb dX3_split_12 hl (by decide) rfl (fun ls hl => ?_)
  refine lv_aload_n hx hb dX3_split_14 rfl (lv_at hl 2 rfl) ?_
  refine lv_iload hx hb dX3_split_15 (lv_at hl 0 rfl) ?_
  refine lv_iload_n hx hb dX3_split_17 rfl (lv_at hl 4 rfl) ?_
  refine lv_iload hx hb dX3_split_18 (lv_at hl 1 rfl) ?_
  refine lv_ior hx hb dX3_split_20 ?_
  refine lv_iload_n hx hb dX3_split_21 rfl (lv_at hl 5 rfl) ?_
  refine lv_iload hx hb dX3_split_22 (lv_at hl 1 rfl) ?_
  refine lv_iconst (v := (-1)) hx hb dX3_split_24 (by decide) ?_
  refine lv_ixor hx hb dX3_split_25 ?_
  refine lv_iand hx hb dX3_split_26 ?_
  have hPc := hP.sub (ws' := [(h, .inr (3, [.ref g])), (g, .inr (1, [.ref a1, .ref a2, .int (nI gN)])), (a1, .inl (d, 256, .inl gy)), (a2, .inl (d, 256, .inl gq))]) [0, 1, 2, 3] rfl
  refine vp_callSi (W.runV (As := [.int (Q &&& (((1 : Int32) <<< (nI x &&& 31)) ^^^ (-1))), .int (k ||| ((1 : Int32) <<< (nI x &&& 31))), .int (t &&& (((1 : Int32) <<< (nI x &&& 31)) ^^^ (-1)))]) (rest := []) ⟨hx, hb, hml, hown, hts⟩ (k_W _ _ _ hp0 (by omega)) (cwV 3 hts (lw_V q222 q205 q206 q17 q207) rfl rfl rfl (by decide +kernel) ⟨by show (2 * dd + 2) + 1 ≤ (2 * (dd + 1) + 1); omega, by show 8 + (10 + 11) + (60 + 60 * dd) ≤ (30 + 60 * (dd + 1)); omega⟩) (wk_R.preV (q := (RX3, TX3, 1)) (ci := 3) (q0 := 0) hK hPc rfl rfl) rfl rfl hl.1 rfl (lv_room (Nat.le_of_ble_eq_true rfl)) dX3_split_27 ⟨Nat.le_of_ble_eq_true rfl, Nat.le_of_ble_eq_true rfl⟩) (fun r1 hr1 => ?_)
  refine wk_top (y := nI (cw_n gN gy gq (k ||| ((1 : Int32) <<< (nI x &&& 31))) (t &&& (((1 : Int32) <<< (nI x &&& 31)) ^^^ (-1))) (Q &&& (((1 : Int32) <<< (nI x &&& 31)) ^^^ (-1))))) (hr1) ?_
  refine lv_aload_n hx hb dX3_split_30 rfl (lv_at hl 2 rfl) ?_
  refine lv_iload hx hb dX3_split_31 (lv_at hl 0 rfl) ?_
  refine lv_iload_n hx hb dX3_split_33 rfl (lv_at hl 4 rfl) ?_
  refine lv_iload hx hb dX3_split_34 (lv_at hl 1 rfl) ?_
  refine lv_ior hx hb dX3_split_36 ?_
  refine lv_iload_n hx hb dX3_split_37 rfl (lv_at hl 5 rfl) ?_
  refine lv_iload hx hb dX3_split_38 (lv_at hl 1 rfl) ?_
  refine lv_ior hx hb dX3_split_40 ?_
  have hPc := hP.sub (ws' := [(h, .inr (3, [.ref g])), (g, .inr (1, [.ref a1, .ref a2, .int (nI gN)])), (a1, .inl (d, 256, .inl gy)), (a2, .inl (d, 256, .inl gq))]) [0, 1, 2, 3] rfl
  refine vp_callSi (W.runV (As := [.int (Q &&& (((1 : Int32) <<< (nI x &&& 31)) ^^^ (-1))), .int (k ||| ((1 : Int32) <<< (nI x &&& 31))), .int (t ||| ((1 : Int32) <<< (nI x &&& 31)))]) (rest := [.int (nI (cw_n gN gy gq (k ||| ((1 : Int32) <<< (nI x &&& 31))) (t &&& (((1 : Int32) <<< (nI x &&& 31)) ^^^ (-1))) (Q &&& (((1 : Int32) <<< (nI x &&& 31)) ^^^ (-1)))))]) ⟨hx, hb, hml, hown, hts⟩ (k_W _ _ _ hp1 (by omega)) (cwV 3 hts (lw_V q222 q205 q206 q17 q207) rfl rfl rfl (by decide +kernel) ⟨by show (2 * dd + 2) + 1 ≤ (2 * (dd + 1) + 1); omega, by show 8 + (10 + 11) + (60 + 60 * dd) ≤ (30 + 60 * (dd + 1)); omega⟩) (wk_R.preV (q := (RX3, TX3, 1)) (ci := 3) (q0 := 0) hK hPc rfl rfl) rfl rfl hl.1 rfl (lv_room (Nat.le_of_ble_eq_true rfl)) dX3_split_41 ⟨Nat.le_of_ble_eq_true rfl, Nat.le_of_ble_eq_true rfl⟩) (fun r2 hr2 => ?_)
  refine wk_top (y := nI (cw_n gN gy gq (k ||| ((1 : Int32) <<< (nI x &&& 31))) (t ||| ((1 : Int32) <<< (nI x &&& 31))) (Q &&& (((1 : Int32) <<< (nI x &&& 31)) ^^^ (-1))))) (hr2) ?_
  refine lv_iadd hx hb dX3_split_44 ?_
  exact wk_iretR hx hb hr hlocks (by rw [nI_add, ← hsum]) dX3_split_45
set_option maxHeartbeats 4000000 in
set_option maxRecDepth 100000 in
theorem metX3_ways_open (l : Launch) (dC : Nat → ClassId) (dI : Nat → Nat → Nat) (d : ClassId) (h g a1 a2 gN : Nat) (gy gq : Nat → Int32) (dd : Nat) (k_S : ∀ (Q k t : Int32), cw_pre gN gy gq k t Q → ¬ Q = 0 → hc (bt Q) 12 ≤ dd → Met l yX3_split (ws_ yX3_split cX3_split 6 (some .int)) ({ frames := (2 * dd + 1), cells := 0, slots := 0, locals := (30 + 60 * dd) }) (wk_R (dC, dI) [(d, .int)] [(h, .inr (3, [.ref g])), (g, .inr (1, [.ref a1, .ref a2, .int (nI gN)])), (a1, .inl (d, 256, .inl gy)), (a2, .inl (d, 256, .inl gq))] [.ref h, .int Q, .int k, .int t]) (vp_Si (fun r : Int32 => r = nI (cw_n gN gy gq k t Q))) 0 0 (fun _ => False)) (S k t : Int32) (k_gN : gN ≤ 256) (k_p : cw_pre gN gy gq k t S) (k_d : hc (bt S) 12 ≤ dd) : Met l yX3_ways (ws_ yX3_ways cX3_ways 10 (some .int)) ({ frames := (2 * dd + 2), cells := 0, slots := 0, locals := (60 + 60 * dd) }) (wk_R (dC, dI) [(d, .int)] [(h, .inr (3, [.ref g])), (g, .inr (1, [.ref a1, .ref a2, .int (nI gN)])), (a1, .inl (d, 256, .inl gy)), (a2, .inl (d, 256, .inl gq))] [.ref h, .int S, .int k, .int t]) (vp_Si (fun r : Int32 => r = nI (cw_n gN gy gq k t S))) 0 0 (fun _ => False) := by
  refine Met.ofW (cc := cX3_ways) (maxL := 10) (ret := some .int) (by decide) rfl ?_
  intro p e s m args below meth c s₁ Bd hml hv
  obtain ⟨rfl, hP, hK⟩ := hv
  have hx := Bd.exec
  have hb := Bd.bytes
  have hr := Bd.returns
  have hts := atoms_spec (ws := ws_ yX3_ways cX3_ways 10 (some .int)) Bd.pre
  have hts : ∀ w ∈ lw_all, w.before _ s = true := fun w h => hts w (List.mem_cons_of_mem _ h)
  have hown : s.vm.findClass RX3 = some m.cls := findClass_of_methodNamed Bd.named
  have hlocks := Bd.notSynchronized
  have hK : va_K (dC, dI) vwCl [(d, .int)] s := hK
  have hP : va_P (dC, dI) vwCl [(h, .inr (3, [.ref g])), (g, .inr (1, [.ref a1, .ref a2, .int (nI gN)])), (a1, .inl (d, 256, .inl gy)), (a2, .inl (d, 256, .inl gq))] s.heap := hP
  have hl := lv_entry ([.ref h, .int S, .int k, .int t]) (n := 10) (Nat.le_of_ble_eq_true rfl)
  rw [lg_entry_eq]
  generalize (lg_sl ([.ref h, .int S, .int k, .int t]) ++ List.replicate (10 - (lg_sl ([.ref h, .int S, .int k, .int t])).length) Slot.unset).toArray = ls at hl ⊢
  have hl : lv_has ls 10 [(0, .ref h), (1, .int S), (2, .int k), (3, .int t)] := hl
  have parts : ∀ (K T : Int32), (cw_up gN gy gq k t S K T) → (cw_nf gN gy gq K T) → ∀ (ls : Array Slot), lv_has ls 10 [(5, .int T), (4, .int K), (0, .ref h), (1, .int S)] → W p l e (headSpec (ws_ yX3_ways cX3_ways 10 (some .int)) ({ frames := (2 * dd + 2), cells := 0, slots := 0, locals := (60 + 60 * dd) })).room s m ([.ref h, .int S, .int k, .int t] : List Value).toArray below meth c s.heap [] 0 0 (MQ below (vp_Si (fun r : Int32 => r = nI (cw_n gN gy gq k t S))) ([.ref h, .int S, .int k, .int t] : List Value).toArray s 0 0 (fun _ => False)) (F0 m 133 ls []) := by
    intro K T hu hnf ls hl
    refine lv_iload_n hx hb dX3_ways_133 rfl (lv_at hl 3 rfl) ?_
    refine lv_iload hx hb dX3_ways_134 (lv_at hl 1 rfl) ?_
    refine lv_iconst (v := (-1)) hx hb dX3_ways_136 (by decide) ?_
    refine lv_ixor hx hb dX3_ways_137 ?_
    refine lv_iand hx hb dX3_ways_138 ?_
    refine lv_istore (lv' := [(7, .int (S &&& (K ^^^ (-1)))), (5, .int T), (4, .int K), (0, .ref h), (1, .int S)]) hx hb dX3_ways_139 hl (by decide) rfl (fun ls hl => ?_)
    refine lv_iconst (v := 1) hx hb dX3_ways_141 (by decide) ?_
    refine lv_istore (lv' := [(8, .int 1), (7, .int (S &&& (K ^^^ (-1)))), (5, .int T), (4, .int K), (0, .ref h), (1, .int S)]) hx hb dX3_ways_142 hl (by decide) rfl (fun ls hl => ?_)
    have ploop : ∀ (N9 : Nat) (R : Int32) (A9 : Nat), (hc (bt R) 12 < N9) → (cw_pre gN gy gq K T R) → (A9 * cw_n gN gy gq K T R = cw_n gN gy gq k t S) → (∀ i, bt R i = true → bt S i = true) → ∀ (ls : Array Slot), lv_has ls 10 [(8, .int (nI A9)), (7, .int R), (5, .int T), (4, .int K), (0, .ref h), (1, .int S)] → W p l e (headSpec (ws_ yX3_ways cX3_ways 10 (some .int)) ({ frames := (2 * dd + 2), cells := 0, slots := 0, locals := (60 + 60 * dd) })).room s m ([.ref h, .int S, .int k, .int t] : List Value).toArray below meth c s.heap [] 0 0 (MQ below (vp_Si (fun r : Int32 => r = nI (cw_n gN gy gq k t S))) ([.ref h, .int S, .int k, .int t] : List Value).toArray s 0 0 (fun _ => False)) (F0 m 144 ls []) := by
      intro N9
      induction N9 with
      | zero =>
        intro R A9 h9
        exact absurd h9 (Nat.not_lt_zero _)
      | succ N9 ih =>
        intro R A9 h1 h2 h3 h4 ls hl
        refine lv_iload hx hb dX3_ways_144 (lv_at hl 1 rfl) ?_
        refine lv_if_eq (tgt := 221) hx hb dX3_ways_146 (by decide) (fun c_1 => ?_) (fun c_1 => ?_)
        · subst c_1
          refine lv_iload hx hb dX3_ways_221 (lv_at hl 0 rfl) ?_
          exact wk_iretR hx hb hr hlocks (by rw [← h3, cw_done hnf, Nat.mul_one]) dX3_ways_223
        · obtain ⟨x, hx3, hRx, ex⟩ := b_low c_1
          refine lv_aload_n hx hb dX3_ways_149 rfl (lv_at hl 4 rfl) ?_
          refine lv_iload hx hb dX3_ways_150 (lv_at hl 1 rfl) ?_
          refine lv_iload hx hb dX3_ways_152 (lv_at hl 1 rfl) ?_
          refine lv_ineg hx hb dX3_ways_154 ?_
          refine lv_iand hx hb dX3_ways_155 ?_
          refine wk_top (y := ((1 : Int32) <<< (nI x &&& 31))) (ex) ?_
          refine lv_iload hx hb dX3_ways_156 (lv_at hl 1 rfl) ?_
          refine lv_iload hx hb dX3_ways_158 (lv_at hl 3 rfl) ?_
          refine lv_iload hx hb dX3_ways_160 (lv_at hl 2 rfl) ?_
          have hPc := hP.sub (ws' := [(h, .inr (3, [.ref g])), (g, .inr (1, [.ref a1, .ref a2, .int (nI gN)])), (a1, .inl (d, 256, .inl gy)), (a2, .inl (d, 256, .inl gq))]) [0, 1, 2, 3] rfl
          refine vp_callSi (W.runV (As := [.int ((1 : Int32) <<< (nI x &&& 31)), .int R, .int K, .int T]) (rest := []) ⟨hx, hb, hml, hown, hts⟩ (metX3_grown l dC dI d h g a1 a2 gN gy gq ((1 : Int32) <<< (nI x &&& 31)) R K T k_gN (fun z hz => by rw [b_bit hx3, decide_eq_true_eq] at hz; rw [hz]; exact hRx) (fun z hz => (h2.2.1 z hz).2)) (cwV 4 hts (lw_V q210 q212 qs9 q17 q213) rfl rfl rfl (by decide +kernel) ⟨by show 1 + 1 ≤ (2 * dd + 2); omega, by show 8 + (9 + 11) + 24 ≤ (60 + 60 * dd); omega⟩) (wk_R.preV (q := (RX3, TX3, 1)) (ci := 3) (q0 := 0) hK hPc rfl rfl) rfl rfl hl.1 rfl (lv_room (Nat.le_of_ble_eq_true rfl)) dX3_ways_162 ⟨Nat.le_of_ble_eq_true rfl, Nat.le_of_ble_eq_true rfl⟩) (fun Q hQ => ?_)
          obtain ⟨q1, q2, q3⟩ := hQ
          have hQx : bt Q x = true := q1 x (by rw [b_bit hx3, decide_eq_true rfl])
          obtain ⟨p1, p2, p3⟩ := cw_part h2 hnf q2 q3
          have hQ0 : ¬ Q = 0 := fun e => by rw [e, b_0] at hQx; cases hQx
          have hQd : hc (bt Q) 12 ≤ dd := Nat.le_trans (hc_sub (fun i _ hi => h4 i (q2 i hi))) k_d
          have hlt : hc (bt (R &&& (Q ^^^ (-1)))) 12 < hc (bt R) 12 := hc_lt (x := x) (fun i _ hi => by
            rw [b_andn, Bool.and_eq_true] at hi
            exact hi.1) (h2.2.1 x hRx).2 (by rw [b_andn, hQx]; simp) hRx
          refine lv_istore (lv' := [(9, .int Q), (8, .int (nI A9)), (7, .int R), (5, .int T), (4, .int K), (0, .ref h), (1, .int S)]) hx hb dX3_ways_165 hl (by decide) rfl (fun ls hl => ?_)
          refine lv_iload hx hb dX3_ways_167 (lv_at hl 2 rfl) ?_
          refine lv_iload hx hb dX3_ways_169 (lv_at hl 0 rfl) ?_
          refine lv_iconst (v := (-1)) hx hb dX3_ways_171 (by decide) ?_
          refine lv_ixor hx hb dX3_ways_172 ?_
          refine lv_iand hx hb dX3_ways_173 ?_
          refine lv_istore (lv' := [(7, .int (R &&& (Q ^^^ (-1)))), (9, .int Q), (8, .int (nI A9)), (5, .int T), (4, .int K), (0, .ref h), (1, .int S)]) hx hb dX3_ways_174 hl (by decide) rfl (fun ls hl => ?_)
          refine lv_iload hx hb dX3_ways_176 (lv_at hl 2 rfl) ?_
          refine lv_iload hx hb dX3_ways_178 (lv_at hl 1 rfl) ?_
          refine lv_iload hx hb dX3_ways_180 (lv_at hl 1 rfl) ?_
          refine lv_iconst (v := 1) hx hb dX3_ways_182 (by decide) ?_
          refine lv_isub hx hb dX3_ways_183 ?_
          refine lv_iand hx hb dX3_ways_184 ?_
          refine lv_if_ne (tgt := 205) hx hb dX3_ways_185 (by decide) (fun c_2 => ?_) (fun c_2 => ?_)
          · refine lv_aload_n hx hb dX3_ways_205 rfl (lv_at hl 5 rfl) ?_
            refine lv_iload hx hb dX3_ways_206 (lv_at hl 1 rfl) ?_
            refine lv_iload hx hb dX3_ways_208 (lv_at hl 4 rfl) ?_
            refine lv_iload hx hb dX3_ways_210 (lv_at hl 3 rfl) ?_
            have hPc := hP.sub (ws' := [(h, .inr (3, [.ref g])), (g, .inr (1, [.ref a1, .ref a2, .int (nI gN)])), (a1, .inl (d, 256, .inl gy)), (a2, .inl (d, 256, .inl gq))]) [0, 1, 2, 3] rfl
            refine vp_callSi (W.runV (As := [.int Q, .int K, .int T]) (rest := [.int (nI A9)]) ⟨hx, hb, hml, hown, hts⟩ (k_S Q K T p1 hQ0 hQd) (cwV 3 hts (lw_V q218 q220 qs11 q17 q221) rfl rfl rfl (by decide +kernel) ⟨by show (2 * dd + 1) + 1 ≤ (2 * dd + 2); omega, by show 8 + (6 + 11) + (30 + 60 * dd) ≤ (60 + 60 * dd); omega⟩) (wk_R.preV (q := (RX3, TX3, 1)) (ci := 3) (q0 := 0) hK hPc rfl rfl) rfl rfl hl.1 rfl (lv_room (Nat.le_of_ble_eq_true rfl)) dX3_ways_212 ⟨Nat.le_of_ble_eq_true rfl, Nat.le_of_ble_eq_true rfl⟩) (fun r2 hr2 => ?_)
            refine lv_imul hx hb dX3_ways_215 ?_
            refine wk_top (y := nI (A9 * cw_n gN gy gq K T Q)) (by rw [hr2, pk_mul]) ?_
            refine lv_istore (lv' := [(8, .int (nI (A9 * cw_n gN gy gq K T Q))), (7, .int (R &&& (Q ^^^ (-1)))), (9, .int Q), (5, .int T), (4, .int K), (0, .ref h), (1, .int S)]) hx hb dX3_ways_216 hl (by decide) rfl (fun ls hl => ?_)
            refine lv_goto (tgt := 144) hx hb dX3_ways_218 (by decide) ?_
            exact ih (R &&& (Q ^^^ (-1))) (A9 * cw_n gN gy gq K T Q) (by omega) p2 (by rw [Nat.mul_assoc, ← p3]; exact h3) (fun i hi => by
              rw [b_andn, Bool.and_eq_true] at hi
              exact h4 i hi.1) ls (lv_sub hl [0, 1, 3, 4, 5, 6] rfl)
          · refine lv_aload_n hx hb dX3_ways_188 rfl (lv_at hl 5 rfl) ?_
            refine lv_iload hx hb dX3_ways_189 (lv_at hl 1 rfl) ?_
            refine lv_iload hx hb dX3_ways_191 (lv_at hl 4 rfl) ?_
            refine lv_iload hx hb dX3_ways_193 (lv_at hl 3 rfl) ?_
            have hPc := hP.sub (ws' := [(h, .inr (3, [.ref g])), (g, .inr (1, [.ref a1, .ref a2, .int (nI gN)])), (a1, .inl (d, 256, .inl gy)), (a2, .inl (d, 256, .inl gq))]) [0, 1, 2, 3] rfl
            refine vp_callSi (W.runV (As := [.int Q, .int K, .int T]) (rest := [.int (nI A9)]) ⟨hx, hb, hml, hown, hts⟩ (metX3_touched l dC dI d h g a1 a2 gN gy gq Q K T k_gN) (cwV 3 hts (lw_V q214 q216 qs10 q17 q217) rfl rfl rfl (by decide +kernel) ⟨by show 1 + 1 ≤ (2 * dd + 2); omega, by show 8 + (5 + 11) + 24 ≤ (60 + 60 * dd); omega⟩) (wk_R.preV (q := (RX3, TX3, 1)) (ci := 3) (q0 := 0) hK hPc rfl rfl) rfl rfl hl.1 rfl (lv_room (Nat.le_of_ble_eq_true rfl)) dX3_ways_195 ⟨Nat.le_of_ble_eq_true rfl, Nat.le_of_ble_eq_true rfl⟩) (fun r3 hr3 => ?_)
            refine lv_if_ne (tgt := 205) hx hb dX3_ways_198 (by decide) (fun c_3 => ?_) (fun c_3 => ?_)
            · refine lv_aload_n hx hb dX3_ways_205 rfl (lv_at hl 5 rfl) ?_
              refine lv_iload hx hb dX3_ways_206 (lv_at hl 1 rfl) ?_
              refine lv_iload hx hb dX3_ways_208 (lv_at hl 4 rfl) ?_
              refine lv_iload hx hb dX3_ways_210 (lv_at hl 3 rfl) ?_
              have hPc := hP.sub (ws' := [(h, .inr (3, [.ref g])), (g, .inr (1, [.ref a1, .ref a2, .int (nI gN)])), (a1, .inl (d, 256, .inl gy)), (a2, .inl (d, 256, .inl gq))]) [0, 1, 2, 3] rfl
              refine vp_callSi (W.runV (As := [.int Q, .int K, .int T]) (rest := [.int (nI A9)]) ⟨hx, hb, hml, hown, hts⟩ (k_S Q K T p1 hQ0 hQd) (cwV 3 hts (lw_V q218 q220 qs11 q17 q221) rfl rfl rfl (by decide +kernel) ⟨by show (2 * dd + 1) + 1 ≤ (2 * dd + 2); omega, by show 8 + (6 + 11) + (30 + 60 * dd) ≤ (60 + 60 * dd); omega⟩) (wk_R.preV (q := (RX3, TX3, 1)) (ci := 3) (q0 := 0) hK hPc rfl rfl) rfl rfl hl.1 rfl (lv_room (Nat.le_of_ble_eq_true rfl)) dX3_ways_212 ⟨Nat.le_of_ble_eq_true rfl, Nat.le_of_ble_eq_true rfl⟩) (fun r2 hr2 => ?_)
              refine lv_imul hx hb dX3_ways_215 ?_
              refine wk_top (y := nI (A9 * cw_n gN gy gq K T Q)) (by rw [hr2, pk_mul]) ?_
              refine lv_istore (lv' := [(8, .int (nI (A9 * cw_n gN gy gq K T Q))), (7, .int (R &&& (Q ^^^ (-1)))), (9, .int Q), (5, .int T), (4, .int K), (0, .ref h), (1, .int S)]) hx hb dX3_ways_216 hl (by decide) rfl (fun ls hl => ?_)
              refine lv_goto (tgt := 144) hx hb dX3_ways_218 (by decide) ?_
              exact ih (R &&& (Q ^^^ (-1))) (A9 * cw_n gN gy gq K T Q) (by omega) p2 (by rw [Nat.mul_assoc, ← p3]; exact h3) (fun i hi => by
                rw [b_andn, Bool.and_eq_true] at hi
                exact h4 i hi.1) ls (lv_sub hl [0, 1, 3, 4, 5, 6] rfl)
            · obtain ⟨x2, hx2, ex2⟩ := b_one hQ0 c_2
              have h2n : cw_n gN gy gq K T Q = 2 := cw_alone hx2 ex2 p1 hnf (hr3 c_3)
              refine lv_iconst (v := 2) hx hb dX3_ways_201 (by decide) ?_
              refine lv_goto (tgt := 215) hx hb dX3_ways_202 (by decide) ?_
              refine lv_imul hx hb dX3_ways_215 ?_
              refine wk_top (y := nI (A9 * cw_n gN gy gq K T Q)) (by rw [h2n]; exact pk_mul A9 2) ?_
              refine lv_istore (lv' := [(8, .int (nI (A9 * cw_n gN gy gq K T Q))), (7, .int (R &&& (Q ^^^ (-1)))), (9, .int Q), (5, .int T), (4, .int K), (0, .ref h), (1, .int S)]) hx hb dX3_ways_216 hl (by decide) rfl (fun ls hl => ?_)
              refine lv_goto (tgt := 144) hx hb dX3_ways_218 (by decide) ?_
              exact ih (R &&& (Q ^^^ (-1))) (A9 * cw_n gN gy gq K T Q) (by omega) p2 (by rw [Nat.mul_assoc, ← p3]; exact h3) (fun i hi => by
                rw [b_andn, Bool.and_eq_true] at hi
                exact h4 i hi.1) ls (lv_sub hl [0, 1, 3, 4, 5, 6] rfl)
    obtain ⟨w1, w2⟩ := cw_rest k_p hu
    exact ploop (hc (bt (S &&& (K ^^^ (-1)))) 12 + 1) (S &&& (K ^^^ (-1))) 1 (Nat.lt_succ_self _) w1 (by rw [Nat.one_mul]; exact w2) (fun i hi => by
      rw [b_andn, Bool.and_eq_true] at hi
      exact hi.1) ls (lv_sub hl [0, 1, 2, 3, 4, 5] rfl)
  refine lv_iload_n hx hb dX3_ways_0 rfl (lv_at hl 2 rfl) ?_
  refine lv_istore (lv' := [(4, .int k), (0, .ref h), (1, .int S), (2, .int k), (3, .int t)]) hx hb dX3_ways_1 hl (by decide) rfl (fun ls hl => ?_)
  refine lv_iload_n hx hb dX3_ways_3 rfl (lv_at hl 4 rfl) ?_
  refine lv_istore (lv' := [(5, .int t), (4, .int k), (0, .ref h), (1, .int S), (2, .int k), (3, .int t)]) hx hb dX3_ways_4 hl (by decide) rfl (fun ls hl => ?_)
  refine lv_iconst (v := 1) hx hb dX3_ways_6 (by decide) ?_
  refine lv_istore (lv' := [(6, .int 1), (5, .int t), (4, .int k), (0, .ref h), (1, .int S), (2, .int k), (3, .int t)]) hx hb dX3_ways_7 hl (by decide) rfl (fun ls hl => ?_)
  have loop : ∀ (N9 : Nat) (K T : Int32), (hc (fun z => bt S z && !bt K z) 12 < N9) → (cw_up gN gy gq k t S K T) → ∀ (ls : Array Slot), lv_has ls 10 [(6, .int 1), (5, .int T), (4, .int K), (0, .ref h), (1, .int S), (2, .int k), (3, .int t)] → W p l e (headSpec (ws_ yX3_ways cX3_ways 10 (some .int)) ({ frames := (2 * dd + 2), cells := 0, slots := 0, locals := (60 + 60 * dd) })).room s m ([.ref h, .int S, .int k, .int t] : List Value).toArray below meth c s.heap [] 0 0 (MQ below (vp_Si (fun r : Int32 => r = nI (cw_n gN gy gq k t S))) ([.ref h, .int S, .int k, .int t] : List Value).toArray s 0 0 (fun _ => False)) (F0 m 9 ls []) := by
    intro N9
    induction N9 with
    | zero =>
      intro K T h9
      exact absurd h9 (Nat.not_lt_zero _)
    | succ N9 ih =>
      intro K T h1 h2 ls hl
      refine lv_iload hx hb dX3_ways_9 (lv_at hl 0 rfl) ?_
      refine lv_if_eq (tgt := 133) hx hb dX3_ways_11 (by decide) (fun c_1 => ?_) (fun c_1 => ?_)
      · exact absurd c_1 (by decide)
      · refine lv_iconst (v := 0) hx hb dX3_ways_14 (by decide) ?_
        refine lv_istore (lv' := [(6, .int 0), (5, .int T), (4, .int K), (0, .ref h), (1, .int S), (2, .int k), (3, .int t)]) hx hb dX3_ways_15 hl (by decide) rfl (fun ls hl => ?_)
        refine lv_iconst (v := 0) hx hb dX3_ways_17 (by decide) ?_
        refine lv_istore (lv' := [(7, .int 0), (6, .int 0), (5, .int T), (4, .int K), (0, .ref h), (1, .int S), (2, .int k), (3, .int t)]) hx hb dX3_ways_18 hl (by decide) rfl (fun ls hl => ?_)
        have inner : ∀ (M9 : Nat) (i : Nat) (K2 T2 mo : Int32), (gN - i < M9) → (i ≤ gN) → (cw_up gN gy gq k t S K2 T2) → ((mo = 0 ∧ K2 = K ∧ T2 = T ∧ ∀ j, j < i → ¬ cl_h (gy j) (gq j) K T = 0 ∨ ¬ cl_o (gy j) (gq j) K = 0) ∨ (mo = 1 ∧ hc (fun z => bt S z && !bt K2 z) 12 < hc (fun z => bt S z && !bt K z) 12)) → ∀ (ls : Array Slot), lv_has ls 10 [(7, .int (nI i)), (6, .int mo), (5, .int T2), (4, .int K2), (0, .ref h), (1, .int S), (2, .int k), (3, .int t)] → W p l e (headSpec (ws_ yX3_ways cX3_ways 10 (some .int)) ({ frames := (2 * dd + 2), cells := 0, slots := 0, locals := (60 + 60 * dd) })).room s m ([.ref h, .int S, .int k, .int t] : List Value).toArray below meth c s.heap [] 0 0 (MQ below (vp_Si (fun r : Int32 => r = nI (cw_n gN gy gq k t S))) ([.ref h, .int S, .int k, .int t] : List Value).toArray s 0 0 (fun _ => False)) (F0 m 20 ls []) := by
          intro M9
          induction M9 with
          | zero =>
            intro i K2 T2 mo h9
            exact absurd h9 (Nat.not_lt_zero _)
          | succ M9 ih2 =>
            intro i K2 T2 mo g1 h2 g3 g4 ls hl
            refine lv_iload hx hb dX3_ways_20 (lv_at hl 0 rfl) ?_
            refine lv_aload_n hx hb dX3_ways_22 rfl (lv_at hl 4 rfl) ?_
            refine va_get (D := (dC, dI)) (ci := 3) (v := .ref g) (C := RX3) (T := TX3) (N := 1) hx hb hts in_X3 hown hK hP 0 rfl rfl 0 (by decide) (hts _ q95) (fun _ h9 => h9) rfl dX3_ways_23 ?_
            refine va_get (D := (dC, dI)) (ci := 1) (v := .int (nI gN)) (C := RX1) (T := TX1) (N := 3) hx hb hts in_X1 hown hK hP 1 rfl rfl 2 (by decide) (hts _ q42) (fun _ h9 => h9) rfl dX3_ways_26 ?_
            refine lv_icmp_ge (tgt := 130) hx hb dX3_ways_29 (by decide) (fun c_1 => ?_) (fun c_1 => ?_)
            · have hi : i = gN := Nat.le_antisymm h2 ((nI_leI (by omega) (by omega)).mp c_1)
              subst hi
              rcases g4 with ⟨e1, e2, e3, hnf⟩ | ⟨e1, hlt⟩
              · have e2 := e2.symm
                have e3 := e3.symm
                subst e1
                subst e2
                subst e3
                refine lv_goto (tgt := 9) hx hb dX3_ways_130 (by decide) ?_
                refine lv_iload hx hb dX3_ways_9 (lv_at hl 1 rfl) ?_
                refine lv_if_eq (tgt := 133) hx hb dX3_ways_11 (by decide) (fun c_2 => ?_) (fun c_2 => ?_)
                · exact parts K T g3 hnf ls (lv_sub hl [2, 3, 4, 5] rfl)
                · exact absurd rfl c_2
              · subst e1
                refine lv_goto (tgt := 9) hx hb dX3_ways_130 (by decide) ?_
                exact ih K2 T2 (by omega) g3 ls (lv_sub hl [1, 2, 3, 4, 5, 6, 7] rfl)
            · have hi : i < gN := Nat.lt_of_not_le (fun q => c_1 ((nI_leI (by omega) (by omega)).mpr q))
              refine lv_aload_n hx hb dX3_ways_32 rfl (lv_at hl 4 rfl) ?_
              refine va_get (D := (dC, dI)) (ci := 3) (v := .ref g) (C := RX3) (T := TX3) (N := 1) hx hb hts in_X3 hown hK hP 0 rfl rfl 0 (by decide) (hts _ q95) (fun _ h9 => h9) rfl dX3_ways_33 ?_
              refine lv_iload hx hb dX3_ways_36 (lv_at hl 0 rfl) ?_
              refine lv_iload hx hb dX3_ways_38 (lv_at hl 3 rfl) ?_
              refine lv_iload hx hb dX3_ways_40 (lv_at hl 2 rfl) ?_
              have hPc := hP.sub (ws' := [(g, .inr (1, [.ref a1, .ref a2, .int (nI gN)])), (a1, .inl (d, 256, .inl gy)), (a2, .inl (d, 256, .inl gq))]) [1, 2, 3] rfl
              refine vp_callSi (W.runV (As := [.int (nI i), .int K2, .int T2]) (rest := []) ⟨hx, hb, hml, hown, hts⟩ (metX1_holds l dC dI d g a1 a2 256 i gy gq (nI gN) K2 T2 (by omega) (by omega)) (cwV 3 hts (lw_V q208 q157 q158 q15 q159) rfl rfl rfl (by decide +kernel) ⟨by show 0 + 1 ≤ (2 * dd + 2); omega, by show 8 + (4 + 11) + 0 ≤ (60 + 60 * dd); omega⟩) (wk_R.preV (q := (RX1, TX1, 3)) (ci := 1) (q0 := 0) hK hPc rfl rfl) rfl rfl hl.1 rfl (lv_room (Nat.le_of_ble_eq_true rfl)) dX3_ways_42 ⟨Nat.le_of_ble_eq_true rfl, Nat.le_of_ble_eq_true rfl⟩) (fun r1 hr1 => ?_)
              refine lv_if_eq (tgt := 51) hx hb dX3_ways_45 (by decide) (fun c_2 => ?_) (fun c_2 => ?_)
              · have hh0 : cl_h (gy i) (gq i) K2 T2 = 0 := by
                  rw [hr1] at c_2
                  split at c_2
                  · assumption
                  · exact absurd c_2 (by decide)
                refine lv_aload_n hx hb dX3_ways_51 rfl (lv_at hl 4 rfl) ?_
                refine va_get (D := (dC, dI)) (ci := 3) (v := .ref g) (C := RX3) (T := TX3) (N := 1) hx hb hts in_X3 hown hK hP 0 rfl rfl 0 (by decide) (hts _ q95) (fun _ h9 => h9) rfl dX3_ways_52 ?_
                refine lv_iload hx hb dX3_ways_55 (lv_at hl 0 rfl) ?_
                refine lv_iload hx hb dX3_ways_57 (lv_at hl 3 rfl) ?_
                have hPc := hP.sub (ws' := [(g, .inr (1, [.ref a1, .ref a2, .int (nI gN)])), (a1, .inl (d, 256, .inl gy)), (a2, .inl (d, 256, .inl gq))]) [1, 2, 3] rfl
                refine vp_callSi (W.runV (As := [.int (nI i), .int K2]) (rest := []) ⟨hx, hb, hml, hown, hts⟩ (metX1_open l dC dI d g a1 a2 256 i gy gq (nI gN) K2 (by omega) (by omega)) (cwV 2 hts (lw_V q209 q161 q162 q15 q163) rfl rfl rfl (by decide +kernel) ⟨by show 0 + 1 ≤ (2 * dd + 2); omega, by show 8 + (3 + 11) + 0 ≤ (60 + 60 * dd); omega⟩) (wk_R.preV (q := (RX1, TX1, 3)) (ci := 1) (q0 := 0) hK hPc rfl rfl) rfl rfl hl.1 rfl (lv_room (Nat.le_of_ble_eq_true rfl)) dX3_ways_59 ⟨Nat.le_of_ble_eq_true rfl, Nat.le_of_ble_eq_true rfl⟩) (fun r2 hr2 => ?_)
                refine lv_istore (lv' := [(8, .int r2), (7, .int (nI i)), (6, .int mo), (5, .int T2), (4, .int K2), (0, .ref h), (1, .int S), (2, .int k), (3, .int t)]) hx hb dX3_ways_62 hl (by decide) rfl (fun ls hl => ?_)
                refine lv_iload hx hb dX3_ways_64 (lv_at hl 0 rfl) ?_
                refine lv_if_ne (tgt := 71) hx hb dX3_ways_66 (by decide) (fun c_3 => ?_) (fun c_3 => ?_)
                · refine lv_iload hx hb dX3_ways_71 (lv_at hl 0 rfl) ?_
                  refine lv_iload hx hb dX3_ways_73 (lv_at hl 0 rfl) ?_
                  refine lv_iconst (v := 1) hx hb dX3_ways_75 (by decide) ?_
                  refine lv_isub hx hb dX3_ways_76 ?_
                  refine lv_iand hx hb dX3_ways_77 ?_
                  refine lv_if_ne (tgt := 124) hx hb dX3_ways_78 (by decide) (fun c_4 => ?_) (fun c_4 => ?_)
                  · refine lv_iinc (v := nI (i + 1)) (lv' := [(7, .int (nI (i + 1))), (8, .int r2), (6, .int mo), (5, .int T2), (4, .int K2), (0, .ref h), (1, .int S), (2, .int k), (3, .int t)]) hx hb dX3_ways_124 hl (k := 1) rfl ((nI_succ _).symm) (by decide) rfl (fun ls hl => ?_)
                    refine lv_goto (tgt := 20) hx hb dX3_ways_127 (by decide) ?_
                    exact ih2 (i + 1) K2 T2 mo (by omega) (by omega) g3 (g4.imp (fun ⟨e1, e2, e3, q⟩ => ⟨e1, e2, e3, fun j hj => by
                      by_cases e : j = i
                      · rw [e, ← e2, ← e3]; exact Or.inr (by rw [← hr2]; exact c_3)
                      · exact q j (by omega)⟩) (fun q => q)) ls (lv_sub hl [0, 2, 3, 4, 5, 6, 7, 8] rfl)
                  · refine lv_iload hx hb dX3_ways_81 (lv_at hl 0 rfl) ?_
                    refine lv_iload_n hx hb dX3_ways_83 rfl (lv_at hl 6 rfl) ?_
                    refine lv_iand hx hb dX3_ways_84 ?_
                    refine lv_if_ne (tgt := 91) hx hb dX3_ways_85 (by decide) (fun c_5 => ?_) (fun c_5 => ?_)
                    · rw [hr2] at c_3 c_4
                      obtain ⟨x, hx3, ex⟩ := b_one c_3 c_4
                      obtain rfl : r2 = ((1 : Int32) <<< (nI x &&& 31)) := hr2.trans ex
                      have hSx : bt S x = true := by
                        rw [b_nz] at c_5
                        obtain ⟨z, hz⟩ := c_5
                        rw [b_and, b_bit hx3, Bool.and_eq_true, decide_eq_true_eq] at hz
                        rw [← hz.1]; exact hz.2
                      obtain ⟨hK2x, hst⟩ := cw_up_step k_p g3 hi hh0 hx3 ex hSx
                      have hmu : hc (fun z => bt S z && !bt (K2 ||| ((1 : Int32) <<< (nI x &&& 31))) z) 12 < hc (fun z => bt S z && !bt K2 z) 12 := hc_lt (x := x) (fun z _ hz => by
                        rw [b_or] at hz
                        cases hk : bt K2 z
                        · rw [hk] at hz; cases hs : bt S z
                          · rw [hs] at hz; cases hz
                          · rfl
                        · rw [hk] at hz; simp at hz) (k_p.2.1 x hSx).2 (by rw [b_or, b_bit hx3, decide_eq_true rfl]; simp) (by rw [hSx, hK2x]; rfl)
                      have hmu2 : hc (fun z => bt S z && !bt (K2 ||| ((1 : Int32) <<< (nI x &&& 31))) z) 12 < hc (fun z => bt S z && !bt K z) 12 := by
                        rcases g4 with ⟨-, e2, -⟩ | ⟨-, e2⟩
                        · rw [e2] at hmu ⊢; exact hmu
                        · omega
                      refine lv_iload hx hb dX3_ways_91 (lv_at hl 4 rfl) ?_
                      refine lv_iload hx hb dX3_ways_93 (lv_at hl 0 rfl) ?_
                      refine lv_ior hx hb dX3_ways_95 ?_
                      refine lv_istore (lv' := [(4, .int (K2 ||| ((1 : Int32) <<< (nI x &&& 31)))), (8, .int ((1 : Int32) <<< (nI x &&& 31))), (7, .int (nI i)), (6, .int mo), (5, .int T2), (0, .ref h), (1, .int S), (2, .int k), (3, .int t)]) hx hb dX3_ways_96 hl (by decide) rfl (fun ls hl => ?_)
                      refine lv_aload_n hx hb dX3_ways_98 rfl (lv_at hl 5 rfl) ?_
                      refine va_get (D := (dC, dI)) (ci := 3) (v := .ref g) (C := RX3) (T := TX3) (N := 1) hx hb hts in_X3 hown hK hP 0 rfl rfl 0 (by decide) (hts _ q95) (fun _ h9 => h9) rfl dX3_ways_99 ?_
                      refine va_get (D := (dC, dI)) (ci := 1) (v := .ref a1) (C := RX1) (T := TX1) (N := 3) hx hb hts in_X1 hown hK hP 1 rfl rfl 0 (by decide) (hts _ q36) (fun _ h9 => h9) rfl dX3_ways_102 ?_
                      refine lv_iload hx hb dX3_ways_105 (lv_at hl 2 rfl) ?_
                      refine wk_iald hx hb hK hP 2 0 rfl rfl i (rfl) (by omega) (by omega) dX3_ways_107 ?_
                      refine lv_iload hx hb dX3_ways_108 (lv_at hl 1 rfl) ?_
                      refine lv_iand hx hb dX3_ways_110 ?_
                      refine lv_if_eq (tgt := 121) hx hb dX3_ways_111 (by decide) (fun c_6 => ?_) (fun c_6 => ?_)
                      · rw [if_neg (by rw [(b_ab _ hx3).mp c_6]; decide)] at hst
                        refine lv_iconst (v := 1) hx hb dX3_ways_121 (by decide) ?_
                        refine lv_istore (lv' := [(6, .int 1), (4, .int (K2 ||| ((1 : Int32) <<< (nI x &&& 31)))), (8, .int ((1 : Int32) <<< (nI x &&& 31))), (7, .int (nI i)), (5, .int T2), (0, .ref h), (1, .int S), (2, .int k), (3, .int t)]) hx hb dX3_ways_122 hl (by decide) rfl (fun ls hl => ?_)
                        refine lv_iinc (v := nI (i + 1)) (lv' := [(7, .int (nI (i + 1))), (6, .int 1), (4, .int (K2 ||| ((1 : Int32) <<< (nI x &&& 31)))), (8, .int ((1 : Int32) <<< (nI x &&& 31))), (5, .int T2), (0, .ref h), (1, .int S), (2, .int k), (3, .int t)]) hx hb dX3_ways_124 hl (k := 3) rfl ((nI_succ _).symm) (by decide) rfl (fun ls hl => ?_)
                        refine lv_goto (tgt := 20) hx hb dX3_ways_127 (by decide) ?_
                        exact ih2 (i + 1) (K2 ||| ((1 : Int32) <<< (nI x &&& 31))) T2 1 (by omega) (by omega) hst (Or.inr ⟨rfl, hmu2⟩) ls (lv_sub hl [0, 1, 4, 2, 5, 6, 7, 8] rfl)
                      · rw [if_pos (show bt (gy i) x = true by cases hb : bt (gy i) x with | false => exact absurd ((b_ab _ hx3).mpr hb) c_6 | true => rfl)] at hst
                        refine lv_iload hx hb dX3_ways_114 (lv_at hl 4 rfl) ?_
                        refine lv_iload hx hb dX3_ways_116 (lv_at hl 1 rfl) ?_
                        refine lv_ior hx hb dX3_ways_118 ?_
                        refine lv_istore (lv' := [(5, .int (T2 ||| ((1 : Int32) <<< (nI x &&& 31)))), (4, .int (K2 ||| ((1 : Int32) <<< (nI x &&& 31)))), (8, .int ((1 : Int32) <<< (nI x &&& 31))), (7, .int (nI i)), (6, .int mo), (0, .ref h), (1, .int S), (2, .int k), (3, .int t)]) hx hb dX3_ways_119 hl (by decide) rfl (fun ls hl => ?_)
                        refine lv_iconst (v := 1) hx hb dX3_ways_121 (by decide) ?_
                        refine lv_istore (lv' := [(6, .int 1), (5, .int (T2 ||| ((1 : Int32) <<< (nI x &&& 31)))), (4, .int (K2 ||| ((1 : Int32) <<< (nI x &&& 31)))), (8, .int ((1 : Int32) <<< (nI x &&& 31))), (7, .int (nI i)), (0, .ref h), (1, .int S), (2, .int k), (3, .int t)]) hx hb dX3_ways_122 hl (by decide) rfl (fun ls hl => ?_)
                        refine lv_iinc (v := nI (i + 1)) (lv' := [(7, .int (nI (i + 1))), (6, .int 1), (5, .int (T2 ||| ((1 : Int32) <<< (nI x &&& 31)))), (4, .int (K2 ||| ((1 : Int32) <<< (nI x &&& 31)))), (8, .int ((1 : Int32) <<< (nI x &&& 31))), (0, .ref h), (1, .int S), (2, .int k), (3, .int t)]) hx hb dX3_ways_124 hl (k := 4) rfl ((nI_succ _).symm) (by decide) rfl (fun ls hl => ?_)
                        refine lv_goto (tgt := 20) hx hb dX3_ways_127 (by decide) ?_
                        exact ih2 (i + 1) (K2 ||| ((1 : Int32) <<< (nI x &&& 31))) (T2 ||| ((1 : Int32) <<< (nI x &&& 31))) 1 (by omega) (by omega) hst (Or.inr ⟨rfl, hmu2⟩) ls (lv_sub hl [0, 1, 2, 3, 5, 6, 7, 8] rfl)
                    · refine lv_goto (tgt := 124) hx hb dX3_ways_88 (by decide) ?_
                      refine lv_iinc (v := nI (i + 1)) (lv' := [(7, .int (nI (i + 1))), (8, .int r2), (6, .int mo), (5, .int T2), (4, .int K2), (0, .ref h), (1, .int S), (2, .int k), (3, .int t)]) hx hb dX3_ways_124 hl (k := 1) rfl ((nI_succ _).symm) (by decide) rfl (fun ls hl => ?_)
                      refine lv_goto (tgt := 20) hx hb dX3_ways_127 (by decide) ?_
                      exact ih2 (i + 1) K2 T2 mo (by omega) (by omega) g3 (g4.imp (fun ⟨e1, e2, e3, q⟩ => ⟨e1, e2, e3, fun j hj => by
                        by_cases e : j = i
                        · rw [e, ← e2, ← e3]; exact Or.inr (by rw [← hr2]; exact c_3)
                        · exact q j (by omega)⟩) (fun q => q)) ls (lv_sub hl [0, 2, 3, 4, 5, 6, 7, 8] rfl)
                · refine lv_iconst (v := 0) hx hb dX3_ways_69 (by decide) ?_
                  exact wk_iretR hx hb hr hlocks (by rw [cw_up_zero g3 hi hh0 (by rw [← hr2]; exact c_3)]; rfl) dX3_ways_70
              · refine lv_goto (tgt := 124) hx hb dX3_ways_48 (by decide) ?_
                refine lv_iinc (v := nI (i + 1)) (lv' := [(7, .int (nI (i + 1))), (6, .int mo), (5, .int T2), (4, .int K2), (0, .ref h), (1, .int S), (2, .int k), (3, .int t)]) hx hb dX3_ways_124 hl (k := 0) rfl ((nI_succ _).symm) (by decide) rfl (fun ls hl => ?_)
                refine lv_goto (tgt := 20) hx hb dX3_ways_127 (by decide) ?_
                exact ih2 (i + 1) K2 T2 mo (by omega) (by omega) g3 (g4.imp (fun ⟨e1, e2, e3, q⟩ => ⟨e1, e2, e3, fun j hj => by
                  by_cases e : j = i
                  · rw [e, ← e2, ← e3]; exact Or.inl (fun q => c_2 (by rw [hr1, if_pos q]))
                  · exact q j (by omega)⟩) (fun q => q)) ls (lv_sub hl [0, 1, 2, 3, 4, 5, 6, 7] rfl)
        exact inner (gN + 1) 0 K T 0 (by omega) (by omega) h2 (Or.inl ⟨rfl, rfl, rfl, fun j hj => absurd hj (Nat.not_lt_zero _)⟩) ls (lv_sub hl [0, 1, 2, 3, 4, 5, 6, 7] rfl)
  exact loop (hc (fun z => bt S z && !bt k z) 12 + 1) k t (Nat.lt_succ_self _) (cw_up0 k_p) ls (lv_sub hl [0, 1, 2, 3, 4, 5, 6] rfl)
theorem metX3_ways (l : Launch) (dC : Nat → ClassId) (dI : Nat → Nat → Nat) (d : ClassId) (h g a1 a2 gN : Nat) (gy gq : Nat → Int32) (k_gN : gN ≤ 256) : ∀ (dd : Nat) (S k t : Int32), cw_pre gN gy gq k t S → hc (bt S) 12 ≤ dd → Met l yX3_ways (ws_ yX3_ways cX3_ways 10 (some .int)) ({ frames := (2 * dd + 2), cells := 0, slots := 0, locals := (60 + 60 * dd) }) (wk_R (dC, dI) [(d, .int)] [(h, .inr (3, [.ref g])), (g, .inr (1, [.ref a1, .ref a2, .int (nI gN)])), (a1, .inl (d, 256, .inl gy)), (a2, .inl (d, 256, .inl gq))] [.ref h, .int S, .int k, .int t]) (vp_Si (fun r : Int32 => r = nI (cw_n gN gy gq k t S))) 0 0 (fun _ => False) := by
  intro dd
  induction dd with
  | zero =>
    intro S k t hp hd
    refine metX3_ways_open l dC dI d h g a1 a2 gN gy gq 0 (fun Q k t hp h0 hd => ?_) S k t k_gN hp hd
    exfalso
    obtain ⟨i, hi⟩ := b_nz.mp h0
    have := hc_0 (P := bt Q) (hp.2.1 i hi).2 hi
    omega
  | succ dd ih =>
    intro S k t hp hd
    exact metX3_ways_open l dC dI d h g a1 a2 gN gy gq (dd + 1) (fun Q k t hp h0 hd => metX3_split_open l dC dI d h g a1 a2 gN gy gq dd ih Q k t k_gN hp h0 hd) S k t k_gN hp hd
end
section
/-! ClauseDeskModel: its nine methods -/
/-- the row r breaks the clause (y, q) -/
def md_b (y q : Int32) (r : Nat) : Bool := decide (nI r &&& y = 0) && decide ((nI r ^^^ (-1)) &&& q = 0)
def md_add (y q w : Int32) (m : Nat) (bk : Nat → Int32) : Nat → Int32 := fun r => if (decide (r < m) && md_b y q r) = true then bk r + w else bk r
def md_z (m : Nat) (bk : Nat → Int32) : Nat → Int32 := fun r => if r < m then 0 else bk r
def lt_n (k : Int32) : Nat := 1 + (k.toBitVec.toNat % 2 ^ 31) % 12
theorem lt_nI (k : Int32) : (1 : Int32) + ((k &&& 2147483647) - (k &&& 2147483647) / 12 * 12) = nI (lt_n k) := by
  have h1 : k &&& 2147483647 = nI (k.toBitVec.toNat % 2 ^ 31) := pk_and k 31 (by decide)
  have h2 : k.toBitVec.toNat % 2 ^ 31 < 2 ^ 31 := Nat.mod_lt _ (by decide)
  rw [h1]
  have h3 := pk_rem (a := k.toBitVec.toNat % 2 ^ 31) (d := 12) h2 (by decide) (by decide)
  rw [show (12 : Int32) = nI 12 from rfl, h3, show (1 : Int32) = nI 1 from rfl, nI_add]
  rfl
theorem lt_n_le (k : Int32) : 1 ≤ lt_n k ∧ lt_n k ≤ 12 := by
  unfold lt_n
  have := Nat.mod_lt (k.toBitVec.toNat % 2 ^ 31) (show 0 < 12 by decide)
  omega
theorem md_p {n : Nat} (h : n ≤ 12) : 1 ≤ 2 ^ n ∧ 2 ^ n ≤ 4096 := ⟨Nat.pow_pos (by decide), by
  have := Nat.pow_le_pow_right (n := 2) (by decide) h
  omega⟩
theorem md_add_0 (y q w : Int32) (bk : Nat → Int32) : md_add y q w 0 bk = bk := by
  funext r
  unfold md_add
  rw [decide_eq_false (Nat.not_lt_zero r), Bool.false_and, if_neg (by decide)]
theorem md_add_t {y q w : Int32} {m : Nat} {bk : Nat → Int32} (h : md_b y q m = true) : upd (md_add y q w m bk) m (md_add y q w m bk m + w) = md_add y q w (m + 1) bk := by
  funext r
  by_cases e : r = m
  · subst e
    rw [pk_us]
    unfold md_add
    rw [decide_eq_false (Nat.lt_irrefl r), Bool.false_and, if_neg (by decide), decide_eq_true (Nat.lt_succ_self r), h, Bool.true_and, if_pos rfl]
  · rw [pk_un e]
    unfold md_add
    rw [show decide (r < m + 1) = decide (r < m) from decide_eq_decide.mpr (by omega)]
theorem md_add_f {y q w : Int32} {m : Nat} {bk : Nat → Int32} (h : ¬ md_b y q m = true) : md_add y q w m bk = md_add y q w (m + 1) bk := by
  funext r
  unfold md_add
  by_cases e : r = m
  · subst e
    have h2 : md_b y q r = false := by cases hb : md_b y q r; rfl; exact absurd hb h
    rw [h2, Bool.and_false, Bool.and_false]
  · rw [show decide (r < m + 1) = decide (r < m) from decide_eq_decide.mpr (by omega)]
theorem md_z_s (m : Nat) (bk : Nat → Int32) : upd (md_z m bk) m 0 = md_z (m + 1) bk := by
  funext r
  by_cases e : r = m
  · subst e
    rw [pk_us]
    exact (if_pos (Nat.lt_succ_self r)).symm
  · rw [pk_un e]
    unfold md_z
    by_cases q : r < m
    · rw [if_pos q, if_pos (by omega)]
    · rw [if_neg q, if_neg (by omega)]
theorem md_z_0 (bk : Nat → Int32) : md_z 0 bk = bk := by
  funext r
  exact if_neg (Nat.not_lt_zero r)
set_option maxHeartbeats 4000000 in
set_option maxRecDepth 100000 in
theorem metX4_cnt (l : Launch) (dC : Nat → ClassId) (dI : Nat → Nat → Nat) (d : ClassId) (sz : Nat) (h y1 y2 br : Nat) (i0 n : Nat) (cl fo w9 : Int32) (my mq bk : Nat → Int32) (k_i : i0 < 256) (k_n : n ≤ 12) : Met l yX4_count (ws_ yX4_count cX4_count 4 (none)) ({ frames := 0, cells := 0, slots := 0, locals := 0 }) (wk_M (dC, dI) [(d, .int)] [(h, .inr (4, [.ref y1, .ref y2, .int cl, .int (nI n), .int fo, .ref br])), (y1, .inl (d, 256, .inl my)), (y2, .inl (d, 256, .inl mq)), (br, .inl (d, 4096, .inl bk))] [.ref h, .int (nI i0), .int w9] sz) (va_Qv (fun _ : Unit => True) (wk_B (dC, dI) [(d, .int)] (va_A [(h, .inr (4, [.ref y1, .ref y2, .int cl, .int (nI n), .int fo, .ref br])), (y1, .inl (d, 256, .inl my)), (y2, .inl (d, 256, .inl mq)), (br, .inl (d, 4096, .inl bk))] sz) (fun _ => [(h, .inr (4, [.ref y1, .ref y2, .int cl, .int (nI n), .int fo, .ref br])), (y1, .inl (d, 256, .inl my)), (y2, .inl (d, 256, .inl mq)), (br, .inl (d, 4096, .inl (md_add (my i0) (mq i0) w9 (2 ^ n) bk)))])) (va_A [(h, .inr (4, [.ref y1, .ref y2, .int cl, .int (nI n), .int fo, .ref br])), (y1, .inl (d, 256, .inl my)), (y2, .inl (d, 256, .inl mq)), (br, .inl (d, 4096, .inl bk))] sz)) 0 0 (va_A [(h, .inr (4, [.ref y1, .ref y2, .int cl, .int (nI n), .int fo, .ref br])), (y1, .inl (d, 256, .inl my)), (y2, .inl (d, 256, .inl mq)), (br, .inl (d, 4096, .inl bk))] sz) := by
  refine Met.ofW (cc := cX4_count) (maxL := 4) (ret := none) (by decide) rfl ?_
  intro p e s m args below meth c s₁ Bd hml hv
  obtain ⟨rfl, hsz, hP, hK, hD0⟩ := hv
  have hx := Bd.exec
  have hb := Bd.bytes
  have hr := Bd.returns
  have hts := atoms_spec (ws := ws_ yX4_count cX4_count 4 (none)) Bd.pre
  have hts : ∀ w ∈ lw_all, w.before _ s = true := fun w h => hts w (List.mem_cons_of_mem _ h)
  have hown : s.vm.findClass RX4 = some m.cls := findClass_of_methodNamed Bd.named
  have hlocks := Bd.notSynchronized
  have hK : va_K (dC, dI) vwCl [(d, .int)] s := hK
  subst hsz
  have hD := hD0.self (sz := s.heap.size)
  generalize hAe : va_A [(h, .inr (4, [.ref y1, .ref y2, .int cl, .int (nI n), .int fo, .ref br])), (y1, .inl (d, 256, .inl my)), (y2, .inl (d, 256, .inl mq)), (br, .inl (d, 4096, .inl bk))] s.heap.size = A at hD ⊢
  have hA : ∀ q : Nat, s.heap.size ≤ q → A q := fun q h => by rw [← hAe]; exact Or.inr h
  have hS : va_S A s.heap s.heap [] := va_S.rf
  have hP : va_P (dC, dI) vwCl [(h, .inr (4, [.ref y1, .ref y2, .int cl, .int (nI n), .int fo, .ref br])), (y1, .inl (d, 256, .inl my)), (y2, .inl (d, 256, .inl mq)), (br, .inl (d, 4096, .inl bk))] s.heap := hP
  have hl := lv_entry ([.ref h, .int (nI i0), .int w9]) (n := 4) (Nat.le_of_ble_eq_true rfl)
  rw [lg_entry_eq]
  generalize (lg_sl ([.ref h, .int (nI i0), .int w9]) ++ List.replicate (4 - (lg_sl ([.ref h, .int (nI i0), .int w9])).length) Slot.unset).toArray = ls at hl ⊢
  have hl : lv_has ls 4 [(0, .ref h), (1, .int (nI i0)), (2, .int w9)] := hl
  obtain ⟨hp1, hp2⟩ := md_p k_n
  refine lv_iconst (v := 0) hx hb dX4_count_0 (by decide) ?_
  refine lv_istore_n (lv' := [(3, .int 0), (0, .ref h), (1, .int (nI i0)), (2, .int w9)]) hx hb dX4_count_1 rfl hl (by decide) rfl (fun ls hl => ?_)
  have loop : ∀ (N9 : Nat) (r : Nat), (2 ^ n - r < N9) → (r ≤ 2 ^ n) → ∀ (H : Heap) (locs : List Loc), va_P (dC, dI) vwCl [(h, .inr (4, [.ref y1, .ref y2, .int cl, .int (nI n), .int fo, .ref br])), (y1, .inl (d, 256, .inl my)), (y2, .inl (d, 256, .inl mq)), (br, .inl (d, 4096, .inl (md_add (my i0) (mq i0) w9 r bk)))] H → va_D A [(h, .inr (4, [.ref y1, .ref y2, .int cl, .int (nI n), .int fo, .ref br])), (y1, .inl (d, 256, .inl my)), (y2, .inl (d, 256, .inl mq)), (br, .inl (d, 4096, .inl (md_add (my i0) (mq i0) w9 r bk)))] → va_S A s.heap H locs → ∀ (ls : Array Slot), lv_has ls 4 [(3, .int (nI r)), (0, .ref h), (1, .int (nI i0)), (2, .int w9)] → W p l e (headSpec (ws_ yX4_count cX4_count 4 (none)) ({ frames := 0, cells := 0, slots := 0, locals := 0 })).room s m ([.ref h, .int (nI i0), .int w9] : List Value).toArray below meth c H locs 0 0 (MQ below (va_Qv (fun _ : Unit => True) (wk_B (dC, dI) [(d, .int)] (A) (fun _ => [(h, .inr (4, [.ref y1, .ref y2, .int cl, .int (nI n), .int fo, .ref br])), (y1, .inl (d, 256, .inl my)), (y2, .inl (d, 256, .inl mq)), (br, .inl (d, 4096, .inl (md_add (my i0) (mq i0) w9 (2 ^ n) bk)))])) (A)) ([.ref h, .int (nI i0), .int w9] : List Value).toArray s 0 0 (A)) (F0 m 2 ls []) := by
    intro N9
    induction N9 with
    | zero =>
      intro r h9
      exact absurd h9 (Nat.not_lt_zero _)
    | succ N9 ih =>
      intro r h1 h2 H locs hP hD hS ls hl
      refine lv_iload_n hx hb dX4_count_2 rfl (lv_at hl 0 rfl) ?_
      refine lv_iconst (v := 1) hx hb dX4_count_3 (by decide) ?_
      refine lv_aload_n hx hb dX4_count_4 rfl (lv_at hl 1 rfl) ?_
      refine va_get (D := (dC, dI)) (ci := 4) (v := .int (nI n)) (C := RX4) (T := TX4) (N := 6) hx hb hts in_X4 hown hK hP 0 rfl rfl 3 (by decide) (hts _ q236) (fun _ h9 => h9) rfl dX4_count_5 ?_
      refine lv_ishl hx hb dX4_count_8 ?_
      refine wk_top (y := nI (2 ^ n)) (b_bitN n (by omega)) ?_
      refine lv_icmp_ge (tgt := 56) hx hb dX4_count_9 (by decide) (fun c_1 => ?_) (fun c_1 => ?_)
      · have hi : r = 2 ^ n := Nat.le_antisymm h2 ((nI_leI (by omega) (by omega)).mp c_1)
        rw [hi] at hP hD
        exact wk_vret (()) hx hb hr hlocks (trivial) hK hP hD hS dX4_count_56
      · have hi : r < 2 ^ n := Nat.lt_of_not_le (fun q => c_1 ((nI_leI (by omega) (by omega)).mpr q))
        refine lv_iload_n hx hb dX4_count_12 rfl (lv_at hl 0 rfl) ?_
        refine lv_aload_n hx hb dX4_count_13 rfl (lv_at hl 1 rfl) ?_
        refine va_get (D := (dC, dI)) (ci := 4) (v := .ref y1) (C := RX4) (T := TX4) (N := 6) hx hb hts in_X4 hown hK hP 0 rfl rfl 0 (by decide) (hts _ q233) (fun _ h9 => h9) rfl dX4_count_14 ?_
        refine lv_iload_n hx hb dX4_count_17 rfl (lv_at hl 2 rfl) ?_
        refine wk_iald hx hb hK hP 1 0 rfl rfl i0 (rfl) (by omega) (by omega) dX4_count_18 ?_
        refine lv_iand hx hb dX4_count_19 ?_
        refine lv_if_ne (tgt := 50) hx hb dX4_count_20 (by decide) (fun c_2 => ?_) (fun c_2 => ?_)
        · rw [md_add_f (y := my i0) (q := mq i0) (w := w9) (m := r) (bk := bk) (fun z => by unfold md_b at z; rw [Bool.and_eq_true, decide_eq_true_eq] at z; exact c_2 z.1)] at hP hD
          have hP : va_P (dC, dI) vwCl [(h, .inr (4, [.ref y1, .ref y2, .int cl, .int (nI n), .int fo, .ref br])), (y1, .inl (d, 256, .inl my)), (y2, .inl (d, 256, .inl mq)), (br, .inl (d, 4096, .inl (md_add (my i0) (mq i0) w9 (r + 1) bk)))] H := hP
          have hD : va_D A [(h, .inr (4, [.ref y1, .ref y2, .int cl, .int (nI n), .int fo, .ref br])), (y1, .inl (d, 256, .inl my)), (y2, .inl (d, 256, .inl mq)), (br, .inl (d, 4096, .inl (md_add (my i0) (mq i0) w9 (r + 1) bk)))] := hD
          refine lv_iinc (v := nI (r + 1)) (lv' := [(3, .int (nI (r + 1))), (0, .ref h), (1, .int (nI i0)), (2, .int w9)]) hx hb dX4_count_50 hl (k := 0) rfl ((nI_succ _).symm) (by decide) rfl (fun ls hl => ?_)
          refine lv_goto (tgt := 2) hx hb dX4_count_53 (by decide) ?_
          exact ih (r + 1) (by omega) (by omega) H locs hP hD hS ls (lv_sub hl [0, 1, 2, 3] rfl)
        · refine lv_iload_n hx hb dX4_count_23 rfl (lv_at hl 0 rfl) ?_
          refine lv_iconst (v := (-1)) hx hb dX4_count_24 (by decide) ?_
          refine lv_ixor hx hb dX4_count_25 ?_
          refine lv_aload_n hx hb dX4_count_26 rfl (lv_at hl 1 rfl) ?_
          refine va_get (D := (dC, dI)) (ci := 4) (v := .ref y2) (C := RX4) (T := TX4) (N := 6) hx hb hts in_X4 hown hK hP 0 rfl rfl 1 (by decide) (hts _ q234) (fun _ h9 => h9) rfl dX4_count_27 ?_
          refine lv_iload_n hx hb dX4_count_30 rfl (lv_at hl 2 rfl) ?_
          refine wk_iald hx hb hK hP 2 0 rfl rfl i0 (rfl) (by omega) (by omega) dX4_count_31 ?_
          refine lv_iand hx hb dX4_count_32 ?_
          refine lv_if_ne (tgt := 50) hx hb dX4_count_33 (by decide) (fun c_3 => ?_) (fun c_3 => ?_)
          · rw [md_add_f (y := my i0) (q := mq i0) (w := w9) (m := r) (bk := bk) (fun z => by unfold md_b at z; rw [Bool.and_eq_true, decide_eq_true_eq, decide_eq_true_eq] at z; exact c_3 z.2)] at hP hD
            have hP : va_P (dC, dI) vwCl [(h, .inr (4, [.ref y1, .ref y2, .int cl, .int (nI n), .int fo, .ref br])), (y1, .inl (d, 256, .inl my)), (y2, .inl (d, 256, .inl mq)), (br, .inl (d, 4096, .inl (md_add (my i0) (mq i0) w9 (r + 1) bk)))] H := hP
            have hD : va_D A [(h, .inr (4, [.ref y1, .ref y2, .int cl, .int (nI n), .int fo, .ref br])), (y1, .inl (d, 256, .inl my)), (y2, .inl (d, 256, .inl mq)), (br, .inl (d, 4096, .inl (md_add (my i0) (mq i0) w9 (r + 1) bk)))] := hD
            refine lv_iinc (v := nI (r + 1)) (lv' := [(3, .int (nI (r + 1))), (0, .ref h), (1, .int (nI i0)), (2, .int w9)]) hx hb dX4_count_50 hl (k := 0) rfl ((nI_succ _).symm) (by decide) rfl (fun ls hl => ?_)
            refine lv_goto (tgt := 2) hx hb dX4_count_53 (by decide) ?_
            exact ih (r + 1) (by omega) (by omega) H locs hP hD hS ls (lv_sub hl [0, 1, 2, 3] rfl)
          · have hbb : md_b (my i0) (mq i0) r = true := by unfold md_b; rw [decide_eq_true c_2, decide_eq_true c_3]; rfl
            refine lv_aload_n hx hb dX4_count_36 rfl (lv_at hl 1 rfl) ?_
            refine va_get (D := (dC, dI)) (ci := 4) (v := .ref br) (C := RX4) (T := TX4) (N := 6) hx hb hts in_X4 hown hK hP 0 rfl rfl 5 (by decide) (hts _ q238) (fun _ h9 => h9) rfl dX4_count_37 ?_
            refine lv_iload_n hx hb dX4_count_40 rfl (lv_at hl 0 rfl) ?_
            refine lv_aload_n hx hb dX4_count_41 rfl (lv_at hl 1 rfl) ?_
            refine va_get (D := (dC, dI)) (ci := 4) (v := .ref br) (C := RX4) (T := TX4) (N := 6) hx hb hts in_X4 hown hK hP 0 rfl rfl 5 (by decide) (hts _ q238) (fun _ h9 => h9) rfl dX4_count_42 ?_
            refine lv_iload_n hx hb dX4_count_45 rfl (lv_at hl 0 rfl) ?_
            refine wk_iald hx hb hK hP 3 0 rfl rfl r (rfl) (by omega) (by omega) dX4_count_46 ?_
            refine lv_iload_n hx hb dX4_count_47 rfl (lv_at hl 3 rfl) ?_
            refine lv_iadd hx hb dX4_count_48 ?_
            refine wk_iast hx hb hK hP hD hS 3 0 rfl rfl (x := ((md_add (my i0) (mq i0) w9 r bk) r) + w9) r (rfl) (by omega) (by omega) dX4_count_49 (fun H locs hP hD hS => ?_)
            have hP : va_P (dC, dI) vwCl [(h, .inr (4, [.ref y1, .ref y2, .int cl, .int (nI n), .int fo, .ref br])), (y1, .inl (d, 256, .inl my)), (y2, .inl (d, 256, .inl mq)), (br, .inl (d, 4096, .inl (upd (md_add (my i0) (mq i0) w9 r bk) r (((md_add (my i0) (mq i0) w9 r bk) r) + w9))))] H := hP
            have hD : va_D A [(h, .inr (4, [.ref y1, .ref y2, .int cl, .int (nI n), .int fo, .ref br])), (y1, .inl (d, 256, .inl my)), (y2, .inl (d, 256, .inl mq)), (br, .inl (d, 4096, .inl (upd (md_add (my i0) (mq i0) w9 r bk) r (((md_add (my i0) (mq i0) w9 r bk) r) + w9))))] := hD
            rw [md_add_t hbb] at hP hD
            have hP : va_P (dC, dI) vwCl [(h, .inr (4, [.ref y1, .ref y2, .int cl, .int (nI n), .int fo, .ref br])), (y1, .inl (d, 256, .inl my)), (y2, .inl (d, 256, .inl mq)), (br, .inl (d, 4096, .inl (md_add (my i0) (mq i0) w9 (r + 1) bk)))] H := hP
            have hD : va_D A [(h, .inr (4, [.ref y1, .ref y2, .int cl, .int (nI n), .int fo, .ref br])), (y1, .inl (d, 256, .inl my)), (y2, .inl (d, 256, .inl mq)), (br, .inl (d, 4096, .inl (md_add (my i0) (mq i0) w9 (r + 1) bk)))] := hD
            refine lv_iinc (v := nI (r + 1)) (lv' := [(3, .int (nI (r + 1))), (0, .ref h), (1, .int (nI i0)), (2, .int w9)]) hx hb dX4_count_50 hl (k := 0) rfl ((nI_succ _).symm) (by decide) rfl (fun ls hl => ?_)
            refine lv_goto (tgt := 2) hx hb dX4_count_53 (by decide) ?_
            exact ih (r + 1) (by omega) (by omega) H locs hP hD hS ls (lv_sub hl [0, 1, 2, 3] rfl)
  exact loop (2 ^ n + 1) 0 (by omega) (by omega) _ _ (by rw [md_add_0]; exact hP) (by rw [md_add_0]; exact hD) hS ls (lv_sub hl [0, 1, 2, 3] rfl)
set_option maxHeartbeats 4000000 in
set_option maxRecDepth 100000 in
theorem metX4_letters (l : Launch) (dC : Nat → ClassId) (dI : Nat → Nat → Nat) (d : ClassId) (sz : Nat) (h y1 y2 br : Nat) (cl n0 fo k9 : Int32) (my mq bk : Nat → Int32)  : Met l yX4_letters (ws_ yX4_letters cX4_letters 3 (none)) ({ frames := 0, cells := 0, slots := 0, locals := 0 }) (wk_M (dC, dI) [(d, .int)] [(h, .inr (4, [.ref y1, .ref y2, .int cl, .int n0, .int fo, .ref br])), (y1, .inl (d, 256, .inl my)), (y2, .inl (d, 256, .inl mq)), (br, .inl (d, 4096, .inl bk))] [.ref h, .int k9] sz) (va_Qv (fun _ : Unit => True) (wk_B (dC, dI) [(d, .int)] (va_A [(h, .inr (4, [.ref y1, .ref y2, .int cl, .int n0, .int fo, .ref br])), (y1, .inl (d, 256, .inl my)), (y2, .inl (d, 256, .inl mq)), (br, .inl (d, 4096, .inl bk))] sz) (fun _ => [(h, .inr (4, [.ref y1, .ref y2, .int (nI 0), .int (nI (lt_n k9)), .int (-1), .ref br])), (y1, .inl (d, 256, .inl my)), (y2, .inl (d, 256, .inl mq)), (br, .inl (d, 4096, .inl (md_z 4096 bk)))])) (va_A [(h, .inr (4, [.ref y1, .ref y2, .int cl, .int n0, .int fo, .ref br])), (y1, .inl (d, 256, .inl my)), (y2, .inl (d, 256, .inl mq)), (br, .inl (d, 4096, .inl bk))] sz)) 0 0 (va_A [(h, .inr (4, [.ref y1, .ref y2, .int cl, .int n0, .int fo, .ref br])), (y1, .inl (d, 256, .inl my)), (y2, .inl (d, 256, .inl mq)), (br, .inl (d, 4096, .inl bk))] sz) := by
  refine Met.ofW (cc := cX4_letters) (maxL := 3) (ret := none) (by decide) rfl ?_
  intro p e s m args below meth c s₁ Bd hml hv
  obtain ⟨rfl, hsz, hP, hK, hD0⟩ := hv
  have hx := Bd.exec
  have hb := Bd.bytes
  have hr := Bd.returns
  have hts := atoms_spec (ws := ws_ yX4_letters cX4_letters 3 (none)) Bd.pre
  have hts : ∀ w ∈ lw_all, w.before _ s = true := fun w h => hts w (List.mem_cons_of_mem _ h)
  have hown : s.vm.findClass RX4 = some m.cls := findClass_of_methodNamed Bd.named
  have hlocks := Bd.notSynchronized
  have hK : va_K (dC, dI) vwCl [(d, .int)] s := hK
  subst hsz
  have hD := hD0.self (sz := s.heap.size)
  generalize hAe : va_A [(h, .inr (4, [.ref y1, .ref y2, .int cl, .int n0, .int fo, .ref br])), (y1, .inl (d, 256, .inl my)), (y2, .inl (d, 256, .inl mq)), (br, .inl (d, 4096, .inl bk))] s.heap.size = A at hD ⊢
  have hA : ∀ q : Nat, s.heap.size ≤ q → A q := fun q h => by rw [← hAe]; exact Or.inr h
  have hS : va_S A s.heap s.heap [] := va_S.rf
  have hP : va_P (dC, dI) vwCl [(h, .inr (4, [.ref y1, .ref y2, .int cl, .int n0, .int fo, .ref br])), (y1, .inl (d, 256, .inl my)), (y2, .inl (d, 256, .inl mq)), (br, .inl (d, 4096, .inl bk))] s.heap := hP
  have hl := lv_entry ([.ref h, .int k9]) (n := 3) (Nat.le_of_ble_eq_true rfl)
  rw [lg_entry_eq]
  generalize (lg_sl ([.ref h, .int k9]) ++ List.replicate (3 - (lg_sl ([.ref h, .int k9])).length) Slot.unset).toArray = ls at hl ⊢
  have hl : lv_has ls 3 [(0, .ref h), (1, .int k9)] := hl
  refine lv_aload_n hx hb dX4_letters_0 rfl (lv_at hl 0 rfl) ?_
  refine lv_iconst (v := 1) hx hb dX4_letters_1 (by decide) ?_
  refine lv_iload_n hx hb dX4_letters_2 rfl (lv_at hl 1 rfl) ?_
  refine lv_ldc (v := 2147483647) hx hb hown (hts _ q256) dX4_letters_3 ?_
  refine lv_iand hx hb dX4_letters_5 ?_
  refine lv_bipush (v := 12) hx hb dX4_letters_6 (by decide) ?_
  refine lv_irem hx hb dX4_letters_8 (by decide) ?_
  refine lv_iadd hx hb dX4_letters_9 ?_
  refine wk_top (y := nI (lt_n k9)) (lt_nI k9) ?_
  refine va_put (D := (dC, dI)) (ci := 4) (v := .int (nI (lt_n k9))) (ty := .int) (C := RX4) (T := TX4) (N := 6) hx hb hts in_X4 tyX4 tyX4_ok nmX4 hown hK hP hD hS 0 rfl rfl 3 (by decide) (hts _ q236) (fun _ h9 => h9) rfl (by decide +kernel) rfl rfl (Nat.le_of_ble_eq_true rfl) dX4_letters_10 (fun H locs hP hD hS => ?_)
  have hP : va_P (dC, dI) vwCl [(h, .inr (4, [.ref y1, .ref y2, .int cl, .int (nI (lt_n k9)), .int fo, .ref br])), (y1, .inl (d, 256, .inl my)), (y2, .inl (d, 256, .inl mq)), (br, .inl (d, 4096, .inl bk))] H := hP
  have hD : va_D A [(h, .inr (4, [.ref y1, .ref y2, .int cl, .int (nI (lt_n k9)), .int fo, .ref br])), (y1, .inl (d, 256, .inl my)), (y2, .inl (d, 256, .inl mq)), (br, .inl (d, 4096, .inl bk))] := hD
  refine lv_aload_n hx hb dX4_letters_13 rfl (lv_at hl 0 rfl) ?_
  refine lv_iconst (v := 0) hx hb dX4_letters_14 (by decide) ?_
  refine wk_top (y := nI 0) (nI_0.symm) ?_
  refine va_put (D := (dC, dI)) (ci := 4) (v := .int (nI 0)) (ty := .int) (C := RX4) (T := TX4) (N := 6) hx hb hts in_X4 tyX4 tyX4_ok nmX4 hown hK hP hD hS 0 rfl rfl 2 (by decide) (hts _ q235) (fun _ h9 => h9) rfl (by decide +kernel) rfl rfl (Nat.le_of_ble_eq_true rfl) dX4_letters_15 (fun H locs hP hD hS => ?_)
  have hP : va_P (dC, dI) vwCl [(h, .inr (4, [.ref y1, .ref y2, .int (nI 0), .int (nI (lt_n k9)), .int fo, .ref br])), (y1, .inl (d, 256, .inl my)), (y2, .inl (d, 256, .inl mq)), (br, .inl (d, 4096, .inl bk))] H := hP
  have hD : va_D A [(h, .inr (4, [.ref y1, .ref y2, .int (nI 0), .int (nI (lt_n k9)), .int fo, .ref br])), (y1, .inl (d, 256, .inl my)), (y2, .inl (d, 256, .inl mq)), (br, .inl (d, 4096, .inl bk))] := hD
  refine lv_aload_n hx hb dX4_letters_18 rfl (lv_at hl 0 rfl) ?_
  refine lv_iconst (v := (-1)) hx hb dX4_letters_19 (by decide) ?_
  refine va_put (D := (dC, dI)) (ci := 4) (v := .int (-1)) (ty := .int) (C := RX4) (T := TX4) (N := 6) hx hb hts in_X4 tyX4 tyX4_ok nmX4 hown hK hP hD hS 0 rfl rfl 4 (by decide) (hts _ q237) (fun _ h9 => h9) rfl (by decide +kernel) rfl rfl (Nat.le_of_ble_eq_true rfl) dX4_letters_20 (fun H locs hP hD hS => ?_)
  have hP : va_P (dC, dI) vwCl [(h, .inr (4, [.ref y1, .ref y2, .int (nI 0), .int (nI (lt_n k9)), .int (-1), .ref br])), (y1, .inl (d, 256, .inl my)), (y2, .inl (d, 256, .inl mq)), (br, .inl (d, 4096, .inl bk))] H := hP
  have hD : va_D A [(h, .inr (4, [.ref y1, .ref y2, .int (nI 0), .int (nI (lt_n k9)), .int (-1), .ref br])), (y1, .inl (d, 256, .inl my)), (y2, .inl (d, 256, .inl mq)), (br, .inl (d, 4096, .inl bk))] := hD
  refine lv_iconst (v := 0) hx hb dX4_letters_23 (by decide) ?_
  refine lv_istore_n (lv' := [(2, .int 0), (0, .ref h), (1, .int k9)]) hx hb dX4_letters_24 rfl hl (by decide) rfl (fun ls hl => ?_)
  have loop : ∀ (N9 : Nat) (r : Nat), (4096 - r < N9) → (r ≤ 4096) → ∀ (H : Heap) (locs : List Loc), va_P (dC, dI) vwCl [(h, .inr (4, [.ref y1, .ref y2, .int (nI 0), .int (nI (lt_n k9)), .int (-1), .ref br])), (y1, .inl (d, 256, .inl my)), (y2, .inl (d, 256, .inl mq)), (br, .inl (d, 4096, .inl (md_z r bk)))] H → va_D A [(h, .inr (4, [.ref y1, .ref y2, .int (nI 0), .int (nI (lt_n k9)), .int (-1), .ref br])), (y1, .inl (d, 256, .inl my)), (y2, .inl (d, 256, .inl mq)), (br, .inl (d, 4096, .inl (md_z r bk)))] → va_S A s.heap H locs → ∀ (ls : Array Slot), lv_has ls 3 [(2, .int (nI r)), (0, .ref h)] → W p l e (headSpec (ws_ yX4_letters cX4_letters 3 (none)) ({ frames := 0, cells := 0, slots := 0, locals := 0 })).room s m ([.ref h, .int k9] : List Value).toArray below meth c H locs 0 0 (MQ below (va_Qv (fun _ : Unit => True) (wk_B (dC, dI) [(d, .int)] (A) (fun _ => [(h, .inr (4, [.ref y1, .ref y2, .int (nI 0), .int (nI (lt_n k9)), .int (-1), .ref br])), (y1, .inl (d, 256, .inl my)), (y2, .inl (d, 256, .inl mq)), (br, .inl (d, 4096, .inl (md_z 4096 bk)))])) (A)) ([.ref h, .int k9] : List Value).toArray s 0 0 (A)) (F0 m 25 ls []) := by
    intro N9
    induction N9 with
    | zero =>
      intro r h9
      exact absurd h9 (Nat.not_lt_zero _)
    | succ N9 ih =>
      intro r h1 h2 H locs hP hD hS ls hl
      refine lv_iload_n hx hb dX4_letters_25 rfl (lv_at hl 0 rfl) ?_
      refine lv_sipush (v := 4096) hx hb dX4_letters_26 (by decide) ?_
      refine lv_icmp_ge (tgt := 45) hx hb dX4_letters_29 (by decide) (fun c_1 => ?_) (fun c_1 => ?_)
      · have hi : r = 4096 := Nat.le_antisymm h2 ((nI_leI (a := 4096) (by omega) (by omega)).mp c_1)
        subst hi
        exact wk_vret (()) hx hb hr hlocks (trivial) hK hP hD hS dX4_letters_45
      · have hi : r < 4096 := Nat.lt_of_not_le (fun q => c_1 ((nI_leI (a := 4096) (by omega) (by omega)).mpr q))
        refine lv_aload_n hx hb dX4_letters_32 rfl (lv_at hl 1 rfl) ?_
        refine va_get (D := (dC, dI)) (ci := 4) (v := .ref br) (C := RX4) (T := TX4) (N := 6) hx hb hts in_X4 hown hK hP 0 rfl rfl 5 (by decide) (hts _ q238) (fun _ h9 => h9) rfl dX4_letters_33 ?_
        refine lv_iload_n hx hb dX4_letters_36 rfl (lv_at hl 0 rfl) ?_
        refine lv_iconst (v := 0) hx hb dX4_letters_37 (by decide) ?_
        refine wk_iast hx hb hK hP hD hS 3 0 rfl rfl (x := 0) r (rfl) (by omega) (by omega) dX4_letters_38 (fun H locs hP hD hS => ?_)
        have hP : va_P (dC, dI) vwCl [(h, .inr (4, [.ref y1, .ref y2, .int (nI 0), .int (nI (lt_n k9)), .int (-1), .ref br])), (y1, .inl (d, 256, .inl my)), (y2, .inl (d, 256, .inl mq)), (br, .inl (d, 4096, .inl (upd (md_z r bk) r 0)))] H := hP
        have hD : va_D A [(h, .inr (4, [.ref y1, .ref y2, .int (nI 0), .int (nI (lt_n k9)), .int (-1), .ref br])), (y1, .inl (d, 256, .inl my)), (y2, .inl (d, 256, .inl mq)), (br, .inl (d, 4096, .inl (upd (md_z r bk) r 0)))] := hD
        rw [md_z_s] at hP hD
        refine lv_iinc (v := nI (r + 1)) (lv' := [(2, .int (nI (r + 1))), (0, .ref h)]) hx hb dX4_letters_39 hl (k := 0) rfl ((nI_succ _).symm) (by decide) rfl (fun ls hl => ?_)
        refine lv_goto (tgt := 25) hx hb dX4_letters_42 (by decide) ?_
        exact ih (r + 1) (by omega) (by omega) H locs hP hD hS ls (lv_sub hl [0, 1] rfl)
  exact loop 4097 0 (by omega) (by omega) _ _ (by rw [md_z_0]; exact hP) (by rw [md_z_0]; exact hD) hS ls (lv_sub hl [0, 1] rfl)
abbrev mc_S : Type := Nat × (Nat → Int32) × (Nat → Int32) × (Nat → Int32)
def mc_post (n N : Nat) (my mq bk : Nat → Int32) (x1 x2 r : Int32) (u : mc_S) : Prop := (N = 256 ∧ r = 0 ∧ u = (N, my, mq, bk)) ∨ (N < 256 ∧ r = 1 ∧ u = (N + 1, upd my N (x1 &&& ((1 : Int32) <<< (nI n &&& 31) - 1)), upd mq N (x2 &&& ((1 : Int32) <<< (nI n &&& 31) - 1)), md_add (x1 &&& ((1 : Int32) <<< (nI n &&& 31) - 1)) (x2 &&& ((1 : Int32) <<< (nI n &&& 31) - 1)) 1 (2 ^ n) bk))
def mr_post (n N : Nat) (my mq bk : Nat → Int32) (r : Int32) (u : Nat × (Nat → Int32)) : Prop := (N = 0 ∧ r = 0 ∧ u = (N, bk)) ∨ (0 < N ∧ r = 1 ∧ u = (N - 1, md_add (my (N - 1)) (mq (N - 1)) (-1) (2 ^ n) bk))
set_option maxHeartbeats 4000000 in
set_option maxRecDepth 100000 in
theorem metX4_clause (l : Launch) (dC : Nat → ClassId) (dI : Nat → Nat → Nat) (d : ClassId) (sz : Nat) (h y1 y2 br : Nat) (N n : Nat) (fo x1 x2 : Int32) (my mq bk : Nat → Int32) (k_N : N ≤ 256) (k_n : n ≤ 12) : Met l yX4_clause (ws_ yX4_clause cX4_clause 4 (some .boolean)) ({ frames := 1, cells := 0, slots := 0, locals := 24 }) (wk_M (dC, dI) [(d, .int)] [(h, .inr (4, [.ref y1, .ref y2, .int (nI N), .int (nI n), .int fo, .ref br])), (y1, .inl (d, 256, .inl my)), (y2, .inl (d, 256, .inl mq)), (br, .inl (d, 4096, .inl bk))] [.ref h, .int x1, .int x2] sz) (va_Qi (mc_post n N my mq bk x1 x2) (wk_B (dC, dI) [(d, .int)] (va_A [(h, .inr (4, [.ref y1, .ref y2, .int (nI N), .int (nI n), .int fo, .ref br])), (y1, .inl (d, 256, .inl my)), (y2, .inl (d, 256, .inl mq)), (br, .inl (d, 4096, .inl bk))] sz) (fun u : mc_S => [(h, .inr (4, [.ref y1, .ref y2, .int (nI u.1), .int (nI n), .int fo, .ref br])), (y1, .inl (d, 256, .inl u.2.1)), (y2, .inl (d, 256, .inl u.2.2.1)), (br, .inl (d, 4096, .inl u.2.2.2))])) (va_A [(h, .inr (4, [.ref y1, .ref y2, .int (nI N), .int (nI n), .int fo, .ref br])), (y1, .inl (d, 256, .inl my)), (y2, .inl (d, 256, .inl mq)), (br, .inl (d, 4096, .inl bk))] sz)) 0 0 (va_A [(h, .inr (4, [.ref y1, .ref y2, .int (nI N), .int (nI n), .int fo, .ref br])), (y1, .inl (d, 256, .inl my)), (y2, .inl (d, 256, .inl mq)), (br, .inl (d, 4096, .inl bk))] sz) := by
  refine Met.ofW (cc := cX4_clause) (maxL := 4) (ret := some .boolean) (by decide) rfl ?_
  intro p e s m args below meth c s₁ Bd hml hv
  obtain ⟨rfl, hsz, hP, hK, hD0⟩ := hv
  have hx := Bd.exec
  have hb := Bd.bytes
  have hr := Bd.returns
  have hts := atoms_spec (ws := ws_ yX4_clause cX4_clause 4 (some .boolean)) Bd.pre
  have hts : ∀ w ∈ lw_all, w.before _ s = true := fun w h => hts w (List.mem_cons_of_mem _ h)
  have hown : s.vm.findClass RX4 = some m.cls := findClass_of_methodNamed Bd.named
  have hlocks := Bd.notSynchronized
  have hK : va_K (dC, dI) vwCl [(d, .int)] s := hK
  subst hsz
  have hD := hD0.self (sz := s.heap.size)
  generalize hAe : va_A [(h, .inr (4, [.ref y1, .ref y2, .int (nI N), .int (nI n), .int fo, .ref br])), (y1, .inl (d, 256, .inl my)), (y2, .inl (d, 256, .inl mq)), (br, .inl (d, 4096, .inl bk))] s.heap.size = A at hD ⊢
  have hA : ∀ q : Nat, s.heap.size ≤ q → A q := fun q h => by rw [← hAe]; exact Or.inr h
  have hS : va_S A s.heap s.heap [] := va_S.rf
  have hP : va_P (dC, dI) vwCl [(h, .inr (4, [.ref y1, .ref y2, .int (nI N), .int (nI n), .int fo, .ref br])), (y1, .inl (d, 256, .inl my)), (y2, .inl (d, 256, .inl mq)), (br, .inl (d, 4096, .inl bk))] s.heap := hP
  have hl := lv_entry ([.ref h, .int x1, .int x2]) (n := 4) (Nat.le_of_ble_eq_true rfl)
  rw [lg_entry_eq]
  generalize (lg_sl ([.ref h, .int x1, .int x2]) ++ List.replicate (4 - (lg_sl ([.ref h, .int x1, .int x2])).length) Slot.unset).toArray = ls at hl ⊢
  have hl : lv_has ls 4 [(0, .ref h), (1, .int x1), (2, .int x2)] := hl
  refine lv_aload_n hx hb dX4_clause_0 rfl (lv_at hl 0 rfl) ?_
  refine va_get (D := (dC, dI)) (ci := 4) (v := .int (nI N)) (C := RX4) (T := TX4) (N := 6) hx hb hts in_X4 hown hK hP 0 rfl rfl 2 (by decide) (hts _ q235) (fun _ h9 => h9) rfl dX4_clause_1 ?_
  refine lv_sipush (v := 256) hx hb dX4_clause_4 (by decide) ?_
  refine lv_icmp_ne (tgt := 12) hx hb dX4_clause_7 (by decide) (fun c_1 => ?_) (fun c_1 => ?_)
  · have hN : N < 256 := Nat.lt_of_le_of_ne k_N (fun e => c_1 (by rw [e]; rfl))
    refine lv_iconst (v := 1) hx hb dX4_clause_12 (by decide) ?_
    refine lv_aload_n hx hb dX4_clause_13 rfl (lv_at hl 0 rfl) ?_
    refine va_get (D := (dC, dI)) (ci := 4) (v := .int (nI n)) (C := RX4) (T := TX4) (N := 6) hx hb hts in_X4 hown hK hP 0 rfl rfl 3 (by decide) (hts _ q236) (fun _ h9 => h9) rfl dX4_clause_14 ?_
    refine lv_ishl hx hb dX4_clause_17 ?_
    refine lv_iconst (v := 1) hx hb dX4_clause_18 (by decide) ?_
    refine lv_isub hx hb dX4_clause_19 ?_
    refine lv_istore_n (lv' := [(3, .int (((1 : Int32) <<< ((nI n) &&& 31)) - 1)), (0, .ref h), (1, .int x1), (2, .int x2)]) hx hb dX4_clause_20 rfl hl (by decide) rfl (fun ls hl => ?_)
    refine lv_aload_n hx hb dX4_clause_21 rfl (lv_at hl 1 rfl) ?_
    refine va_get (D := (dC, dI)) (ci := 4) (v := .ref y1) (C := RX4) (T := TX4) (N := 6) hx hb hts in_X4 hown hK hP 0 rfl rfl 0 (by decide) (hts _ q233) (fun _ h9 => h9) rfl dX4_clause_22 ?_
    refine lv_aload_n hx hb dX4_clause_25 rfl (lv_at hl 1 rfl) ?_
    refine va_get (D := (dC, dI)) (ci := 4) (v := .int (nI N)) (C := RX4) (T := TX4) (N := 6) hx hb hts in_X4 hown hK hP 0 rfl rfl 2 (by decide) (hts _ q235) (fun _ h9 => h9) rfl dX4_clause_26 ?_
    refine lv_iload_n hx hb dX4_clause_29 rfl (lv_at hl 2 rfl) ?_
    refine lv_iload_n hx hb dX4_clause_30 rfl (lv_at hl 0 rfl) ?_
    refine lv_iand hx hb dX4_clause_31 ?_
    refine wk_iast hx hb hK hP hD hS 1 0 rfl rfl (x := x1 &&& (((1 : Int32) <<< ((nI n) &&& 31)) - 1)) N (rfl) (by omega) (by omega) dX4_clause_32 (fun H locs hP hD hS => ?_)
    have hP : va_P (dC, dI) vwCl [(h, .inr (4, [.ref y1, .ref y2, .int (nI N), .int (nI n), .int fo, .ref br])), (y1, .inl (d, 256, .inl (upd my N (x1 &&& (((1 : Int32) <<< ((nI n) &&& 31)) - 1))))), (y2, .inl (d, 256, .inl mq)), (br, .inl (d, 4096, .inl bk))] H := hP
    have hD : va_D A [(h, .inr (4, [.ref y1, .ref y2, .int (nI N), .int (nI n), .int fo, .ref br])), (y1, .inl (d, 256, .inl (upd my N (x1 &&& (((1 : Int32) <<< ((nI n) &&& 31)) - 1))))), (y2, .inl (d, 256, .inl mq)), (br, .inl (d, 4096, .inl bk))] := hD
    refine lv_aload_n hx hb dX4_clause_33 rfl (lv_at hl 1 rfl) ?_
    refine va_get (D := (dC, dI)) (ci := 4) (v := .ref y2) (C := RX4) (T := TX4) (N := 6) hx hb hts in_X4 hown hK hP 0 rfl rfl 1 (by decide) (hts _ q234) (fun _ h9 => h9) rfl dX4_clause_34 ?_
    refine lv_aload_n hx hb dX4_clause_37 rfl (lv_at hl 1 rfl) ?_
    refine va_get (D := (dC, dI)) (ci := 4) (v := .int (nI N)) (C := RX4) (T := TX4) (N := 6) hx hb hts in_X4 hown hK hP 0 rfl rfl 2 (by decide) (hts _ q235) (fun _ h9 => h9) rfl dX4_clause_38 ?_
    refine lv_iload_n hx hb dX4_clause_41 rfl (lv_at hl 3 rfl) ?_
    refine lv_iload_n hx hb dX4_clause_42 rfl (lv_at hl 0 rfl) ?_
    refine lv_iand hx hb dX4_clause_43 ?_
    refine wk_iast hx hb hK hP hD hS 2 0 rfl rfl (x := x2 &&& (((1 : Int32) <<< ((nI n) &&& 31)) - 1)) N (rfl) (by omega) (by omega) dX4_clause_44 (fun H locs hP hD hS => ?_)
    have hP : va_P (dC, dI) vwCl [(h, .inr (4, [.ref y1, .ref y2, .int (nI N), .int (nI n), .int fo, .ref br])), (y1, .inl (d, 256, .inl (upd my N (x1 &&& (((1 : Int32) <<< ((nI n) &&& 31)) - 1))))), (y2, .inl (d, 256, .inl (upd mq N (x2 &&& (((1 : Int32) <<< ((nI n) &&& 31)) - 1))))), (br, .inl (d, 4096, .inl bk))] H := hP
    have hD : va_D A [(h, .inr (4, [.ref y1, .ref y2, .int (nI N), .int (nI n), .int fo, .ref br])), (y1, .inl (d, 256, .inl (upd my N (x1 &&& (((1 : Int32) <<< ((nI n) &&& 31)) - 1))))), (y2, .inl (d, 256, .inl (upd mq N (x2 &&& (((1 : Int32) <<< ((nI n) &&& 31)) - 1))))), (br, .inl (d, 4096, .inl bk))] := hD
    refine lv_aload_n hx hb dX4_clause_45 rfl (lv_at hl 1 rfl) ?_
    refine lv_aload_n hx hb dX4_clause_46 rfl (lv_at hl 1 rfl) ?_
    refine va_get (D := (dC, dI)) (ci := 4) (v := .int (nI N)) (C := RX4) (T := TX4) (N := 6) hx hb hts in_X4 hown hK hP 0 rfl rfl 2 (by decide) (hts _ q235) (fun _ h9 => h9) rfl dX4_clause_47 ?_
    refine lv_iconst (v := 1) hx hb dX4_clause_50 (by decide) ?_
    have hPc := hP.sub (ws' := [(h, .inr (4, [.ref y1, .ref y2, .int (nI N), .int (nI n), .int fo, .ref br])), (y1, .inl (d, 256, .inl (upd my N (x1 &&& (((1 : Int32) <<< ((nI n) &&& 31)) - 1))))), (y2, .inl (d, 256, .inl (upd mq N (x2 &&& (((1 : Int32) <<< ((nI n) &&& 31)) - 1))))), (br, .inl (d, 4096, .inl bk))]) [0, 1, 2, 3] rfl
    have hDc := hD.sub (ws' := [(h, .inr (4, [.ref y1, .ref y2, .int (nI N), .int (nI n), .int fo, .ref br])), (y1, .inl (d, 256, .inl (upd my N (x1 &&& (((1 : Int32) <<< ((nI n) &&& 31)) - 1))))), (y2, .inl (d, 256, .inl (upd mq N (x2 &&& (((1 : Int32) <<< ((nI n) &&& 31)) - 1))))), (br, .inl (d, 4096, .inl bk))]) [0, 1, 2, 3] (by decide) rfl
    refine wk_cv (wr := []) (wn := fun (u : Unit) => [(h, .inr (4, [.ref y1, .ref y2, .int (nI N), .int (nI n), .int fo, .ref br])), (y1, .inl (d, 256, .inl (upd my N (x1 &&& ((1 : Int32) <<< (nI n &&& 31) - 1))))), (y2, .inl (d, 256, .inl (upd mq N (x2 &&& ((1 : Int32) <<< (nI n &&& 31) - 1))))), (br, .inl (d, 4096, .inl (md_add (upd my N (x1 &&& ((1 : Int32) <<< (nI n &&& 31) - 1)) N) (upd mq N (x2 &&& ((1 : Int32) <<< (nI n &&& 31) - 1)) N) 1 (2 ^ n) bk)))]) (va_runV (As := [.int (nI N), .int 1]) (rest := []) ⟨hx, hb, hml, hown, hts⟩ (metX4_cnt l dC dI d H.size h y1 y2 br N n (nI N) fo 1 (upd my N (x1 &&& ((1 : Int32) <<< (nI n &&& 31) - 1))) (upd mq N (x2 &&& ((1 : Int32) <<< (nI n &&& 31) - 1))) bk hN k_n) (cwV 2 hts (lw_V q261 q263 qs12 q18 q264) rfl rfl rfl (by decide +kernel) ⟨Nat.le_of_ble_eq_true rfl, Nat.le_of_ble_eq_true rfl⟩) (wk_M.preV (q := (RX4, TX4, 6)) (ci := 4) (q0 := 0) hK hPc hDc rfl rfl) rfl rfl hl.1 rfl (lv_room (Nat.le_of_ble_eq_true rfl)) dX4_clause_51 ⟨Nat.le_of_ble_eq_true rfl, Nat.le_of_ble_eq_true rfl⟩) hP hD hS hA [0, 1, 2, 3] [] [0, 1, 2, 3] rfl rfl (by decide) (by decide) (by decide) (fun _ => rfl) (fun u H locs hp hK hP hD hS => ?_)
    have hP : va_P (dC, dI) vwCl [(h, .inr (4, [.ref y1, .ref y2, .int (nI N), .int (nI n), .int fo, .ref br])), (y1, .inl (d, 256, .inl (upd my N (x1 &&& ((1 : Int32) <<< (nI n &&& 31) - 1))))), (y2, .inl (d, 256, .inl (upd mq N (x2 &&& ((1 : Int32) <<< (nI n &&& 31) - 1))))), (br, .inl (d, 4096, .inl (md_add (upd my N (x1 &&& ((1 : Int32) <<< (nI n &&& 31) - 1)) N) (upd mq N (x2 &&& ((1 : Int32) <<< (nI n &&& 31) - 1)) N) 1 (2 ^ n) bk)))] H := hP
    have hD : va_D A [(h, .inr (4, [.ref y1, .ref y2, .int (nI N), .int (nI n), .int fo, .ref br])), (y1, .inl (d, 256, .inl (upd my N (x1 &&& ((1 : Int32) <<< (nI n &&& 31) - 1))))), (y2, .inl (d, 256, .inl (upd mq N (x2 &&& ((1 : Int32) <<< (nI n &&& 31) - 1))))), (br, .inl (d, 4096, .inl (md_add (upd my N (x1 &&& ((1 : Int32) <<< (nI n &&& 31) - 1)) N) (upd mq N (x2 &&& ((1 : Int32) <<< (nI n &&& 31) - 1)) N) 1 (2 ^ n) bk)))] := hD
    refine lv_aload_n hx hb dX4_clause_54 rfl (lv_at hl 1 rfl) ?_
    refine lv_aload_n hx hb dX4_clause_55 rfl (lv_at hl 1 rfl) ?_
    refine va_get (D := (dC, dI)) (ci := 4) (v := .int (nI N)) (C := RX4) (T := TX4) (N := 6) hx hb hts in_X4 hown hK hP 0 rfl rfl 2 (by decide) (hts _ q235) (fun _ h9 => h9) rfl dX4_clause_56 ?_
    refine lv_iconst (v := 1) hx hb dX4_clause_59 (by decide) ?_
    refine lv_iadd hx hb dX4_clause_60 ?_
    refine wk_top (y := nI (N + 1)) ((nI_succ N).symm) ?_
    refine va_put (D := (dC, dI)) (ci := 4) (v := .int (nI (N + 1))) (ty := .int) (C := RX4) (T := TX4) (N := 6) hx hb hts in_X4 tyX4 tyX4_ok nmX4 hown hK hP hD hS 0 rfl rfl 2 (by decide) (hts _ q235) (fun _ h9 => h9) rfl (by decide +kernel) rfl rfl (Nat.le_of_ble_eq_true rfl) dX4_clause_61 (fun H locs hP hD hS => ?_)
    have hP : va_P (dC, dI) vwCl [(h, .inr (4, [.ref y1, .ref y2, .int (nI (N + 1)), .int (nI n), .int fo, .ref br])), (y1, .inl (d, 256, .inl (upd my N (x1 &&& ((1 : Int32) <<< (nI n &&& 31) - 1))))), (y2, .inl (d, 256, .inl (upd mq N (x2 &&& ((1 : Int32) <<< (nI n &&& 31) - 1))))), (br, .inl (d, 4096, .inl (md_add (upd my N (x1 &&& ((1 : Int32) <<< (nI n &&& 31) - 1)) N) (upd mq N (x2 &&& ((1 : Int32) <<< (nI n &&& 31) - 1)) N) 1 (2 ^ n) bk)))] H := hP
    have hD : va_D A [(h, .inr (4, [.ref y1, .ref y2, .int (nI (N + 1)), .int (nI n), .int fo, .ref br])), (y1, .inl (d, 256, .inl (upd my N (x1 &&& ((1 : Int32) <<< (nI n &&& 31) - 1))))), (y2, .inl (d, 256, .inl (upd mq N (x2 &&& ((1 : Int32) <<< (nI n &&& 31) - 1))))), (br, .inl (d, 4096, .inl (md_add (upd my N (x1 &&& ((1 : Int32) <<< (nI n &&& 31) - 1)) N) (upd mq N (x2 &&& ((1 : Int32) <<< (nI n &&& 31) - 1)) N) 1 (2 ^ n) bk)))] := hD
    refine lv_iconst (v := 1) hx hb dX4_clause_64 (by decide) ?_
    rw [pk_us, pk_us] at hP hD
    exact wk_zret ((N + 1, upd my N (x1 &&& ((1 : Int32) <<< (nI n &&& 31) - 1)), upd mq N (x2 &&& ((1 : Int32) <<< (nI n &&& 31) - 1)), md_add (x1 &&& ((1 : Int32) <<< (nI n &&& 31) - 1)) (x2 &&& ((1 : Int32) <<< (nI n &&& 31) - 1)) 1 (2 ^ n) bk)) hx hb hr hlocks (by decide) (Or.inr ⟨hN, rfl, rfl⟩) hK hP hD hS dX4_clause_65
  · refine lv_iconst (v := 0) hx hb dX4_clause_10 (by decide) ?_
    exact wk_zret ((N, my, mq, bk)) hx hb hr hlocks (by decide) (Or.inl ⟨(nI_eq (b := 256) (by omega) (by omega)).mp c_1, rfl, rfl⟩) hK hP hD hS dX4_clause_11
set_option maxHeartbeats 4000000 in
set_option maxRecDepth 100000 in
theorem metX4_drop (l : Launch) (dC : Nat → ClassId) (dI : Nat → Nat → Nat) (d : ClassId) (sz : Nat) (h y1 y2 br : Nat) (N n : Nat) (fo : Int32) (my mq bk : Nat → Int32) (k_N : N ≤ 256) (k_n : n ≤ 12) : Met l yX4_drop (ws_ yX4_drop cX4_drop 1 (some .boolean)) ({ frames := 1, cells := 0, slots := 0, locals := 24 }) (wk_M (dC, dI) [(d, .int)] [(h, .inr (4, [.ref y1, .ref y2, .int (nI N), .int (nI n), .int fo, .ref br])), (y1, .inl (d, 256, .inl my)), (y2, .inl (d, 256, .inl mq)), (br, .inl (d, 4096, .inl bk))] [.ref h] sz) (va_Qi (mr_post n N my mq bk) (wk_B (dC, dI) [(d, .int)] (va_A [(h, .inr (4, [.ref y1, .ref y2, .int (nI N), .int (nI n), .int fo, .ref br])), (y1, .inl (d, 256, .inl my)), (y2, .inl (d, 256, .inl mq)), (br, .inl (d, 4096, .inl bk))] sz) (fun u : Nat × (Nat → Int32) => [(h, .inr (4, [.ref y1, .ref y2, .int (nI u.1), .int (nI n), .int fo, .ref br])), (y1, .inl (d, 256, .inl my)), (y2, .inl (d, 256, .inl mq)), (br, .inl (d, 4096, .inl u.2))])) (va_A [(h, .inr (4, [.ref y1, .ref y2, .int (nI N), .int (nI n), .int fo, .ref br])), (y1, .inl (d, 256, .inl my)), (y2, .inl (d, 256, .inl mq)), (br, .inl (d, 4096, .inl bk))] sz)) 0 0 (va_A [(h, .inr (4, [.ref y1, .ref y2, .int (nI N), .int (nI n), .int fo, .ref br])), (y1, .inl (d, 256, .inl my)), (y2, .inl (d, 256, .inl mq)), (br, .inl (d, 4096, .inl bk))] sz) := by
  refine Met.ofW (cc := cX4_drop) (maxL := 1) (ret := some .boolean) (by decide) rfl ?_
  intro p e s m args below meth c s₁ Bd hml hv
  obtain ⟨rfl, hsz, hP, hK, hD0⟩ := hv
  have hx := Bd.exec
  have hb := Bd.bytes
  have hr := Bd.returns
  have hts := atoms_spec (ws := ws_ yX4_drop cX4_drop 1 (some .boolean)) Bd.pre
  have hts : ∀ w ∈ lw_all, w.before _ s = true := fun w h => hts w (List.mem_cons_of_mem _ h)
  have hown : s.vm.findClass RX4 = some m.cls := findClass_of_methodNamed Bd.named
  have hlocks := Bd.notSynchronized
  have hK : va_K (dC, dI) vwCl [(d, .int)] s := hK
  subst hsz
  have hD := hD0.self (sz := s.heap.size)
  generalize hAe : va_A [(h, .inr (4, [.ref y1, .ref y2, .int (nI N), .int (nI n), .int fo, .ref br])), (y1, .inl (d, 256, .inl my)), (y2, .inl (d, 256, .inl mq)), (br, .inl (d, 4096, .inl bk))] s.heap.size = A at hD ⊢
  have hA : ∀ q : Nat, s.heap.size ≤ q → A q := fun q h => by rw [← hAe]; exact Or.inr h
  have hS : va_S A s.heap s.heap [] := va_S.rf
  have hP : va_P (dC, dI) vwCl [(h, .inr (4, [.ref y1, .ref y2, .int (nI N), .int (nI n), .int fo, .ref br])), (y1, .inl (d, 256, .inl my)), (y2, .inl (d, 256, .inl mq)), (br, .inl (d, 4096, .inl bk))] s.heap := hP
  have hl := lv_entry ([.ref h]) (n := 1) (Nat.le_of_ble_eq_true rfl)
  rw [lg_entry_eq]
  generalize (lg_sl ([.ref h]) ++ List.replicate (1 - (lg_sl ([.ref h])).length) Slot.unset).toArray = ls at hl ⊢
  have hl : lv_has ls 1 [(0, .ref h)] := hl
  refine lv_aload_n hx hb dX4_drop_0 rfl (lv_at hl 0 rfl) ?_
  refine va_get (D := (dC, dI)) (ci := 4) (v := .int (nI N)) (C := RX4) (T := TX4) (N := 6) hx hb hts in_X4 hown hK hP 0 rfl rfl 2 (by decide) (hts _ q235) (fun _ h9 => h9) rfl dX4_drop_1 ?_
  refine lv_if_ne (tgt := 9) hx hb dX4_drop_4 (by decide) (fun c_1 => ?_) (fun c_1 => ?_)
  · have hN : 0 < N := Nat.pos_of_ne_zero (fun e => c_1 (by rw [e]; rfl))
    refine lv_aload_n hx hb dX4_drop_9 rfl (lv_at hl 0 rfl) ?_
    refine lv_aload_n hx hb dX4_drop_10 rfl (lv_at hl 0 rfl) ?_
    refine va_get (D := (dC, dI)) (ci := 4) (v := .int (nI N)) (C := RX4) (T := TX4) (N := 6) hx hb hts in_X4 hown hK hP 0 rfl rfl 2 (by decide) (hts _ q235) (fun _ h9 => h9) rfl dX4_drop_11 ?_
    refine lv_iconst (v := 1) hx hb dX4_drop_14 (by decide) ?_
    refine lv_isub hx hb dX4_drop_15 ?_
    refine wk_top (y := nI (N - 1)) (pk_sub (b := 1) hN) ?_
    refine va_put (D := (dC, dI)) (ci := 4) (v := .int (nI (N - 1))) (ty := .int) (C := RX4) (T := TX4) (N := 6) hx hb hts in_X4 tyX4 tyX4_ok nmX4 hown hK hP hD hS 0 rfl rfl 2 (by decide) (hts _ q235) (fun _ h9 => h9) rfl (by decide +kernel) rfl rfl (Nat.le_of_ble_eq_true rfl) dX4_drop_16 (fun H locs hP hD hS => ?_)
    have hP : va_P (dC, dI) vwCl [(h, .inr (4, [.ref y1, .ref y2, .int (nI (N - 1)), .int (nI n), .int fo, .ref br])), (y1, .inl (d, 256, .inl my)), (y2, .inl (d, 256, .inl mq)), (br, .inl (d, 4096, .inl bk))] H := hP
    have hD : va_D A [(h, .inr (4, [.ref y1, .ref y2, .int (nI (N - 1)), .int (nI n), .int fo, .ref br])), (y1, .inl (d, 256, .inl my)), (y2, .inl (d, 256, .inl mq)), (br, .inl (d, 4096, .inl bk))] := hD
    refine lv_aload_n hx hb dX4_drop_19 rfl (lv_at hl 0 rfl) ?_
    refine lv_aload_n hx hb dX4_drop_20 rfl (lv_at hl 0 rfl) ?_
    refine va_get (D := (dC, dI)) (ci := 4) (v := .int (nI (N - 1))) (C := RX4) (T := TX4) (N := 6) hx hb hts in_X4 hown hK hP 0 rfl rfl 2 (by decide) (hts _ q235) (fun _ h9 => h9) rfl dX4_drop_21 ?_
    refine lv_iconst (v := (-1)) hx hb dX4_drop_24 (by decide) ?_
    have hPc := hP.sub (ws' := [(h, .inr (4, [.ref y1, .ref y2, .int (nI (N - 1)), .int (nI n), .int fo, .ref br])), (y1, .inl (d, 256, .inl my)), (y2, .inl (d, 256, .inl mq)), (br, .inl (d, 4096, .inl bk))]) [0, 1, 2, 3] rfl
    have hDc := hD.sub (ws' := [(h, .inr (4, [.ref y1, .ref y2, .int (nI (N - 1)), .int (nI n), .int fo, .ref br])), (y1, .inl (d, 256, .inl my)), (y2, .inl (d, 256, .inl mq)), (br, .inl (d, 4096, .inl bk))]) [0, 1, 2, 3] (by decide) rfl
    refine wk_cv (wr := []) (wn := fun (u : Unit) => [(h, .inr (4, [.ref y1, .ref y2, .int (nI (N - 1)), .int (nI n), .int fo, .ref br])), (y1, .inl (d, 256, .inl my)), (y2, .inl (d, 256, .inl mq)), (br, .inl (d, 4096, .inl (md_add (my (N - 1)) (mq (N - 1)) (-1) (2 ^ n) bk)))]) (va_runV (As := [.int (nI (N - 1)), .int (-1)]) (rest := []) ⟨hx, hb, hml, hown, hts⟩ (metX4_cnt l dC dI d H.size h y1 y2 br (N - 1) n (nI (N - 1)) fo (-1) my mq bk (by omega) k_n) (cwV 2 hts (lw_V q261 q263 qs12 q18 q264) rfl rfl rfl (by decide +kernel) ⟨Nat.le_of_ble_eq_true rfl, Nat.le_of_ble_eq_true rfl⟩) (wk_M.preV (q := (RX4, TX4, 6)) (ci := 4) (q0 := 0) hK hPc hDc rfl rfl) rfl rfl hl.1 rfl (lv_room (Nat.le_of_ble_eq_true rfl)) dX4_drop_25 ⟨Nat.le_of_ble_eq_true rfl, Nat.le_of_ble_eq_true rfl⟩) hP hD hS hA [0, 1, 2, 3] [] [0, 1, 2, 3] rfl rfl (by decide) (by decide) (by decide) (fun _ => rfl) (fun u H locs hp hK hP hD hS => ?_)
    have hP : va_P (dC, dI) vwCl [(h, .inr (4, [.ref y1, .ref y2, .int (nI (N - 1)), .int (nI n), .int fo, .ref br])), (y1, .inl (d, 256, .inl my)), (y2, .inl (d, 256, .inl mq)), (br, .inl (d, 4096, .inl (md_add (my (N - 1)) (mq (N - 1)) (-1) (2 ^ n) bk)))] H := hP
    have hD : va_D A [(h, .inr (4, [.ref y1, .ref y2, .int (nI (N - 1)), .int (nI n), .int fo, .ref br])), (y1, .inl (d, 256, .inl my)), (y2, .inl (d, 256, .inl mq)), (br, .inl (d, 4096, .inl (md_add (my (N - 1)) (mq (N - 1)) (-1) (2 ^ n) bk)))] := hD
    refine lv_iconst (v := 1) hx hb dX4_drop_28 (by decide) ?_
    exact wk_zret ((N - 1, md_add (my (N - 1)) (mq (N - 1)) (-1) (2 ^ n) bk)) hx hb hr hlocks (by decide) (Or.inr ⟨hN, rfl, rfl⟩) hK hP hD hS dX4_drop_29
  · refine lv_iconst (v := 0) hx hb dX4_drop_7 (by decide) ?_
    exact wk_zret ((N, bk)) hx hb hr hlocks (by decide) (Or.inl ⟨(nI_eq (b := 0) (by omega) (by omega)).mp c_1, rfl, rfl⟩) hK hP hD hS dX4_drop_8
def ms_M (n : Nat) (bk : Nat → Int32) (fx vs : Int32) (z : Nat) : Prop := bk z = 0 ∧ ((nI z ^^^ vs) &&& fx) &&& ((1 : Int32) <<< (nI n &&& 31) - 1) = 0
def ms_inv (n : Nat) (bk : Nat → Int32) (fx vs : Int32) (i : Nat) (fo : Int32) : Prop := (fo = -1 ∧ ∀ z, i ≤ z → z < 2 ^ n → ¬ ms_M n bk fx vs z) ∨ ∃ z, i ≤ z ∧ z < 2 ^ n ∧ fo = nI z ∧ ms_M n bk fx vs z ∧ ∀ y, i ≤ y → y < z → ¬ ms_M n bk fx vs y
def ms_post (n : Nat) (bk : Nat → Int32) (fx vs r fo : Int32) : Prop := (r = 0 ∧ fo = -1 ∧ ∀ z, z < 2 ^ n → ¬ ms_M n bk fx vs z) ∨ (r = 1 ∧ ∃ z, z < 2 ^ n ∧ fo = nI z ∧ ms_M n bk fx vs z ∧ ∀ y, y < z → ¬ ms_M n bk fx vs y)
set_option maxHeartbeats 4000000 in
set_option maxRecDepth 100000 in
theorem metX4_solve (l : Launch) (dC : Nat → ClassId) (dI : Nat → Nat → Nat) (d : ClassId) (sz : Nat) (h y1 y2 br : Nat) (n : Nat) (cl fo fx vs : Int32) (my mq bk : Nat → Int32) (k_n : n ≤ 12) : Met l yX4_solve (ws_ yX4_solve cX4_solve 5 (some .boolean)) ({ frames := 0, cells := 0, slots := 0, locals := 0 }) (wk_M (dC, dI) [(d, .int)] [(h, .inr (4, [.ref y1, .ref y2, .int cl, .int (nI n), .int fo, .ref br])), (y1, .inl (d, 256, .inl my)), (y2, .inl (d, 256, .inl mq)), (br, .inl (d, 4096, .inl bk))] [.ref h, .int fx, .int vs] sz) (va_Qi (fun (r u : Int32) => ms_post n bk fx vs r u) (wk_B (dC, dI) [(d, .int)] (va_A [(h, .inr (4, [.ref y1, .ref y2, .int cl, .int (nI n), .int fo, .ref br])), (y1, .inl (d, 256, .inl my)), (y2, .inl (d, 256, .inl mq)), (br, .inl (d, 4096, .inl bk))] sz) (fun u : Int32 => [(h, .inr (4, [.ref y1, .ref y2, .int cl, .int (nI n), .int u, .ref br])), (y1, .inl (d, 256, .inl my)), (y2, .inl (d, 256, .inl mq)), (br, .inl (d, 4096, .inl bk))])) (va_A [(h, .inr (4, [.ref y1, .ref y2, .int cl, .int (nI n), .int fo, .ref br])), (y1, .inl (d, 256, .inl my)), (y2, .inl (d, 256, .inl mq)), (br, .inl (d, 4096, .inl bk))] sz)) 0 0 (va_A [(h, .inr (4, [.ref y1, .ref y2, .int cl, .int (nI n), .int fo, .ref br])), (y1, .inl (d, 256, .inl my)), (y2, .inl (d, 256, .inl mq)), (br, .inl (d, 4096, .inl bk))] sz) := by
  refine Met.ofW (cc := cX4_solve) (maxL := 5) (ret := some .boolean) (by decide) rfl ?_
  intro p e s m args below meth c s₁ Bd hml hv
  obtain ⟨rfl, hsz, hP, hK, hD0⟩ := hv
  have hx := Bd.exec
  have hb := Bd.bytes
  have hr := Bd.returns
  have hts := atoms_spec (ws := ws_ yX4_solve cX4_solve 5 (some .boolean)) Bd.pre
  have hts : ∀ w ∈ lw_all, w.before _ s = true := fun w h => hts w (List.mem_cons_of_mem _ h)
  have hown : s.vm.findClass RX4 = some m.cls := findClass_of_methodNamed Bd.named
  have hlocks := Bd.notSynchronized
  have hK : va_K (dC, dI) vwCl [(d, .int)] s := hK
  subst hsz
  have hD := hD0.self (sz := s.heap.size)
  generalize hAe : va_A [(h, .inr (4, [.ref y1, .ref y2, .int cl, .int (nI n), .int fo, .ref br])), (y1, .inl (d, 256, .inl my)), (y2, .inl (d, 256, .inl mq)), (br, .inl (d, 4096, .inl bk))] s.heap.size = A at hD ⊢
  have hA : ∀ q : Nat, s.heap.size ≤ q → A q := fun q h => by rw [← hAe]; exact Or.inr h
  have hS : va_S A s.heap s.heap [] := va_S.rf
  have hP : va_P (dC, dI) vwCl [(h, .inr (4, [.ref y1, .ref y2, .int cl, .int (nI n), .int fo, .ref br])), (y1, .inl (d, 256, .inl my)), (y2, .inl (d, 256, .inl mq)), (br, .inl (d, 4096, .inl bk))] s.heap := hP
  have hl := lv_entry ([.ref h, .int fx, .int vs]) (n := 5) (Nat.le_of_ble_eq_true rfl)
  rw [lg_entry_eq]
  generalize (lg_sl ([.ref h, .int fx, .int vs]) ++ List.replicate (5 - (lg_sl ([.ref h, .int fx, .int vs])).length) Slot.unset).toArray = ls at hl ⊢
  have hl : lv_has ls 5 [(0, .ref h), (1, .int fx), (2, .int vs)] := hl
  obtain ⟨hp1, hp2⟩ := md_p k_n
  refine lv_iconst (v := 1) hx hb dX4_solve_0 (by decide) ?_
  refine lv_aload_n hx hb dX4_solve_1 rfl (lv_at hl 0 rfl) ?_
  refine va_get (D := (dC, dI)) (ci := 4) (v := .int (nI n)) (C := RX4) (T := TX4) (N := 6) hx hb hts in_X4 hown hK hP 0 rfl rfl 3 (by decide) (hts _ q236) (fun _ h9 => h9) rfl dX4_solve_2 ?_
  refine lv_ishl hx hb dX4_solve_5 ?_
  refine lv_iconst (v := 1) hx hb dX4_solve_6 (by decide) ?_
  refine lv_isub hx hb dX4_solve_7 ?_
  refine lv_istore_n (lv' := [(3, .int (((1 : Int32) <<< ((nI n) &&& 31)) - 1)), (0, .ref h), (1, .int fx), (2, .int vs)]) hx hb dX4_solve_8 rfl hl (by decide) rfl (fun ls hl => ?_)
  refine lv_aload_n hx hb dX4_solve_9 rfl (lv_at hl 1 rfl) ?_
  refine lv_iconst (v := (-1)) hx hb dX4_solve_10 (by decide) ?_
  refine va_put (D := (dC, dI)) (ci := 4) (v := .int (-1)) (ty := .int) (C := RX4) (T := TX4) (N := 6) hx hb hts in_X4 tyX4 tyX4_ok nmX4 hown hK hP hD hS 0 rfl rfl 4 (by decide) (hts _ q237) (fun _ h9 => h9) rfl (by decide +kernel) rfl rfl (Nat.le_of_ble_eq_true rfl) dX4_solve_11 (fun H locs hP hD hS => ?_)
  have hP : va_P (dC, dI) vwCl [(h, .inr (4, [.ref y1, .ref y2, .int cl, .int (nI n), .int (-1), .ref br])), (y1, .inl (d, 256, .inl my)), (y2, .inl (d, 256, .inl mq)), (br, .inl (d, 4096, .inl bk))] H := hP
  have hD : va_D A [(h, .inr (4, [.ref y1, .ref y2, .int cl, .int (nI n), .int (-1), .ref br])), (y1, .inl (d, 256, .inl my)), (y2, .inl (d, 256, .inl mq)), (br, .inl (d, 4096, .inl bk))] := hD
  refine lv_iload_n hx hb dX4_solve_14 rfl (lv_at hl 0 rfl) ?_
  refine wk_top (y := nI (2 ^ n) - 1) (by rw [b_bitN n (by omega)]) ?_
  refine lv_istore (lv' := [(4, .int (nI (2 ^ n) - 1)), (3, .int (((1 : Int32) <<< ((nI n) &&& 31)) - 1)), (0, .ref h), (1, .int fx), (2, .int vs)]) hx hb dX4_solve_15 hl (by decide) rfl (fun ls hl => ?_)
  have loop : ∀ (N9 : Nat) (i : Nat) (fo : Int32), (i < N9) → (i ≤ 2 ^ n) → (ms_inv n bk fx vs i fo) → ∀ (H : Heap) (locs : List Loc), va_P (dC, dI) vwCl [(h, .inr (4, [.ref y1, .ref y2, .int cl, .int (nI n), .int fo, .ref br])), (y1, .inl (d, 256, .inl my)), (y2, .inl (d, 256, .inl mq)), (br, .inl (d, 4096, .inl bk))] H → va_D A [(h, .inr (4, [.ref y1, .ref y2, .int cl, .int (nI n), .int fo, .ref br])), (y1, .inl (d, 256, .inl my)), (y2, .inl (d, 256, .inl mq)), (br, .inl (d, 4096, .inl bk))] → va_S A s.heap H locs → ∀ (ls : Array Slot), lv_has ls 5 [(4, .int (nI i - 1)), (3, .int (((1 : Int32) <<< ((nI n) &&& 31)) - 1)), (0, .ref h), (1, .int fx), (2, .int vs)] → W p l e (headSpec (ws_ yX4_solve cX4_solve 5 (some .boolean)) ({ frames := 0, cells := 0, slots := 0, locals := 0 })).room s m ([.ref h, .int fx, .int vs] : List Value).toArray below meth c H locs 0 0 (MQ below (va_Qi (fun (r u : Int32) => ms_post n bk fx vs r u) (wk_B (dC, dI) [(d, .int)] (A) (fun u : Int32 => [(h, .inr (4, [.ref y1, .ref y2, .int cl, .int (nI n), .int u, .ref br])), (y1, .inl (d, 256, .inl my)), (y2, .inl (d, 256, .inl mq)), (br, .inl (d, 4096, .inl bk))])) (A)) ([.ref h, .int fx, .int vs] : List Value).toArray s 0 0 (A)) (F0 m 17 ls []) := by
    intro N9
    induction N9 with
    | zero =>
      intro i fo h9
      exact absurd h9 (Nat.not_lt_zero _)
    | succ N9 ih =>
      intro i fo h1 h2 h3 H locs hP hD hS ls hl
      refine lv_iload hx hb dX4_solve_17 (lv_at hl 0 rfl) ?_
      refine lv_if_lt (tgt := 55) hx hb dX4_solve_19 (by decide) (fun c_1 => ?_) (fun c_1 => ?_)
      · have hi : i = 0 := by
          cases i with
          | zero => rfl
          | succ i => rw [nI_pred] at c_1; exact absurd c_1 (nI_pos (by omega))
        subst hi
        refine lv_aload_n hx hb dX4_solve_55 rfl (lv_at hl 2 rfl) ?_
        refine va_get (D := (dC, dI)) (ci := 4) (v := .int fo) (C := RX4) (T := TX4) (N := 6) hx hb hts in_X4 hown hK hP 0 rfl rfl 4 (by decide) (hts _ q237) (fun _ h9 => h9) rfl dX4_solve_56 ?_
        refine lv_if_lt (tgt := 66) hx hb dX4_solve_59 (by decide) (fun c_2 => ?_) (fun c_2 => ?_)
        · have h4 : ms_post n bk fx vs 0 fo := by
            rcases h3 with ⟨e, q⟩ | ⟨z, -, hz, e, -⟩
            · exact Or.inl ⟨rfl, e, fun z hz => q z (Nat.zero_le _) hz⟩
            · exact absurd c_2 (by rw [e]; exact nI_pos (by omega))
          refine lv_iconst (v := 0) hx hb dX4_solve_66 (by decide) ?_
          exact wk_zret (fo) hx hb hr hlocks (by decide) (h4) hK hP hD hS dX4_solve_67
        · have h4 : ms_post n bk fx vs 1 fo := by
            rcases h3 with ⟨e, q⟩ | ⟨z, -, hz, e, q1, q2⟩
            · exact absurd (show fo < 0 by rw [e]; decide) c_2
            · exact Or.inr ⟨rfl, z, hz, e, q1, fun y hy => q2 y (Nat.zero_le _) hy⟩
          refine lv_iconst (v := 1) hx hb dX4_solve_62 (by decide) ?_
          refine lv_goto (tgt := 67) hx hb dX4_solve_63 (by decide) ?_
          exact wk_zret (fo) hx hb hr hlocks (by decide) (h4) hK hP hD hS dX4_solve_67
      · obtain ⟨j, rfl⟩ : ∃ j, i = j + 1 := ⟨i - 1, by have : i ≠ 0 := (fun e => c_1 (by rw [e]; decide)); omega⟩
        have hl : lv_has ls 5 [(4, .int (nI j)), (3, .int (((1 : Int32) <<< ((nI n) &&& 31)) - 1)), (0, .ref h), (1, .int fx), (2, .int vs)] := by rw [nI_pred] at hl; exact hl
        refine lv_aload_n hx hb dX4_solve_22 rfl (lv_at hl 2 rfl) ?_
        refine va_get (D := (dC, dI)) (ci := 4) (v := .ref br) (C := RX4) (T := TX4) (N := 6) hx hb hts in_X4 hown hK hP 0 rfl rfl 5 (by decide) (hts _ q238) (fun _ h9 => h9) rfl dX4_solve_23 ?_
        refine lv_iload hx hb dX4_solve_26 (lv_at hl 0 rfl) ?_
        refine wk_iald hx hb hK hP 3 0 rfl rfl j (rfl) (by omega) (by omega) dX4_solve_28 ?_
        refine lv_if_ne (tgt := 49) hx hb dX4_solve_29 (by decide) (fun c_2 => ?_) (fun c_2 => ?_)
        · refine lv_iinc (v := nI j - 1) (lv' := [(4, .int (nI j - 1)), (3, .int (((1 : Int32) <<< ((nI n) &&& 31)) - 1)), (0, .ref h), (1, .int fx), (2, .int vs)]) hx hb dX4_solve_49 hl (k := 0) rfl (by rw [Int32.sub_eq_add_neg]; rfl) (by decide) rfl (fun ls hl => ?_)
          refine lv_goto (tgt := 17) hx hb dX4_solve_52 (by decide) ?_
          exact ih j fo (by omega) (by omega) (by
            have hno : ¬ ms_M n bk fx vs j := fun z => c_2 z.1
            have st : ∀ y, j ≤ y → ¬ y = j → j + 1 ≤ y := fun y a b => by omega
            rcases h3 with ⟨e, q⟩ | ⟨z, hz0, hz, e, q1, q2⟩
            · exact Or.inl ⟨e, fun z a1 a2 => by
                by_cases e2 : z = j
                · rw [e2]; exact hno
                · exact q z (st z a1 e2) a2⟩
            · exact Or.inr ⟨z, by omega, hz, e, q1, fun y a1 a2 => by
                by_cases e2 : y = j
                · rw [e2]; exact hno
                · exact q2 y (st y a1 e2) a2⟩) H locs hP hD hS ls (lv_sub hl [0, 1, 2, 3, 4] rfl)
        · refine lv_iload hx hb dX4_solve_32 (lv_at hl 0 rfl) ?_
          refine lv_iload_n hx hb dX4_solve_34 rfl (lv_at hl 4 rfl) ?_
          refine lv_ixor hx hb dX4_solve_35 ?_
          refine lv_iload_n hx hb dX4_solve_36 rfl (lv_at hl 3 rfl) ?_
          refine lv_iand hx hb dX4_solve_37 ?_
          refine lv_iload_n hx hb dX4_solve_38 rfl (lv_at hl 1 rfl) ?_
          refine lv_iand hx hb dX4_solve_39 ?_
          refine lv_if_ne (tgt := 49) hx hb dX4_solve_40 (by decide) (fun c_3 => ?_) (fun c_3 => ?_)
          · refine lv_iinc (v := nI j - 1) (lv' := [(4, .int (nI j - 1)), (3, .int (((1 : Int32) <<< ((nI n) &&& 31)) - 1)), (0, .ref h), (1, .int fx), (2, .int vs)]) hx hb dX4_solve_49 hl (k := 0) rfl (by rw [Int32.sub_eq_add_neg]; rfl) (by decide) rfl (fun ls hl => ?_)
            refine lv_goto (tgt := 17) hx hb dX4_solve_52 (by decide) ?_
            exact ih j fo (by omega) (by omega) (by
              have hno : ¬ ms_M n bk fx vs j := fun z => c_3 z.2
              have st : ∀ y, j ≤ y → ¬ y = j → j + 1 ≤ y := fun y a b => by omega
              rcases h3 with ⟨e, q⟩ | ⟨z, hz0, hz, e, q1, q2⟩
              · exact Or.inl ⟨e, fun z a1 a2 => by
                  by_cases e2 : z = j
                  · rw [e2]; exact hno
                  · exact q z (st z a1 e2) a2⟩
              · exact Or.inr ⟨z, by omega, hz, e, q1, fun y a1 a2 => by
                  by_cases e2 : y = j
                  · rw [e2]; exact hno
                  · exact q2 y (st y a1 e2) a2⟩) H locs hP hD hS ls (lv_sub hl [0, 1, 2, 3, 4] rfl)
          · refine lv_aload_n hx hb dX4_solve_43 rfl (lv_at hl 2 rfl) ?_
            refine lv_iload hx hb dX4_solve_44 (lv_at hl 0 rfl) ?_
            refine va_put (D := (dC, dI)) (ci := 4) (v := .int (nI j)) (ty := .int) (C := RX4) (T := TX4) (N := 6) hx hb hts in_X4 tyX4 tyX4_ok nmX4 hown hK hP hD hS 0 rfl rfl 4 (by decide) (hts _ q237) (fun _ h9 => h9) rfl (by decide +kernel) rfl rfl (Nat.le_of_ble_eq_true rfl) dX4_solve_46 (fun H locs hP hD hS => ?_)
            have hP : va_P (dC, dI) vwCl [(h, .inr (4, [.ref y1, .ref y2, .int cl, .int (nI n), .int (nI j), .ref br])), (y1, .inl (d, 256, .inl my)), (y2, .inl (d, 256, .inl mq)), (br, .inl (d, 4096, .inl bk))] H := hP
            have hD : va_D A [(h, .inr (4, [.ref y1, .ref y2, .int cl, .int (nI n), .int (nI j), .ref br])), (y1, .inl (d, 256, .inl my)), (y2, .inl (d, 256, .inl mq)), (br, .inl (d, 4096, .inl bk))] := hD
            refine lv_iinc (v := nI j - 1) (lv' := [(4, .int (nI j - 1)), (3, .int (((1 : Int32) <<< ((nI n) &&& 31)) - 1)), (0, .ref h), (1, .int fx), (2, .int vs)]) hx hb dX4_solve_49 hl (k := 0) rfl (by rw [Int32.sub_eq_add_neg]; rfl) (by decide) rfl (fun ls hl => ?_)
            refine lv_goto (tgt := 17) hx hb dX4_solve_52 (by decide) ?_
            exact ih j (nI j) (by omega) (by omega) (Or.inr ⟨j, Nat.le_refl _, by omega, rfl, ⟨c_2, c_3⟩, fun y a1 a2 => absurd a2 (by omega)⟩) H locs hP hD hS ls (lv_sub hl [0, 1, 2, 3, 4] rfl)
  exact loop (2 ^ n + 1) (2 ^ n) (-1) (by omega) (Nat.le_refl _) (Or.inl ⟨rfl, fun z a1 a2 => absurd a2 (by omega)⟩) _ _ hP hD hS ls (lv_sub hl [0, 1, 2, 3, 4] rfl)
set_option maxHeartbeats 4000000 in
set_option maxRecDepth 100000 in
theorem metX4_found (l : Launch) (dC : Nat → ClassId) (dI : Nat → Nat → Nat) (d : ClassId) (h y1 y2 br : Nat) (cl n fo : Int32) : Met l yX4_found (ws_ yX4_found cX4_found 1 (some .int)) ({ frames := 0, cells := 0, slots := 0, locals := 0 }) (wk_R (dC, dI) [] [(h, .inr (4, [.ref y1, .ref y2, .int cl, .int n, .int fo, .ref br]))] [.ref h]) (vp_Si (fun r : Int32 => r = fo)) 0 0 (fun _ => False) := by
  refine Met.ofW (cc := cX4_found) (maxL := 1) (ret := some .int) (by decide) rfl ?_
  intro p e s m args below meth c s₁ Bd hml hv
  obtain ⟨rfl, hP, hK⟩ := hv
  have hx := Bd.exec
  have hb := Bd.bytes
  have hr := Bd.returns
  have hts := atoms_spec (ws := ws_ yX4_found cX4_found 1 (some .int)) Bd.pre
  have hts : ∀ w ∈ lw_all, w.before _ s = true := fun w h => hts w (List.mem_cons_of_mem _ h)
  have hown : s.vm.findClass RX4 = some m.cls := findClass_of_methodNamed Bd.named
  have hlocks := Bd.notSynchronized
  have hK : va_K (dC, dI) vwCl [] s := hK
  have hP : va_P (dC, dI) vwCl [(h, .inr (4, [.ref y1, .ref y2, .int cl, .int n, .int fo, .ref br]))] s.heap := hP
  have hl := lv_entry ([.ref h]) (n := 1) (Nat.le_of_ble_eq_true rfl)
  rw [lg_entry_eq]
  generalize (lg_sl ([.ref h]) ++ List.replicate (1 - (lg_sl ([.ref h])).length) Slot.unset).toArray = ls at hl ⊢
  have hl : lv_has ls 1 [(0, .ref h)] := hl
  refine lv_aload_n hx hb dX4_found_0 rfl (lv_at hl 0 rfl) ?_
  refine va_get (D := (dC, dI)) (ci := 4) (v := .int fo) (C := RX4) (T := TX4) (N := 6) hx hb hts in_X4 hown hK hP 0 rfl rfl 4 (by decide) (hts _ q237) (fun _ h9 => h9) rfl dX4_found_1 ?_
  exact wk_iretR hx hb hr hlocks (rfl) dX4_found_4
set_option maxHeartbeats 4000000 in
set_option maxRecDepth 100000 in
theorem metX4_count (l : Launch) (dC : Nat → ClassId) (dI : Nat → Nat → Nat) (d : ClassId) (h y1 y2 br : Nat) (n : Nat) (cl fo : Int32) (bk : Nat → Int32) (k_n : n ≤ 12) : Met l yX4_count_2 (ws_ yX4_count_2 cX4_count_2 3 (some .int)) ({ frames := 0, cells := 0, slots := 0, locals := 0 }) (wk_R (dC, dI) [(d, .int)] [(h, .inr (4, [.ref y1, .ref y2, .int cl, .int (nI n), .int fo, .ref br])), (br, .inl (d, 4096, .inl bk))] [.ref h]) (vp_Si (fun r : Int32 => r = nI (hc (fun z => decide (bk z = 0)) (2 ^ n)))) 0 0 (fun _ => False) := by
  refine Met.ofW (cc := cX4_count_2) (maxL := 3) (ret := some .int) (by decide) rfl ?_
  intro p e s m args below meth c s₁ Bd hml hv
  obtain ⟨rfl, hP, hK⟩ := hv
  have hx := Bd.exec
  have hb := Bd.bytes
  have hr := Bd.returns
  have hts := atoms_spec (ws := ws_ yX4_count_2 cX4_count_2 3 (some .int)) Bd.pre
  have hts : ∀ w ∈ lw_all, w.before _ s = true := fun w h => hts w (List.mem_cons_of_mem _ h)
  have hown : s.vm.findClass RX4 = some m.cls := findClass_of_methodNamed Bd.named
  have hlocks := Bd.notSynchronized
  have hK : va_K (dC, dI) vwCl [(d, .int)] s := hK
  have hP : va_P (dC, dI) vwCl [(h, .inr (4, [.ref y1, .ref y2, .int cl, .int (nI n), .int fo, .ref br])), (br, .inl (d, 4096, .inl bk))] s.heap := hP
  have hl := lv_entry ([.ref h]) (n := 3) (Nat.le_of_ble_eq_true rfl)
  rw [lg_entry_eq]
  generalize (lg_sl ([.ref h]) ++ List.replicate (3 - (lg_sl ([.ref h])).length) Slot.unset).toArray = ls at hl ⊢
  have hl : lv_has ls 3 [(0, .ref h)] := hl
  obtain ⟨hp1, hp2⟩ := md_p k_n
  refine lv_iconst (v := 0) hx hb dX4_count_2_0 (by decide) ?_
  refine lv_istore_n (lv' := [(1, .int 0), (0, .ref h)]) hx hb dX4_count_2_1 rfl hl (by decide) rfl (fun ls hl => ?_)
  refine lv_iconst (v := 0) hx hb dX4_count_2_2 (by decide) ?_
  refine lv_istore_n (lv' := [(2, .int 0), (1, .int 0), (0, .ref h)]) hx hb dX4_count_2_3 rfl hl (by decide) rfl (fun ls hl => ?_)
  have loop : ∀ (N9 : Nat) (r : Nat), (2 ^ n - r < N9) → (r ≤ 2 ^ n) → ∀ (ls : Array Slot), lv_has ls 3 [(2, .int (nI r)), (1, .int (nI (hc (fun z => decide (bk z = 0)) r))), (0, .ref h)] → W p l e (headSpec (ws_ yX4_count_2 cX4_count_2 3 (some .int)) ({ frames := 0, cells := 0, slots := 0, locals := 0 })).room s m ([.ref h] : List Value).toArray below meth c s.heap [] 0 0 (MQ below (vp_Si (fun r : Int32 => r = nI (hc (fun z => decide (bk z = 0)) (2 ^ n)))) ([.ref h] : List Value).toArray s 0 0 (fun _ => False)) (F0 m 4 ls []) := by
    intro N9
    induction N9 with
    | zero =>
      intro r h9
      exact absurd h9 (Nat.not_lt_zero _)
    | succ N9 ih =>
      intro r h1 h2 ls hl
      refine lv_iload_n hx hb dX4_count_2_4 rfl (lv_at hl 0 rfl) ?_
      refine lv_iconst (v := 1) hx hb dX4_count_2_5 (by decide) ?_
      refine lv_aload_n hx hb dX4_count_2_6 rfl (lv_at hl 2 rfl) ?_
      refine va_get (D := (dC, dI)) (ci := 4) (v := .int (nI n)) (C := RX4) (T := TX4) (N := 6) hx hb hts in_X4 hown hK hP 0 rfl rfl 3 (by decide) (hts _ q236) (fun _ h9 => h9) rfl dX4_count_2_7 ?_
      refine lv_ishl hx hb dX4_count_2_10 ?_
      refine wk_top (y := nI (2 ^ n)) (b_bitN n (by omega)) ?_
      refine lv_icmp_ge (tgt := 33) hx hb dX4_count_2_11 (by decide) (fun c_1 => ?_) (fun c_1 => ?_)
      · have hi : r = 2 ^ n := Nat.le_antisymm h2 ((nI_leI (by omega) (by omega)).mp c_1)
        refine lv_iload_n hx hb dX4_count_2_33 rfl (lv_at hl 1 rfl) ?_
        exact wk_iretR hx hb hr hlocks (by rw [hi]) dX4_count_2_34
      · have hi : r < 2 ^ n := Nat.lt_of_not_le (fun q => c_1 ((nI_leI (by omega) (by omega)).mpr q))
        refine lv_aload_n hx hb dX4_count_2_14 rfl (lv_at hl 2 rfl) ?_
        refine va_get (D := (dC, dI)) (ci := 4) (v := .ref br) (C := RX4) (T := TX4) (N := 6) hx hb hts in_X4 hown hK hP 0 rfl rfl 5 (by decide) (hts _ q238) (fun _ h9 => h9) rfl dX4_count_2_15 ?_
        refine lv_iload_n hx hb dX4_count_2_18 rfl (lv_at hl 0 rfl) ?_
        refine wk_iald hx hb hK hP 1 0 rfl rfl r (rfl) (by omega) (by omega) dX4_count_2_19 ?_
        refine lv_if_ne (tgt := 27) hx hb dX4_count_2_20 (by decide) (fun c_2 => ?_) (fun c_2 => ?_)
        · have hc9 : hc (fun z => decide (bk z = 0)) (r + 1) = hc (fun z => decide (bk z = 0)) r := hc_n (fun z => c_2 (of_decide_eq_true z))
          refine lv_iinc (v := nI (r + 1)) (lv' := [(2, .int (nI (r + 1))), (1, .int (nI (hc (fun z => decide (bk z = 0)) r))), (0, .ref h)]) hx hb dX4_count_2_27 hl (k := 0) rfl ((nI_succ _).symm) (by decide) rfl (fun ls hl => ?_)
          refine lv_goto (tgt := 4) hx hb dX4_count_2_30 (by decide) ?_
          exact ih (r + 1) (by omega) (by omega) ls (by rw [hc9]; exact lv_sub hl [0, 1, 2] rfl)
        · have hc9 : hc (fun z => decide (bk z = 0)) (r + 1) = hc (fun z => decide (bk z = 0)) r + 1 := hc_s (decide_eq_true c_2)
          refine lv_iload_n hx hb dX4_count_2_23 rfl (lv_at hl 1 rfl) ?_
          refine lv_iconst (v := 1) hx hb dX4_count_2_24 (by decide) ?_
          refine lv_iadd hx hb dX4_count_2_25 ?_
          refine wk_top (y := nI (hc (fun z => decide (bk z = 0)) r + 1)) ((nI_succ _).symm) ?_
          refine lv_istore_n (lv' := [(1, .int (nI (hc (fun z => decide (bk z = 0)) r + 1))), (2, .int (nI r)), (0, .ref h)]) hx hb dX4_count_2_26 rfl hl (by decide) rfl (fun ls hl => ?_)
          refine lv_iinc (v := nI (r + 1)) (lv' := [(2, .int (nI (r + 1))), (1, .int (nI (hc (fun z => decide (bk z = 0)) r + 1))), (0, .ref h)]) hx hb dX4_count_2_27 hl (k := 1) rfl ((nI_succ _).symm) (by decide) rfl (fun ls hl => ?_)
          refine lv_goto (tgt := 4) hx hb dX4_count_2_30 (by decide) ?_
          exact ih (r + 1) (by omega) (by omega) ls (by rw [hc9]; exact lv_sub hl [0, 1, 2] rfl)
  exact loop (2 ^ n + 1) 0 (by omega) (by omega) ls (lv_sub hl [0, 1, 2] rfl)
def mf_post (n : Nat) (bk : Nat → Int32) (r : Int32) : Prop := ∀ i, bt r i = true ↔ i < n ∧ ((∀ z, z < 2 ^ n → bk z = 0 → bt (nI z) i = true) ∨ (∀ z, z < 2 ^ n → bk z = 0 → bt (nI z) i = false))
set_option maxHeartbeats 4000000 in
set_option maxRecDepth 100000 in
theorem metX4_forced (l : Launch) (dC : Nat → ClassId) (dI : Nat → Nat → Nat) (d : ClassId) (h y1 y2 br : Nat) (n : Nat) (cl fo : Int32) (bk : Nat → Int32) (k_n : n ≤ 12) : Met l yX4_forced (ws_ yX4_forced cX4_forced 5 (some .int)) ({ frames := 0, cells := 0, slots := 0, locals := 0 }) (wk_R (dC, dI) [(d, .int)] [(h, .inr (4, [.ref y1, .ref y2, .int cl, .int (nI n), .int fo, .ref br])), (br, .inl (d, 4096, .inl bk))] [.ref h]) (vp_Si (fun r : Int32 => mf_post n bk r)) 0 0 (fun _ => False) := by
  refine Met.ofW (cc := cX4_forced) (maxL := 5) (ret := some .int) (by decide) rfl ?_
  intro p e s m args below meth c s₁ Bd hml hv
  obtain ⟨rfl, hP, hK⟩ := hv
  have hx := Bd.exec
  have hb := Bd.bytes
  have hr := Bd.returns
  have hts := atoms_spec (ws := ws_ yX4_forced cX4_forced 5 (some .int)) Bd.pre
  have hts : ∀ w ∈ lw_all, w.before _ s = true := fun w h => hts w (List.mem_cons_of_mem _ h)
  have hown : s.vm.findClass RX4 = some m.cls := findClass_of_methodNamed Bd.named
  have hlocks := Bd.notSynchronized
  have hK : va_K (dC, dI) vwCl [(d, .int)] s := hK
  have hP : va_P (dC, dI) vwCl [(h, .inr (4, [.ref y1, .ref y2, .int cl, .int (nI n), .int fo, .ref br])), (br, .inl (d, 4096, .inl bk))] s.heap := hP
  have hl := lv_entry ([.ref h]) (n := 5) (Nat.le_of_ble_eq_true rfl)
  rw [lg_entry_eq]
  generalize (lg_sl ([.ref h]) ++ List.replicate (5 - (lg_sl ([.ref h])).length) Slot.unset).toArray = ls at hl ⊢
  have hl : lv_has ls 5 [(0, .ref h)] := hl
  obtain ⟨hp1, hp2⟩ := md_p k_n
  refine lv_iconst (v := 1) hx hb dX4_forced_0 (by decide) ?_
  refine lv_aload_n hx hb dX4_forced_1 rfl (lv_at hl 0 rfl) ?_
  refine va_get (D := (dC, dI)) (ci := 4) (v := .int (nI n)) (C := RX4) (T := TX4) (N := 6) hx hb hts in_X4 hown hK hP 0 rfl rfl 3 (by decide) (hts _ q236) (fun _ h9 => h9) rfl dX4_forced_2 ?_
  refine lv_ishl hx hb dX4_forced_5 ?_
  refine lv_iconst (v := 1) hx hb dX4_forced_6 (by decide) ?_
  refine lv_isub hx hb dX4_forced_7 ?_
  refine wk_top (y := nI (2 ^ n - 1)) (b_allN n (by omega)) ?_
  refine lv_istore_n (lv' := [(1, .int (nI (2 ^ n - 1))), (0, .ref h)]) hx hb dX4_forced_8 rfl hl (by decide) rfl (fun ls hl => ?_)
  refine lv_iload_n hx hb dX4_forced_9 rfl (lv_at hl 0 rfl) ?_
  refine lv_istore_n (lv' := [(2, .int (nI (2 ^ n - 1))), (1, .int (nI (2 ^ n - 1))), (0, .ref h)]) hx hb dX4_forced_10 rfl hl (by decide) rfl (fun ls hl => ?_)
  refine lv_iload_n hx hb dX4_forced_11 rfl (lv_at hl 1 rfl) ?_
  refine lv_istore_n (lv' := [(3, .int (nI (2 ^ n - 1))), (2, .int (nI (2 ^ n - 1))), (1, .int (nI (2 ^ n - 1))), (0, .ref h)]) hx hb dX4_forced_12 rfl hl (by decide) rfl (fun ls hl => ?_)
  refine lv_iconst (v := 0) hx hb dX4_forced_13 (by decide) ?_
  refine lv_istore (lv' := [(4, .int 0), (3, .int (nI (2 ^ n - 1))), (2, .int (nI (2 ^ n - 1))), (1, .int (nI (2 ^ n - 1))), (0, .ref h)]) hx hb dX4_forced_14 hl (by decide) rfl (fun ls hl => ?_)
  have loop : ∀ (N9 : Nat) (r : Nat) (on nz : Int32), (2 ^ n - r < N9) → (r ≤ 2 ^ n) → (∀ i, bt on i = true ↔ i < n ∧ ∀ z, z < r → bk z = 0 → bt (nI z) i = true) → (∀ i, bt nz i = true ↔ i < n ∧ ∀ z, z < r → bk z = 0 → bt (nI z) i = false) → ∀ (ls : Array Slot), lv_has ls 5 [(4, .int (nI r)), (3, .int nz), (2, .int on), (1, .int (nI (2 ^ n - 1))), (0, .ref h)] → W p l e (headSpec (ws_ yX4_forced cX4_forced 5 (some .int)) ({ frames := 0, cells := 0, slots := 0, locals := 0 })).room s m ([.ref h] : List Value).toArray below meth c s.heap [] 0 0 (MQ below (vp_Si (fun r : Int32 => mf_post n bk r)) ([.ref h] : List Value).toArray s 0 0 (fun _ => False)) (F0 m 16 ls []) := by
    intro N9
    induction N9 with
    | zero =>
      intro r on nz h9
      exact absurd h9 (Nat.not_lt_zero _)
    | succ N9 ih =>
      intro r on nz h1 h2 h3 h4 ls hl
      refine lv_iload hx hb dX4_forced_16 (lv_at hl 0 rfl) ?_
      refine lv_iload_n hx hb dX4_forced_18 rfl (lv_at hl 3 rfl) ?_
      refine lv_icmp_gt (tgt := 50) hx hb dX4_forced_19 (by decide) (fun c_1 => ?_) (fun c_1 => ?_)
      · have hi : r = 2 ^ n := by have := (nI_ltI (by omega) (by omega)).mp c_1; omega
        subst hi
        refine lv_iload_n hx hb dX4_forced_50 rfl (lv_at hl 2 rfl) ?_
        refine lv_iload_n hx hb dX4_forced_51 rfl (lv_at hl 1 rfl) ?_
        refine lv_ior hx hb dX4_forced_52 ?_
        exact wk_iretR hx hb hr hlocks (fun i => by
          rw [b_or, Bool.or_eq_true, h3, h4]
          constructor
          · rintro (⟨q1, q2⟩ | ⟨q1, q2⟩)
            · exact ⟨q1, Or.inl q2⟩
            · exact ⟨q1, Or.inr q2⟩
          · rintro ⟨q1, q2 | q2⟩
            · exact Or.inl ⟨q1, q2⟩
            · exact Or.inr ⟨q1, q2⟩) dX4_forced_53
      · have hi : r < 2 ^ n := by
          rcases Nat.lt_or_ge r (2 ^ n) with q | q
          · exact q
          · exact absurd ((nI_ltI (by omega) (by omega)).mpr (by omega)) c_1
        refine lv_aload_n hx hb dX4_forced_22 rfl (lv_at hl 4 rfl) ?_
        refine va_get (D := (dC, dI)) (ci := 4) (v := .ref br) (C := RX4) (T := TX4) (N := 6) hx hb hts in_X4 hown hK hP 0 rfl rfl 5 (by decide) (hts _ q238) (fun _ h9 => h9) rfl dX4_forced_23 ?_
        refine lv_iload hx hb dX4_forced_26 (lv_at hl 0 rfl) ?_
        refine wk_iald hx hb hK hP 1 0 rfl rfl r (rfl) (by omega) (by omega) dX4_forced_28 ?_
        refine lv_if_ne (tgt := 44) hx hb dX4_forced_29 (by decide) (fun c_2 => ?_) (fun c_2 => ?_)
        · refine lv_iinc (v := nI (r + 1)) (lv' := [(4, .int (nI (r + 1))), (3, .int nz), (2, .int on), (1, .int (nI (2 ^ n - 1))), (0, .ref h)]) hx hb dX4_forced_44 hl (k := 0) rfl ((nI_succ _).symm) (by decide) rfl (fun ls hl => ?_)
          refine lv_goto (tgt := 16) hx hb dX4_forced_47 (by decide) ?_
          exact ih (r + 1) on nz (by omega) (by omega) (fun i => by
            rw [h3]
            constructor
            · rintro ⟨q1, q2⟩
              refine ⟨q1, fun z hz hb => ?_⟩
              by_cases e : z = r
              · rw [e] at hb; exact absurd hb c_2
              · exact q2 z (by omega) hb
            · rintro ⟨q1, q2⟩
              exact ⟨q1, fun z hz hb => q2 z (by omega) hb⟩) (fun i => by
            rw [h4]
            constructor
            · rintro ⟨q1, q2⟩
              refine ⟨q1, fun z hz hb => ?_⟩
              by_cases e : z = r
              · rw [e] at hb; exact absurd hb c_2
              · exact q2 z (by omega) hb
            · rintro ⟨q1, q2⟩
              exact ⟨q1, fun z hz hb => q2 z (by omega) hb⟩) ls (lv_sub hl [0, 1, 2, 3, 4] rfl)
        · refine lv_iload_n hx hb dX4_forced_32 rfl (lv_at hl 2 rfl) ?_
          refine lv_iload hx hb dX4_forced_33 (lv_at hl 0 rfl) ?_
          refine lv_iand hx hb dX4_forced_35 ?_
          refine lv_istore_n (lv' := [(2, .int (on &&& (nI r))), (4, .int (nI r)), (3, .int nz), (1, .int (nI (2 ^ n - 1))), (0, .ref h)]) hx hb dX4_forced_36 rfl hl (by decide) rfl (fun ls hl => ?_)
          refine lv_iload_n hx hb dX4_forced_37 rfl (lv_at hl 2 rfl) ?_
          refine lv_iload hx hb dX4_forced_38 (lv_at hl 1 rfl) ?_
          refine lv_iconst (v := (-1)) hx hb dX4_forced_40 (by decide) ?_
          refine lv_ixor hx hb dX4_forced_41 ?_
          refine lv_iand hx hb dX4_forced_42 ?_
          refine lv_istore_n (lv' := [(3, .int (nz &&& ((nI r) ^^^ (-1)))), (2, .int (on &&& (nI r))), (4, .int (nI r)), (1, .int (nI (2 ^ n - 1))), (0, .ref h)]) hx hb dX4_forced_43 rfl hl (by decide) rfl (fun ls hl => ?_)
          refine lv_iinc (v := nI (r + 1)) (lv' := [(4, .int (nI (r + 1))), (3, .int (nz &&& ((nI r) ^^^ (-1)))), (2, .int (on &&& (nI r))), (1, .int (nI (2 ^ n - 1))), (0, .ref h)]) hx hb dX4_forced_44 hl (k := 2) rfl ((nI_succ _).symm) (by decide) rfl (fun ls hl => ?_)
          refine lv_goto (tgt := 16) hx hb dX4_forced_47 (by decide) ?_
          exact ih (r + 1) (on &&& nI r) (nz &&& (nI r ^^^ (-1))) (by omega) (by omega) (fun i => by
            rw [b_and, Bool.and_eq_true, h3]
            constructor
            · rintro ⟨⟨q1, q2⟩, q3⟩
              refine ⟨q1, fun z hz hb => ?_⟩
              by_cases e : z = r
              · rw [e]; exact q3
              · exact q2 z (by omega) hb
            · rintro ⟨q1, q2⟩
              exact ⟨⟨q1, fun z hz hb => q2 z (by omega) hb⟩, q2 r (by omega) c_2⟩) (fun i => by
            rw [b_andn, Bool.and_eq_true, h4]
            constructor
            · rintro ⟨⟨q1, q2⟩, q3⟩
              refine ⟨q1, fun z hz hb => ?_⟩
              by_cases e : z = r
              · rw [e]; cases hv : bt (nI r) i
                · rfl
                · rw [hv] at q3; cases q3
              · exact q2 z (by omega) hb
            · rintro ⟨q1, q2⟩
              exact ⟨⟨q1, fun z hz hb => q2 z (by omega) hb⟩, by rw [q2 r (by omega) c_2]; rfl⟩) ls (lv_sub hl [0, 1, 2, 3, 4] rfl)
  have hall : ∀ i, bt (nI (2 ^ n - 1)) i = true ↔ i < n := fun i => by rw [← b_allN n (by omega), b_all (by omega), decide_eq_true_eq]
  exact loop (2 ^ n + 1) 0 (nI (2 ^ n - 1)) (nI (2 ^ n - 1)) (by omega) (by omega) (fun i => by rw [hall]; exact ⟨fun q => ⟨q, fun z hz => absurd hz (Nat.not_lt_zero _)⟩, fun q => q.1⟩) (fun i => by rw [hall]; exact ⟨fun q => ⟨q, fun z hz => absurd hz (Nat.not_lt_zero _)⟩, fun q => q.1⟩) ls (lv_sub hl [0, 1, 2, 3, 4] rfl)
end
section
/-! the constructors of Search, ClauseDesk, ClauseDeskModel -/
set_option maxHeartbeats 4000000 in
set_option maxRecDepth 100000 in
theorem metX2_init (l : Launch) (dC : Nat → ClassId) (dI : Nat → Nat → Nat) (d : ClassId) (sz : Nat) (h g : Nat) : Met l yX2_init (ws_ yX2_init cX2_init 2 (none)) ({ frames := 2, cells := 6, slots := 12439, locals := 33 }) (wk_M (dC, dI) [(d, .int)] [(h, .inr (2, [.null, .null, .null, .null, .null, .int 0, .int 0, .int 0, .int 0]))] [.ref h, .ref g] sz) (va_Qv (fun _ : Nat × Nat × Nat × Nat × Nat × Nat => True) (wk_B (dC, dI) [(d, .int)] (va_A [(h, .inr (2, [.null, .null, .null, .null, .null, .int 0, .int 0, .int 0, .int 0]))] sz) (fun u => [(h, .inr (2, [.ref g, .ref u.1, .ref u.2.2.2.1, .ref u.2.2.2.2.1, .ref u.2.2.2.2.2, .int 0, .int 0, .int 0, .int 0])), (u.1, .inr (1, [.ref u.2.1, .ref u.2.2.1, .int 0])), (u.2.1, .inl (d, 6200, .inl (fun _ => 0))), (u.2.2.1, .inl (d, 6200, .inl (fun _ => 0))), (u.2.2.2.1, .inl (d, 12, .inl (fun _ => 0))), (u.2.2.2.2.1, .inl (d, 12, .inl (fun _ => 0))), (u.2.2.2.2.2, .inl (d, 12, .inl (fun _ => 0)))])) (va_A [(h, .inr (2, [.null, .null, .null, .null, .null, .int 0, .int 0, .int 0, .int 0]))] sz)) 6 12439 (va_A [(h, .inr (2, [.null, .null, .null, .null, .null, .int 0, .int 0, .int 0, .int 0]))] sz) := by
  refine Met.ofW (cc := cX2_init) (maxL := 2) (ret := none) (by decide) rfl ?_
  intro p e s m args below meth c s₁ Bd hml hv
  obtain ⟨rfl, hsz, hP, hK, hD0⟩ := hv
  have hx := Bd.exec
  have hb := Bd.bytes
  have hr := Bd.returns
  have hts := atoms_spec (ws := ws_ yX2_init cX2_init 2 (none)) Bd.pre
  have hts : ∀ w ∈ lw_all, w.before _ s = true := fun w h => hts w (List.mem_cons_of_mem _ h)
  have hown : s.vm.findClass RX2 = some m.cls := findClass_of_methodNamed Bd.named
  have hlocks := Bd.notSynchronized
  have hin : meth.name = "<init>" := (name_of_methodNamed Bd.named Bd.method).1
  have hK : va_K (dC, dI) vwCl [(d, .int)] s := hK
  subst hsz
  have hD := hD0.self (sz := s.heap.size)
  generalize hAe : va_A [(h, .inr (2, [.null, .null, .null, .null, .null, .int 0, .int 0, .int 0, .int 0]))] s.heap.size = A at hD ⊢
  have hA : ∀ q : Nat, s.heap.size ≤ q → A q := fun q h => by rw [← hAe]; exact Or.inr h
  have hS : va_S A s.heap s.heap [] := va_S.rf
  have hP : va_P (dC, dI) vwCl [(h, .inr (2, [.null, .null, .null, .null, .null, .int 0, .int 0, .int 0, .int 0]))] s.heap := hP
  have hl := lv_entry ([.ref h, .ref g]) (n := 2) (Nat.le_of_ble_eq_true rfl)
  rw [lg_entry_eq]
  generalize (lg_sl ([.ref h, .ref g]) ++ List.replicate (2 - (lg_sl ([.ref h, .ref g])).length) Slot.unset).toArray = ls at hl ⊢
  have hl : lv_has ls 2 [(0, .ref h), (1, .ref g)] := hl
  refine lv_aload_n hx hb dX2_init_0 rfl (lv_at hl 0 rfl) ?_
  refine W.objInit hx hb hown (hts _ q57) (hts _ q27) (hts _ q28) rfl (by rw [hml]; exact hl.1) rfl dX2_init_1 (Nat.le_of_ble_eq_true rfl) (Nat.le_of_ble_eq_true rfl) ?_
  refine W.eq (g2 := F0 m 4 ls []) rfl ?_
  refine lv_aload_n hx hb dX2_init_4 rfl (lv_at hl 0 rfl) ?_
  refine va_new (ci := 1) (fs := [.null, .null, .int 0]) (C := RX1) (T := TX1) (N := 3) hx hb hts in_X1 tyX1 tyX1_ok hown (hts _ q58) (hts _ q30) (hts _ q15) hK hP hD hS hA rfl (fun j hj => by rcases (show j = 0 ∨ j = 1 ∨ j = 2 by omega) with rfl | rfl | rfl <;> rfl) (Nat.le_of_ble_eq_true rfl) (Nat.le_of_ble_eq_true rfl) dX2_init_5 (fun ln H hP hD hS => ?_)
  have hP : va_P (dC, dI) vwCl [(h, .inr (2, [.null, .null, .null, .null, .null, .int 0, .int 0, .int 0, .int 0])), (ln, .inr (1, [.null, .null, .int 0]))] H := hP
  have hD : va_D A [(h, .inr (2, [.null, .null, .null, .null, .null, .int 0, .int 0, .int 0, .int 0])), (ln, .inr (1, [.null, .null, .int 0]))] := hD
  refine lv_dup hx hb dX2_init_8 rfl ?_
  refine lv_sipush (v := 6200) hx hb dX2_init_9 (by decide) ?_
  refine wk_top (y := nI 6200) (by decide) ?_
  have hPc := hP.sub (ws' := [(ln, .inr (1, [.null, .null, .int 0]))]) [1] rfl
  have hDc := hD.sub (ws' := [(ln, .inr (1, [.null, .null, .int 0]))]) [1] (by decide) rfl
  refine wk_cv (wr := [(h, .inr (2, [.null, .null, .null, .null, .null, .int 0, .int 0, .int 0, .int 0]))]) (wn := fun (u : Nat × Nat) => [(h, .inr (2, [.null, .null, .null, .null, .null, .int 0, .int 0, .int 0, .int 0])), (ln, .inr (1, [.ref u.1, .ref u.2, .int 0])), (u.1, .inl (d, 6200, .inl (fun _ => 0))), (u.2, .inl (d, 6200, .inl (fun _ => 0)))]) (va_runI (As := [.int (nI 6200)]) (rest := [.ref ln, .ref h]) ⟨hx, hb, hml, hown, hts⟩ (metX1_init l dC dI d H.size ln 6200 (by decide)) (cwI 1 hts (lw_meth q33) rfl rfl rfl (hts _ q15) (hts _ q59) (hts _ q32) rfl (by decide +kernel) ⟨Nat.le_of_ble_eq_true rfl, Nat.le_of_ble_eq_true rfl⟩) (wk_M.preS hK hPc hDc) rfl rfl hl.1 rfl (lv_room (Nat.le_of_ble_eq_true rfl)) dX2_init_12 ⟨Nat.le_of_ble_eq_true rfl, Nat.le_of_ble_eq_true rfl⟩) hP hD hS hA [1] [0] [0, 1, 2, 3] rfl rfl (by decide) (by decide) (by decide) (fun _ => rfl) (fun u H locs hp hK hP hD hS => ?_)
  have hP : va_P (dC, dI) vwCl [(h, .inr (2, [.null, .null, .null, .null, .null, .int 0, .int 0, .int 0, .int 0])), (ln, .inr (1, [.ref u.1, .ref u.2, .int 0])), (u.1, .inl (d, 6200, .inl (fun _ => 0))), (u.2, .inl (d, 6200, .inl (fun _ => 0)))] H := hP
  have hD : va_D A [(h, .inr (2, [.null, .null, .null, .null, .null, .int 0, .int 0, .int 0, .int 0])), (ln, .inr (1, [.ref u.1, .ref u.2, .int 0])), (u.1, .inl (d, 6200, .inl (fun _ => 0))), (u.2, .inl (d, 6200, .inl (fun _ => 0)))] := hD
  obtain ⟨b1, b2⟩ := u
  have hP : va_P (dC, dI) vwCl [(h, .inr (2, [.null, .null, .null, .null, .null, .int 0, .int 0, .int 0, .int 0])), (ln, .inr (1, [.ref b1, .ref b2, .int 0])), (b1, .inl (d, 6200, .inl (fun _ => 0))), (b2, .inl (d, 6200, .inl (fun _ => 0)))] H := hP
  have hD : va_D A [(h, .inr (2, [.null, .null, .null, .null, .null, .int 0, .int 0, .int 0, .int 0])), (ln, .inr (1, [.ref b1, .ref b2, .int 0])), (b1, .inl (d, 6200, .inl (fun _ => 0))), (b2, .inl (d, 6200, .inl (fun _ => 0)))] := hD
  refine va_putF (D := (dC, dI)) (ci := 2) (v := .ref ln) (ty := .object "ClauseDesk$Clauses") (C := RX2) (T := TX2) (N := 9) hx hb hts in_X2 tyX2 tyX2_ok nmX2 hown hK hP hD hS 0 rfl rfl 1 (by decide) (hts _ q61) (fun _ h9 => h9) rfl hin rfl (by decide +kernel) rfl rfl (Nat.le_of_ble_eq_true rfl) dX2_init_15 (fun H locs hP hD hS => ?_)
  have hP : va_P (dC, dI) vwCl [(h, .inr (2, [.null, .ref ln, .null, .null, .null, .int 0, .int 0, .int 0, .int 0])), (ln, .inr (1, [.ref b1, .ref b2, .int 0])), (b1, .inl (d, 6200, .inl (fun _ => 0))), (b2, .inl (d, 6200, .inl (fun _ => 0)))] H := hP
  have hD : va_D A [(h, .inr (2, [.null, .ref ln, .null, .null, .null, .int 0, .int 0, .int 0, .int 0])), (ln, .inr (1, [.ref b1, .ref b2, .int 0])), (b1, .inl (d, 6200, .inl (fun _ => 0))), (b2, .inl (d, 6200, .inl (fun _ => 0)))] := hD
  refine lv_aload_n hx hb dX2_init_18 rfl (lv_at hl 0 rfl) ?_
  refine lv_bipush (v := 12) hx hb dX2_init_19 (by decide) ?_
  refine va_newa (atype := .int) (n := 12) (N' := 12) (a0 := (12, .inl (fun _ => 0))) hx hb (hts _ q51) rfl hK hP hD hS hA (fun _ => rfl) (by decide) (by decide) (by decide) (Nat.le_of_ble_eq_true rfl) (Nat.le_of_ble_eq_true rfl) dX2_init_21 (fun hv cA H hK hP hD hS => ?_)
  have e9 := wk_cA hK 1 0 rfl rfl
  rw [e9] at hK hP hD
  have hK := hK.sub (tys' := [(d, .int)]) [0] rfl
  have hP : va_P (dC, dI) vwCl [(h, .inr (2, [.null, .ref ln, .null, .null, .null, .int 0, .int 0, .int 0, .int 0])), (ln, .inr (1, [.ref b1, .ref b2, .int 0])), (b1, .inl (d, 6200, .inl (fun _ => 0))), (b2, .inl (d, 6200, .inl (fun _ => 0))), (hv, .inl (d, 12, .inl (fun _ => 0)))] H := hP
  have hD : va_D A [(h, .inr (2, [.null, .ref ln, .null, .null, .null, .int 0, .int 0, .int 0, .int 0])), (ln, .inr (1, [.ref b1, .ref b2, .int 0])), (b1, .inl (d, 6200, .inl (fun _ => 0))), (b2, .inl (d, 6200, .inl (fun _ => 0))), (hv, .inl (d, 12, .inl (fun _ => 0)))] := hD
  refine va_putF (D := (dC, dI)) (ci := 2) (v := .ref hv) (ty := .array .int) (C := RX2) (T := TX2) (N := 9) hx hb hts in_X2 tyX2 tyX2_ok nmX2 hown hK hP hD hS 0 rfl rfl 2 (by decide) (hts _ q62) (fun _ h9 => h9) rfl hin rfl (by decide +kernel) rfl rfl (Nat.le_of_ble_eq_true rfl) dX2_init_23 (fun H locs hP hD hS => ?_)
  have hP : va_P (dC, dI) vwCl [(h, .inr (2, [.null, .ref ln, .ref hv, .null, .null, .int 0, .int 0, .int 0, .int 0])), (ln, .inr (1, [.ref b1, .ref b2, .int 0])), (b1, .inl (d, 6200, .inl (fun _ => 0))), (b2, .inl (d, 6200, .inl (fun _ => 0))), (hv, .inl (d, 12, .inl (fun _ => 0)))] H := hP
  have hD : va_D A [(h, .inr (2, [.null, .ref ln, .ref hv, .null, .null, .int 0, .int 0, .int 0, .int 0])), (ln, .inr (1, [.ref b1, .ref b2, .int 0])), (b1, .inl (d, 6200, .inl (fun _ => 0))), (b2, .inl (d, 6200, .inl (fun _ => 0))), (hv, .inl (d, 12, .inl (fun _ => 0)))] := hD
  refine lv_aload_n hx hb dX2_init_26 rfl (lv_at hl 0 rfl) ?_
  refine lv_bipush (v := 12) hx hb dX2_init_27 (by decide) ?_
  refine va_newa (atype := .int) (n := 12) (N' := 12) (a0 := (12, .inl (fun _ => 0))) hx hb (hts _ q51) rfl hK hP hD hS hA (fun _ => rfl) (by decide) (by decide) (by decide) (Nat.le_of_ble_eq_true rfl) (Nat.le_of_ble_eq_true rfl) dX2_init_29 (fun hw cA H hK hP hD hS => ?_)
  have e9 := wk_cA hK 1 0 rfl rfl
  rw [e9] at hK hP hD
  have hK := hK.sub (tys' := [(d, .int)]) [0] rfl
  have hP : va_P (dC, dI) vwCl [(h, .inr (2, [.null, .ref ln, .ref hv, .null, .null, .int 0, .int 0, .int 0, .int 0])), (ln, .inr (1, [.ref b1, .ref b2, .int 0])), (b1, .inl (d, 6200, .inl (fun _ => 0))), (b2, .inl (d, 6200, .inl (fun _ => 0))), (hv, .inl (d, 12, .inl (fun _ => 0))), (hw, .inl (d, 12, .inl (fun _ => 0)))] H := hP
  have hD : va_D A [(h, .inr (2, [.null, .ref ln, .ref hv, .null, .null, .int 0, .int 0, .int 0, .int 0])), (ln, .inr (1, [.ref b1, .ref b2, .int 0])), (b1, .inl (d, 6200, .inl (fun _ => 0))), (b2, .inl (d, 6200, .inl (fun _ => 0))), (hv, .inl (d, 12, .inl (fun _ => 0))), (hw, .inl (d, 12, .inl (fun _ => 0)))] := hD
  refine va_putF (D := (dC, dI)) (ci := 2) (v := .ref hw) (ty := .array .int) (C := RX2) (T := TX2) (N := 9) hx hb hts in_X2 tyX2 tyX2_ok nmX2 hown hK hP hD hS 0 rfl rfl 3 (by decide) (hts _ q63) (fun _ h9 => h9) rfl hin rfl (by decide +kernel) rfl rfl (Nat.le_of_ble_eq_true rfl) dX2_init_31 (fun H locs hP hD hS => ?_)
  have hP : va_P (dC, dI) vwCl [(h, .inr (2, [.null, .ref ln, .ref hv, .ref hw, .null, .int 0, .int 0, .int 0, .int 0])), (ln, .inr (1, [.ref b1, .ref b2, .int 0])), (b1, .inl (d, 6200, .inl (fun _ => 0))), (b2, .inl (d, 6200, .inl (fun _ => 0))), (hv, .inl (d, 12, .inl (fun _ => 0))), (hw, .inl (d, 12, .inl (fun _ => 0)))] H := hP
  have hD : va_D A [(h, .inr (2, [.null, .ref ln, .ref hv, .ref hw, .null, .int 0, .int 0, .int 0, .int 0])), (ln, .inr (1, [.ref b1, .ref b2, .int 0])), (b1, .inl (d, 6200, .inl (fun _ => 0))), (b2, .inl (d, 6200, .inl (fun _ => 0))), (hv, .inl (d, 12, .inl (fun _ => 0))), (hw, .inl (d, 12, .inl (fun _ => 0)))] := hD
  refine lv_aload_n hx hb dX2_init_34 rfl (lv_at hl 0 rfl) ?_
  refine lv_bipush (v := 12) hx hb dX2_init_35 (by decide) ?_
  refine va_newa (atype := .int) (n := 12) (N' := 12) (a0 := (12, .inl (fun _ => 0))) hx hb (hts _ q51) rfl hK hP hD hS hA (fun _ => rfl) (by decide) (by decide) (by decide) (Nat.le_of_ble_eq_true rfl) (Nat.le_of_ble_eq_true rfl) dX2_init_37 (fun ht cA H hK hP hD hS => ?_)
  have e9 := wk_cA hK 1 0 rfl rfl
  rw [e9] at hK hP hD
  have hK := hK.sub (tys' := [(d, .int)]) [0] rfl
  have hP : va_P (dC, dI) vwCl [(h, .inr (2, [.null, .ref ln, .ref hv, .ref hw, .null, .int 0, .int 0, .int 0, .int 0])), (ln, .inr (1, [.ref b1, .ref b2, .int 0])), (b1, .inl (d, 6200, .inl (fun _ => 0))), (b2, .inl (d, 6200, .inl (fun _ => 0))), (hv, .inl (d, 12, .inl (fun _ => 0))), (hw, .inl (d, 12, .inl (fun _ => 0))), (ht, .inl (d, 12, .inl (fun _ => 0)))] H := hP
  have hD : va_D A [(h, .inr (2, [.null, .ref ln, .ref hv, .ref hw, .null, .int 0, .int 0, .int 0, .int 0])), (ln, .inr (1, [.ref b1, .ref b2, .int 0])), (b1, .inl (d, 6200, .inl (fun _ => 0))), (b2, .inl (d, 6200, .inl (fun _ => 0))), (hv, .inl (d, 12, .inl (fun _ => 0))), (hw, .inl (d, 12, .inl (fun _ => 0))), (ht, .inl (d, 12, .inl (fun _ => 0)))] := hD
  refine va_putF (D := (dC, dI)) (ci := 2) (v := .ref ht) (ty := .array .int) (C := RX2) (T := TX2) (N := 9) hx hb hts in_X2 tyX2 tyX2_ok nmX2 hown hK hP hD hS 0 rfl rfl 4 (by decide) (hts _ q64) (fun _ h9 => h9) rfl hin rfl (by decide +kernel) rfl rfl (Nat.le_of_ble_eq_true rfl) dX2_init_39 (fun H locs hP hD hS => ?_)
  have hP : va_P (dC, dI) vwCl [(h, .inr (2, [.null, .ref ln, .ref hv, .ref hw, .ref ht, .int 0, .int 0, .int 0, .int 0])), (ln, .inr (1, [.ref b1, .ref b2, .int 0])), (b1, .inl (d, 6200, .inl (fun _ => 0))), (b2, .inl (d, 6200, .inl (fun _ => 0))), (hv, .inl (d, 12, .inl (fun _ => 0))), (hw, .inl (d, 12, .inl (fun _ => 0))), (ht, .inl (d, 12, .inl (fun _ => 0)))] H := hP
  have hD : va_D A [(h, .inr (2, [.null, .ref ln, .ref hv, .ref hw, .ref ht, .int 0, .int 0, .int 0, .int 0])), (ln, .inr (1, [.ref b1, .ref b2, .int 0])), (b1, .inl (d, 6200, .inl (fun _ => 0))), (b2, .inl (d, 6200, .inl (fun _ => 0))), (hv, .inl (d, 12, .inl (fun _ => 0))), (hw, .inl (d, 12, .inl (fun _ => 0))), (ht, .inl (d, 12, .inl (fun _ => 0)))] := hD
  refine lv_aload_n hx hb dX2_init_42 rfl (lv_at hl 0 rfl) ?_
  refine lv_iconst (v := 0) hx hb dX2_init_43 (by decide) ?_
  refine va_put (D := (dC, dI)) (ci := 2) (v := .int 0) (ty := .int) (C := RX2) (T := TX2) (N := 9) hx hb hts in_X2 tyX2 tyX2_ok nmX2 hown hK hP hD hS 0 rfl rfl 5 (by decide) (hts _ q65) (fun _ h9 => h9) rfl (by decide +kernel) rfl rfl (Nat.le_of_ble_eq_true rfl) dX2_init_44 (fun H locs hP hD hS => ?_)
  have hP : va_P (dC, dI) vwCl [(h, .inr (2, [.null, .ref ln, .ref hv, .ref hw, .ref ht, .int 0, .int 0, .int 0, .int 0])), (ln, .inr (1, [.ref b1, .ref b2, .int 0])), (b1, .inl (d, 6200, .inl (fun _ => 0))), (b2, .inl (d, 6200, .inl (fun _ => 0))), (hv, .inl (d, 12, .inl (fun _ => 0))), (hw, .inl (d, 12, .inl (fun _ => 0))), (ht, .inl (d, 12, .inl (fun _ => 0)))] H := hP
  have hD : va_D A [(h, .inr (2, [.null, .ref ln, .ref hv, .ref hw, .ref ht, .int 0, .int 0, .int 0, .int 0])), (ln, .inr (1, [.ref b1, .ref b2, .int 0])), (b1, .inl (d, 6200, .inl (fun _ => 0))), (b2, .inl (d, 6200, .inl (fun _ => 0))), (hv, .inl (d, 12, .inl (fun _ => 0))), (hw, .inl (d, 12, .inl (fun _ => 0))), (ht, .inl (d, 12, .inl (fun _ => 0)))] := hD
  refine lv_aload_n hx hb dX2_init_47 rfl (lv_at hl 0 rfl) ?_
  refine lv_iconst (v := 0) hx hb dX2_init_48 (by decide) ?_
  refine va_put (D := (dC, dI)) (ci := 2) (v := .int 0) (ty := .int) (C := RX2) (T := TX2) (N := 9) hx hb hts in_X2 tyX2 tyX2_ok nmX2 hown hK hP hD hS 0 rfl rfl 6 (by decide) (hts _ q66) (fun _ h9 => h9) rfl (by decide +kernel) rfl rfl (Nat.le_of_ble_eq_true rfl) dX2_init_49 (fun H locs hP hD hS => ?_)
  have hP : va_P (dC, dI) vwCl [(h, .inr (2, [.null, .ref ln, .ref hv, .ref hw, .ref ht, .int 0, .int 0, .int 0, .int 0])), (ln, .inr (1, [.ref b1, .ref b2, .int 0])), (b1, .inl (d, 6200, .inl (fun _ => 0))), (b2, .inl (d, 6200, .inl (fun _ => 0))), (hv, .inl (d, 12, .inl (fun _ => 0))), (hw, .inl (d, 12, .inl (fun _ => 0))), (ht, .inl (d, 12, .inl (fun _ => 0)))] H := hP
  have hD : va_D A [(h, .inr (2, [.null, .ref ln, .ref hv, .ref hw, .ref ht, .int 0, .int 0, .int 0, .int 0])), (ln, .inr (1, [.ref b1, .ref b2, .int 0])), (b1, .inl (d, 6200, .inl (fun _ => 0))), (b2, .inl (d, 6200, .inl (fun _ => 0))), (hv, .inl (d, 12, .inl (fun _ => 0))), (hw, .inl (d, 12, .inl (fun _ => 0))), (ht, .inl (d, 12, .inl (fun _ => 0)))] := hD
  refine lv_aload_n hx hb dX2_init_52 rfl (lv_at hl 0 rfl) ?_
  refine lv_iconst (v := 0) hx hb dX2_init_53 (by decide) ?_
  refine va_put (D := (dC, dI)) (ci := 2) (v := .int 0) (ty := .int) (C := RX2) (T := TX2) (N := 9) hx hb hts in_X2 tyX2 tyX2_ok nmX2 hown hK hP hD hS 0 rfl rfl 7 (by decide) (hts _ q67) (fun _ h9 => h9) rfl (by decide +kernel) rfl rfl (Nat.le_of_ble_eq_true rfl) dX2_init_54 (fun H locs hP hD hS => ?_)
  have hP : va_P (dC, dI) vwCl [(h, .inr (2, [.null, .ref ln, .ref hv, .ref hw, .ref ht, .int 0, .int 0, .int 0, .int 0])), (ln, .inr (1, [.ref b1, .ref b2, .int 0])), (b1, .inl (d, 6200, .inl (fun _ => 0))), (b2, .inl (d, 6200, .inl (fun _ => 0))), (hv, .inl (d, 12, .inl (fun _ => 0))), (hw, .inl (d, 12, .inl (fun _ => 0))), (ht, .inl (d, 12, .inl (fun _ => 0)))] H := hP
  have hD : va_D A [(h, .inr (2, [.null, .ref ln, .ref hv, .ref hw, .ref ht, .int 0, .int 0, .int 0, .int 0])), (ln, .inr (1, [.ref b1, .ref b2, .int 0])), (b1, .inl (d, 6200, .inl (fun _ => 0))), (b2, .inl (d, 6200, .inl (fun _ => 0))), (hv, .inl (d, 12, .inl (fun _ => 0))), (hw, .inl (d, 12, .inl (fun _ => 0))), (ht, .inl (d, 12, .inl (fun _ => 0)))] := hD
  refine lv_aload_n hx hb dX2_init_57 rfl (lv_at hl 0 rfl) ?_
  refine lv_iconst (v := 0) hx hb dX2_init_58 (by decide) ?_
  refine va_put (D := (dC, dI)) (ci := 2) (v := .int 0) (ty := .int) (C := RX2) (T := TX2) (N := 9) hx hb hts in_X2 tyX2 tyX2_ok nmX2 hown hK hP hD hS 0 rfl rfl 8 (by decide) (hts _ q68) (fun _ h9 => h9) rfl (by decide +kernel) rfl rfl (Nat.le_of_ble_eq_true rfl) dX2_init_59 (fun H locs hP hD hS => ?_)
  have hP : va_P (dC, dI) vwCl [(h, .inr (2, [.null, .ref ln, .ref hv, .ref hw, .ref ht, .int 0, .int 0, .int 0, .int 0])), (ln, .inr (1, [.ref b1, .ref b2, .int 0])), (b1, .inl (d, 6200, .inl (fun _ => 0))), (b2, .inl (d, 6200, .inl (fun _ => 0))), (hv, .inl (d, 12, .inl (fun _ => 0))), (hw, .inl (d, 12, .inl (fun _ => 0))), (ht, .inl (d, 12, .inl (fun _ => 0)))] H := hP
  have hD : va_D A [(h, .inr (2, [.null, .ref ln, .ref hv, .ref hw, .ref ht, .int 0, .int 0, .int 0, .int 0])), (ln, .inr (1, [.ref b1, .ref b2, .int 0])), (b1, .inl (d, 6200, .inl (fun _ => 0))), (b2, .inl (d, 6200, .inl (fun _ => 0))), (hv, .inl (d, 12, .inl (fun _ => 0))), (hw, .inl (d, 12, .inl (fun _ => 0))), (ht, .inl (d, 12, .inl (fun _ => 0)))] := hD
  refine lv_aload_n hx hb dX2_init_62 rfl (lv_at hl 0 rfl) ?_
  refine lv_aload_n hx hb dX2_init_63 rfl (lv_at hl 1 rfl) ?_
  refine va_putF (D := (dC, dI)) (ci := 2) (v := .ref g) (ty := .object "ClauseDesk$Clauses") (C := RX2) (T := TX2) (N := 9) hx hb hts in_X2 tyX2 tyX2_ok nmX2 hown hK hP hD hS 0 rfl rfl 0 (by decide) (hts _ q60) (fun _ h9 => h9) rfl hin rfl (by decide +kernel) rfl rfl (Nat.le_of_ble_eq_true rfl) dX2_init_64 (fun H locs hP hD hS => ?_)
  have hP : va_P (dC, dI) vwCl [(h, .inr (2, [.ref g, .ref ln, .ref hv, .ref hw, .ref ht, .int 0, .int 0, .int 0, .int 0])), (ln, .inr (1, [.ref b1, .ref b2, .int 0])), (b1, .inl (d, 6200, .inl (fun _ => 0))), (b2, .inl (d, 6200, .inl (fun _ => 0))), (hv, .inl (d, 12, .inl (fun _ => 0))), (hw, .inl (d, 12, .inl (fun _ => 0))), (ht, .inl (d, 12, .inl (fun _ => 0)))] H := hP
  have hD : va_D A [(h, .inr (2, [.ref g, .ref ln, .ref hv, .ref hw, .ref ht, .int 0, .int 0, .int 0, .int 0])), (ln, .inr (1, [.ref b1, .ref b2, .int 0])), (b1, .inl (d, 6200, .inl (fun _ => 0))), (b2, .inl (d, 6200, .inl (fun _ => 0))), (hv, .inl (d, 12, .inl (fun _ => 0))), (hw, .inl (d, 12, .inl (fun _ => 0))), (ht, .inl (d, 12, .inl (fun _ => 0)))] := hD
  refine W.widen (k := 6) (n := 12439) (Nat.le_of_ble_eq_true rfl) (Nat.le_of_ble_eq_true rfl) ?_
  exact wk_vret ((ln, b1, b2, hv, hw, ht)) hx hb hr hlocks (trivial) hK hP hD hS dX2_init_67
set_option maxHeartbeats 4000000 in
set_option maxRecDepth 100000 in
theorem metX0_init (l : Launch) (dC : Nat → ClassId) (dI : Nat → Nat → Nat) (d : ClassId) (sz : Nat) (h : Nat) : Met l yX0_init (ws_ yX0_init cX0_init 1 (none)) ({ frames := 3, cells := 11, slots := 12964, locals := 60 }) (wk_M (dC, dI) [(d, .int)] [(h, .inr (0, [.null, .null, .null, .int 0, .int 0]))] [.ref h] sz) (va_Qv (fun _ : Nat × Nat × Nat × Nat × Nat × Nat × Nat × Nat × Nat × Nat × Nat => True) (wk_B (dC, dI) [(d, .int)] (va_A [(h, .inr (0, [.null, .null, .null, .int 0, .int 0]))] sz) (fun u => [(h, .inr (0, [.ref u.1, .ref u.2.2.2.1, .ref u.2.2.2.2.2.2.2.2.2.2, .int 4, .int (-1)])), (u.1, .inr (1, [.ref u.2.1, .ref u.2.2.1, .int 0])), (u.2.1, .inl (d, 256, .inl (fun _ => 0))), (u.2.2.1, .inl (d, 256, .inl (fun _ => 0))), (u.2.2.2.1, .inr (2, [.ref u.1, .ref u.2.2.2.2.1, .ref u.2.2.2.2.2.2.2.1, .ref u.2.2.2.2.2.2.2.2.1, .ref u.2.2.2.2.2.2.2.2.2.1, .int 0, .int 0, .int 0, .int 0])), (u.2.2.2.2.1, .inr (1, [.ref u.2.2.2.2.2.1, .ref u.2.2.2.2.2.2.1, .int 0])), (u.2.2.2.2.2.1, .inl (d, 6200, .inl (fun _ => 0))), (u.2.2.2.2.2.2.1, .inl (d, 6200, .inl (fun _ => 0))), (u.2.2.2.2.2.2.2.1, .inl (d, 12, .inl (fun _ => 0))), (u.2.2.2.2.2.2.2.2.1, .inl (d, 12, .inl (fun _ => 0))), (u.2.2.2.2.2.2.2.2.2.1, .inl (d, 12, .inl (fun _ => 0))), (u.2.2.2.2.2.2.2.2.2.2, .inr (3, [.ref u.1]))])) (va_A [(h, .inr (0, [.null, .null, .null, .int 0, .int 0]))] sz)) 11 12964 (va_A [(h, .inr (0, [.null, .null, .null, .int 0, .int 0]))] sz) := by
  refine Met.ofW (cc := cX0_init) (maxL := 1) (ret := none) (by decide) rfl ?_
  intro p e s m args below meth c s₁ Bd hml hv
  obtain ⟨rfl, hsz, hP, hK, hD0⟩ := hv
  have hx := Bd.exec
  have hb := Bd.bytes
  have hr := Bd.returns
  have hts := atoms_spec (ws := ws_ yX0_init cX0_init 1 (none)) Bd.pre
  have hts : ∀ w ∈ lw_all, w.before _ s = true := fun w h => hts w (List.mem_cons_of_mem _ h)
  have hown : s.vm.findClass RX0 = some m.cls := findClass_of_methodNamed Bd.named
  have hlocks := Bd.notSynchronized
  have hin : meth.name = "<init>" := (name_of_methodNamed Bd.named Bd.method).1
  have hK : va_K (dC, dI) vwCl [(d, .int)] s := hK
  subst hsz
  have hD := hD0.self (sz := s.heap.size)
  generalize hAe : va_A [(h, .inr (0, [.null, .null, .null, .int 0, .int 0]))] s.heap.size = A at hD ⊢
  have hA : ∀ q : Nat, s.heap.size ≤ q → A q := fun q h => by rw [← hAe]; exact Or.inr h
  have hS : va_S A s.heap s.heap [] := va_S.rf
  have hP : va_P (dC, dI) vwCl [(h, .inr (0, [.null, .null, .null, .int 0, .int 0]))] s.heap := hP
  have hl := lv_entry ([.ref h]) (n := 1) (Nat.le_of_ble_eq_true rfl)
  rw [lg_entry_eq]
  generalize (lg_sl ([.ref h]) ++ List.replicate (1 - (lg_sl ([.ref h])).length) Slot.unset).toArray = ls at hl ⊢
  have hl : lv_has ls 1 [(0, .ref h)] := hl
  refine lv_aload_n hx hb dX0_init_0 rfl (lv_at hl 0 rfl) ?_
  refine W.objInit hx hb hown (hts _ q26) (hts _ q27) (hts _ q28) rfl (by rw [hml]; exact hl.1) rfl dX0_init_1 (Nat.le_of_ble_eq_true rfl) (Nat.le_of_ble_eq_true rfl) ?_
  refine W.eq (g2 := F0 m 4 ls []) rfl ?_
  refine lv_aload_n hx hb dX0_init_4 rfl (lv_at hl 0 rfl) ?_
  refine va_new (ci := 1) (fs := [.null, .null, .int 0]) (C := RX1) (T := TX1) (N := 3) hx hb hts in_X1 tyX1 tyX1_ok hown (hts _ q29) (hts _ q30) (hts _ q15) hK hP hD hS hA rfl (fun j hj => by rcases (show j = 0 ∨ j = 1 ∨ j = 2 by omega) with rfl | rfl | rfl <;> rfl) (Nat.le_of_ble_eq_true rfl) (Nat.le_of_ble_eq_true rfl) dX0_init_5 (fun g H hP hD hS => ?_)
  have hP : va_P (dC, dI) vwCl [(h, .inr (0, [.null, .null, .null, .int 0, .int 0])), (g, .inr (1, [.null, .null, .int 0]))] H := hP
  have hD : va_D A [(h, .inr (0, [.null, .null, .null, .int 0, .int 0])), (g, .inr (1, [.null, .null, .int 0]))] := hD
  refine lv_dup hx hb dX0_init_8 rfl ?_
  refine lv_sipush (v := 256) hx hb dX0_init_9 (by decide) ?_
  refine wk_top (y := nI 256) (by decide) ?_
  have hPc := hP.sub (ws' := [(g, .inr (1, [.null, .null, .int 0]))]) [1] rfl
  have hDc := hD.sub (ws' := [(g, .inr (1, [.null, .null, .int 0]))]) [1] (by decide) rfl
  refine wk_cv (wr := [(h, .inr (0, [.null, .null, .null, .int 0, .int 0]))]) (wn := fun (u : Nat × Nat) => [(h, .inr (0, [.null, .null, .null, .int 0, .int 0])), (g, .inr (1, [.ref u.1, .ref u.2, .int 0])), (u.1, .inl (d, 256, .inl (fun _ => 0))), (u.2, .inl (d, 256, .inl (fun _ => 0)))]) (va_runI (As := [.int (nI 256)]) (rest := [.ref g, .ref h]) ⟨hx, hb, hml, hown, hts⟩ (metX1_init l dC dI d H.size g 256 (by decide)) (cwI 1 hts (lw_meth q33) rfl rfl rfl (hts _ q15) (hts _ q31) (hts _ q32) rfl (by decide +kernel) ⟨Nat.le_of_ble_eq_true rfl, Nat.le_of_ble_eq_true rfl⟩) (wk_M.preS hK hPc hDc) rfl rfl hl.1 rfl (lv_room (Nat.le_of_ble_eq_true rfl)) dX0_init_12 ⟨Nat.le_of_ble_eq_true rfl, Nat.le_of_ble_eq_true rfl⟩) hP hD hS hA [1] [0] [0, 1, 2, 3] rfl rfl (by decide) (by decide) (by decide) (fun _ => rfl) (fun u H locs hp hK hP hD hS => ?_)
  have hP : va_P (dC, dI) vwCl [(h, .inr (0, [.null, .null, .null, .int 0, .int 0])), (g, .inr (1, [.ref u.1, .ref u.2, .int 0])), (u.1, .inl (d, 256, .inl (fun _ => 0))), (u.2, .inl (d, 256, .inl (fun _ => 0)))] H := hP
  have hD : va_D A [(h, .inr (0, [.null, .null, .null, .int 0, .int 0])), (g, .inr (1, [.ref u.1, .ref u.2, .int 0])), (u.1, .inl (d, 256, .inl (fun _ => 0))), (u.2, .inl (d, 256, .inl (fun _ => 0)))] := hD
  obtain ⟨a1, a2⟩ := u
  have hP : va_P (dC, dI) vwCl [(h, .inr (0, [.null, .null, .null, .int 0, .int 0])), (g, .inr (1, [.ref a1, .ref a2, .int 0])), (a1, .inl (d, 256, .inl (fun _ => 0))), (a2, .inl (d, 256, .inl (fun _ => 0)))] H := hP
  have hD : va_D A [(h, .inr (0, [.null, .null, .null, .int 0, .int 0])), (g, .inr (1, [.ref a1, .ref a2, .int 0])), (a1, .inl (d, 256, .inl (fun _ => 0))), (a2, .inl (d, 256, .inl (fun _ => 0)))] := hD
  refine va_putF (D := (dC, dI)) (ci := 0) (v := .ref g) (ty := .object "ClauseDesk$Clauses") (C := RX0) (T := TX0) (N := 5) hx hb hts in_X0 tyX0 tyX0_ok nmX0 hown hK hP hD hS 0 rfl rfl 0 (by decide) (hts _ q99) (fun _ h9 => h9) rfl hin rfl (by decide +kernel) rfl rfl (Nat.le_of_ble_eq_true rfl) dX0_init_15 (fun H locs hP hD hS => ?_)
  have hP : va_P (dC, dI) vwCl [(h, .inr (0, [.ref g, .null, .null, .int 0, .int 0])), (g, .inr (1, [.ref a1, .ref a2, .int 0])), (a1, .inl (d, 256, .inl (fun _ => 0))), (a2, .inl (d, 256, .inl (fun _ => 0)))] H := hP
  have hD : va_D A [(h, .inr (0, [.ref g, .null, .null, .int 0, .int 0])), (g, .inr (1, [.ref a1, .ref a2, .int 0])), (a1, .inl (d, 256, .inl (fun _ => 0))), (a2, .inl (d, 256, .inl (fun _ => 0)))] := hD
  refine lv_aload_n hx hb dX0_init_18 rfl (lv_at hl 0 rfl) ?_
  refine va_new (ci := 2) (fs := [.null, .null, .null, .null, .null, .int 0, .int 0, .int 0, .int 0]) (C := RX2) (T := TX2) (N := 9) hx hb hts in_X2 tyX2 tyX2_ok hown (hts _ q52) (hts _ q53) (hts _ q16) hK hP hD hS hA rfl (fun j hj => by rcases (show j = 0 ∨ j = 1 ∨ j = 2 ∨ j = 3 ∨ j = 4 ∨ j = 5 ∨ j = 6 ∨ j = 7 ∨ j = 8 by omega) with rfl | rfl | rfl | rfl | rfl | rfl | rfl | rfl | rfl <;> rfl) (Nat.le_of_ble_eq_true rfl) (Nat.le_of_ble_eq_true rfl) dX0_init_19 (fun sh H hP hD hS => ?_)
  have hP : va_P (dC, dI) vwCl [(h, .inr (0, [.ref g, .null, .null, .int 0, .int 0])), (g, .inr (1, [.ref a1, .ref a2, .int 0])), (a1, .inl (d, 256, .inl (fun _ => 0))), (a2, .inl (d, 256, .inl (fun _ => 0))), (sh, .inr (2, [.null, .null, .null, .null, .null, .int 0, .int 0, .int 0, .int 0]))] H := hP
  have hD : va_D A [(h, .inr (0, [.ref g, .null, .null, .int 0, .int 0])), (g, .inr (1, [.ref a1, .ref a2, .int 0])), (a1, .inl (d, 256, .inl (fun _ => 0))), (a2, .inl (d, 256, .inl (fun _ => 0))), (sh, .inr (2, [.null, .null, .null, .null, .null, .int 0, .int 0, .int 0, .int 0]))] := hD
  refine lv_dup hx hb dX0_init_22 rfl ?_
  refine lv_aload_n hx hb dX0_init_23 rfl (lv_at hl 0 rfl) ?_
  refine va_get (D := (dC, dI)) (ci := 0) (v := .ref g) (C := RX0) (T := TX0) (N := 5) hx hb hts in_X0 hown hK hP 0 rfl rfl 0 (by decide) (hts _ q99) (fun _ h9 => h9) rfl dX0_init_24 ?_
  have hPc := hP.sub (ws' := [(sh, .inr (2, [.null, .null, .null, .null, .null, .int 0, .int 0, .int 0, .int 0]))]) [4] rfl
  have hDc := hD.sub (ws' := [(sh, .inr (2, [.null, .null, .null, .null, .null, .int 0, .int 0, .int 0, .int 0]))]) [4] (by decide) rfl
  refine wk_cv (wr := [(h, .inr (0, [.ref g, .null, .null, .int 0, .int 0])), (g, .inr (1, [.ref a1, .ref a2, .int 0])), (a1, .inl (d, 256, .inl (fun _ => 0))), (a2, .inl (d, 256, .inl (fun _ => 0)))]) (wn := fun (v : Nat × Nat × Nat × Nat × Nat × Nat) => [(h, .inr (0, [.ref g, .null, .null, .int 0, .int 0])), (g, .inr (1, [.ref a1, .ref a2, .int 0])), (a1, .inl (d, 256, .inl (fun _ => 0))), (a2, .inl (d, 256, .inl (fun _ => 0))), (sh, .inr (2, [.ref g, .ref v.1, .ref v.2.2.2.1, .ref v.2.2.2.2.1, .ref v.2.2.2.2.2, .int 0, .int 0, .int 0, .int 0])), (v.1, .inr (1, [.ref v.2.1, .ref v.2.2.1, .int 0])), (v.2.1, .inl (d, 6200, .inl (fun _ => 0))), (v.2.2.1, .inl (d, 6200, .inl (fun _ => 0))), (v.2.2.2.1, .inl (d, 12, .inl (fun _ => 0))), (v.2.2.2.2.1, .inl (d, 12, .inl (fun _ => 0))), (v.2.2.2.2.2, .inl (d, 12, .inl (fun _ => 0)))]) (va_runI (As := [.ref g]) (rest := [.ref sh, .ref h]) ⟨hx, hb, hml, hown, hts⟩ (metX2_init l dC dI d H.size sh g) (cwI 1 hts (lw_meth q56) rfl rfl rfl (hts _ q16) (hts _ q54) (hts _ q55) rfl (by decide +kernel) ⟨Nat.le_of_ble_eq_true rfl, Nat.le_of_ble_eq_true rfl⟩) (wk_M.preS hK hPc hDc) rfl rfl hl.1 rfl (lv_room (Nat.le_of_ble_eq_true rfl)) dX0_init_27 ⟨Nat.le_of_ble_eq_true rfl, Nat.le_of_ble_eq_true rfl⟩) hP hD hS hA [4] [0, 1, 2, 3] [0, 1, 2, 3, 4, 5, 6, 7, 8, 9, 10] rfl rfl (by decide) (by decide) (by decide) (fun _ => rfl) (fun v H locs hp hK hP hD hS => ?_)
  have hP : va_P (dC, dI) vwCl [(h, .inr (0, [.ref g, .null, .null, .int 0, .int 0])), (g, .inr (1, [.ref a1, .ref a2, .int 0])), (a1, .inl (d, 256, .inl (fun _ => 0))), (a2, .inl (d, 256, .inl (fun _ => 0))), (sh, .inr (2, [.ref g, .ref v.1, .ref v.2.2.2.1, .ref v.2.2.2.2.1, .ref v.2.2.2.2.2, .int 0, .int 0, .int 0, .int 0])), (v.1, .inr (1, [.ref v.2.1, .ref v.2.2.1, .int 0])), (v.2.1, .inl (d, 6200, .inl (fun _ => 0))), (v.2.2.1, .inl (d, 6200, .inl (fun _ => 0))), (v.2.2.2.1, .inl (d, 12, .inl (fun _ => 0))), (v.2.2.2.2.1, .inl (d, 12, .inl (fun _ => 0))), (v.2.2.2.2.2, .inl (d, 12, .inl (fun _ => 0)))] H := hP
  have hD : va_D A [(h, .inr (0, [.ref g, .null, .null, .int 0, .int 0])), (g, .inr (1, [.ref a1, .ref a2, .int 0])), (a1, .inl (d, 256, .inl (fun _ => 0))), (a2, .inl (d, 256, .inl (fun _ => 0))), (sh, .inr (2, [.ref g, .ref v.1, .ref v.2.2.2.1, .ref v.2.2.2.2.1, .ref v.2.2.2.2.2, .int 0, .int 0, .int 0, .int 0])), (v.1, .inr (1, [.ref v.2.1, .ref v.2.2.1, .int 0])), (v.2.1, .inl (d, 6200, .inl (fun _ => 0))), (v.2.2.1, .inl (d, 6200, .inl (fun _ => 0))), (v.2.2.2.1, .inl (d, 12, .inl (fun _ => 0))), (v.2.2.2.2.1, .inl (d, 12, .inl (fun _ => 0))), (v.2.2.2.2.2, .inl (d, 12, .inl (fun _ => 0)))] := hD
  obtain ⟨ln, b1, b2, hv, hw, ht⟩ := v
  have hP : va_P (dC, dI) vwCl [(h, .inr (0, [.ref g, .null, .null, .int 0, .int 0])), (g, .inr (1, [.ref a1, .ref a2, .int 0])), (a1, .inl (d, 256, .inl (fun _ => 0))), (a2, .inl (d, 256, .inl (fun _ => 0))), (sh, .inr (2, [.ref g, .ref ln, .ref hv, .ref hw, .ref ht, .int 0, .int 0, .int 0, .int 0])), (ln, .inr (1, [.ref b1, .ref b2, .int 0])), (b1, .inl (d, 6200, .inl (fun _ => 0))), (b2, .inl (d, 6200, .inl (fun _ => 0))), (hv, .inl (d, 12, .inl (fun _ => 0))), (hw, .inl (d, 12, .inl (fun _ => 0))), (ht, .inl (d, 12, .inl (fun _ => 0)))] H := hP
  have hD : va_D A [(h, .inr (0, [.ref g, .null, .null, .int 0, .int 0])), (g, .inr (1, [.ref a1, .ref a2, .int 0])), (a1, .inl (d, 256, .inl (fun _ => 0))), (a2, .inl (d, 256, .inl (fun _ => 0))), (sh, .inr (2, [.ref g, .ref ln, .ref hv, .ref hw, .ref ht, .int 0, .int 0, .int 0, .int 0])), (ln, .inr (1, [.ref b1, .ref b2, .int 0])), (b1, .inl (d, 6200, .inl (fun _ => 0))), (b2, .inl (d, 6200, .inl (fun _ => 0))), (hv, .inl (d, 12, .inl (fun _ => 0))), (hw, .inl (d, 12, .inl (fun _ => 0))), (ht, .inl (d, 12, .inl (fun _ => 0)))] := hD
  refine va_putF (D := (dC, dI)) (ci := 0) (v := .ref sh) (ty := .object "ClauseDesk$Search") (C := RX0) (T := TX0) (N := 5) hx hb hts in_X0 tyX0 tyX0_ok nmX0 hown hK hP hD hS 0 rfl rfl 1 (by decide) (hts _ q100) (fun _ h9 => h9) rfl hin rfl (by decide +kernel) rfl rfl (Nat.le_of_ble_eq_true rfl) dX0_init_30 (fun H locs hP hD hS => ?_)
  have hP : va_P (dC, dI) vwCl [(h, .inr (0, [.ref g, .ref sh, .null, .int 0, .int 0])), (g, .inr (1, [.ref a1, .ref a2, .int 0])), (a1, .inl (d, 256, .inl (fun _ => 0))), (a2, .inl (d, 256, .inl (fun _ => 0))), (sh, .inr (2, [.ref g, .ref ln, .ref hv, .ref hw, .ref ht, .int 0, .int 0, .int 0, .int 0])), (ln, .inr (1, [.ref b1, .ref b2, .int 0])), (b1, .inl (d, 6200, .inl (fun _ => 0))), (b2, .inl (d, 6200, .inl (fun _ => 0))), (hv, .inl (d, 12, .inl (fun _ => 0))), (hw, .inl (d, 12, .inl (fun _ => 0))), (ht, .inl (d, 12, .inl (fun _ => 0)))] H := hP
  have hD : va_D A [(h, .inr (0, [.ref g, .ref sh, .null, .int 0, .int 0])), (g, .inr (1, [.ref a1, .ref a2, .int 0])), (a1, .inl (d, 256, .inl (fun _ => 0))), (a2, .inl (d, 256, .inl (fun _ => 0))), (sh, .inr (2, [.ref g, .ref ln, .ref hv, .ref hw, .ref ht, .int 0, .int 0, .int 0, .int 0])), (ln, .inr (1, [.ref b1, .ref b2, .int 0])), (b1, .inl (d, 6200, .inl (fun _ => 0))), (b2, .inl (d, 6200, .inl (fun _ => 0))), (hv, .inl (d, 12, .inl (fun _ => 0))), (hw, .inl (d, 12, .inl (fun _ => 0))), (ht, .inl (d, 12, .inl (fun _ => 0)))] := hD
  refine lv_aload_n hx hb dX0_init_33 rfl (lv_at hl 0 rfl) ?_
  refine va_new (ci := 3) (fs := [.null]) (C := RX3) (T := TX3) (N := 1) hx hb hts in_X3 tyX3 tyX3_ok hown (hts _ q89) (hts _ q90) (hts _ q17) hK hP hD hS hA rfl (fun j hj => by rcases (show j = 0 by omega) with rfl <;> rfl) (Nat.le_of_ble_eq_true rfl) (Nat.le_of_ble_eq_true rfl) dX0_init_34 (fun ct H hP hD hS => ?_)
  have hP : va_P (dC, dI) vwCl [(h, .inr (0, [.ref g, .ref sh, .null, .int 0, .int 0])), (g, .inr (1, [.ref a1, .ref a2, .int 0])), (a1, .inl (d, 256, .inl (fun _ => 0))), (a2, .inl (d, 256, .inl (fun _ => 0))), (sh, .inr (2, [.ref g, .ref ln, .ref hv, .ref hw, .ref ht, .int 0, .int 0, .int 0, .int 0])), (ln, .inr (1, [.ref b1, .ref b2, .int 0])), (b1, .inl (d, 6200, .inl (fun _ => 0))), (b2, .inl (d, 6200, .inl (fun _ => 0))), (hv, .inl (d, 12, .inl (fun _ => 0))), (hw, .inl (d, 12, .inl (fun _ => 0))), (ht, .inl (d, 12, .inl (fun _ => 0))), (ct, .inr (3, [.null]))] H := hP
  have hD : va_D A [(h, .inr (0, [.ref g, .ref sh, .null, .int 0, .int 0])), (g, .inr (1, [.ref a1, .ref a2, .int 0])), (a1, .inl (d, 256, .inl (fun _ => 0))), (a2, .inl (d, 256, .inl (fun _ => 0))), (sh, .inr (2, [.ref g, .ref ln, .ref hv, .ref hw, .ref ht, .int 0, .int 0, .int 0, .int 0])), (ln, .inr (1, [.ref b1, .ref b2, .int 0])), (b1, .inl (d, 6200, .inl (fun _ => 0))), (b2, .inl (d, 6200, .inl (fun _ => 0))), (hv, .inl (d, 12, .inl (fun _ => 0))), (hw, .inl (d, 12, .inl (fun _ => 0))), (ht, .inl (d, 12, .inl (fun _ => 0))), (ct, .inr (3, [.null]))] := hD
  refine lv_dup hx hb dX0_init_37 rfl ?_
  refine lv_aload_n hx hb dX0_init_38 rfl (lv_at hl 0 rfl) ?_
  refine va_get (D := (dC, dI)) (ci := 0) (v := .ref g) (C := RX0) (T := TX0) (N := 5) hx hb hts in_X0 hown hK hP 0 rfl rfl 0 (by decide) (hts _ q99) (fun _ h9 => h9) rfl dX0_init_39 ?_
  have hK0 := hK
  have hK : va_K (dC, dI) vwCl [] s := hK.sub [] rfl
  have hPc := hP.sub (ws' := [(ct, .inr (3, [.null]))]) [11] rfl
  have hDc := hD.sub (ws' := [(ct, .inr (3, [.null]))]) [11] (by decide) rfl
  refine wk_cv (wr := [(h, .inr (0, [.ref g, .ref sh, .null, .int 0, .int 0])), (g, .inr (1, [.ref a1, .ref a2, .int 0])), (a1, .inl (d, 256, .inl (fun _ => 0))), (a2, .inl (d, 256, .inl (fun _ => 0))), (sh, .inr (2, [.ref g, .ref ln, .ref hv, .ref hw, .ref ht, .int 0, .int 0, .int 0, .int 0])), (ln, .inr (1, [.ref b1, .ref b2, .int 0])), (b1, .inl (d, 6200, .inl (fun _ => 0))), (b2, .inl (d, 6200, .inl (fun _ => 0))), (hv, .inl (d, 12, .inl (fun _ => 0))), (hw, .inl (d, 12, .inl (fun _ => 0))), (ht, .inl (d, 12, .inl (fun _ => 0)))]) (wn := fun (u : Unit) => [(h, .inr (0, [.ref g, .ref sh, .null, .int 0, .int 0])), (g, .inr (1, [.ref a1, .ref a2, .int 0])), (a1, .inl (d, 256, .inl (fun _ => 0))), (a2, .inl (d, 256, .inl (fun _ => 0))), (sh, .inr (2, [.ref g, .ref ln, .ref hv, .ref hw, .ref ht, .int 0, .int 0, .int 0, .int 0])), (ln, .inr (1, [.ref b1, .ref b2, .int 0])), (b1, .inl (d, 6200, .inl (fun _ => 0))), (b2, .inl (d, 6200, .inl (fun _ => 0))), (hv, .inl (d, 12, .inl (fun _ => 0))), (hw, .inl (d, 12, .inl (fun _ => 0))), (ht, .inl (d, 12, .inl (fun _ => 0))), (ct, .inr (3, [.ref g]))]) (va_runI (As := [.ref g]) (rest := [.ref ct, .ref h]) ⟨hx, hb, hml, hown, hts⟩ (metX3_init l dC dI d H.size ct g) (cwI 1 hts (lw_meth q93) rfl rfl rfl (hts _ q17) (hts _ q91) (hts _ q92) rfl (by decide +kernel) ⟨Nat.le_of_ble_eq_true rfl, Nat.le_of_ble_eq_true rfl⟩) (wk_M.preS hK hPc hDc) rfl rfl hl.1 rfl (lv_room (Nat.le_of_ble_eq_true rfl)) dX0_init_42 ⟨Nat.le_of_ble_eq_true rfl, Nat.le_of_ble_eq_true rfl⟩) hP hD hS hA [11] [0, 1, 2, 3, 4, 5, 6, 7, 8, 9, 10] [0, 1, 2, 3, 4, 5, 6, 7, 8, 9, 10, 11] rfl rfl (by decide) (by decide) (by decide) (fun _ => rfl) (fun u H locs hp hK hP hD hS => ?_)
  have hP : va_P (dC, dI) vwCl [(h, .inr (0, [.ref g, .ref sh, .null, .int 0, .int 0])), (g, .inr (1, [.ref a1, .ref a2, .int 0])), (a1, .inl (d, 256, .inl (fun _ => 0))), (a2, .inl (d, 256, .inl (fun _ => 0))), (sh, .inr (2, [.ref g, .ref ln, .ref hv, .ref hw, .ref ht, .int 0, .int 0, .int 0, .int 0])), (ln, .inr (1, [.ref b1, .ref b2, .int 0])), (b1, .inl (d, 6200, .inl (fun _ => 0))), (b2, .inl (d, 6200, .inl (fun _ => 0))), (hv, .inl (d, 12, .inl (fun _ => 0))), (hw, .inl (d, 12, .inl (fun _ => 0))), (ht, .inl (d, 12, .inl (fun _ => 0))), (ct, .inr (3, [.ref g]))] H := hP
  have hD : va_D A [(h, .inr (0, [.ref g, .ref sh, .null, .int 0, .int 0])), (g, .inr (1, [.ref a1, .ref a2, .int 0])), (a1, .inl (d, 256, .inl (fun _ => 0))), (a2, .inl (d, 256, .inl (fun _ => 0))), (sh, .inr (2, [.ref g, .ref ln, .ref hv, .ref hw, .ref ht, .int 0, .int 0, .int 0, .int 0])), (ln, .inr (1, [.ref b1, .ref b2, .int 0])), (b1, .inl (d, 6200, .inl (fun _ => 0))), (b2, .inl (d, 6200, .inl (fun _ => 0))), (hv, .inl (d, 12, .inl (fun _ => 0))), (hw, .inl (d, 12, .inl (fun _ => 0))), (ht, .inl (d, 12, .inl (fun _ => 0))), (ct, .inr (3, [.ref g]))] := hD
  have hK := hK0
  refine va_putF (D := (dC, dI)) (ci := 0) (v := .ref ct) (ty := .object "ClauseDesk$Counter") (C := RX0) (T := TX0) (N := 5) hx hb hts in_X0 tyX0 tyX0_ok nmX0 hown hK hP hD hS 0 rfl rfl 2 (by decide) (hts _ q101) (fun _ h9 => h9) rfl hin rfl (by decide +kernel) rfl rfl (Nat.le_of_ble_eq_true rfl) dX0_init_45 (fun H locs hP hD hS => ?_)
  have hP : va_P (dC, dI) vwCl [(h, .inr (0, [.ref g, .ref sh, .ref ct, .int 0, .int 0])), (g, .inr (1, [.ref a1, .ref a2, .int 0])), (a1, .inl (d, 256, .inl (fun _ => 0))), (a2, .inl (d, 256, .inl (fun _ => 0))), (sh, .inr (2, [.ref g, .ref ln, .ref hv, .ref hw, .ref ht, .int 0, .int 0, .int 0, .int 0])), (ln, .inr (1, [.ref b1, .ref b2, .int 0])), (b1, .inl (d, 6200, .inl (fun _ => 0))), (b2, .inl (d, 6200, .inl (fun _ => 0))), (hv, .inl (d, 12, .inl (fun _ => 0))), (hw, .inl (d, 12, .inl (fun _ => 0))), (ht, .inl (d, 12, .inl (fun _ => 0))), (ct, .inr (3, [.ref g]))] H := hP
  have hD : va_D A [(h, .inr (0, [.ref g, .ref sh, .ref ct, .int 0, .int 0])), (g, .inr (1, [.ref a1, .ref a2, .int 0])), (a1, .inl (d, 256, .inl (fun _ => 0))), (a2, .inl (d, 256, .inl (fun _ => 0))), (sh, .inr (2, [.ref g, .ref ln, .ref hv, .ref hw, .ref ht, .int 0, .int 0, .int 0, .int 0])), (ln, .inr (1, [.ref b1, .ref b2, .int 0])), (b1, .inl (d, 6200, .inl (fun _ => 0))), (b2, .inl (d, 6200, .inl (fun _ => 0))), (hv, .inl (d, 12, .inl (fun _ => 0))), (hw, .inl (d, 12, .inl (fun _ => 0))), (ht, .inl (d, 12, .inl (fun _ => 0))), (ct, .inr (3, [.ref g]))] := hD
  refine lv_aload_n hx hb dX0_init_48 rfl (lv_at hl 0 rfl) ?_
  refine lv_iconst (v := 4) hx hb dX0_init_49 (by decide) ?_
  refine va_put (D := (dC, dI)) (ci := 0) (v := .int 4) (ty := .int) (C := RX0) (T := TX0) (N := 5) hx hb hts in_X0 tyX0 tyX0_ok nmX0 hown hK hP hD hS 0 rfl rfl 3 (by decide) (hts _ q102) (fun _ h9 => h9) rfl (by decide +kernel) rfl rfl (Nat.le_of_ble_eq_true rfl) dX0_init_50 (fun H locs hP hD hS => ?_)
  have hP : va_P (dC, dI) vwCl [(h, .inr (0, [.ref g, .ref sh, .ref ct, .int 4, .int 0])), (g, .inr (1, [.ref a1, .ref a2, .int 0])), (a1, .inl (d, 256, .inl (fun _ => 0))), (a2, .inl (d, 256, .inl (fun _ => 0))), (sh, .inr (2, [.ref g, .ref ln, .ref hv, .ref hw, .ref ht, .int 0, .int 0, .int 0, .int 0])), (ln, .inr (1, [.ref b1, .ref b2, .int 0])), (b1, .inl (d, 6200, .inl (fun _ => 0))), (b2, .inl (d, 6200, .inl (fun _ => 0))), (hv, .inl (d, 12, .inl (fun _ => 0))), (hw, .inl (d, 12, .inl (fun _ => 0))), (ht, .inl (d, 12, .inl (fun _ => 0))), (ct, .inr (3, [.ref g]))] H := hP
  have hD : va_D A [(h, .inr (0, [.ref g, .ref sh, .ref ct, .int 4, .int 0])), (g, .inr (1, [.ref a1, .ref a2, .int 0])), (a1, .inl (d, 256, .inl (fun _ => 0))), (a2, .inl (d, 256, .inl (fun _ => 0))), (sh, .inr (2, [.ref g, .ref ln, .ref hv, .ref hw, .ref ht, .int 0, .int 0, .int 0, .int 0])), (ln, .inr (1, [.ref b1, .ref b2, .int 0])), (b1, .inl (d, 6200, .inl (fun _ => 0))), (b2, .inl (d, 6200, .inl (fun _ => 0))), (hv, .inl (d, 12, .inl (fun _ => 0))), (hw, .inl (d, 12, .inl (fun _ => 0))), (ht, .inl (d, 12, .inl (fun _ => 0))), (ct, .inr (3, [.ref g]))] := hD
  refine lv_aload_n hx hb dX0_init_53 rfl (lv_at hl 0 rfl) ?_
  refine lv_iconst (v := (-1)) hx hb dX0_init_54 (by decide) ?_
  refine va_put (D := (dC, dI)) (ci := 0) (v := .int (-1)) (ty := .int) (C := RX0) (T := TX0) (N := 5) hx hb hts in_X0 tyX0 tyX0_ok nmX0 hown hK hP hD hS 0 rfl rfl 4 (by decide) (hts _ q103) (fun _ h9 => h9) rfl (by decide +kernel) rfl rfl (Nat.le_of_ble_eq_true rfl) dX0_init_55 (fun H locs hP hD hS => ?_)
  have hP : va_P (dC, dI) vwCl [(h, .inr (0, [.ref g, .ref sh, .ref ct, .int 4, .int (-1)])), (g, .inr (1, [.ref a1, .ref a2, .int 0])), (a1, .inl (d, 256, .inl (fun _ => 0))), (a2, .inl (d, 256, .inl (fun _ => 0))), (sh, .inr (2, [.ref g, .ref ln, .ref hv, .ref hw, .ref ht, .int 0, .int 0, .int 0, .int 0])), (ln, .inr (1, [.ref b1, .ref b2, .int 0])), (b1, .inl (d, 6200, .inl (fun _ => 0))), (b2, .inl (d, 6200, .inl (fun _ => 0))), (hv, .inl (d, 12, .inl (fun _ => 0))), (hw, .inl (d, 12, .inl (fun _ => 0))), (ht, .inl (d, 12, .inl (fun _ => 0))), (ct, .inr (3, [.ref g]))] H := hP
  have hD : va_D A [(h, .inr (0, [.ref g, .ref sh, .ref ct, .int 4, .int (-1)])), (g, .inr (1, [.ref a1, .ref a2, .int 0])), (a1, .inl (d, 256, .inl (fun _ => 0))), (a2, .inl (d, 256, .inl (fun _ => 0))), (sh, .inr (2, [.ref g, .ref ln, .ref hv, .ref hw, .ref ht, .int 0, .int 0, .int 0, .int 0])), (ln, .inr (1, [.ref b1, .ref b2, .int 0])), (b1, .inl (d, 6200, .inl (fun _ => 0))), (b2, .inl (d, 6200, .inl (fun _ => 0))), (hv, .inl (d, 12, .inl (fun _ => 0))), (hw, .inl (d, 12, .inl (fun _ => 0))), (ht, .inl (d, 12, .inl (fun _ => 0))), (ct, .inr (3, [.ref g]))] := hD
  refine W.widen (k := 11) (n := 12964) (Nat.le_of_ble_eq_true rfl) (Nat.le_of_ble_eq_true rfl) ?_
  exact wk_vret ((g, a1, a2, sh, ln, b1, b2, hv, hw, ht, ct)) hx hb hr hlocks (trivial) hK hP hD hS dX0_init_58
set_option maxHeartbeats 4000000 in
set_option maxRecDepth 100000 in
theorem metX4_init (l : Launch) (dC : Nat → ClassId) (dI : Nat → Nat → Nat) (d : ClassId) (sz : Nat) (h : Nat) : Met l yX4_init (ws_ yX4_init cX4_init 1 (none)) ({ frames := 1, cells := 3, slots := 4608, locals := 12 }) (wk_M (dC, dI) [(d, .int)] [(h, .inr (4, [.null, .null, .int 0, .int 0, .int 0, .null]))] [.ref h] sz) (va_Qv (fun _ : Nat × Nat × Nat => True) (wk_B (dC, dI) [(d, .int)] (va_A [(h, .inr (4, [.null, .null, .int 0, .int 0, .int 0, .null]))] sz) (fun u => [(h, .inr (4, [.ref u.1, .ref u.2.1, .int 0, .int 4, .int (-1), .ref u.2.2])), (u.1, .inl (d, 256, .inl (fun _ => 0))), (u.2.1, .inl (d, 256, .inl (fun _ => 0))), (u.2.2, .inl (d, 4096, .inl (fun _ => 0)))])) (va_A [(h, .inr (4, [.null, .null, .int 0, .int 0, .int 0, .null]))] sz)) 3 4608 (va_A [(h, .inr (4, [.null, .null, .int 0, .int 0, .int 0, .null]))] sz) := by
  refine Met.ofW (cc := cX4_init) (maxL := 1) (ret := none) (by decide) rfl ?_
  intro p e s m args below meth c s₁ Bd hml hv
  obtain ⟨rfl, hsz, hP, hK, hD0⟩ := hv
  have hx := Bd.exec
  have hb := Bd.bytes
  have hr := Bd.returns
  have hts := atoms_spec (ws := ws_ yX4_init cX4_init 1 (none)) Bd.pre
  have hts : ∀ w ∈ lw_all, w.before _ s = true := fun w h => hts w (List.mem_cons_of_mem _ h)
  have hown : s.vm.findClass RX4 = some m.cls := findClass_of_methodNamed Bd.named
  have hlocks := Bd.notSynchronized
  have hin : meth.name = "<init>" := (name_of_methodNamed Bd.named Bd.method).1
  have hK : va_K (dC, dI) vwCl [(d, .int)] s := hK
  subst hsz
  have hD := hD0.self (sz := s.heap.size)
  generalize hAe : va_A [(h, .inr (4, [.null, .null, .int 0, .int 0, .int 0, .null]))] s.heap.size = A at hD ⊢
  have hA : ∀ q : Nat, s.heap.size ≤ q → A q := fun q h => by rw [← hAe]; exact Or.inr h
  have hS : va_S A s.heap s.heap [] := va_S.rf
  have hP : va_P (dC, dI) vwCl [(h, .inr (4, [.null, .null, .int 0, .int 0, .int 0, .null]))] s.heap := hP
  have hl := lv_entry ([.ref h]) (n := 1) (Nat.le_of_ble_eq_true rfl)
  rw [lg_entry_eq]
  generalize (lg_sl ([.ref h]) ++ List.replicate (1 - (lg_sl ([.ref h])).length) Slot.unset).toArray = ls at hl ⊢
  have hl : lv_has ls 1 [(0, .ref h)] := hl
  refine lv_aload_n hx hb dX4_init_0 rfl (lv_at hl 0 rfl) ?_
  refine W.objInit hx hb hown (hts _ q232) (hts _ q27) (hts _ q28) rfl (by rw [hml]; exact hl.1) rfl dX4_init_1 (Nat.le_of_ble_eq_true rfl) (Nat.le_of_ble_eq_true rfl) ?_
  refine W.eq (g2 := F0 m 4 ls []) rfl ?_
  refine lv_aload_n hx hb dX4_init_4 rfl (lv_at hl 0 rfl) ?_
  refine lv_sipush (v := 256) hx hb dX4_init_5 (by decide) ?_
  refine va_newa (atype := .int) (n := 256) (N' := 256) (a0 := (256, .inl (fun _ => 0))) hx hb (hts _ q51) rfl hK hP hD hS hA (fun _ => rfl) (by decide) (by decide) (by decide) (Nat.le_of_ble_eq_true rfl) (Nat.le_of_ble_eq_true rfl) dX4_init_8 (fun y1 cA H hK hP hD hS => ?_)
  have e9 := wk_cA hK 1 0 rfl rfl
  rw [e9] at hK hP hD
  have hK := hK.sub (tys' := [(d, .int)]) [0] rfl
  have hP : va_P (dC, dI) vwCl [(h, .inr (4, [.null, .null, .int 0, .int 0, .int 0, .null])), (y1, .inl (d, 256, .inl (fun _ => 0)))] H := hP
  have hD : va_D A [(h, .inr (4, [.null, .null, .int 0, .int 0, .int 0, .null])), (y1, .inl (d, 256, .inl (fun _ => 0)))] := hD
  refine va_putF (D := (dC, dI)) (ci := 4) (v := .ref y1) (ty := .array .int) (C := RX4) (T := TX4) (N := 6) hx hb hts in_X4 tyX4 tyX4_ok nmX4 hown hK hP hD hS 0 rfl rfl 0 (by decide) (hts _ q233) (fun _ h9 => h9) rfl hin rfl (by decide +kernel) rfl rfl (Nat.le_of_ble_eq_true rfl) dX4_init_10 (fun H locs hP hD hS => ?_)
  have hP : va_P (dC, dI) vwCl [(h, .inr (4, [.ref y1, .null, .int 0, .int 0, .int 0, .null])), (y1, .inl (d, 256, .inl (fun _ => 0)))] H := hP
  have hD : va_D A [(h, .inr (4, [.ref y1, .null, .int 0, .int 0, .int 0, .null])), (y1, .inl (d, 256, .inl (fun _ => 0)))] := hD
  refine lv_aload_n hx hb dX4_init_13 rfl (lv_at hl 0 rfl) ?_
  refine lv_sipush (v := 256) hx hb dX4_init_14 (by decide) ?_
  refine va_newa (atype := .int) (n := 256) (N' := 256) (a0 := (256, .inl (fun _ => 0))) hx hb (hts _ q51) rfl hK hP hD hS hA (fun _ => rfl) (by decide) (by decide) (by decide) (Nat.le_of_ble_eq_true rfl) (Nat.le_of_ble_eq_true rfl) dX4_init_17 (fun y2 cA H hK hP hD hS => ?_)
  have e9 := wk_cA hK 1 0 rfl rfl
  rw [e9] at hK hP hD
  have hK := hK.sub (tys' := [(d, .int)]) [0] rfl
  have hP : va_P (dC, dI) vwCl [(h, .inr (4, [.ref y1, .null, .int 0, .int 0, .int 0, .null])), (y1, .inl (d, 256, .inl (fun _ => 0))), (y2, .inl (d, 256, .inl (fun _ => 0)))] H := hP
  have hD : va_D A [(h, .inr (4, [.ref y1, .null, .int 0, .int 0, .int 0, .null])), (y1, .inl (d, 256, .inl (fun _ => 0))), (y2, .inl (d, 256, .inl (fun _ => 0)))] := hD
  refine va_putF (D := (dC, dI)) (ci := 4) (v := .ref y2) (ty := .array .int) (C := RX4) (T := TX4) (N := 6) hx hb hts in_X4 tyX4 tyX4_ok nmX4 hown hK hP hD hS 0 rfl rfl 1 (by decide) (hts _ q234) (fun _ h9 => h9) rfl hin rfl (by decide +kernel) rfl rfl (Nat.le_of_ble_eq_true rfl) dX4_init_19 (fun H locs hP hD hS => ?_)
  have hP : va_P (dC, dI) vwCl [(h, .inr (4, [.ref y1, .ref y2, .int 0, .int 0, .int 0, .null])), (y1, .inl (d, 256, .inl (fun _ => 0))), (y2, .inl (d, 256, .inl (fun _ => 0)))] H := hP
  have hD : va_D A [(h, .inr (4, [.ref y1, .ref y2, .int 0, .int 0, .int 0, .null])), (y1, .inl (d, 256, .inl (fun _ => 0))), (y2, .inl (d, 256, .inl (fun _ => 0)))] := hD
  refine lv_aload_n hx hb dX4_init_22 rfl (lv_at hl 0 rfl) ?_
  refine lv_iconst (v := 4) hx hb dX4_init_23 (by decide) ?_
  refine va_put (D := (dC, dI)) (ci := 4) (v := .int 4) (ty := .int) (C := RX4) (T := TX4) (N := 6) hx hb hts in_X4 tyX4 tyX4_ok nmX4 hown hK hP hD hS 0 rfl rfl 3 (by decide) (hts _ q236) (fun _ h9 => h9) rfl (by decide +kernel) rfl rfl (Nat.le_of_ble_eq_true rfl) dX4_init_24 (fun H locs hP hD hS => ?_)
  have hP : va_P (dC, dI) vwCl [(h, .inr (4, [.ref y1, .ref y2, .int 0, .int 4, .int 0, .null])), (y1, .inl (d, 256, .inl (fun _ => 0))), (y2, .inl (d, 256, .inl (fun _ => 0)))] H := hP
  have hD : va_D A [(h, .inr (4, [.ref y1, .ref y2, .int 0, .int 4, .int 0, .null])), (y1, .inl (d, 256, .inl (fun _ => 0))), (y2, .inl (d, 256, .inl (fun _ => 0)))] := hD
  refine lv_aload_n hx hb dX4_init_27 rfl (lv_at hl 0 rfl) ?_
  refine lv_iconst (v := (-1)) hx hb dX4_init_28 (by decide) ?_
  refine va_put (D := (dC, dI)) (ci := 4) (v := .int (-1)) (ty := .int) (C := RX4) (T := TX4) (N := 6) hx hb hts in_X4 tyX4 tyX4_ok nmX4 hown hK hP hD hS 0 rfl rfl 4 (by decide) (hts _ q237) (fun _ h9 => h9) rfl (by decide +kernel) rfl rfl (Nat.le_of_ble_eq_true rfl) dX4_init_29 (fun H locs hP hD hS => ?_)
  have hP : va_P (dC, dI) vwCl [(h, .inr (4, [.ref y1, .ref y2, .int 0, .int 4, .int (-1), .null])), (y1, .inl (d, 256, .inl (fun _ => 0))), (y2, .inl (d, 256, .inl (fun _ => 0)))] H := hP
  have hD : va_D A [(h, .inr (4, [.ref y1, .ref y2, .int 0, .int 4, .int (-1), .null])), (y1, .inl (d, 256, .inl (fun _ => 0))), (y2, .inl (d, 256, .inl (fun _ => 0)))] := hD
  refine lv_aload_n hx hb dX4_init_32 rfl (lv_at hl 0 rfl) ?_
  refine lv_sipush (v := 4096) hx hb dX4_init_33 (by decide) ?_
  refine va_newa (atype := .int) (n := 4096) (N' := 4096) (a0 := (4096, .inl (fun _ => 0))) hx hb (hts _ q51) rfl hK hP hD hS hA (fun _ => rfl) (by decide) (by decide) (by decide) (Nat.le_of_ble_eq_true rfl) (Nat.le_of_ble_eq_true rfl) dX4_init_36 (fun br cA H hK hP hD hS => ?_)
  have e9 := wk_cA hK 1 0 rfl rfl
  rw [e9] at hK hP hD
  have hK := hK.sub (tys' := [(d, .int)]) [0] rfl
  have hP : va_P (dC, dI) vwCl [(h, .inr (4, [.ref y1, .ref y2, .int 0, .int 4, .int (-1), .null])), (y1, .inl (d, 256, .inl (fun _ => 0))), (y2, .inl (d, 256, .inl (fun _ => 0))), (br, .inl (d, 4096, .inl (fun _ => 0)))] H := hP
  have hD : va_D A [(h, .inr (4, [.ref y1, .ref y2, .int 0, .int 4, .int (-1), .null])), (y1, .inl (d, 256, .inl (fun _ => 0))), (y2, .inl (d, 256, .inl (fun _ => 0))), (br, .inl (d, 4096, .inl (fun _ => 0)))] := hD
  refine va_putF (D := (dC, dI)) (ci := 4) (v := .ref br) (ty := .array .int) (C := RX4) (T := TX4) (N := 6) hx hb hts in_X4 tyX4 tyX4_ok nmX4 hown hK hP hD hS 0 rfl rfl 5 (by decide) (hts _ q238) (fun _ h9 => h9) rfl hin rfl (by decide +kernel) rfl rfl (Nat.le_of_ble_eq_true rfl) dX4_init_38 (fun H locs hP hD hS => ?_)
  have hP : va_P (dC, dI) vwCl [(h, .inr (4, [.ref y1, .ref y2, .int 0, .int 4, .int (-1), .ref br])), (y1, .inl (d, 256, .inl (fun _ => 0))), (y2, .inl (d, 256, .inl (fun _ => 0))), (br, .inl (d, 4096, .inl (fun _ => 0)))] H := hP
  have hD : va_D A [(h, .inr (4, [.ref y1, .ref y2, .int 0, .int 4, .int (-1), .ref br])), (y1, .inl (d, 256, .inl (fun _ => 0))), (y2, .inl (d, 256, .inl (fun _ => 0))), (br, .inl (d, 4096, .inl (fun _ => 0)))] := hD
  refine W.widen (k := 3) (n := 4608) (Nat.le_of_ble_eq_true rfl) (Nat.le_of_ble_eq_true rfl) ?_
  exact wk_vret ((y1, y2, br)) hx hb hr hlocks (trivial) hK hP hD hS dX4_init_41
end
section
/-! ClauseDesk: its methods -/
set_option maxHeartbeats 4000000 in
set_option maxRecDepth 100000 in
theorem metX0_all (l : Launch) (dC : Nat → ClassId) (dI : Nat → Nat → Nat) (d : ClassId) (h g sh ct n : Nat) (fo : Int32) : Met l yX0_all (ws_ yX0_all cX0_all 1 (some .int)) ({ frames := 0, cells := 0, slots := 0, locals := 0 }) (wk_R (dC, dI) [] [(h, .inr (0, [.ref g, .ref sh, .ref ct, .int (nI n), .int fo]))] [.ref h]) (vp_Si (fun r : Int32 => r = (1 : Int32) <<< (nI n &&& 31) - 1)) 0 0 (fun _ => False) := by
  refine Met.ofW (cc := cX0_all) (maxL := 1) (ret := some .int) (by decide) rfl ?_
  intro p e s m args below meth c s₁ Bd hml hv
  obtain ⟨rfl, hP, hK⟩ := hv
  have hx := Bd.exec
  have hb := Bd.bytes
  have hr := Bd.returns
  have hts := atoms_spec (ws := ws_ yX0_all cX0_all 1 (some .int)) Bd.pre
  have hts : ∀ w ∈ lw_all, w.before _ s = true := fun w h => hts w (List.mem_cons_of_mem _ h)
  have hown : s.vm.findClass RX0 = some m.cls := findClass_of_methodNamed Bd.named
  have hlocks := Bd.notSynchronized
  have hK : va_K (dC, dI) vwCl [] s := hK
  have hP : va_P (dC, dI) vwCl [(h, .inr (0, [.ref g, .ref sh, .ref ct, .int (nI n), .int fo]))] s.heap := hP
  have hl := lv_entry ([.ref h]) (n := 1) (Nat.le_of_ble_eq_true rfl)
  rw [lg_entry_eq]
  generalize (lg_sl ([.ref h]) ++ List.replicate (1 - (lg_sl ([.ref h])).length) Slot.unset).toArray = ls at hl ⊢
  have hl : lv_has ls 1 [(0, .ref h)] := hl
  refine lv_iconst (v := 1) hx hb dX0_all_0 (by decide) ?_
  refine lv_aload_n hx hb dX0_all_1 rfl (lv_at hl 0 rfl) ?_
  refine va_get (D := (dC, dI)) (ci := 0) (v := .int (nI n)) (C := RX0) (T := TX0) (N := 5) hx hb hts in_X0 hown hK hP 0 rfl rfl 3 (by decide) (hts _ q102) (fun _ h9 => h9) rfl dX0_all_2 ?_
  refine lv_ishl hx hb dX0_all_5 ?_
  refine lv_iconst (v := 1) hx hb dX0_all_6 (by decide) ?_
  refine lv_isub hx hb dX0_all_7 ?_
  exact wk_iretR hx hb hr hlocks (rfl) dX0_all_8
set_option maxHeartbeats 4000000 in
set_option maxRecDepth 100000 in
theorem metX0_found (l : Launch) (dC : Nat → ClassId) (dI : Nat → Nat → Nat) (d : ClassId) (h g sh ct n : Nat) (fo : Int32) : Met l yX0_found (ws_ yX0_found cX0_found 1 (some .int)) ({ frames := 0, cells := 0, slots := 0, locals := 0 }) (wk_R (dC, dI) [] [(h, .inr (0, [.ref g, .ref sh, .ref ct, .int (nI n), .int fo]))] [.ref h]) (vp_Si (fun r : Int32 => r = fo)) 0 0 (fun _ => False) := by
  refine Met.ofW (cc := cX0_found) (maxL := 1) (ret := some .int) (by decide) rfl ?_
  intro p e s m args below meth c s₁ Bd hml hv
  obtain ⟨rfl, hP, hK⟩ := hv
  have hx := Bd.exec
  have hb := Bd.bytes
  have hr := Bd.returns
  have hts := atoms_spec (ws := ws_ yX0_found cX0_found 1 (some .int)) Bd.pre
  have hts : ∀ w ∈ lw_all, w.before _ s = true := fun w h => hts w (List.mem_cons_of_mem _ h)
  have hown : s.vm.findClass RX0 = some m.cls := findClass_of_methodNamed Bd.named
  have hlocks := Bd.notSynchronized
  have hK : va_K (dC, dI) vwCl [] s := hK
  have hP : va_P (dC, dI) vwCl [(h, .inr (0, [.ref g, .ref sh, .ref ct, .int (nI n), .int fo]))] s.heap := hP
  have hl := lv_entry ([.ref h]) (n := 1) (Nat.le_of_ble_eq_true rfl)
  rw [lg_entry_eq]
  generalize (lg_sl ([.ref h]) ++ List.replicate (1 - (lg_sl ([.ref h])).length) Slot.unset).toArray = ls at hl ⊢
  have hl : lv_has ls 1 [(0, .ref h)] := hl
  refine lv_aload_n hx hb dX0_found_0 rfl (lv_at hl 0 rfl) ?_
  refine va_get (D := (dC, dI)) (ci := 0) (v := .int fo) (C := RX0) (T := TX0) (N := 5) hx hb hts in_X0 hown hK hP 0 rfl rfl 4 (by decide) (hts _ q103) (fun _ h9 => h9) rfl dX0_found_1 ?_
  exact wk_iretR hx hb hr hlocks (rfl) dX0_found_4
set_option maxHeartbeats 4000000 in
set_option maxRecDepth 100000 in
theorem metX0_letters (l : Launch) (dC : Nat → ClassId) (dI : Nat → Nat → Nat) (d : ClassId) (sz : Nat) (h sh g ln hv hw ht a1 a2 b1 b2 ct : Nat) (n gN lN : Nat) (gy gq ly lq lv wy tr : Nat → Int32) (td lvs k t fo : Int32) (k9 : Int32) : Met l yX0_letters (ws_ yX0_letters cX0_letters 2 (none)) ({ frames := 1, cells := 0, slots := 0, locals := 24 }) (wk_M (dC, dI) [(d, .int)] [(h, .inr (0, [.ref g, .ref sh, .ref ct, .int (nI n), .int fo])), (sh, .inr (2, [.ref g, .ref ln, .ref hv, .ref hw, .ref ht, .int td, .int lvs, .int k, .int t])), (hv, .inl (d, 12, .inl lv)), (hw, .inl (d, 12, .inl wy)), (ht, .inl (d, 12, .inl tr)), (g, .inr (1, [.ref a1, .ref a2, .int (nI gN)])), (a1, .inl (d, 256, .inl gy)), (a2, .inl (d, 256, .inl gq)), (ln, .inr (1, [.ref b1, .ref b2, .int (nI lN)])), (b1, .inl (d, 6200, .inl ly)), (b2, .inl (d, 6200, .inl lq)), (ct, .inr (3, [.ref g]))] [.ref h, .int k9] sz) (va_Qv (fun _ : Unit => True) (wk_B (dC, dI) [(d, .int)] (va_A [(h, .inr (0, [.ref g, .ref sh, .ref ct, .int (nI n), .int fo])), (sh, .inr (2, [.ref g, .ref ln, .ref hv, .ref hw, .ref ht, .int td, .int lvs, .int k, .int t])), (hv, .inl (d, 12, .inl lv)), (hw, .inl (d, 12, .inl wy)), (ht, .inl (d, 12, .inl tr)), (g, .inr (1, [.ref a1, .ref a2, .int (nI gN)])), (a1, .inl (d, 256, .inl gy)), (a2, .inl (d, 256, .inl gq)), (ln, .inr (1, [.ref b1, .ref b2, .int (nI lN)])), (b1, .inl (d, 6200, .inl ly)), (b2, .inl (d, 6200, .inl lq)), (ct, .inr (3, [.ref g]))] sz) (fun _ => [(h, .inr (0, [.ref g, .ref sh, .ref ct, .int (nI (lt_n k9)), .int (-1)])), (sh, .inr (2, [.ref g, .ref ln, .ref hv, .ref hw, .ref ht, .int td, .int lvs, .int k, .int t])), (hv, .inl (d, 12, .inl lv)), (hw, .inl (d, 12, .inl wy)), (ht, .inl (d, 12, .inl tr)), (g, .inr (1, [.ref a1, .ref a2, .int (nI 0)])), (a1, .inl (d, 256, .inl gy)), (a2, .inl (d, 256, .inl gq)), (ln, .inr (1, [.ref b1, .ref b2, .int (nI 0)])), (b1, .inl (d, 6200, .inl ly)), (b2, .inl (d, 6200, .inl lq)), (ct, .inr (3, [.ref g]))])) (va_A [(h, .inr (0, [.ref g, .ref sh, .ref ct, .int (nI n), .int fo])), (sh, .inr (2, [.ref g, .ref ln, .ref hv, .ref hw, .ref ht, .int td, .int lvs, .int k, .int t])), (hv, .inl (d, 12, .inl lv)), (hw, .inl (d, 12, .inl wy)), (ht, .inl (d, 12, .inl tr)), (g, .inr (1, [.ref a1, .ref a2, .int (nI gN)])), (a1, .inl (d, 256, .inl gy)), (a2, .inl (d, 256, .inl gq)), (ln, .inr (1, [.ref b1, .ref b2, .int (nI lN)])), (b1, .inl (d, 6200, .inl ly)), (b2, .inl (d, 6200, .inl lq)), (ct, .inr (3, [.ref g]))] sz)) 0 0 (va_A [(h, .inr (0, [.ref g, .ref sh, .ref ct, .int (nI n), .int fo])), (sh, .inr (2, [.ref g, .ref ln, .ref hv, .ref hw, .ref ht, .int td, .int lvs, .int k, .int t])), (hv, .inl (d, 12, .inl lv)), (hw, .inl (d, 12, .inl wy)), (ht, .inl (d, 12, .inl tr)), (g, .inr (1, [.ref a1, .ref a2, .int (nI gN)])), (a1, .inl (d, 256, .inl gy)), (a2, .inl (d, 256, .inl gq)), (ln, .inr (1, [.ref b1, .ref b2, .int (nI lN)])), (b1, .inl (d, 6200, .inl ly)), (b2, .inl (d, 6200, .inl lq)), (ct, .inr (3, [.ref g]))] sz) := by
  refine Met.ofW (cc := cX0_letters) (maxL := 2) (ret := none) (by decide) rfl ?_
  intro p e s m args below meth c s₁ Bd hml hv
  obtain ⟨rfl, hsz, hP, hK, hD0⟩ := hv
  have hx := Bd.exec
  have hb := Bd.bytes
  have hr := Bd.returns
  have hts := atoms_spec (ws := ws_ yX0_letters cX0_letters 2 (none)) Bd.pre
  have hts : ∀ w ∈ lw_all, w.before _ s = true := fun w h => hts w (List.mem_cons_of_mem _ h)
  have hown : s.vm.findClass RX0 = some m.cls := findClass_of_methodNamed Bd.named
  have hlocks := Bd.notSynchronized
  have hK : va_K (dC, dI) vwCl [(d, .int)] s := hK
  subst hsz
  have hD := hD0.self (sz := s.heap.size)
  generalize hAe : va_A [(h, .inr (0, [.ref g, .ref sh, .ref ct, .int (nI n), .int fo])), (sh, .inr (2, [.ref g, .ref ln, .ref hv, .ref hw, .ref ht, .int td, .int lvs, .int k, .int t])), (hv, .inl (d, 12, .inl lv)), (hw, .inl (d, 12, .inl wy)), (ht, .inl (d, 12, .inl tr)), (g, .inr (1, [.ref a1, .ref a2, .int (nI gN)])), (a1, .inl (d, 256, .inl gy)), (a2, .inl (d, 256, .inl gq)), (ln, .inr (1, [.ref b1, .ref b2, .int (nI lN)])), (b1, .inl (d, 6200, .inl ly)), (b2, .inl (d, 6200, .inl lq)), (ct, .inr (3, [.ref g]))] s.heap.size = A at hD ⊢
  have hA : ∀ q : Nat, s.heap.size ≤ q → A q := fun q h => by rw [← hAe]; exact Or.inr h
  have hS : va_S A s.heap s.heap [] := va_S.rf
  have hP : va_P (dC, dI) vwCl [(h, .inr (0, [.ref g, .ref sh, .ref ct, .int (nI n), .int fo])), (sh, .inr (2, [.ref g, .ref ln, .ref hv, .ref hw, .ref ht, .int td, .int lvs, .int k, .int t])), (hv, .inl (d, 12, .inl lv)), (hw, .inl (d, 12, .inl wy)), (ht, .inl (d, 12, .inl tr)), (g, .inr (1, [.ref a1, .ref a2, .int (nI gN)])), (a1, .inl (d, 256, .inl gy)), (a2, .inl (d, 256, .inl gq)), (ln, .inr (1, [.ref b1, .ref b2, .int (nI lN)])), (b1, .inl (d, 6200, .inl ly)), (b2, .inl (d, 6200, .inl lq)), (ct, .inr (3, [.ref g]))] s.heap := hP
  have hl := lv_entry ([.ref h, .int k9]) (n := 2) (Nat.le_of_ble_eq_true rfl)
  rw [lg_entry_eq]
  generalize (lg_sl ([.ref h, .int k9]) ++ List.replicate (2 - (lg_sl ([.ref h, .int k9])).length) Slot.unset).toArray = ls at hl ⊢
  have hl : lv_has ls 2 [(0, .ref h), (1, .int k9)] := hl
  refine lv_aload_n hx hb dX0_letters_0 rfl (lv_at hl 0 rfl) ?_
  refine lv_iconst (v := 1) hx hb dX0_letters_1 (by decide) ?_
  refine lv_iload_n hx hb dX0_letters_2 rfl (lv_at hl 1 rfl) ?_
  refine lv_ldc (v := 2147483647) hx hb hown (hts _ q119) dX0_letters_3 ?_
  refine lv_iand hx hb dX0_letters_5 ?_
  refine lv_bipush (v := 12) hx hb dX0_letters_6 (by decide) ?_
  refine lv_irem hx hb dX0_letters_8 (by decide) ?_
  refine lv_iadd hx hb dX0_letters_9 ?_
  refine wk_top (y := nI (lt_n k9)) (lt_nI k9) ?_
  refine va_put (D := (dC, dI)) (ci := 0) (v := .int (nI (lt_n k9))) (ty := .int) (C := RX0) (T := TX0) (N := 5) hx hb hts in_X0 tyX0 tyX0_ok nmX0 hown hK hP hD hS 0 rfl rfl 3 (by decide) (hts _ q102) (fun _ h9 => h9) rfl (by decide +kernel) rfl rfl (Nat.le_of_ble_eq_true rfl) dX0_letters_10 (fun H locs hP hD hS => ?_)
  have hP : va_P (dC, dI) vwCl [(h, .inr (0, [.ref g, .ref sh, .ref ct, .int (nI (lt_n k9)), .int fo])), (sh, .inr (2, [.ref g, .ref ln, .ref hv, .ref hw, .ref ht, .int td, .int lvs, .int k, .int t])), (hv, .inl (d, 12, .inl lv)), (hw, .inl (d, 12, .inl wy)), (ht, .inl (d, 12, .inl tr)), (g, .inr (1, [.ref a1, .ref a2, .int (nI gN)])), (a1, .inl (d, 256, .inl gy)), (a2, .inl (d, 256, .inl gq)), (ln, .inr (1, [.ref b1, .ref b2, .int (nI lN)])), (b1, .inl (d, 6200, .inl ly)), (b2, .inl (d, 6200, .inl lq)), (ct, .inr (3, [.ref g]))] H := hP
  have hD : va_D A [(h, .inr (0, [.ref g, .ref sh, .ref ct, .int (nI (lt_n k9)), .int fo])), (sh, .inr (2, [.ref g, .ref ln, .ref hv, .ref hw, .ref ht, .int td, .int lvs, .int k, .int t])), (hv, .inl (d, 12, .inl lv)), (hw, .inl (d, 12, .inl wy)), (ht, .inl (d, 12, .inl tr)), (g, .inr (1, [.ref a1, .ref a2, .int (nI gN)])), (a1, .inl (d, 256, .inl gy)), (a2, .inl (d, 256, .inl gq)), (ln, .inr (1, [.ref b1, .ref b2, .int (nI lN)])), (b1, .inl (d, 6200, .inl ly)), (b2, .inl (d, 6200, .inl lq)), (ct, .inr (3, [.ref g]))] := hD
  refine lv_aload_n hx hb dX0_letters_13 rfl (lv_at hl 0 rfl) ?_
  refine va_get (D := (dC, dI)) (ci := 0) (v := .ref g) (C := RX0) (T := TX0) (N := 5) hx hb hts in_X0 hown hK hP 0 rfl rfl 0 (by decide) (hts _ q99) (fun _ h9 => h9) rfl dX0_letters_14 ?_
  refine lv_iconst (v := 0) hx hb dX0_letters_17 (by decide) ?_
  refine wk_top (y := nI 0) (nI_0.symm) ?_
  refine va_put (D := (dC, dI)) (ci := 1) (v := .int (nI 0)) (ty := .int) (C := RX1) (T := TX1) (N := 3) hx hb hts in_X1 tyX1 tyX1_ok nmX1 hown hK hP hD hS 5 rfl rfl 2 (by decide) (hts _ q43) (fun _ h9 => h9) rfl (by decide +kernel) rfl rfl (Nat.le_of_ble_eq_true rfl) dX0_letters_18 (fun H locs hP hD hS => ?_)
  have hP : va_P (dC, dI) vwCl [(h, .inr (0, [.ref g, .ref sh, .ref ct, .int (nI (lt_n k9)), .int fo])), (sh, .inr (2, [.ref g, .ref ln, .ref hv, .ref hw, .ref ht, .int td, .int lvs, .int k, .int t])), (hv, .inl (d, 12, .inl lv)), (hw, .inl (d, 12, .inl wy)), (ht, .inl (d, 12, .inl tr)), (g, .inr (1, [.ref a1, .ref a2, .int (nI 0)])), (a1, .inl (d, 256, .inl gy)), (a2, .inl (d, 256, .inl gq)), (ln, .inr (1, [.ref b1, .ref b2, .int (nI lN)])), (b1, .inl (d, 6200, .inl ly)), (b2, .inl (d, 6200, .inl lq)), (ct, .inr (3, [.ref g]))] H := hP
  have hD : va_D A [(h, .inr (0, [.ref g, .ref sh, .ref ct, .int (nI (lt_n k9)), .int fo])), (sh, .inr (2, [.ref g, .ref ln, .ref hv, .ref hw, .ref ht, .int td, .int lvs, .int k, .int t])), (hv, .inl (d, 12, .inl lv)), (hw, .inl (d, 12, .inl wy)), (ht, .inl (d, 12, .inl tr)), (g, .inr (1, [.ref a1, .ref a2, .int (nI 0)])), (a1, .inl (d, 256, .inl gy)), (a2, .inl (d, 256, .inl gq)), (ln, .inr (1, [.ref b1, .ref b2, .int (nI lN)])), (b1, .inl (d, 6200, .inl ly)), (b2, .inl (d, 6200, .inl lq)), (ct, .inr (3, [.ref g]))] := hD
  refine lv_aload_n hx hb dX0_letters_21 rfl (lv_at hl 0 rfl) ?_
  refine va_get (D := (dC, dI)) (ci := 0) (v := .ref sh) (C := RX0) (T := TX0) (N := 5) hx hb hts in_X0 hown hK hP 0 rfl rfl 1 (by decide) (hts _ q100) (fun _ h9 => h9) rfl dX0_letters_22 ?_
  have hK0 := hK
  have hK : va_K (dC, dI) vwCl [] s := hK.sub [] rfl
  have hPc := hP.sub (ws' := [(sh, .inr (2, [.ref g, .ref ln, .ref hv, .ref hw, .ref ht, .int td, .int lvs, .int k, .int t])), (ln, .inr (1, [.ref b1, .ref b2, .int (nI lN)]))]) [1, 8] rfl
  have hDc := hD.sub (ws' := [(sh, .inr (2, [.ref g, .ref ln, .ref hv, .ref hw, .ref ht, .int td, .int lvs, .int k, .int t])), (ln, .inr (1, [.ref b1, .ref b2, .int (nI lN)]))]) [1, 8] (by decide) rfl
  refine wk_cv (wr := [(h, .inr (0, [.ref g, .ref sh, .ref ct, .int (nI (lt_n k9)), .int fo])), (hv, .inl (d, 12, .inl lv)), (hw, .inl (d, 12, .inl wy)), (ht, .inl (d, 12, .inl tr)), (g, .inr (1, [.ref a1, .ref a2, .int (nI 0)])), (a1, .inl (d, 256, .inl gy)), (a2, .inl (d, 256, .inl gq)), (b1, .inl (d, 6200, .inl ly)), (b2, .inl (d, 6200, .inl lq)), (ct, .inr (3, [.ref g]))]) (wn := fun (u : Unit) => [(h, .inr (0, [.ref g, .ref sh, .ref ct, .int (nI (lt_n k9)), .int fo])), (sh, .inr (2, [.ref g, .ref ln, .ref hv, .ref hw, .ref ht, .int td, .int lvs, .int k, .int t])), (hv, .inl (d, 12, .inl lv)), (hw, .inl (d, 12, .inl wy)), (ht, .inl (d, 12, .inl tr)), (g, .inr (1, [.ref a1, .ref a2, .int (nI 0)])), (a1, .inl (d, 256, .inl gy)), (a2, .inl (d, 256, .inl gq)), (ln, .inr (1, [.ref b1, .ref b2, .int 0])), (b1, .inl (d, 6200, .inl ly)), (b2, .inl (d, 6200, .inl lq)), (ct, .inr (3, [.ref g]))]) (va_runV (As := []) (rest := []) ⟨hx, hb, hml, hown, hts⟩ (metX2_forget l dC dI d H.size sh g ln hv hw ht b1 b2 td lvs k t (nI lN)) (cwV 0 hts (lw_V q120 q121 q122 q16 q123) rfl rfl rfl (by decide +kernel) ⟨Nat.le_of_ble_eq_true rfl, Nat.le_of_ble_eq_true rfl⟩) (wk_M.preV (q := (RX2, TX2, 9)) (ci := 2) (q0 := 0) hK hPc hDc rfl rfl) rfl rfl hl.1 rfl (lv_room (Nat.le_of_ble_eq_true rfl)) dX0_letters_25 ⟨Nat.le_of_ble_eq_true rfl, Nat.le_of_ble_eq_true rfl⟩) hP hD hS hA [1, 8] [0, 2, 3, 4, 5, 6, 7, 9, 10, 11] [0, 10, 1, 2, 3, 4, 5, 6, 11, 7, 8, 9] rfl rfl (by decide) (by decide) (by decide) (fun _ => rfl) (fun u H locs hp hK hP hD hS => ?_)
  have hP : va_P (dC, dI) vwCl [(h, .inr (0, [.ref g, .ref sh, .ref ct, .int (nI (lt_n k9)), .int fo])), (sh, .inr (2, [.ref g, .ref ln, .ref hv, .ref hw, .ref ht, .int td, .int lvs, .int k, .int t])), (hv, .inl (d, 12, .inl lv)), (hw, .inl (d, 12, .inl wy)), (ht, .inl (d, 12, .inl tr)), (g, .inr (1, [.ref a1, .ref a2, .int (nI 0)])), (a1, .inl (d, 256, .inl gy)), (a2, .inl (d, 256, .inl gq)), (ln, .inr (1, [.ref b1, .ref b2, .int 0])), (b1, .inl (d, 6200, .inl ly)), (b2, .inl (d, 6200, .inl lq)), (ct, .inr (3, [.ref g]))] H := hP
  have hD : va_D A [(h, .inr (0, [.ref g, .ref sh, .ref ct, .int (nI (lt_n k9)), .int fo])), (sh, .inr (2, [.ref g, .ref ln, .ref hv, .ref hw, .ref ht, .int td, .int lvs, .int k, .int t])), (hv, .inl (d, 12, .inl lv)), (hw, .inl (d, 12, .inl wy)), (ht, .inl (d, 12, .inl tr)), (g, .inr (1, [.ref a1, .ref a2, .int (nI 0)])), (a1, .inl (d, 256, .inl gy)), (a2, .inl (d, 256, .inl gq)), (ln, .inr (1, [.ref b1, .ref b2, .int 0])), (b1, .inl (d, 6200, .inl ly)), (b2, .inl (d, 6200, .inl lq)), (ct, .inr (3, [.ref g]))] := hD
  have hK := hK0
  refine lv_aload_n hx hb dX0_letters_28 rfl (lv_at hl 0 rfl) ?_
  refine lv_iconst (v := (-1)) hx hb dX0_letters_29 (by decide) ?_
  refine va_put (D := (dC, dI)) (ci := 0) (v := .int (-1)) (ty := .int) (C := RX0) (T := TX0) (N := 5) hx hb hts in_X0 tyX0 tyX0_ok nmX0 hown hK hP hD hS 0 rfl rfl 4 (by decide) (hts _ q103) (fun _ h9 => h9) rfl (by decide +kernel) rfl rfl (Nat.le_of_ble_eq_true rfl) dX0_letters_30 (fun H locs hP hD hS => ?_)
  have hP : va_P (dC, dI) vwCl [(h, .inr (0, [.ref g, .ref sh, .ref ct, .int (nI (lt_n k9)), .int (-1)])), (sh, .inr (2, [.ref g, .ref ln, .ref hv, .ref hw, .ref ht, .int td, .int lvs, .int k, .int t])), (hv, .inl (d, 12, .inl lv)), (hw, .inl (d, 12, .inl wy)), (ht, .inl (d, 12, .inl tr)), (g, .inr (1, [.ref a1, .ref a2, .int (nI 0)])), (a1, .inl (d, 256, .inl gy)), (a2, .inl (d, 256, .inl gq)), (ln, .inr (1, [.ref b1, .ref b2, .int 0])), (b1, .inl (d, 6200, .inl ly)), (b2, .inl (d, 6200, .inl lq)), (ct, .inr (3, [.ref g]))] H := hP
  have hD : va_D A [(h, .inr (0, [.ref g, .ref sh, .ref ct, .int (nI (lt_n k9)), .int (-1)])), (sh, .inr (2, [.ref g, .ref ln, .ref hv, .ref hw, .ref ht, .int td, .int lvs, .int k, .int t])), (hv, .inl (d, 12, .inl lv)), (hw, .inl (d, 12, .inl wy)), (ht, .inl (d, 12, .inl tr)), (g, .inr (1, [.ref a1, .ref a2, .int (nI 0)])), (a1, .inl (d, 256, .inl gy)), (a2, .inl (d, 256, .inl gq)), (ln, .inr (1, [.ref b1, .ref b2, .int 0])), (b1, .inl (d, 6200, .inl ly)), (b2, .inl (d, 6200, .inl lq)), (ct, .inr (3, [.ref g]))] := hD
  exact wk_vret (()) hx hb hr hlocks (trivial) hK hP hD hS dX0_letters_33
abbrev dc_S : Type := Nat × (Nat → Int32) × (Nat → Int32)
def dc_post (n gN : Nat) (gy gq : Nat → Int32) (x1 x2 r : Int32) (u : dc_S) : Prop := (gN = 256 ∧ r = 0 ∧ u = (gN, gy, gq)) ∨ (gN < 256 ∧ r = 1 ∧ u = (gN + 1, upd gy gN (x1 &&& ((1 : Int32) <<< (nI n &&& 31) - 1)), upd gq gN (x2 &&& ((1 : Int32) <<< (nI n &&& 31) - 1))))
def dd_post (gN lN : Nat) (r : Int32) (u : Nat × Nat) : Prop := (gN = 0 ∧ r = 0 ∧ u = (gN, lN)) ∨ (0 < gN ∧ r = 1 ∧ u = (gN - 1, 0))
set_option maxHeartbeats 4000000 in
set_option maxRecDepth 100000 in
theorem metX0_clause (l : Launch) (dC : Nat → ClassId) (dI : Nat → Nat → Nat) (d : ClassId) (sz : Nat) (h sh g ln hv hw ht a1 a2 b1 b2 ct : Nat) (n gN lN : Nat) (gy gq ly lq lv wy tr : Nat → Int32) (td lvs k t fo : Int32) (x1 x2 : Int32) (k_gN : gN ≤ 256) : Met l yX0_clause (ws_ yX0_clause cX0_clause 3 (some .boolean)) ({ frames := 1, cells := 0, slots := 0, locals := 24 }) (wk_M (dC, dI) [(d, .int)] [(h, .inr (0, [.ref g, .ref sh, .ref ct, .int (nI n), .int fo])), (sh, .inr (2, [.ref g, .ref ln, .ref hv, .ref hw, .ref ht, .int td, .int lvs, .int k, .int t])), (hv, .inl (d, 12, .inl lv)), (hw, .inl (d, 12, .inl wy)), (ht, .inl (d, 12, .inl tr)), (g, .inr (1, [.ref a1, .ref a2, .int (nI gN)])), (a1, .inl (d, 256, .inl gy)), (a2, .inl (d, 256, .inl gq)), (ln, .inr (1, [.ref b1, .ref b2, .int (nI lN)])), (b1, .inl (d, 6200, .inl ly)), (b2, .inl (d, 6200, .inl lq)), (ct, .inr (3, [.ref g]))] [.ref h, .int x1, .int x2] sz) (va_Qi (dc_post n gN gy gq x1 x2) (wk_B (dC, dI) [(d, .int)] (va_A [(h, .inr (0, [.ref g, .ref sh, .ref ct, .int (nI n), .int fo])), (sh, .inr (2, [.ref g, .ref ln, .ref hv, .ref hw, .ref ht, .int td, .int lvs, .int k, .int t])), (hv, .inl (d, 12, .inl lv)), (hw, .inl (d, 12, .inl wy)), (ht, .inl (d, 12, .inl tr)), (g, .inr (1, [.ref a1, .ref a2, .int (nI gN)])), (a1, .inl (d, 256, .inl gy)), (a2, .inl (d, 256, .inl gq)), (ln, .inr (1, [.ref b1, .ref b2, .int (nI lN)])), (b1, .inl (d, 6200, .inl ly)), (b2, .inl (d, 6200, .inl lq)), (ct, .inr (3, [.ref g]))] sz) (fun u : dc_S => [(h, .inr (0, [.ref g, .ref sh, .ref ct, .int (nI n), .int fo])), (sh, .inr (2, [.ref g, .ref ln, .ref hv, .ref hw, .ref ht, .int td, .int lvs, .int k, .int t])), (hv, .inl (d, 12, .inl lv)), (hw, .inl (d, 12, .inl wy)), (ht, .inl (d, 12, .inl tr)), (g, .inr (1, [.ref a1, .ref a2, .int (nI u.1)])), (a1, .inl (d, 256, .inl u.2.1)), (a2, .inl (d, 256, .inl u.2.2)), (ln, .inr (1, [.ref b1, .ref b2, .int (nI lN)])), (b1, .inl (d, 6200, .inl ly)), (b2, .inl (d, 6200, .inl lq)), (ct, .inr (3, [.ref g]))])) (va_A [(h, .inr (0, [.ref g, .ref sh, .ref ct, .int (nI n), .int fo])), (sh, .inr (2, [.ref g, .ref ln, .ref hv, .ref hw, .ref ht, .int td, .int lvs, .int k, .int t])), (hv, .inl (d, 12, .inl lv)), (hw, .inl (d, 12, .inl wy)), (ht, .inl (d, 12, .inl tr)), (g, .inr (1, [.ref a1, .ref a2, .int (nI gN)])), (a1, .inl (d, 256, .inl gy)), (a2, .inl (d, 256, .inl gq)), (ln, .inr (1, [.ref b1, .ref b2, .int (nI lN)])), (b1, .inl (d, 6200, .inl ly)), (b2, .inl (d, 6200, .inl lq)), (ct, .inr (3, [.ref g]))] sz)) 0 0 (va_A [(h, .inr (0, [.ref g, .ref sh, .ref ct, .int (nI n), .int fo])), (sh, .inr (2, [.ref g, .ref ln, .ref hv, .ref hw, .ref ht, .int td, .int lvs, .int k, .int t])), (hv, .inl (d, 12, .inl lv)), (hw, .inl (d, 12, .inl wy)), (ht, .inl (d, 12, .inl tr)), (g, .inr (1, [.ref a1, .ref a2, .int (nI gN)])), (a1, .inl (d, 256, .inl gy)), (a2, .inl (d, 256, .inl gq)), (ln, .inr (1, [.ref b1, .ref b2, .int (nI lN)])), (b1, .inl (d, 6200, .inl ly)), (b2, .inl (d, 6200, .inl lq)), (ct, .inr (3, [.ref g]))] sz) := by
  refine Met.ofW (cc := cX0_clause) (maxL := 3) (ret := some .boolean) (by decide) rfl ?_
  intro p e s m args below meth c s₁ Bd hml hv
  obtain ⟨rfl, hsz, hP, hK, hD0⟩ := hv
  have hx := Bd.exec
  have hb := Bd.bytes
  have hr := Bd.returns
  have hts := atoms_spec (ws := ws_ yX0_clause cX0_clause 3 (some .boolean)) Bd.pre
  have hts : ∀ w ∈ lw_all, w.before _ s = true := fun w h => hts w (List.mem_cons_of_mem _ h)
  have hown : s.vm.findClass RX0 = some m.cls := findClass_of_methodNamed Bd.named
  have hlocks := Bd.notSynchronized
  have hK : va_K (dC, dI) vwCl [(d, .int)] s := hK
  subst hsz
  have hD := hD0.self (sz := s.heap.size)
  generalize hAe : va_A [(h, .inr (0, [.ref g, .ref sh, .ref ct, .int (nI n), .int fo])), (sh, .inr (2, [.ref g, .ref ln, .ref hv, .ref hw, .ref ht, .int td, .int lvs, .int k, .int t])), (hv, .inl (d, 12, .inl lv)), (hw, .inl (d, 12, .inl wy)), (ht, .inl (d, 12, .inl tr)), (g, .inr (1, [.ref a1, .ref a2, .int (nI gN)])), (a1, .inl (d, 256, .inl gy)), (a2, .inl (d, 256, .inl gq)), (ln, .inr (1, [.ref b1, .ref b2, .int (nI lN)])), (b1, .inl (d, 6200, .inl ly)), (b2, .inl (d, 6200, .inl lq)), (ct, .inr (3, [.ref g]))] s.heap.size = A at hD ⊢
  have hA : ∀ q : Nat, s.heap.size ≤ q → A q := fun q h => by rw [← hAe]; exact Or.inr h
  have hS : va_S A s.heap s.heap [] := va_S.rf
  have hP : va_P (dC, dI) vwCl [(h, .inr (0, [.ref g, .ref sh, .ref ct, .int (nI n), .int fo])), (sh, .inr (2, [.ref g, .ref ln, .ref hv, .ref hw, .ref ht, .int td, .int lvs, .int k, .int t])), (hv, .inl (d, 12, .inl lv)), (hw, .inl (d, 12, .inl wy)), (ht, .inl (d, 12, .inl tr)), (g, .inr (1, [.ref a1, .ref a2, .int (nI gN)])), (a1, .inl (d, 256, .inl gy)), (a2, .inl (d, 256, .inl gq)), (ln, .inr (1, [.ref b1, .ref b2, .int (nI lN)])), (b1, .inl (d, 6200, .inl ly)), (b2, .inl (d, 6200, .inl lq)), (ct, .inr (3, [.ref g]))] s.heap := hP
  have hl := lv_entry ([.ref h, .int x1, .int x2]) (n := 3) (Nat.le_of_ble_eq_true rfl)
  rw [lg_entry_eq]
  generalize (lg_sl ([.ref h, .int x1, .int x2]) ++ List.replicate (3 - (lg_sl ([.ref h, .int x1, .int x2])).length) Slot.unset).toArray = ls at hl ⊢
  have hl : lv_has ls 3 [(0, .ref h), (1, .int x1), (2, .int x2)] := hl
  refine lv_aload_n hx hb dX0_clause_0 rfl (lv_at hl 0 rfl) ?_
  refine va_get (D := (dC, dI)) (ci := 0) (v := .ref g) (C := RX0) (T := TX0) (N := 5) hx hb hts in_X0 hown hK hP 0 rfl rfl 0 (by decide) (hts _ q99) (fun _ h9 => h9) rfl dX0_clause_1 ?_
  refine va_get (D := (dC, dI)) (ci := 1) (v := .int (nI gN)) (C := RX1) (T := TX1) (N := 3) hx hb hts in_X1 hown hK hP 5 rfl rfl 2 (by decide) (hts _ q43) (fun _ h9 => h9) rfl dX0_clause_4 ?_
  refine lv_sipush (v := 256) hx hb dX0_clause_7 (by decide) ?_
  refine lv_icmp_ne (tgt := 15) hx hb dX0_clause_10 (by decide) (fun c_1 => ?_) (fun c_1 => ?_)
  · have hN : gN < 256 := Nat.lt_of_le_of_ne k_gN (fun e => c_1 (by rw [e]; rfl))
    refine lv_aload_n hx hb dX0_clause_15 rfl (lv_at hl 0 rfl) ?_
    refine va_get (D := (dC, dI)) (ci := 0) (v := .ref g) (C := RX0) (T := TX0) (N := 5) hx hb hts in_X0 hown hK hP 0 rfl rfl 0 (by decide) (hts _ q99) (fun _ h9 => h9) rfl dX0_clause_16 ?_
    refine lv_iload_n hx hb dX0_clause_19 rfl (lv_at hl 1 rfl) ?_
    refine lv_aload_n hx hb dX0_clause_20 rfl (lv_at hl 0 rfl) ?_
    have hK0 := hK
    have hK : va_K (dC, dI) vwCl [] s := hK.sub [] rfl
    have hPc := hP.sub (ws' := [(h, .inr (0, [.ref g, .ref sh, .ref ct, .int (nI n), .int fo]))]) [0] rfl
    refine vp_callSi (W.runV (As := []) (rest := [.int x1, .ref g]) ⟨hx, hb, hml, hown, hts⟩ (metX0_all l dC dI d h g sh ct n fo) (cwV 0 hts (lw_V q128 q130 qs0 q14 q131) rfl rfl rfl (by decide +kernel) ⟨Nat.le_of_ble_eq_true rfl, Nat.le_of_ble_eq_true rfl⟩) (wk_R.preV (q := (RX0, TX0, 5)) (ci := 0) (q0 := 0) hK hPc rfl rfl) rfl rfl hl.1 rfl (lv_room (Nat.le_of_ble_eq_true rfl)) dX0_clause_21 ⟨Nat.le_of_ble_eq_true rfl, Nat.le_of_ble_eq_true rfl⟩) (fun r9 hr9 => ?_)
    have hK := hK0
    refine wk_top (y := (1 : Int32) <<< (nI n &&& 31) - 1) (hr9) ?_
    refine lv_iand hx hb dX0_clause_24 ?_
    refine lv_iload_n hx hb dX0_clause_25 rfl (lv_at hl 2 rfl) ?_
    refine lv_aload_n hx hb dX0_clause_26 rfl (lv_at hl 0 rfl) ?_
    have hK0 := hK
    have hK : va_K (dC, dI) vwCl [] s := hK.sub [] rfl
    have hPc := hP.sub (ws' := [(h, .inr (0, [.ref g, .ref sh, .ref ct, .int (nI n), .int fo]))]) [0] rfl
    refine vp_callSi (W.runV (As := []) (rest := [.int x2, .int (x1 &&& ((1 : Int32) <<< (nI n &&& 31) - 1)), .ref g]) ⟨hx, hb, hml, hown, hts⟩ (metX0_all l dC dI d h g sh ct n fo) (cwV 0 hts (lw_V q128 q130 qs0 q14 q131) rfl rfl rfl (by decide +kernel) ⟨Nat.le_of_ble_eq_true rfl, Nat.le_of_ble_eq_true rfl⟩) (wk_R.preV (q := (RX0, TX0, 5)) (ci := 0) (q0 := 0) hK hPc rfl rfl) rfl rfl hl.1 rfl (lv_room (Nat.le_of_ble_eq_true rfl)) dX0_clause_27 ⟨Nat.le_of_ble_eq_true rfl, Nat.le_of_ble_eq_true rfl⟩) (fun r9 hr9 => ?_)
    have hK := hK0
    refine wk_top (y := (1 : Int32) <<< (nI n &&& 31) - 1) (hr9) ?_
    refine lv_iand hx hb dX0_clause_30 ?_
    skip
    have hPc := hP.sub (ws' := [(g, .inr (1, [.ref a1, .ref a2, .int (nI gN)])), (a1, .inl (d, 256, .inl gy)), (a2, .inl (d, 256, .inl gq))]) [5, 6, 7] rfl
    have hDc := hD.sub (ws' := [(g, .inr (1, [.ref a1, .ref a2, .int (nI gN)])), (a1, .inl (d, 256, .inl gy)), (a2, .inl (d, 256, .inl gq))]) [5, 6, 7] (by decide) rfl
    refine wk_cv (wr := [(h, .inr (0, [.ref g, .ref sh, .ref ct, .int (nI n), .int fo])), (sh, .inr (2, [.ref g, .ref ln, .ref hv, .ref hw, .ref ht, .int td, .int lvs, .int k, .int t])), (hv, .inl (d, 12, .inl lv)), (hw, .inl (d, 12, .inl wy)), (ht, .inl (d, 12, .inl tr)), (ln, .inr (1, [.ref b1, .ref b2, .int (nI lN)])), (b1, .inl (d, 6200, .inl ly)), (b2, .inl (d, 6200, .inl lq)), (ct, .inr (3, [.ref g]))]) (wn := fun (u : Unit) => [(h, .inr (0, [.ref g, .ref sh, .ref ct, .int (nI n), .int fo])), (sh, .inr (2, [.ref g, .ref ln, .ref hv, .ref hw, .ref ht, .int td, .int lvs, .int k, .int t])), (hv, .inl (d, 12, .inl lv)), (hw, .inl (d, 12, .inl wy)), (ht, .inl (d, 12, .inl tr)), (g, .inr (1, [.ref a1, .ref a2, .int (nI (gN + 1))])), (a1, .inl (d, 256, .inl (upd gy gN (x1 &&& ((1 : Int32) <<< (nI n &&& 31) - 1))))), (a2, .inl (d, 256, .inl (upd gq gN (x2 &&& ((1 : Int32) <<< (nI n &&& 31) - 1))))), (ln, .inr (1, [.ref b1, .ref b2, .int (nI lN)])), (b1, .inl (d, 6200, .inl ly)), (b2, .inl (d, 6200, .inl lq)), (ct, .inr (3, [.ref g]))]) (va_runV (As := [.int (x1 &&& ((1 : Int32) <<< (nI n &&& 31) - 1)), .int (x2 &&& ((1 : Int32) <<< (nI n &&& 31) - 1))]) (rest := []) ⟨hx, hb, hml, hown, hts⟩ (metX1_add l dC dI d s.heap.size g a1 a2 256 gN gy gq (x1 &&& ((1 : Int32) <<< (nI n &&& 31) - 1)) (x2 &&& ((1 : Int32) <<< (nI n &&& 31) - 1)) hN (by omega)) (cwV 2 hts (lw_V q132 q133 q134 q15 q135) rfl rfl rfl (by decide +kernel) ⟨Nat.le_of_ble_eq_true rfl, Nat.le_of_ble_eq_true rfl⟩) (wk_M.preV (q := (RX1, TX1, 3)) (ci := 1) (q0 := 0) hK hPc hDc rfl rfl) rfl rfl hl.1 rfl (lv_room (Nat.le_of_ble_eq_true rfl)) dX0_clause_31 ⟨Nat.le_of_ble_eq_true rfl, Nat.le_of_ble_eq_true rfl⟩) hP hD hS hA [5, 6, 7] [0, 1, 2, 3, 4, 8, 9, 10, 11] [0, 1, 2, 3, 4, 9, 10, 11, 5, 6, 7, 8] rfl rfl (by decide) (by decide) (by decide) (fun _ => rfl) (fun u H locs hp hK hP hD hS => ?_)
    have hP : va_P (dC, dI) vwCl [(h, .inr (0, [.ref g, .ref sh, .ref ct, .int (nI n), .int fo])), (sh, .inr (2, [.ref g, .ref ln, .ref hv, .ref hw, .ref ht, .int td, .int lvs, .int k, .int t])), (hv, .inl (d, 12, .inl lv)), (hw, .inl (d, 12, .inl wy)), (ht, .inl (d, 12, .inl tr)), (g, .inr (1, [.ref a1, .ref a2, .int (nI (gN + 1))])), (a1, .inl (d, 256, .inl (upd gy gN (x1 &&& ((1 : Int32) <<< (nI n &&& 31) - 1))))), (a2, .inl (d, 256, .inl (upd gq gN (x2 &&& ((1 : Int32) <<< (nI n &&& 31) - 1))))), (ln, .inr (1, [.ref b1, .ref b2, .int (nI lN)])), (b1, .inl (d, 6200, .inl ly)), (b2, .inl (d, 6200, .inl lq)), (ct, .inr (3, [.ref g]))] H := hP
    have hD : va_D A [(h, .inr (0, [.ref g, .ref sh, .ref ct, .int (nI n), .int fo])), (sh, .inr (2, [.ref g, .ref ln, .ref hv, .ref hw, .ref ht, .int td, .int lvs, .int k, .int t])), (hv, .inl (d, 12, .inl lv)), (hw, .inl (d, 12, .inl wy)), (ht, .inl (d, 12, .inl tr)), (g, .inr (1, [.ref a1, .ref a2, .int (nI (gN + 1))])), (a1, .inl (d, 256, .inl (upd gy gN (x1 &&& ((1 : Int32) <<< (nI n &&& 31) - 1))))), (a2, .inl (d, 256, .inl (upd gq gN (x2 &&& ((1 : Int32) <<< (nI n &&& 31) - 1))))), (ln, .inr (1, [.ref b1, .ref b2, .int (nI lN)])), (b1, .inl (d, 6200, .inl ly)), (b2, .inl (d, 6200, .inl lq)), (ct, .inr (3, [.ref g]))] := hD
    refine lv_iconst (v := 1) hx hb dX0_clause_34 (by decide) ?_
    exact wk_zret ((gN + 1, upd gy gN (x1 &&& ((1 : Int32) <<< (nI n &&& 31) - 1)), upd gq gN (x2 &&& ((1 : Int32) <<< (nI n &&& 31) - 1)))) hx hb hr hlocks (by decide) (Or.inr ⟨hN, rfl, rfl⟩) hK hP hD hS dX0_clause_35
  · refine lv_iconst (v := 0) hx hb dX0_clause_13 (by decide) ?_
    exact wk_zret ((gN, gy, gq)) hx hb hr hlocks (by decide) (Or.inl ⟨(nI_eq (b := 256) (by omega) (by omega)).mp c_1, rfl, rfl⟩) hK hP hD hS dX0_clause_14
set_option maxHeartbeats 4000000 in
set_option maxRecDepth 100000 in
theorem metX0_drop (l : Launch) (dC : Nat → ClassId) (dI : Nat → Nat → Nat) (d : ClassId) (sz : Nat) (h sh g ln hv hw ht a1 a2 b1 b2 ct : Nat) (n gN lN : Nat) (gy gq ly lq lv wy tr : Nat → Int32) (td lvs k t fo : Int32) (k_gN : gN ≤ 256) : Met l yX0_drop (ws_ yX0_drop cX0_drop 1 (some .boolean)) ({ frames := 1, cells := 0, slots := 0, locals := 24 }) (wk_M (dC, dI) [(d, .int)] [(h, .inr (0, [.ref g, .ref sh, .ref ct, .int (nI n), .int fo])), (sh, .inr (2, [.ref g, .ref ln, .ref hv, .ref hw, .ref ht, .int td, .int lvs, .int k, .int t])), (hv, .inl (d, 12, .inl lv)), (hw, .inl (d, 12, .inl wy)), (ht, .inl (d, 12, .inl tr)), (g, .inr (1, [.ref a1, .ref a2, .int (nI gN)])), (a1, .inl (d, 256, .inl gy)), (a2, .inl (d, 256, .inl gq)), (ln, .inr (1, [.ref b1, .ref b2, .int (nI lN)])), (b1, .inl (d, 6200, .inl ly)), (b2, .inl (d, 6200, .inl lq)), (ct, .inr (3, [.ref g]))] [.ref h] sz) (va_Qi (dd_post gN lN) (wk_B (dC, dI) [(d, .int)] (va_A [(h, .inr (0, [.ref g, .ref sh, .ref ct, .int (nI n), .int fo])), (sh, .inr (2, [.ref g, .ref ln, .ref hv, .ref hw, .ref ht, .int td, .int lvs, .int k, .int t])), (hv, .inl (d, 12, .inl lv)), (hw, .inl (d, 12, .inl wy)), (ht, .inl (d, 12, .inl tr)), (g, .inr (1, [.ref a1, .ref a2, .int (nI gN)])), (a1, .inl (d, 256, .inl gy)), (a2, .inl (d, 256, .inl gq)), (ln, .inr (1, [.ref b1, .ref b2, .int (nI lN)])), (b1, .inl (d, 6200, .inl ly)), (b2, .inl (d, 6200, .inl lq)), (ct, .inr (3, [.ref g]))] sz) (fun u : Nat × Nat => [(h, .inr (0, [.ref g, .ref sh, .ref ct, .int (nI n), .int fo])), (sh, .inr (2, [.ref g, .ref ln, .ref hv, .ref hw, .ref ht, .int td, .int lvs, .int k, .int t])), (hv, .inl (d, 12, .inl lv)), (hw, .inl (d, 12, .inl wy)), (ht, .inl (d, 12, .inl tr)), (g, .inr (1, [.ref a1, .ref a2, .int (nI u.1)])), (a1, .inl (d, 256, .inl gy)), (a2, .inl (d, 256, .inl gq)), (ln, .inr (1, [.ref b1, .ref b2, .int (nI u.2)])), (b1, .inl (d, 6200, .inl ly)), (b2, .inl (d, 6200, .inl lq)), (ct, .inr (3, [.ref g]))])) (va_A [(h, .inr (0, [.ref g, .ref sh, .ref ct, .int (nI n), .int fo])), (sh, .inr (2, [.ref g, .ref ln, .ref hv, .ref hw, .ref ht, .int td, .int lvs, .int k, .int t])), (hv, .inl (d, 12, .inl lv)), (hw, .inl (d, 12, .inl wy)), (ht, .inl (d, 12, .inl tr)), (g, .inr (1, [.ref a1, .ref a2, .int (nI gN)])), (a1, .inl (d, 256, .inl gy)), (a2, .inl (d, 256, .inl gq)), (ln, .inr (1, [.ref b1, .ref b2, .int (nI lN)])), (b1, .inl (d, 6200, .inl ly)), (b2, .inl (d, 6200, .inl lq)), (ct, .inr (3, [.ref g]))] sz)) 0 0 (va_A [(h, .inr (0, [.ref g, .ref sh, .ref ct, .int (nI n), .int fo])), (sh, .inr (2, [.ref g, .ref ln, .ref hv, .ref hw, .ref ht, .int td, .int lvs, .int k, .int t])), (hv, .inl (d, 12, .inl lv)), (hw, .inl (d, 12, .inl wy)), (ht, .inl (d, 12, .inl tr)), (g, .inr (1, [.ref a1, .ref a2, .int (nI gN)])), (a1, .inl (d, 256, .inl gy)), (a2, .inl (d, 256, .inl gq)), (ln, .inr (1, [.ref b1, .ref b2, .int (nI lN)])), (b1, .inl (d, 6200, .inl ly)), (b2, .inl (d, 6200, .inl lq)), (ct, .inr (3, [.ref g]))] sz) := by
  refine Met.ofW (cc := cX0_drop) (maxL := 1) (ret := some .boolean) (by decide) rfl ?_
  intro p e s m args below meth c s₁ Bd hml hv
  obtain ⟨rfl, hsz, hP, hK, hD0⟩ := hv
  have hx := Bd.exec
  have hb := Bd.bytes
  have hr := Bd.returns
  have hts := atoms_spec (ws := ws_ yX0_drop cX0_drop 1 (some .boolean)) Bd.pre
  have hts : ∀ w ∈ lw_all, w.before _ s = true := fun w h => hts w (List.mem_cons_of_mem _ h)
  have hown : s.vm.findClass RX0 = some m.cls := findClass_of_methodNamed Bd.named
  have hlocks := Bd.notSynchronized
  have hK : va_K (dC, dI) vwCl [(d, .int)] s := hK
  subst hsz
  have hD := hD0.self (sz := s.heap.size)
  generalize hAe : va_A [(h, .inr (0, [.ref g, .ref sh, .ref ct, .int (nI n), .int fo])), (sh, .inr (2, [.ref g, .ref ln, .ref hv, .ref hw, .ref ht, .int td, .int lvs, .int k, .int t])), (hv, .inl (d, 12, .inl lv)), (hw, .inl (d, 12, .inl wy)), (ht, .inl (d, 12, .inl tr)), (g, .inr (1, [.ref a1, .ref a2, .int (nI gN)])), (a1, .inl (d, 256, .inl gy)), (a2, .inl (d, 256, .inl gq)), (ln, .inr (1, [.ref b1, .ref b2, .int (nI lN)])), (b1, .inl (d, 6200, .inl ly)), (b2, .inl (d, 6200, .inl lq)), (ct, .inr (3, [.ref g]))] s.heap.size = A at hD ⊢
  have hA : ∀ q : Nat, s.heap.size ≤ q → A q := fun q h => by rw [← hAe]; exact Or.inr h
  have hS : va_S A s.heap s.heap [] := va_S.rf
  have hP : va_P (dC, dI) vwCl [(h, .inr (0, [.ref g, .ref sh, .ref ct, .int (nI n), .int fo])), (sh, .inr (2, [.ref g, .ref ln, .ref hv, .ref hw, .ref ht, .int td, .int lvs, .int k, .int t])), (hv, .inl (d, 12, .inl lv)), (hw, .inl (d, 12, .inl wy)), (ht, .inl (d, 12, .inl tr)), (g, .inr (1, [.ref a1, .ref a2, .int (nI gN)])), (a1, .inl (d, 256, .inl gy)), (a2, .inl (d, 256, .inl gq)), (ln, .inr (1, [.ref b1, .ref b2, .int (nI lN)])), (b1, .inl (d, 6200, .inl ly)), (b2, .inl (d, 6200, .inl lq)), (ct, .inr (3, [.ref g]))] s.heap := hP
  have hl := lv_entry ([.ref h]) (n := 1) (Nat.le_of_ble_eq_true rfl)
  rw [lg_entry_eq]
  generalize (lg_sl ([.ref h]) ++ List.replicate (1 - (lg_sl ([.ref h])).length) Slot.unset).toArray = ls at hl ⊢
  have hl : lv_has ls 1 [(0, .ref h)] := hl
  refine lv_aload_n hx hb dX0_drop_0 rfl (lv_at hl 0 rfl) ?_
  refine va_get (D := (dC, dI)) (ci := 0) (v := .ref g) (C := RX0) (T := TX0) (N := 5) hx hb hts in_X0 hown hK hP 0 rfl rfl 0 (by decide) (hts _ q99) (fun _ h9 => h9) rfl dX0_drop_1 ?_
  refine va_get (D := (dC, dI)) (ci := 1) (v := .int (nI gN)) (C := RX1) (T := TX1) (N := 3) hx hb hts in_X1 hown hK hP 5 rfl rfl 2 (by decide) (hts _ q43) (fun _ h9 => h9) rfl dX0_drop_4 ?_
  refine lv_if_ne (tgt := 12) hx hb dX0_drop_7 (by decide) (fun c_1 => ?_) (fun c_1 => ?_)
  · have hN : 0 < gN := Nat.pos_of_ne_zero (fun e => c_1 (by rw [e]; rfl))
    refine lv_aload_n hx hb dX0_drop_12 rfl (lv_at hl 0 rfl) ?_
    refine va_get (D := (dC, dI)) (ci := 0) (v := .ref g) (C := RX0) (T := TX0) (N := 5) hx hb hts in_X0 hown hK hP 0 rfl rfl 0 (by decide) (hts _ q99) (fun _ h9 => h9) rfl dX0_drop_13 ?_
    refine lv_dup hx hb dX0_drop_16 rfl ?_
    refine va_get (D := (dC, dI)) (ci := 1) (v := .int (nI gN)) (C := RX1) (T := TX1) (N := 3) hx hb hts in_X1 hown hK hP 5 rfl rfl 2 (by decide) (hts _ q43) (fun _ h9 => h9) rfl dX0_drop_17 ?_
    refine lv_iconst (v := 1) hx hb dX0_drop_20 (by decide) ?_
    refine lv_isub hx hb dX0_drop_21 ?_
    refine wk_top (y := nI (gN - 1)) (pk_sub (b := 1) hN) ?_
    refine va_put (D := (dC, dI)) (ci := 1) (v := .int (nI (gN - 1))) (ty := .int) (C := RX1) (T := TX1) (N := 3) hx hb hts in_X1 tyX1 tyX1_ok nmX1 hown hK hP hD hS 5 rfl rfl 2 (by decide) (hts _ q43) (fun _ h9 => h9) rfl (by decide +kernel) rfl rfl (Nat.le_of_ble_eq_true rfl) dX0_drop_22 (fun H locs hP hD hS => ?_)
    have hP : va_P (dC, dI) vwCl [(h, .inr (0, [.ref g, .ref sh, .ref ct, .int (nI n), .int fo])), (sh, .inr (2, [.ref g, .ref ln, .ref hv, .ref hw, .ref ht, .int td, .int lvs, .int k, .int t])), (hv, .inl (d, 12, .inl lv)), (hw, .inl (d, 12, .inl wy)), (ht, .inl (d, 12, .inl tr)), (g, .inr (1, [.ref a1, .ref a2, .int (nI (gN - 1))])), (a1, .inl (d, 256, .inl gy)), (a2, .inl (d, 256, .inl gq)), (ln, .inr (1, [.ref b1, .ref b2, .int (nI lN)])), (b1, .inl (d, 6200, .inl ly)), (b2, .inl (d, 6200, .inl lq)), (ct, .inr (3, [.ref g]))] H := hP
    have hD : va_D A [(h, .inr (0, [.ref g, .ref sh, .ref ct, .int (nI n), .int fo])), (sh, .inr (2, [.ref g, .ref ln, .ref hv, .ref hw, .ref ht, .int td, .int lvs, .int k, .int t])), (hv, .inl (d, 12, .inl lv)), (hw, .inl (d, 12, .inl wy)), (ht, .inl (d, 12, .inl tr)), (g, .inr (1, [.ref a1, .ref a2, .int (nI (gN - 1))])), (a1, .inl (d, 256, .inl gy)), (a2, .inl (d, 256, .inl gq)), (ln, .inr (1, [.ref b1, .ref b2, .int (nI lN)])), (b1, .inl (d, 6200, .inl ly)), (b2, .inl (d, 6200, .inl lq)), (ct, .inr (3, [.ref g]))] := hD
    refine lv_aload_n hx hb dX0_drop_25 rfl (lv_at hl 0 rfl) ?_
    refine va_get (D := (dC, dI)) (ci := 0) (v := .ref sh) (C := RX0) (T := TX0) (N := 5) hx hb hts in_X0 hown hK hP 0 rfl rfl 1 (by decide) (hts _ q100) (fun _ h9 => h9) rfl dX0_drop_26 ?_
    have hK0 := hK
    have hK : va_K (dC, dI) vwCl [] s := hK.sub [] rfl
    have hPc := hP.sub (ws' := [(sh, .inr (2, [.ref g, .ref ln, .ref hv, .ref hw, .ref ht, .int td, .int lvs, .int k, .int t])), (ln, .inr (1, [.ref b1, .ref b2, .int (nI lN)]))]) [1, 8] rfl
    have hDc := hD.sub (ws' := [(sh, .inr (2, [.ref g, .ref ln, .ref hv, .ref hw, .ref ht, .int td, .int lvs, .int k, .int t])), (ln, .inr (1, [.ref b1, .ref b2, .int (nI lN)]))]) [1, 8] (by decide) rfl
    refine wk_cv (wr := [(h, .inr (0, [.ref g, .ref sh, .ref ct, .int (nI n), .int fo])), (hv, .inl (d, 12, .inl lv)), (hw, .inl (d, 12, .inl wy)), (ht, .inl (d, 12, .inl tr)), (g, .inr (1, [.ref a1, .ref a2, .int (nI (gN - 1))])), (a1, .inl (d, 256, .inl gy)), (a2, .inl (d, 256, .inl gq)), (b1, .inl (d, 6200, .inl ly)), (b2, .inl (d, 6200, .inl lq)), (ct, .inr (3, [.ref g]))]) (wn := fun (u : Unit) => [(h, .inr (0, [.ref g, .ref sh, .ref ct, .int (nI n), .int fo])), (sh, .inr (2, [.ref g, .ref ln, .ref hv, .ref hw, .ref ht, .int td, .int lvs, .int k, .int t])), (hv, .inl (d, 12, .inl lv)), (hw, .inl (d, 12, .inl wy)), (ht, .inl (d, 12, .inl tr)), (g, .inr (1, [.ref a1, .ref a2, .int (nI (gN - 1))])), (a1, .inl (d, 256, .inl gy)), (a2, .inl (d, 256, .inl gq)), (ln, .inr (1, [.ref b1, .ref b2, .int 0])), (b1, .inl (d, 6200, .inl ly)), (b2, .inl (d, 6200, .inl lq)), (ct, .inr (3, [.ref g]))]) (va_runV (As := []) (rest := []) ⟨hx, hb, hml, hown, hts⟩ (metX2_forget l dC dI d H.size sh g ln hv hw ht b1 b2 td lvs k t (nI lN)) (cwV 0 hts (lw_V q120 q121 q122 q16 q123) rfl rfl rfl (by decide +kernel) ⟨Nat.le_of_ble_eq_true rfl, Nat.le_of_ble_eq_true rfl⟩) (wk_M.preV (q := (RX2, TX2, 9)) (ci := 2) (q0 := 0) hK hPc hDc rfl rfl) rfl rfl hl.1 rfl (lv_room (Nat.le_of_ble_eq_true rfl)) dX0_drop_29 ⟨Nat.le_of_ble_eq_true rfl, Nat.le_of_ble_eq_true rfl⟩) hP hD hS hA [1, 8] [0, 2, 3, 4, 5, 6, 7, 9, 10, 11] [0, 10, 1, 2, 3, 4, 5, 6, 11, 7, 8, 9] rfl rfl (by decide) (by decide) (by decide) (fun _ => rfl) (fun u H locs hp hK hP hD hS => ?_)
    have hP : va_P (dC, dI) vwCl [(h, .inr (0, [.ref g, .ref sh, .ref ct, .int (nI n), .int fo])), (sh, .inr (2, [.ref g, .ref ln, .ref hv, .ref hw, .ref ht, .int td, .int lvs, .int k, .int t])), (hv, .inl (d, 12, .inl lv)), (hw, .inl (d, 12, .inl wy)), (ht, .inl (d, 12, .inl tr)), (g, .inr (1, [.ref a1, .ref a2, .int (nI (gN - 1))])), (a1, .inl (d, 256, .inl gy)), (a2, .inl (d, 256, .inl gq)), (ln, .inr (1, [.ref b1, .ref b2, .int 0])), (b1, .inl (d, 6200, .inl ly)), (b2, .inl (d, 6200, .inl lq)), (ct, .inr (3, [.ref g]))] H := hP
    have hD : va_D A [(h, .inr (0, [.ref g, .ref sh, .ref ct, .int (nI n), .int fo])), (sh, .inr (2, [.ref g, .ref ln, .ref hv, .ref hw, .ref ht, .int td, .int lvs, .int k, .int t])), (hv, .inl (d, 12, .inl lv)), (hw, .inl (d, 12, .inl wy)), (ht, .inl (d, 12, .inl tr)), (g, .inr (1, [.ref a1, .ref a2, .int (nI (gN - 1))])), (a1, .inl (d, 256, .inl gy)), (a2, .inl (d, 256, .inl gq)), (ln, .inr (1, [.ref b1, .ref b2, .int 0])), (b1, .inl (d, 6200, .inl ly)), (b2, .inl (d, 6200, .inl lq)), (ct, .inr (3, [.ref g]))] := hD
    have hK := hK0
    have hP : va_P (dC, dI) vwCl [(h, .inr (0, [.ref g, .ref sh, .ref ct, .int (nI n), .int fo])), (sh, .inr (2, [.ref g, .ref ln, .ref hv, .ref hw, .ref ht, .int td, .int lvs, .int k, .int t])), (hv, .inl (d, 12, .inl lv)), (hw, .inl (d, 12, .inl wy)), (ht, .inl (d, 12, .inl tr)), (g, .inr (1, [.ref a1, .ref a2, .int (nI (gN - 1))])), (a1, .inl (d, 256, .inl gy)), (a2, .inl (d, 256, .inl gq)), (ln, .inr (1, [.ref b1, .ref b2, .int (nI 0)])), (b1, .inl (d, 6200, .inl ly)), (b2, .inl (d, 6200, .inl lq)), (ct, .inr (3, [.ref g]))] H := hP
    have hD : va_D A [(h, .inr (0, [.ref g, .ref sh, .ref ct, .int (nI n), .int fo])), (sh, .inr (2, [.ref g, .ref ln, .ref hv, .ref hw, .ref ht, .int td, .int lvs, .int k, .int t])), (hv, .inl (d, 12, .inl lv)), (hw, .inl (d, 12, .inl wy)), (ht, .inl (d, 12, .inl tr)), (g, .inr (1, [.ref a1, .ref a2, .int (nI (gN - 1))])), (a1, .inl (d, 256, .inl gy)), (a2, .inl (d, 256, .inl gq)), (ln, .inr (1, [.ref b1, .ref b2, .int (nI 0)])), (b1, .inl (d, 6200, .inl ly)), (b2, .inl (d, 6200, .inl lq)), (ct, .inr (3, [.ref g]))] := hD
    refine lv_iconst (v := 1) hx hb dX0_drop_32 (by decide) ?_
    exact wk_zret ((gN - 1, 0)) hx hb hr hlocks (by decide) (Or.inr ⟨hN, rfl, rfl⟩) hK hP hD hS dX0_drop_33
  · refine lv_iconst (v := 0) hx hb dX0_drop_10 (by decide) ?_
    exact wk_zret ((gN, lN)) hx hb hr hlocks (by decide) (Or.inl ⟨(nI_eq (b := 0) (by omega) (by omega)).mp c_1, rfl, rfl⟩) hK hP hD hS dX0_drop_11
def ds_post (n gN : Nat) (gy gq : Nat → Int32) (fx vs r : Int32) (u : rn_S × Int32) : Prop := rn_post n gN gy gq (fx &&& ((1 : Int32) <<< (nI n &&& 31) - 1)) vs r u.1 ∧ u.2 = if r = 0 then -1 else u.1.2.2.2.2.2.2.1 &&& ((1 : Int32) <<< (nI n &&& 31) - 1)
set_option maxHeartbeats 4000000 in
set_option maxRecDepth 100000 in
theorem metX0_solve (l : Launch) (dC : Nat → ClassId) (dI : Nat → Nat → Nat) (d : ClassId) (sz : Nat) (h sh g ln hv hw ht a1 a2 b1 b2 ct : Nat) (n gN lN : Nat) (gy gq ly lq lv wy tr : Nat → Int32) (td lvs k t fo : Int32) (fx vs : Int32) (k_n : n ≤ 12) (k_go : sp_gok n gN gy gq) (k_lo : sp_lok n gN gy gq lN ly lq) (k_lN : lN ≤ 6200) : Met l yX0_solve (ws_ yX0_solve cX0_solve 4 (some .boolean)) ({ frames := 4, cells := 0, slots := 0, locals := 130 }) (wk_M (dC, dI) [(d, .int)] [(h, .inr (0, [.ref g, .ref sh, .ref ct, .int (nI n), .int fo])), (sh, .inr (2, [.ref g, .ref ln, .ref hv, .ref hw, .ref ht, .int td, .int lvs, .int k, .int t])), (hv, .inl (d, 12, .inl lv)), (hw, .inl (d, 12, .inl wy)), (ht, .inl (d, 12, .inl tr)), (g, .inr (1, [.ref a1, .ref a2, .int (nI gN)])), (a1, .inl (d, 256, .inl gy)), (a2, .inl (d, 256, .inl gq)), (ln, .inr (1, [.ref b1, .ref b2, .int (nI lN)])), (b1, .inl (d, 6200, .inl ly)), (b2, .inl (d, 6200, .inl lq)), (ct, .inr (3, [.ref g]))] [.ref h, .int fx, .int vs] sz) (va_Qi (ds_post n gN gy gq fx vs) (wk_B (dC, dI) [(d, .int)] (va_A [(h, .inr (0, [.ref g, .ref sh, .ref ct, .int (nI n), .int fo])), (sh, .inr (2, [.ref g, .ref ln, .ref hv, .ref hw, .ref ht, .int td, .int lvs, .int k, .int t])), (hv, .inl (d, 12, .inl lv)), (hw, .inl (d, 12, .inl wy)), (ht, .inl (d, 12, .inl tr)), (g, .inr (1, [.ref a1, .ref a2, .int (nI gN)])), (a1, .inl (d, 256, .inl gy)), (a2, .inl (d, 256, .inl gq)), (ln, .inr (1, [.ref b1, .ref b2, .int (nI lN)])), (b1, .inl (d, 6200, .inl ly)), (b2, .inl (d, 6200, .inl lq)), (ct, .inr (3, [.ref g]))] sz) (fun u : rn_S × Int32 => [(h, .inr (0, [.ref g, .ref sh, .ref ct, .int (nI n), .int u.2])), (sh, .inr (2, [.ref g, .ref ln, .ref hv, .ref hw, .ref ht, .int u.1.2.2.2.1, .int u.1.2.2.2.2.1, .int u.1.2.2.2.2.2.1, .int u.1.2.2.2.2.2.2.1])), (hv, .inl (d, 12, .inl u.1.1)), (hw, .inl (d, 12, .inl u.1.2.1)), (ht, .inl (d, 12, .inl u.1.2.2.1)), (g, .inr (1, [.ref a1, .ref a2, .int (nI gN)])), (a1, .inl (d, 256, .inl gy)), (a2, .inl (d, 256, .inl gq)), (ln, .inr (1, [.ref b1, .ref b2, .int (nI u.1.2.2.2.2.2.2.2.1)])), (b1, .inl (d, 6200, .inl u.1.2.2.2.2.2.2.2.2.1)), (b2, .inl (d, 6200, .inl u.1.2.2.2.2.2.2.2.2.2)), (ct, .inr (3, [.ref g]))])) (va_A [(h, .inr (0, [.ref g, .ref sh, .ref ct, .int (nI n), .int fo])), (sh, .inr (2, [.ref g, .ref ln, .ref hv, .ref hw, .ref ht, .int td, .int lvs, .int k, .int t])), (hv, .inl (d, 12, .inl lv)), (hw, .inl (d, 12, .inl wy)), (ht, .inl (d, 12, .inl tr)), (g, .inr (1, [.ref a1, .ref a2, .int (nI gN)])), (a1, .inl (d, 256, .inl gy)), (a2, .inl (d, 256, .inl gq)), (ln, .inr (1, [.ref b1, .ref b2, .int (nI lN)])), (b1, .inl (d, 6200, .inl ly)), (b2, .inl (d, 6200, .inl lq)), (ct, .inr (3, [.ref g]))] sz)) 0 0 (va_A [(h, .inr (0, [.ref g, .ref sh, .ref ct, .int (nI n), .int fo])), (sh, .inr (2, [.ref g, .ref ln, .ref hv, .ref hw, .ref ht, .int td, .int lvs, .int k, .int t])), (hv, .inl (d, 12, .inl lv)), (hw, .inl (d, 12, .inl wy)), (ht, .inl (d, 12, .inl tr)), (g, .inr (1, [.ref a1, .ref a2, .int (nI gN)])), (a1, .inl (d, 256, .inl gy)), (a2, .inl (d, 256, .inl gq)), (ln, .inr (1, [.ref b1, .ref b2, .int (nI lN)])), (b1, .inl (d, 6200, .inl ly)), (b2, .inl (d, 6200, .inl lq)), (ct, .inr (3, [.ref g]))] sz) := by
  refine Met.ofW (cc := cX0_solve) (maxL := 4) (ret := some .boolean) (by decide) rfl ?_
  intro p e s m args below meth c s₁ Bd hml hv
  obtain ⟨rfl, hsz, hP, hK, hD0⟩ := hv
  have hx := Bd.exec
  have hb := Bd.bytes
  have hr := Bd.returns
  have hts := atoms_spec (ws := ws_ yX0_solve cX0_solve 4 (some .boolean)) Bd.pre
  have hts : ∀ w ∈ lw_all, w.before _ s = true := fun w h => hts w (List.mem_cons_of_mem _ h)
  have hown : s.vm.findClass RX0 = some m.cls := findClass_of_methodNamed Bd.named
  have hlocks := Bd.notSynchronized
  have hK : va_K (dC, dI) vwCl [(d, .int)] s := hK
  subst hsz
  have hD := hD0.self (sz := s.heap.size)
  generalize hAe : va_A [(h, .inr (0, [.ref g, .ref sh, .ref ct, .int (nI n), .int fo])), (sh, .inr (2, [.ref g, .ref ln, .ref hv, .ref hw, .ref ht, .int td, .int lvs, .int k, .int t])), (hv, .inl (d, 12, .inl lv)), (hw, .inl (d, 12, .inl wy)), (ht, .inl (d, 12, .inl tr)), (g, .inr (1, [.ref a1, .ref a2, .int (nI gN)])), (a1, .inl (d, 256, .inl gy)), (a2, .inl (d, 256, .inl gq)), (ln, .inr (1, [.ref b1, .ref b2, .int (nI lN)])), (b1, .inl (d, 6200, .inl ly)), (b2, .inl (d, 6200, .inl lq)), (ct, .inr (3, [.ref g]))] s.heap.size = A at hD ⊢
  have hA : ∀ q : Nat, s.heap.size ≤ q → A q := fun q h => by rw [← hAe]; exact Or.inr h
  have hS : va_S A s.heap s.heap [] := va_S.rf
  have hP : va_P (dC, dI) vwCl [(h, .inr (0, [.ref g, .ref sh, .ref ct, .int (nI n), .int fo])), (sh, .inr (2, [.ref g, .ref ln, .ref hv, .ref hw, .ref ht, .int td, .int lvs, .int k, .int t])), (hv, .inl (d, 12, .inl lv)), (hw, .inl (d, 12, .inl wy)), (ht, .inl (d, 12, .inl tr)), (g, .inr (1, [.ref a1, .ref a2, .int (nI gN)])), (a1, .inl (d, 256, .inl gy)), (a2, .inl (d, 256, .inl gq)), (ln, .inr (1, [.ref b1, .ref b2, .int (nI lN)])), (b1, .inl (d, 6200, .inl ly)), (b2, .inl (d, 6200, .inl lq)), (ct, .inr (3, [.ref g]))] s.heap := hP
  have hl := lv_entry ([.ref h, .int fx, .int vs]) (n := 4) (Nat.le_of_ble_eq_true rfl)
  rw [lg_entry_eq]
  generalize (lg_sl ([.ref h, .int fx, .int vs]) ++ List.replicate (4 - (lg_sl ([.ref h, .int fx, .int vs])).length) Slot.unset).toArray = ls at hl ⊢
  have hl : lv_has ls 4 [(0, .ref h), (1, .int fx), (2, .int vs)] := hl
  refine lv_aload_n hx hb dX0_solve_0 rfl (lv_at hl 0 rfl) ?_
  refine va_get (D := (dC, dI)) (ci := 0) (v := .ref sh) (C := RX0) (T := TX0) (N := 5) hx hb hts in_X0 hown hK hP 0 rfl rfl 1 (by decide) (hts _ q100) (fun _ h9 => h9) rfl dX0_solve_1 ?_
  refine lv_aload_n hx hb dX0_solve_4 rfl (lv_at hl 0 rfl) ?_
  refine va_get (D := (dC, dI)) (ci := 0) (v := .int (nI n)) (C := RX0) (T := TX0) (N := 5) hx hb hts in_X0 hown hK hP 0 rfl rfl 3 (by decide) (hts _ q102) (fun _ h9 => h9) rfl dX0_solve_5 ?_
  refine lv_iload_n hx hb dX0_solve_8 rfl (lv_at hl 1 rfl) ?_
  refine lv_aload_n hx hb dX0_solve_9 rfl (lv_at hl 0 rfl) ?_
  have hK0 := hK
  have hK : va_K (dC, dI) vwCl [] s := hK.sub [] rfl
  have hPc := hP.sub (ws' := [(h, .inr (0, [.ref g, .ref sh, .ref ct, .int (nI n), .int fo]))]) [0] rfl
  refine vp_callSi (W.runV (As := []) (rest := [.int fx, .int (nI n), .ref sh]) ⟨hx, hb, hml, hown, hts⟩ (metX0_all l dC dI d h g sh ct n fo) (cwV 0 hts (lw_V q128 q130 qs0 q14 q131) rfl rfl rfl (by decide +kernel) ⟨Nat.le_of_ble_eq_true rfl, Nat.le_of_ble_eq_true rfl⟩) (wk_R.preV (q := (RX0, TX0, 5)) (ci := 0) (q0 := 0) hK hPc rfl rfl) rfl rfl hl.1 rfl (lv_room (Nat.le_of_ble_eq_true rfl)) dX0_solve_10 ⟨Nat.le_of_ble_eq_true rfl, Nat.le_of_ble_eq_true rfl⟩) (fun r9 hr9 => ?_)
  have hK := hK0
  refine wk_top (y := (1 : Int32) <<< (nI n &&& 31) - 1) (hr9) ?_
  refine lv_iand hx hb dX0_solve_13 ?_
  refine lv_iload_n hx hb dX0_solve_14 rfl (lv_at hl 2 rfl) ?_
  have hPc := hP.sub (ws' := [(sh, .inr (2, [.ref g, .ref ln, .ref hv, .ref hw, .ref ht, .int td, .int lvs, .int k, .int t])), (hv, .inl (d, 12, .inl lv)), (hw, .inl (d, 12, .inl wy)), (ht, .inl (d, 12, .inl tr)), (g, .inr (1, [.ref a1, .ref a2, .int (nI gN)])), (a1, .inl (d, 256, .inl gy)), (a2, .inl (d, 256, .inl gq)), (ln, .inr (1, [.ref b1, .ref b2, .int (nI lN)])), (b1, .inl (d, 6200, .inl ly)), (b2, .inl (d, 6200, .inl lq))]) [1, 2, 3, 4, 5, 6, 7, 8, 9, 10] rfl
  have hDc := hD.sub (ws' := [(sh, .inr (2, [.ref g, .ref ln, .ref hv, .ref hw, .ref ht, .int td, .int lvs, .int k, .int t])), (hv, .inl (d, 12, .inl lv)), (hw, .inl (d, 12, .inl wy)), (ht, .inl (d, 12, .inl tr)), (g, .inr (1, [.ref a1, .ref a2, .int (nI gN)])), (a1, .inl (d, 256, .inl gy)), (a2, .inl (d, 256, .inl gq)), (ln, .inr (1, [.ref b1, .ref b2, .int (nI lN)])), (b1, .inl (d, 6200, .inl ly)), (b2, .inl (d, 6200, .inl lq))]) [1, 2, 3, 4, 5, 6, 7, 8, 9, 10] (by decide) rfl
  refine wk_ci (wr := [(h, .inr (0, [.ref g, .ref sh, .ref ct, .int (nI n), .int fo])), (ct, .inr (3, [.ref g]))]) (wn := fun (u : rn_S) => [(h, .inr (0, [.ref g, .ref sh, .ref ct, .int (nI n), .int fo])), (sh, .inr (2, [.ref g, .ref ln, .ref hv, .ref hw, .ref ht, .int u.2.2.2.1, .int u.2.2.2.2.1, .int u.2.2.2.2.2.1, .int u.2.2.2.2.2.2.1])), (hv, .inl (d, 12, .inl u.1)), (hw, .inl (d, 12, .inl u.2.1)), (ht, .inl (d, 12, .inl u.2.2.1)), (g, .inr (1, [.ref a1, .ref a2, .int (nI gN)])), (a1, .inl (d, 256, .inl gy)), (a2, .inl (d, 256, .inl gq)), (ln, .inr (1, [.ref b1, .ref b2, .int (nI u.2.2.2.2.2.2.2.1)])), (b1, .inl (d, 6200, .inl u.2.2.2.2.2.2.2.2.1)), (b2, .inl (d, 6200, .inl u.2.2.2.2.2.2.2.2.2)), (ct, .inr (3, [.ref g]))]) (va_runV (As := [.int (nI n), .int (fx &&& ((1 : Int32) <<< (nI n &&& 31) - 1)), .int vs]) (rest := []) ⟨hx, hb, hml, hown, hts⟩ (metX2_run l dC dI d s.heap.size sh g ln hv hw ht a1 a2 b1 b2 n gN lN gy gq ly lq (fx &&& ((1 : Int32) <<< (nI n &&& 31) - 1)) vs td lvs k t lv wy tr k_n k_go k_lo k_lN) (cwV 3 hts (lw_V q144 q145 q146 q16 q147) rfl rfl rfl (by decide +kernel) ⟨Nat.le_of_ble_eq_true rfl, Nat.le_of_ble_eq_true rfl⟩) (wk_M.preV (q := (RX2, TX2, 9)) (ci := 2) (q0 := 0) hK hPc hDc rfl rfl) rfl rfl hl.1 rfl (lv_room (Nat.le_of_ble_eq_true rfl)) dX0_solve_15 ⟨Nat.le_of_ble_eq_true rfl, Nat.le_of_ble_eq_true rfl⟩) hP hD hS hA [1, 2, 3, 4, 5, 6, 7, 8, 9, 10] [0, 11] [0, 2, 3, 4, 5, 6, 7, 8, 9, 10, 11, 1] rfl rfl (by decide) (by decide) (by decide) (fun _ => rfl) (fun r1 u H locs hp hK hP hD hS => ?_)
  have hP : va_P (dC, dI) vwCl [(h, .inr (0, [.ref g, .ref sh, .ref ct, .int (nI n), .int fo])), (sh, .inr (2, [.ref g, .ref ln, .ref hv, .ref hw, .ref ht, .int u.2.2.2.1, .int u.2.2.2.2.1, .int u.2.2.2.2.2.1, .int u.2.2.2.2.2.2.1])), (hv, .inl (d, 12, .inl u.1)), (hw, .inl (d, 12, .inl u.2.1)), (ht, .inl (d, 12, .inl u.2.2.1)), (g, .inr (1, [.ref a1, .ref a2, .int (nI gN)])), (a1, .inl (d, 256, .inl gy)), (a2, .inl (d, 256, .inl gq)), (ln, .inr (1, [.ref b1, .ref b2, .int (nI u.2.2.2.2.2.2.2.1)])), (b1, .inl (d, 6200, .inl u.2.2.2.2.2.2.2.2.1)), (b2, .inl (d, 6200, .inl u.2.2.2.2.2.2.2.2.2)), (ct, .inr (3, [.ref g]))] H := hP
  have hD : va_D A [(h, .inr (0, [.ref g, .ref sh, .ref ct, .int (nI n), .int fo])), (sh, .inr (2, [.ref g, .ref ln, .ref hv, .ref hw, .ref ht, .int u.2.2.2.1, .int u.2.2.2.2.1, .int u.2.2.2.2.2.1, .int u.2.2.2.2.2.2.1])), (hv, .inl (d, 12, .inl u.1)), (hw, .inl (d, 12, .inl u.2.1)), (ht, .inl (d, 12, .inl u.2.2.1)), (g, .inr (1, [.ref a1, .ref a2, .int (nI gN)])), (a1, .inl (d, 256, .inl gy)), (a2, .inl (d, 256, .inl gq)), (ln, .inr (1, [.ref b1, .ref b2, .int (nI u.2.2.2.2.2.2.2.1)])), (b1, .inl (d, 6200, .inl u.2.2.2.2.2.2.2.2.1)), (b2, .inl (d, 6200, .inl u.2.2.2.2.2.2.2.2.2)), (ct, .inr (3, [.ref g]))] := hD
  have hr01 : r1 = 0 ∨ r1 = 1 := by
    rcases hp.2.2 with q | q
    · exact Or.inr q.1
    · exact Or.inl q.1
  refine lv_istore_n (lv' := [(3, .int r1), (0, .ref h), (1, .int fx), (2, .int vs)]) hx hb dX0_solve_18 rfl hl (by decide) rfl (fun ls hl => ?_)
  refine lv_aload_n hx hb dX0_solve_19 rfl (lv_at hl 1 rfl) ?_
  refine lv_iload_n hx hb dX0_solve_20 rfl (lv_at hl 0 rfl) ?_
  refine lv_if_eq (tgt := 39) hx hb dX0_solve_21 (by decide) (fun c_1 => ?_) (fun c_1 => ?_)
  · refine lv_iconst (v := (-1)) hx hb dX0_solve_39 (by decide) ?_
    refine va_put (D := (dC, dI)) (ci := 0) (v := .int (-1)) (ty := .int) (C := RX0) (T := TX0) (N := 5) hx hb hts in_X0 tyX0 tyX0_ok nmX0 hown hK hP hD hS 0 rfl rfl 4 (by decide) (hts _ q103) (fun _ h9 => h9) rfl (by decide +kernel) rfl rfl (Nat.le_of_ble_eq_true rfl) dX0_solve_40 (fun H locs hP hD hS => ?_)
    have hP : va_P (dC, dI) vwCl [(h, .inr (0, [.ref g, .ref sh, .ref ct, .int (nI n), .int (-1)])), (sh, .inr (2, [.ref g, .ref ln, .ref hv, .ref hw, .ref ht, .int u.2.2.2.1, .int u.2.2.2.2.1, .int u.2.2.2.2.2.1, .int u.2.2.2.2.2.2.1])), (hv, .inl (d, 12, .inl u.1)), (hw, .inl (d, 12, .inl u.2.1)), (ht, .inl (d, 12, .inl u.2.2.1)), (g, .inr (1, [.ref a1, .ref a2, .int (nI gN)])), (a1, .inl (d, 256, .inl gy)), (a2, .inl (d, 256, .inl gq)), (ln, .inr (1, [.ref b1, .ref b2, .int (nI u.2.2.2.2.2.2.2.1)])), (b1, .inl (d, 6200, .inl u.2.2.2.2.2.2.2.2.1)), (b2, .inl (d, 6200, .inl u.2.2.2.2.2.2.2.2.2)), (ct, .inr (3, [.ref g]))] H := hP
    have hD : va_D A [(h, .inr (0, [.ref g, .ref sh, .ref ct, .int (nI n), .int (-1)])), (sh, .inr (2, [.ref g, .ref ln, .ref hv, .ref hw, .ref ht, .int u.2.2.2.1, .int u.2.2.2.2.1, .int u.2.2.2.2.2.1, .int u.2.2.2.2.2.2.1])), (hv, .inl (d, 12, .inl u.1)), (hw, .inl (d, 12, .inl u.2.1)), (ht, .inl (d, 12, .inl u.2.2.1)), (g, .inr (1, [.ref a1, .ref a2, .int (nI gN)])), (a1, .inl (d, 256, .inl gy)), (a2, .inl (d, 256, .inl gq)), (ln, .inr (1, [.ref b1, .ref b2, .int (nI u.2.2.2.2.2.2.2.1)])), (b1, .inl (d, 6200, .inl u.2.2.2.2.2.2.2.2.1)), (b2, .inl (d, 6200, .inl u.2.2.2.2.2.2.2.2.2)), (ct, .inr (3, [.ref g]))] := hD
    refine lv_iload_n hx hb dX0_solve_43 rfl (lv_at hl 0 rfl) ?_
    exact wk_zret ((u, -1)) hx hb hr hlocks (hr01) (⟨hp, by rw [if_pos c_1]⟩) hK hP hD hS dX0_solve_44
  · refine lv_aload_n hx hb dX0_solve_24 rfl (lv_at hl 1 rfl) ?_
    refine va_get (D := (dC, dI)) (ci := 0) (v := .ref sh) (C := RX0) (T := TX0) (N := 5) hx hb hts in_X0 hown hK hP 0 rfl rfl 1 (by decide) (hts _ q100) (fun _ h9 => h9) rfl dX0_solve_25 ?_
    refine va_get (D := (dC, dI)) (ci := 2) (v := .int u.2.2.2.2.2.2.1) (C := RX2) (T := TX2) (N := 9) hx hb hts in_X2 hown hK hP 1 rfl rfl 8 (by decide) (hts _ q69) (fun _ h9 => h9) rfl dX0_solve_28 ?_
    refine lv_aload_n hx hb dX0_solve_31 rfl (lv_at hl 1 rfl) ?_
    have hK0 := hK
    have hK : va_K (dC, dI) vwCl [] s := hK.sub [] rfl
    have hPc := hP.sub (ws' := [(h, .inr (0, [.ref g, .ref sh, .ref ct, .int (nI n), .int fo]))]) [0] rfl
    refine vp_callSi (W.runV (As := []) (rest := [.int u.2.2.2.2.2.2.1, .ref h]) ⟨hx, hb, hml, hown, hts⟩ (metX0_all l dC dI d h g sh ct n fo) (cwV 0 hts (lw_V q128 q130 qs0 q14 q131) rfl rfl rfl (by decide +kernel) ⟨Nat.le_of_ble_eq_true rfl, Nat.le_of_ble_eq_true rfl⟩) (wk_R.preV (q := (RX0, TX0, 5)) (ci := 0) (q0 := 0) hK hPc rfl rfl) rfl rfl hl.1 rfl (lv_room (Nat.le_of_ble_eq_true rfl)) dX0_solve_32 ⟨Nat.le_of_ble_eq_true rfl, Nat.le_of_ble_eq_true rfl⟩) (fun r9 hr9 => ?_)
    have hK := hK0
    refine wk_top (y := (1 : Int32) <<< (nI n &&& 31) - 1) (hr9) ?_
    refine lv_iand hx hb dX0_solve_35 ?_
    refine lv_goto (tgt := 40) hx hb dX0_solve_36 (by decide) ?_
    refine va_put (D := (dC, dI)) (ci := 0) (v := .int (u.2.2.2.2.2.2.1 &&& ((1 : Int32) <<< (nI n &&& 31) - 1))) (ty := .int) (C := RX0) (T := TX0) (N := 5) hx hb hts in_X0 tyX0 tyX0_ok nmX0 hown hK hP hD hS 0 rfl rfl 4 (by decide) (hts _ q103) (fun _ h9 => h9) rfl (by decide +kernel) rfl rfl (Nat.le_of_ble_eq_true rfl) dX0_solve_40 (fun H locs hP hD hS => ?_)
    have hP : va_P (dC, dI) vwCl [(h, .inr (0, [.ref g, .ref sh, .ref ct, .int (nI n), .int (u.2.2.2.2.2.2.1 &&& ((1 : Int32) <<< (nI n &&& 31) - 1))])), (sh, .inr (2, [.ref g, .ref ln, .ref hv, .ref hw, .ref ht, .int u.2.2.2.1, .int u.2.2.2.2.1, .int u.2.2.2.2.2.1, .int u.2.2.2.2.2.2.1])), (hv, .inl (d, 12, .inl u.1)), (hw, .inl (d, 12, .inl u.2.1)), (ht, .inl (d, 12, .inl u.2.2.1)), (g, .inr (1, [.ref a1, .ref a2, .int (nI gN)])), (a1, .inl (d, 256, .inl gy)), (a2, .inl (d, 256, .inl gq)), (ln, .inr (1, [.ref b1, .ref b2, .int (nI u.2.2.2.2.2.2.2.1)])), (b1, .inl (d, 6200, .inl u.2.2.2.2.2.2.2.2.1)), (b2, .inl (d, 6200, .inl u.2.2.2.2.2.2.2.2.2)), (ct, .inr (3, [.ref g]))] H := hP
    have hD : va_D A [(h, .inr (0, [.ref g, .ref sh, .ref ct, .int (nI n), .int (u.2.2.2.2.2.2.1 &&& ((1 : Int32) <<< (nI n &&& 31) - 1))])), (sh, .inr (2, [.ref g, .ref ln, .ref hv, .ref hw, .ref ht, .int u.2.2.2.1, .int u.2.2.2.2.1, .int u.2.2.2.2.2.1, .int u.2.2.2.2.2.2.1])), (hv, .inl (d, 12, .inl u.1)), (hw, .inl (d, 12, .inl u.2.1)), (ht, .inl (d, 12, .inl u.2.2.1)), (g, .inr (1, [.ref a1, .ref a2, .int (nI gN)])), (a1, .inl (d, 256, .inl gy)), (a2, .inl (d, 256, .inl gq)), (ln, .inr (1, [.ref b1, .ref b2, .int (nI u.2.2.2.2.2.2.2.1)])), (b1, .inl (d, 6200, .inl u.2.2.2.2.2.2.2.2.1)), (b2, .inl (d, 6200, .inl u.2.2.2.2.2.2.2.2.2)), (ct, .inr (3, [.ref g]))] := hD
    refine lv_iload_n hx hb dX0_solve_43 rfl (lv_at hl 0 rfl) ?_
    exact wk_zret ((u, u.2.2.2.2.2.2.1 &&& ((1 : Int32) <<< (nI n &&& 31) - 1))) hx hb hr hlocks (hr01) (⟨hp, by rw [if_neg c_1]⟩) hK hP hD hS dX0_solve_44
theorem dk_pre {n gN : Nat} {gy gq : Nat → Int32} (hn : n ≤ 12) (hg : sp_gok n gN gy gq) : cw_pre gN gy gq 0 0 ((1 : Int32) <<< (nI n &&& 31) - 1) := by
  refine ⟨fun i hi => (by rw [b_0] at hi; cases hi), fun i hi => ?_, fun j hj => Or.inr (Or.inr (fun i hi => Or.inr ?_))⟩
  · rw [b_all (by omega), decide_eq_true_eq] at hi
    exact ⟨b_0 i, by omega⟩
  · rw [b_all (by omega), decide_eq_true_eq]
    exact hg.2 j hj i hi
set_option maxHeartbeats 4000000 in
set_option maxRecDepth 100000 in
theorem metX0_count (l : Launch) (dC : Nat → ClassId) (dI : Nat → Nat → Nat) (d : ClassId) (h sh g ln hv hw ht a1 a2 b1 b2 ct : Nat) (n gN lN : Nat) (gy gq ly lq lv wy tr : Nat → Int32) (td lvs k t fo : Int32) (k_n : n ≤ 12) (k_go : sp_gok n gN gy gq) : Met l yX0_count (ws_ yX0_count cX0_count 1 (some .int)) ({ frames := 40, cells := 0, slots := 0, locals := 900 }) (wk_R (dC, dI) [(d, .int)] [(h, .inr (0, [.ref g, .ref sh, .ref ct, .int (nI n), .int fo])), (sh, .inr (2, [.ref g, .ref ln, .ref hv, .ref hw, .ref ht, .int td, .int lvs, .int k, .int t])), (hv, .inl (d, 12, .inl lv)), (hw, .inl (d, 12, .inl wy)), (ht, .inl (d, 12, .inl tr)), (g, .inr (1, [.ref a1, .ref a2, .int (nI gN)])), (a1, .inl (d, 256, .inl gy)), (a2, .inl (d, 256, .inl gq)), (ln, .inr (1, [.ref b1, .ref b2, .int (nI lN)])), (b1, .inl (d, 6200, .inl ly)), (b2, .inl (d, 6200, .inl lq)), (ct, .inr (3, [.ref g]))] [.ref h]) (vp_Si (fun r : Int32 => r = nI (cw_n gN gy gq 0 0 ((1 : Int32) <<< (nI n &&& 31) - 1)))) 0 0 (fun _ => False) := by
  refine Met.ofW (cc := cX0_count) (maxL := 1) (ret := some .int) (by decide) rfl ?_
  intro p e s m args below meth c s₁ Bd hml hv
  obtain ⟨rfl, hP, hK⟩ := hv
  have hx := Bd.exec
  have hb := Bd.bytes
  have hr := Bd.returns
  have hts := atoms_spec (ws := ws_ yX0_count cX0_count 1 (some .int)) Bd.pre
  have hts : ∀ w ∈ lw_all, w.before _ s = true := fun w h => hts w (List.mem_cons_of_mem _ h)
  have hown : s.vm.findClass RX0 = some m.cls := findClass_of_methodNamed Bd.named
  have hlocks := Bd.notSynchronized
  have hK : va_K (dC, dI) vwCl [(d, .int)] s := hK
  have hP : va_P (dC, dI) vwCl [(h, .inr (0, [.ref g, .ref sh, .ref ct, .int (nI n), .int fo])), (sh, .inr (2, [.ref g, .ref ln, .ref hv, .ref hw, .ref ht, .int td, .int lvs, .int k, .int t])), (hv, .inl (d, 12, .inl lv)), (hw, .inl (d, 12, .inl wy)), (ht, .inl (d, 12, .inl tr)), (g, .inr (1, [.ref a1, .ref a2, .int (nI gN)])), (a1, .inl (d, 256, .inl gy)), (a2, .inl (d, 256, .inl gq)), (ln, .inr (1, [.ref b1, .ref b2, .int (nI lN)])), (b1, .inl (d, 6200, .inl ly)), (b2, .inl (d, 6200, .inl lq)), (ct, .inr (3, [.ref g]))] s.heap := hP
  have hl := lv_entry ([.ref h]) (n := 1) (Nat.le_of_ble_eq_true rfl)
  rw [lg_entry_eq]
  generalize (lg_sl ([.ref h]) ++ List.replicate (1 - (lg_sl ([.ref h])).length) Slot.unset).toArray = ls at hl ⊢
  have hl : lv_has ls 1 [(0, .ref h)] := hl
  refine lv_aload_n hx hb dX0_count_0 rfl (lv_at hl 0 rfl) ?_
  refine va_get (D := (dC, dI)) (ci := 0) (v := .ref ct) (C := RX0) (T := TX0) (N := 5) hx hb hts in_X0 hown hK hP 0 rfl rfl 2 (by decide) (hts _ q101) (fun _ h9 => h9) rfl dX0_count_1 ?_
  refine lv_aload_n hx hb dX0_count_4 rfl (lv_at hl 0 rfl) ?_
  have hK0 := hK
  have hK : va_K (dC, dI) vwCl [] s := hK.sub [] rfl
  have hPc := hP.sub (ws' := [(h, .inr (0, [.ref g, .ref sh, .ref ct, .int (nI n), .int fo]))]) [0] rfl
  refine vp_callSi (W.runV (As := []) (rest := [.ref ct]) ⟨hx, hb, hml, hown, hts⟩ (metX0_all l dC dI d h g sh ct n fo) (cwV 0 hts (lw_V q128 q130 qs0 q14 q131) rfl rfl rfl (by decide +kernel) ⟨Nat.le_of_ble_eq_true rfl, Nat.le_of_ble_eq_true rfl⟩) (wk_R.preV (q := (RX0, TX0, 5)) (ci := 0) (q0 := 0) hK hPc rfl rfl) rfl rfl hl.1 rfl (lv_room (Nat.le_of_ble_eq_true rfl)) dX0_count_5 ⟨Nat.le_of_ble_eq_true rfl, Nat.le_of_ble_eq_true rfl⟩) (fun r9 hr9 => ?_)
  have hK := hK0
  refine wk_top (y := (1 : Int32) <<< (nI n &&& 31) - 1) (hr9) ?_
  refine lv_iconst (v := 0) hx hb dX0_count_8 (by decide) ?_
  refine lv_iconst (v := 0) hx hb dX0_count_9 (by decide) ?_
  have hPc := hP.sub (ws' := [(ct, .inr (3, [.ref g])), (g, .inr (1, [.ref a1, .ref a2, .int (nI gN)])), (a1, .inl (d, 256, .inl gy)), (a2, .inl (d, 256, .inl gq))]) [11, 5, 6, 7] rfl
  refine vp_callSi (W.runV (As := [.int ((1 : Int32) <<< (nI n &&& 31) - 1), .int 0, .int 0]) (rest := []) ⟨hx, hb, hml, hown, hts⟩ (metX3_ways l dC dI d ct g a1 a2 gN gy gq k_go.1 12 ((1 : Int32) <<< (nI n &&& 31) - 1) 0 0 (dk_pre k_n k_go) (hc_le _ 12)) (cwV 3 hts (lw_V q204 q205 q206 q17 q207) rfl rfl rfl (by decide +kernel) ⟨Nat.le_of_ble_eq_true rfl, Nat.le_of_ble_eq_true rfl⟩) (wk_R.preV (q := (RX3, TX3, 1)) (ci := 3) (q0 := 0) hK hPc rfl rfl) rfl rfl hl.1 rfl (lv_room (Nat.le_of_ble_eq_true rfl)) dX0_count_10 ⟨Nat.le_of_ble_eq_true rfl, Nat.le_of_ble_eq_true rfl⟩) (fun r1 hr1 => ?_)
  exact wk_iretR hx hb hr hlocks (hr1) dX0_count_13
/-- letters that are the same in all rows -/
def df_ans (n gN : Nat) (gy gq : Nat → Int32) (r : Int32) : Prop := ∀ i, bt r i = true ↔ i < n ∧ ((∀ a, sp_G gN gy gq a → a i = true) ∨ (∀ a, sp_G gN gy gq a → a i = false))
def df_post (n gN : Nat) (gy gq : Nat → Int32) (r : Int32) (u : rn_S) : Prop := u.2.2.2.2.2.2.2.1 ≤ 6200 ∧ sp_lok n gN gy gq u.2.2.2.2.2.2.2.1 u.2.2.2.2.2.2.2.2.1 u.2.2.2.2.2.2.2.2.2 ∧ df_ans n gN gy gq r
def df_inv (n gN : Nat) (gy gq : Nat → Int32) (t0 : Int32) (i : Nat) (w : Int32) : Prop := (∀ z, bt w z = true → z < n) ∧ (∀ z, z < n → bt w z = false → ∃ a, sp_G gN gy gq a ∧ ¬ a z = bt t0 z) ∧ ∀ z, z < i → bt w z = true → ∀ a, sp_G gN gy gq a → a z = bt t0 z
theorem df_end {n gN : Nat} {gy gq : Nat → Int32} {t0 w : Int32} (h0 : sp_G gN gy gq (bt t0)) (h : df_inv n gN gy gq t0 n w) : df_ans n gN gy gq w := by
  intro i
  constructor
  · intro hi
    have hn := h.1 i hi
    refine ⟨hn, ?_⟩
    cases hv : bt t0 i
    · exact Or.inr (fun a ha => by rw [h.2.2 i hn hi a ha]; exact hv)
    · exact Or.inl (fun a ha => by rw [h.2.2 i hn hi a ha]; exact hv)
  · rintro ⟨hn, hs⟩
    cases hb : bt w i
    · obtain ⟨a, ha, hne⟩ := h.2.1 i hn hb
      exfalso
      apply hne
      rcases hs with hs | hs
      · rw [hs a ha, hs _ h0]
      · rw [hs a ha, hs _ h0]
    · rfl
set_option maxHeartbeats 4000000 in
set_option maxRecDepth 100000 in
theorem metX0_forced (l : Launch) (dC : Nat → ClassId) (dI : Nat → Nat → Nat) (d : ClassId) (sz : Nat) (h sh g ln hv hw ht a1 a2 b1 b2 ct : Nat) (n gN lN : Nat) (gy gq ly lq lv wy tr : Nat → Int32) (td lvs k t fo : Int32) (k_n : n ≤ 12) (k_go : sp_gok n gN gy gq) (k_lo : sp_lok n gN gy gq lN ly lq) (k_lN : lN ≤ 6200) : Met l yX0_forced (ws_ yX0_forced cX0_forced 4 (some .int)) ({ frames := 4, cells := 0, slots := 0, locals := 130 }) (wk_M (dC, dI) [(d, .int)] [(h, .inr (0, [.ref g, .ref sh, .ref ct, .int (nI n), .int fo])), (sh, .inr (2, [.ref g, .ref ln, .ref hv, .ref hw, .ref ht, .int td, .int lvs, .int k, .int t])), (hv, .inl (d, 12, .inl lv)), (hw, .inl (d, 12, .inl wy)), (ht, .inl (d, 12, .inl tr)), (g, .inr (1, [.ref a1, .ref a2, .int (nI gN)])), (a1, .inl (d, 256, .inl gy)), (a2, .inl (d, 256, .inl gq)), (ln, .inr (1, [.ref b1, .ref b2, .int (nI lN)])), (b1, .inl (d, 6200, .inl ly)), (b2, .inl (d, 6200, .inl lq)), (ct, .inr (3, [.ref g]))] [.ref h] sz) (va_Qi (df_post n gN gy gq) (wk_B (dC, dI) [(d, .int)] (va_A [(h, .inr (0, [.ref g, .ref sh, .ref ct, .int (nI n), .int fo])), (sh, .inr (2, [.ref g, .ref ln, .ref hv, .ref hw, .ref ht, .int td, .int lvs, .int k, .int t])), (hv, .inl (d, 12, .inl lv)), (hw, .inl (d, 12, .inl wy)), (ht, .inl (d, 12, .inl tr)), (g, .inr (1, [.ref a1, .ref a2, .int (nI gN)])), (a1, .inl (d, 256, .inl gy)), (a2, .inl (d, 256, .inl gq)), (ln, .inr (1, [.ref b1, .ref b2, .int (nI lN)])), (b1, .inl (d, 6200, .inl ly)), (b2, .inl (d, 6200, .inl lq)), (ct, .inr (3, [.ref g]))] sz) (fun u : rn_S => [(h, .inr (0, [.ref g, .ref sh, .ref ct, .int (nI n), .int fo])), (sh, .inr (2, [.ref g, .ref ln, .ref hv, .ref hw, .ref ht, .int u.2.2.2.1, .int u.2.2.2.2.1, .int u.2.2.2.2.2.1, .int u.2.2.2.2.2.2.1])), (hv, .inl (d, 12, .inl u.1)), (hw, .inl (d, 12, .inl u.2.1)), (ht, .inl (d, 12, .inl u.2.2.1)), (g, .inr (1, [.ref a1, .ref a2, .int (nI gN)])), (a1, .inl (d, 256, .inl gy)), (a2, .inl (d, 256, .inl gq)), (ln, .inr (1, [.ref b1, .ref b2, .int (nI u.2.2.2.2.2.2.2.1)])), (b1, .inl (d, 6200, .inl u.2.2.2.2.2.2.2.2.1)), (b2, .inl (d, 6200, .inl u.2.2.2.2.2.2.2.2.2)), (ct, .inr (3, [.ref g]))])) (va_A [(h, .inr (0, [.ref g, .ref sh, .ref ct, .int (nI n), .int fo])), (sh, .inr (2, [.ref g, .ref ln, .ref hv, .ref hw, .ref ht, .int td, .int lvs, .int k, .int t])), (hv, .inl (d, 12, .inl lv)), (hw, .inl (d, 12, .inl wy)), (ht, .inl (d, 12, .inl tr)), (g, .inr (1, [.ref a1, .ref a2, .int (nI gN)])), (a1, .inl (d, 256, .inl gy)), (a2, .inl (d, 256, .inl gq)), (ln, .inr (1, [.ref b1, .ref b2, .int (nI lN)])), (b1, .inl (d, 6200, .inl ly)), (b2, .inl (d, 6200, .inl lq)), (ct, .inr (3, [.ref g]))] sz)) 0 0 (va_A [(h, .inr (0, [.ref g, .ref sh, .ref ct, .int (nI n), .int fo])), (sh, .inr (2, [.ref g, .ref ln, .ref hv, .ref hw, .ref ht, .int td, .int lvs, .int k, .int t])), (hv, .inl (d, 12, .inl lv)), (hw, .inl (d, 12, .inl wy)), (ht, .inl (d, 12, .inl tr)), (g, .inr (1, [.ref a1, .ref a2, .int (nI gN)])), (a1, .inl (d, 256, .inl gy)), (a2, .inl (d, 256, .inl gq)), (ln, .inr (1, [.ref b1, .ref b2, .int (nI lN)])), (b1, .inl (d, 6200, .inl ly)), (b2, .inl (d, 6200, .inl lq)), (ct, .inr (3, [.ref g]))] sz) := by
  refine Met.ofW (cc := cX0_forced) (maxL := 4) (ret := some .int) (by decide) rfl ?_
  intro p e s m args below meth c s₁ Bd hml hv
  obtain ⟨rfl, hsz, hP, hK, hD0⟩ := hv
  have hx := Bd.exec
  have hb := Bd.bytes
  have hr := Bd.returns
  have hts := atoms_spec (ws := ws_ yX0_forced cX0_forced 4 (some .int)) Bd.pre
  have hts : ∀ w ∈ lw_all, w.before _ s = true := fun w h => hts w (List.mem_cons_of_mem _ h)
  have hown : s.vm.findClass RX0 = some m.cls := findClass_of_methodNamed Bd.named
  have hlocks := Bd.notSynchronized
  have hK : va_K (dC, dI) vwCl [(d, .int)] s := hK
  subst hsz
  have hD := hD0.self (sz := s.heap.size)
  generalize hAe : va_A [(h, .inr (0, [.ref g, .ref sh, .ref ct, .int (nI n), .int fo])), (sh, .inr (2, [.ref g, .ref ln, .ref hv, .ref hw, .ref ht, .int td, .int lvs, .int k, .int t])), (hv, .inl (d, 12, .inl lv)), (hw, .inl (d, 12, .inl wy)), (ht, .inl (d, 12, .inl tr)), (g, .inr (1, [.ref a1, .ref a2, .int (nI gN)])), (a1, .inl (d, 256, .inl gy)), (a2, .inl (d, 256, .inl gq)), (ln, .inr (1, [.ref b1, .ref b2, .int (nI lN)])), (b1, .inl (d, 6200, .inl ly)), (b2, .inl (d, 6200, .inl lq)), (ct, .inr (3, [.ref g]))] s.heap.size = A at hD ⊢
  have hA : ∀ q : Nat, s.heap.size ≤ q → A q := fun q h => by rw [← hAe]; exact Or.inr h
  have hS : va_S A s.heap s.heap [] := va_S.rf
  have hP : va_P (dC, dI) vwCl [(h, .inr (0, [.ref g, .ref sh, .ref ct, .int (nI n), .int fo])), (sh, .inr (2, [.ref g, .ref ln, .ref hv, .ref hw, .ref ht, .int td, .int lvs, .int k, .int t])), (hv, .inl (d, 12, .inl lv)), (hw, .inl (d, 12, .inl wy)), (ht, .inl (d, 12, .inl tr)), (g, .inr (1, [.ref a1, .ref a2, .int (nI gN)])), (a1, .inl (d, 256, .inl gy)), (a2, .inl (d, 256, .inl gq)), (ln, .inr (1, [.ref b1, .ref b2, .int (nI lN)])), (b1, .inl (d, 6200, .inl ly)), (b2, .inl (d, 6200, .inl lq)), (ct, .inr (3, [.ref g]))] s.heap := hP
  have hl := lv_entry ([.ref h]) (n := 4) (Nat.le_of_ble_eq_true rfl)
  rw [lg_entry_eq]
  generalize (lg_sl ([.ref h]) ++ List.replicate (4 - (lg_sl ([.ref h])).length) Slot.unset).toArray = ls at hl ⊢
  have hl : lv_has ls 4 [(0, .ref h)] := hl
  have loop : ∀ (N9 : Nat) (i lN : Nat) (t0 w9 : Int32) (lv wy tr ly lq : Nat → Int32) (td lvs k t : Int32), (n - i < N9) → (i ≤ n) → (lN ≤ 6200) → (sp_lok n gN gy gq lN ly lq) → (sp_G gN gy gq (bt t0)) → (df_inv n gN gy gq t0 i w9) → ∀ (H : Heap) (locs : List Loc), va_P (dC, dI) vwCl [(h, .inr (0, [.ref g, .ref sh, .ref ct, .int (nI n), .int fo])), (sh, .inr (2, [.ref g, .ref ln, .ref hv, .ref hw, .ref ht, .int td, .int lvs, .int k, .int t])), (hv, .inl (d, 12, .inl lv)), (hw, .inl (d, 12, .inl wy)), (ht, .inl (d, 12, .inl tr)), (g, .inr (1, [.ref a1, .ref a2, .int (nI gN)])), (a1, .inl (d, 256, .inl gy)), (a2, .inl (d, 256, .inl gq)), (ln, .inr (1, [.ref b1, .ref b2, .int (nI lN)])), (b1, .inl (d, 6200, .inl ly)), (b2, .inl (d, 6200, .inl lq)), (ct, .inr (3, [.ref g]))] H → va_D A [(h, .inr (0, [.ref g, .ref sh, .ref ct, .int (nI n), .int fo])), (sh, .inr (2, [.ref g, .ref ln, .ref hv, .ref hw, .ref ht, .int td, .int lvs, .int k, .int t])), (hv, .inl (d, 12, .inl lv)), (hw, .inl (d, 12, .inl wy)), (ht, .inl (d, 12, .inl tr)), (g, .inr (1, [.ref a1, .ref a2, .int (nI gN)])), (a1, .inl (d, 256, .inl gy)), (a2, .inl (d, 256, .inl gq)), (ln, .inr (1, [.ref b1, .ref b2, .int (nI lN)])), (b1, .inl (d, 6200, .inl ly)), (b2, .inl (d, 6200, .inl lq)), (ct, .inr (3, [.ref g]))] → va_S A s.heap H locs → ∀ (ls : Array Slot), lv_has ls 4 [(3, .int (nI i)), (2, .int w9), (1, .int t0), (0, .ref h)] → W p l e (headSpec (ws_ yX0_forced cX0_forced 4 (some .int)) ({ frames := 4, cells := 0, slots := 0, locals := 130 })).room s m ([.ref h] : List Value).toArray below meth c H locs 0 0 (MQ below (va_Qi (df_post n gN gy gq) (wk_B (dC, dI) [(d, .int)] (A) (fun u : rn_S => [(h, .inr (0, [.ref g, .ref sh, .ref ct, .int (nI n), .int fo])), (sh, .inr (2, [.ref g, .ref ln, .ref hv, .ref hw, .ref ht, .int u.2.2.2.1, .int u.2.2.2.2.1, .int u.2.2.2.2.2.1, .int u.2.2.2.2.2.2.1])), (hv, .inl (d, 12, .inl u.1)), (hw, .inl (d, 12, .inl u.2.1)), (ht, .inl (d, 12, .inl u.2.2.1)), (g, .inr (1, [.ref a1, .ref a2, .int (nI gN)])), (a1, .inl (d, 256, .inl gy)), (a2, .inl (d, 256, .inl gq)), (ln, .inr (1, [.ref b1, .ref b2, .int (nI u.2.2.2.2.2.2.2.1)])), (b1, .inl (d, 6200, .inl u.2.2.2.2.2.2.2.2.1)), (b2, .inl (d, 6200, .inl u.2.2.2.2.2.2.2.2.2)), (ct, .inr (3, [.ref g]))])) (A)) ([.ref h] : List Value).toArray s 0 0 (A)) (F0 m 36 ls []) := by
    intro N9
    induction N9 with
    | zero =>
      intro i lN t0 w9 lv wy tr ly lq td lvs k t h9
      exact absurd h9 (Nat.not_lt_zero _)
    | succ N9 ih =>
      intro i lN t0 w9 lv wy tr ly lq td lvs k t h1 h2 k_lN k_lo h3 h4 H locs hP hD hS ls hl
      refine lv_iload_n hx hb dX0_forced_36 rfl (lv_at hl 0 rfl) ?_
      refine lv_aload_n hx hb dX0_forced_37 rfl (lv_at hl 3 rfl) ?_
      refine va_get (D := (dC, dI)) (ci := 0) (v := .int (nI n)) (C := RX0) (T := TX0) (N := 5) hx hb hts in_X0 hown hK hP 0 rfl rfl 3 (by decide) (hts _ q102) (fun _ h9 => h9) rfl dX0_forced_38 ?_
      refine lv_icmp_ge (tgt := 95) hx hb dX0_forced_41 (by decide) (fun c_1 => ?_) (fun c_1 => ?_)
      · have hi : i = n := Nat.le_antisymm h2 ((nI_leI (by omega) (by omega)).mp c_1)
        subst hi
        refine lv_iload_n hx hb dX0_forced_95 rfl (lv_at hl 1 rfl) ?_
        exact wk_iret ((lv, wy, tr, td, lvs, k, t, lN, ly, lq)) hx hb hr hlocks (⟨k_lN, k_lo, df_end h3 h4⟩) hK hP hD hS dX0_forced_96
      · have hi : i < n := Nat.lt_of_not_le (fun q => c_1 ((nI_leI (by omega) (by omega)).mpr q))
        refine lv_iload_n hx hb dX0_forced_44 rfl (lv_at hl 1 rfl) ?_
        refine lv_iload_n hx hb dX0_forced_45 rfl (lv_at hl 0 rfl) ?_
        refine lv_ishr hx hb dX0_forced_46 ?_
        refine lv_iconst (v := 1) hx hb dX0_forced_47 (by decide) ?_
        refine lv_iand hx hb dX0_forced_48 ?_
        refine lv_if_eq (tgt := 89) hx hb dX0_forced_49 (by decide) (fun c_2 => ?_) (fun c_2 => ?_)
        · refine lv_iinc (v := nI (i + 1)) (lv' := [(3, .int (nI (i + 1))), (2, .int w9), (1, .int t0), (0, .ref h)]) hx hb dX0_forced_89 hl (k := 0) rfl ((nI_succ _).symm) (by decide) rfl (fun ls hl => ?_)
          refine lv_goto (tgt := 36) hx hb dX0_forced_92 (by decide) ?_
          exact ih (i + 1) lN t0 w9 lv wy tr ly lq td lvs k t (by omega) (by omega) k_lN k_lo h3 (⟨h4.1, h4.2.1, fun z hz hb => by
            by_cases e : z = i
            · rw [e, (b_t0 w9 (by omega)).mp c_2] at hb; cases hb
            · exact h4.2.2 z (by omega) hb⟩) H locs hP hD hS ls (lv_sub hl [0, 1, 2, 3] rfl)
        · refine lv_aload_n hx hb dX0_forced_52 rfl (lv_at hl 3 rfl) ?_
          refine va_get (D := (dC, dI)) (ci := 0) (v := .ref sh) (C := RX0) (T := TX0) (N := 5) hx hb hts in_X0 hown hK hP 0 rfl rfl 1 (by decide) (hts _ q100) (fun _ h9 => h9) rfl dX0_forced_53 ?_
          refine lv_aload_n hx hb dX0_forced_56 rfl (lv_at hl 3 rfl) ?_
          refine va_get (D := (dC, dI)) (ci := 0) (v := .int (nI n)) (C := RX0) (T := TX0) (N := 5) hx hb hts in_X0 hown hK hP 0 rfl rfl 3 (by decide) (hts _ q102) (fun _ h9 => h9) rfl dX0_forced_57 ?_
          refine lv_iconst (v := 1) hx hb dX0_forced_60 (by decide) ?_
          refine lv_iload_n hx hb dX0_forced_61 rfl (lv_at hl 0 rfl) ?_
          refine lv_ishl hx hb dX0_forced_62 ?_
          refine lv_iload_n hx hb dX0_forced_63 rfl (lv_at hl 2 rfl) ?_
          refine lv_iconst (v := (-1)) hx hb dX0_forced_64 (by decide) ?_
          refine lv_ixor hx hb dX0_forced_65 ?_
          have hPc := hP.sub (ws' := [(sh, .inr (2, [.ref g, .ref ln, .ref hv, .ref hw, .ref ht, .int td, .int lvs, .int k, .int t])), (hv, .inl (d, 12, .inl lv)), (hw, .inl (d, 12, .inl wy)), (ht, .inl (d, 12, .inl tr)), (g, .inr (1, [.ref a1, .ref a2, .int (nI gN)])), (a1, .inl (d, 256, .inl gy)), (a2, .inl (d, 256, .inl gq)), (ln, .inr (1, [.ref b1, .ref b2, .int (nI lN)])), (b1, .inl (d, 6200, .inl ly)), (b2, .inl (d, 6200, .inl lq))]) [1, 2, 3, 4, 5, 6, 7, 8, 9, 10] rfl
          have hDc := hD.sub (ws' := [(sh, .inr (2, [.ref g, .ref ln, .ref hv, .ref hw, .ref ht, .int td, .int lvs, .int k, .int t])), (hv, .inl (d, 12, .inl lv)), (hw, .inl (d, 12, .inl wy)), (ht, .inl (d, 12, .inl tr)), (g, .inr (1, [.ref a1, .ref a2, .int (nI gN)])), (a1, .inl (d, 256, .inl gy)), (a2, .inl (d, 256, .inl gq)), (ln, .inr (1, [.ref b1, .ref b2, .int (nI lN)])), (b1, .inl (d, 6200, .inl ly)), (b2, .inl (d, 6200, .inl lq))]) [1, 2, 3, 4, 5, 6, 7, 8, 9, 10] (by decide) rfl
          refine wk_ci (wr := [(h, .inr (0, [.ref g, .ref sh, .ref ct, .int (nI n), .int fo])), (ct, .inr (3, [.ref g]))]) (wn := fun (u : rn_S) => [(h, .inr (0, [.ref g, .ref sh, .ref ct, .int (nI n), .int fo])), (sh, .inr (2, [.ref g, .ref ln, .ref hv, .ref hw, .ref ht, .int u.2.2.2.1, .int u.2.2.2.2.1, .int u.2.2.2.2.2.1, .int u.2.2.2.2.2.2.1])), (hv, .inl (d, 12, .inl u.1)), (hw, .inl (d, 12, .inl u.2.1)), (ht, .inl (d, 12, .inl u.2.2.1)), (g, .inr (1, [.ref a1, .ref a2, .int (nI gN)])), (a1, .inl (d, 256, .inl gy)), (a2, .inl (d, 256, .inl gq)), (ln, .inr (1, [.ref b1, .ref b2, .int (nI u.2.2.2.2.2.2.2.1)])), (b1, .inl (d, 6200, .inl u.2.2.2.2.2.2.2.2.1)), (b2, .inl (d, 6200, .inl u.2.2.2.2.2.2.2.2.2)), (ct, .inr (3, [.ref g]))]) (va_runV (As := [.int (nI n), .int ((1 : Int32) <<< ((nI i) &&& 31)), .int (t0 ^^^ (-1))]) (rest := []) ⟨hx, hb, hml, hown, hts⟩ (metX2_run l dC dI d H.size sh g ln hv hw ht a1 a2 b1 b2 n gN lN gy gq ly lq ((1 : Int32) <<< (nI i &&& 31)) (t0 ^^^ (-1)) td lvs k t lv wy tr k_n k_go k_lo k_lN) (cwV 3 hts (lw_V q144 q145 q146 q16 q147) rfl rfl rfl (by decide +kernel) ⟨Nat.le_of_ble_eq_true rfl, Nat.le_of_ble_eq_true rfl⟩) (wk_M.preV (q := (RX2, TX2, 9)) (ci := 2) (q0 := 0) hK hPc hDc rfl rfl) rfl rfl hl.1 rfl (lv_room (Nat.le_of_ble_eq_true rfl)) dX0_forced_66 ⟨Nat.le_of_ble_eq_true rfl, Nat.le_of_ble_eq_true rfl⟩) hP hD hS hA [1, 2, 3, 4, 5, 6, 7, 8, 9, 10] [0, 11] [0, 2, 3, 4, 5, 6, 7, 8, 9, 10, 11, 1] rfl rfl (by decide) (by decide) (by decide) (fun _ => rfl) (fun r1 u H locs hp hK hP hD hS => ?_)
          have hP : va_P (dC, dI) vwCl [(h, .inr (0, [.ref g, .ref sh, .ref ct, .int (nI n), .int fo])), (sh, .inr (2, [.ref g, .ref ln, .ref hv, .ref hw, .ref ht, .int u.2.2.2.1, .int u.2.2.2.2.1, .int u.2.2.2.2.2.1, .int u.2.2.2.2.2.2.1])), (hv, .inl (d, 12, .inl u.1)), (hw, .inl (d, 12, .inl u.2.1)), (ht, .inl (d, 12, .inl u.2.2.1)), (g, .inr (1, [.ref a1, .ref a2, .int (nI gN)])), (a1, .inl (d, 256, .inl gy)), (a2, .inl (d, 256, .inl gq)), (ln, .inr (1, [.ref b1, .ref b2, .int (nI u.2.2.2.2.2.2.2.1)])), (b1, .inl (d, 6200, .inl u.2.2.2.2.2.2.2.2.1)), (b2, .inl (d, 6200, .inl u.2.2.2.2.2.2.2.2.2)), (ct, .inr (3, [.ref g]))] H := hP
          have hD : va_D A [(h, .inr (0, [.ref g, .ref sh, .ref ct, .int (nI n), .int fo])), (sh, .inr (2, [.ref g, .ref ln, .ref hv, .ref hw, .ref ht, .int u.2.2.2.1, .int u.2.2.2.2.1, .int u.2.2.2.2.2.1, .int u.2.2.2.2.2.2.1])), (hv, .inl (d, 12, .inl u.1)), (hw, .inl (d, 12, .inl u.2.1)), (ht, .inl (d, 12, .inl u.2.2.1)), (g, .inr (1, [.ref a1, .ref a2, .int (nI gN)])), (a1, .inl (d, 256, .inl gy)), (a2, .inl (d, 256, .inl gq)), (ln, .inr (1, [.ref b1, .ref b2, .int (nI u.2.2.2.2.2.2.2.1)])), (b1, .inl (d, 6200, .inl u.2.2.2.2.2.2.2.2.1)), (b2, .inl (d, 6200, .inl u.2.2.2.2.2.2.2.2.2)), (ct, .inr (3, [.ref g]))] := hD
          obtain ⟨lv, wy, tr, td, lvs, k, t, lN, ly, lq⟩ := u
          obtain ⟨k_lN, k_lo, hans⟩ := hp
          have k_lN : lN ≤ 6200 := k_lN
          have k_lo : sp_lok n gN gy gq lN ly lq := k_lo
          have hans : rn_ans n gN gy gq ((1 : Int32) <<< (nI i &&& 31)) (t0 ^^^ (-1)) r1 t := hans
          have hP : va_P (dC, dI) vwCl [(h, .inr (0, [.ref g, .ref sh, .ref ct, .int (nI n), .int fo])), (sh, .inr (2, [.ref g, .ref ln, .ref hv, .ref hw, .ref ht, .int td, .int lvs, .int k, .int t])), (hv, .inl (d, 12, .inl lv)), (hw, .inl (d, 12, .inl wy)), (ht, .inl (d, 12, .inl tr)), (g, .inr (1, [.ref a1, .ref a2, .int (nI gN)])), (a1, .inl (d, 256, .inl gy)), (a2, .inl (d, 256, .inl gq)), (ln, .inr (1, [.ref b1, .ref b2, .int (nI lN)])), (b1, .inl (d, 6200, .inl ly)), (b2, .inl (d, 6200, .inl lq)), (ct, .inr (3, [.ref g]))] H := hP
          have hD : va_D A [(h, .inr (0, [.ref g, .ref sh, .ref ct, .int (nI n), .int fo])), (sh, .inr (2, [.ref g, .ref ln, .ref hv, .ref hw, .ref ht, .int td, .int lvs, .int k, .int t])), (hv, .inl (d, 12, .inl lv)), (hw, .inl (d, 12, .inl wy)), (ht, .inl (d, 12, .inl tr)), (g, .inr (1, [.ref a1, .ref a2, .int (nI gN)])), (a1, .inl (d, 256, .inl gy)), (a2, .inl (d, 256, .inl gq)), (ln, .inr (1, [.ref b1, .ref b2, .int (nI lN)])), (b1, .inl (d, 6200, .inl ly)), (b2, .inl (d, 6200, .inl lq)), (ct, .inr (3, [.ref g]))] := hD
          have hvs : bt (t0 ^^^ (-1)) i = !bt t0 i := by rw [b_not, decide_eq_true (by omega)]; rfl
          have hfx : ∀ z, bt ((1 : Int32) <<< (nI i &&& 31)) z = true ↔ z = i := fun z => by rw [b_bit (by omega), decide_eq_true_eq]
          refine lv_if_ne (tgt := 75) hx hb dX0_forced_69 (by decide) (fun c_3 => ?_) (fun c_3 => ?_)
          · obtain ⟨hG, hval⟩ : sp_G gN gy gq (bt t) ∧ bt t i = !bt t0 i := by
              rcases hans with ⟨-, q1, q2, -⟩ | ⟨q, -⟩
              · exact ⟨q1, by rw [← hvs]; exact q2 i hi ((hfx i).mpr rfl)⟩
              · exact absurd q c_3
            refine lv_iload_n hx hb dX0_forced_75 rfl (lv_at hl 1 rfl) ?_
            refine lv_aload_n hx hb dX0_forced_76 rfl (lv_at hl 3 rfl) ?_
            refine va_get (D := (dC, dI)) (ci := 0) (v := .ref sh) (C := RX0) (T := TX0) (N := 5) hx hb hts in_X0 hown hK hP 0 rfl rfl 1 (by decide) (hts _ q100) (fun _ h9 => h9) rfl dX0_forced_77 ?_
            refine va_get (D := (dC, dI)) (ci := 2) (v := .int t) (C := RX2) (T := TX2) (N := 9) hx hb hts in_X2 hown hK hP 1 rfl rfl 8 (by decide) (hts _ q69) (fun _ h9 => h9) rfl dX0_forced_80 ?_
            refine lv_iload_n hx hb dX0_forced_83 rfl (lv_at hl 2 rfl) ?_
            refine lv_ixor hx hb dX0_forced_84 ?_
            refine lv_iconst (v := (-1)) hx hb dX0_forced_85 (by decide) ?_
            refine lv_ixor hx hb dX0_forced_86 ?_
            refine lv_iand hx hb dX0_forced_87 ?_
            refine lv_istore_n (lv' := [(2, .int (w9 &&& ((t ^^^ t0) ^^^ (-1)))), (3, .int (nI i)), (1, .int t0), (0, .ref h)]) hx hb dX0_forced_88 rfl hl (by decide) rfl (fun ls hl => ?_)
            refine lv_iinc (v := nI (i + 1)) (lv' := [(3, .int (nI (i + 1))), (2, .int (w9 &&& ((t ^^^ t0) ^^^ (-1)))), (1, .int t0), (0, .ref h)]) hx hb dX0_forced_89 hl (k := 1) rfl ((nI_succ _).symm) (by decide) rfl (fun ls hl => ?_)
            refine lv_goto (tgt := 36) hx hb dX0_forced_92 (by decide) ?_
            exact ih (i + 1) lN t0 (w9 &&& ((t ^^^ t0) ^^^ (-1))) lv wy tr ly lq td lvs k t (by omega) (by omega) k_lN k_lo h3 (⟨fun z hz => by
              rw [b_andn, Bool.and_eq_true] at hz
              exact h4.1 z hz.1, fun z hz hb => by
              rw [b_andn] at hb
              cases hw : bt w9 z
              · exact h4.2.1 z hz hw
              · rw [hw, Bool.true_and, b_xor] at hb
                refine ⟨bt t, hG, fun e => ?_⟩
                rw [e] at hb
                cases hv : bt t0 z <;> rw [hv] at hb <;> (cases hb), fun z hz hb => by
              rw [b_andn, Bool.and_eq_true, b_xor] at hb
              by_cases e : z = i
              · rw [e, hval] at hb
                cases hv : bt t0 i <;> rw [hv] at hb <;> exact absurd hb.2 (by decide)
              · exact h4.2.2 z (by omega) hb.1⟩) H locs hP hD hS ls (lv_sub hl [0, 1, 2, 3] rfl)
          · have hno : ∀ a, sp_G gN gy gq a → a i = bt t0 i := by
              rcases hans with ⟨q, -⟩ | ⟨-, q⟩
              · exact absurd (q.symm.trans c_3) (by decide)
              · intro a ha
                apply Classical.byContradiction
                intro hne
                apply q a ha
                intro j hj hf
                rw [(hfx j).mp hf, hvs]
                cases hv : bt t0 i <;> cases hw : a i <;> rw [hv, hw] at hne <;> first | rfl | exact absurd rfl hne
            refine lv_goto (tgt := 89) hx hb dX0_forced_72 (by decide) ?_
            refine lv_iinc (v := nI (i + 1)) (lv' := [(3, .int (nI (i + 1))), (2, .int w9), (1, .int t0), (0, .ref h)]) hx hb dX0_forced_89 hl (k := 0) rfl ((nI_succ _).symm) (by decide) rfl (fun ls hl => ?_)
            refine lv_goto (tgt := 36) hx hb dX0_forced_92 (by decide) ?_
            exact ih (i + 1) lN t0 w9 lv wy tr ly lq td lvs k t (by omega) (by omega) k_lN k_lo h3 (⟨h4.1, h4.2.1, fun z hz hb => by
              by_cases e : z = i
              · rw [e]; exact hno
              · exact h4.2.2 z (by omega) hb⟩) H locs hP hD hS ls (lv_sub hl [0, 1, 2, 3] rfl)
  refine lv_aload_n hx hb dX0_forced_0 rfl (lv_at hl 0 rfl) ?_
  refine va_get (D := (dC, dI)) (ci := 0) (v := .ref sh) (C := RX0) (T := TX0) (N := 5) hx hb hts in_X0 hown hK hP 0 rfl rfl 1 (by decide) (hts _ q100) (fun _ h9 => h9) rfl dX0_forced_1 ?_
  refine lv_aload_n hx hb dX0_forced_4 rfl (lv_at hl 0 rfl) ?_
  refine va_get (D := (dC, dI)) (ci := 0) (v := .int (nI n)) (C := RX0) (T := TX0) (N := 5) hx hb hts in_X0 hown hK hP 0 rfl rfl 3 (by decide) (hts _ q102) (fun _ h9 => h9) rfl dX0_forced_5 ?_
  refine lv_iconst (v := 0) hx hb dX0_forced_8 (by decide) ?_
  refine lv_iconst (v := 0) hx hb dX0_forced_9 (by decide) ?_
  have hPc := hP.sub (ws' := [(sh, .inr (2, [.ref g, .ref ln, .ref hv, .ref hw, .ref ht, .int td, .int lvs, .int k, .int t])), (hv, .inl (d, 12, .inl lv)), (hw, .inl (d, 12, .inl wy)), (ht, .inl (d, 12, .inl tr)), (g, .inr (1, [.ref a1, .ref a2, .int (nI gN)])), (a1, .inl (d, 256, .inl gy)), (a2, .inl (d, 256, .inl gq)), (ln, .inr (1, [.ref b1, .ref b2, .int (nI lN)])), (b1, .inl (d, 6200, .inl ly)), (b2, .inl (d, 6200, .inl lq))]) [1, 2, 3, 4, 5, 6, 7, 8, 9, 10] rfl
  have hDc := hD.sub (ws' := [(sh, .inr (2, [.ref g, .ref ln, .ref hv, .ref hw, .ref ht, .int td, .int lvs, .int k, .int t])), (hv, .inl (d, 12, .inl lv)), (hw, .inl (d, 12, .inl wy)), (ht, .inl (d, 12, .inl tr)), (g, .inr (1, [.ref a1, .ref a2, .int (nI gN)])), (a1, .inl (d, 256, .inl gy)), (a2, .inl (d, 256, .inl gq)), (ln, .inr (1, [.ref b1, .ref b2, .int (nI lN)])), (b1, .inl (d, 6200, .inl ly)), (b2, .inl (d, 6200, .inl lq))]) [1, 2, 3, 4, 5, 6, 7, 8, 9, 10] (by decide) rfl
  refine wk_ci (wr := [(h, .inr (0, [.ref g, .ref sh, .ref ct, .int (nI n), .int fo])), (ct, .inr (3, [.ref g]))]) (wn := fun (u : rn_S) => [(h, .inr (0, [.ref g, .ref sh, .ref ct, .int (nI n), .int fo])), (sh, .inr (2, [.ref g, .ref ln, .ref hv, .ref hw, .ref ht, .int u.2.2.2.1, .int u.2.2.2.2.1, .int u.2.2.2.2.2.1, .int u.2.2.2.2.2.2.1])), (hv, .inl (d, 12, .inl u.1)), (hw, .inl (d, 12, .inl u.2.1)), (ht, .inl (d, 12, .inl u.2.2.1)), (g, .inr (1, [.ref a1, .ref a2, .int (nI gN)])), (a1, .inl (d, 256, .inl gy)), (a2, .inl (d, 256, .inl gq)), (ln, .inr (1, [.ref b1, .ref b2, .int (nI u.2.2.2.2.2.2.2.1)])), (b1, .inl (d, 6200, .inl u.2.2.2.2.2.2.2.2.1)), (b2, .inl (d, 6200, .inl u.2.2.2.2.2.2.2.2.2)), (ct, .inr (3, [.ref g]))]) (va_runV (As := [.int (nI n), .int 0, .int 0]) (rest := []) ⟨hx, hb, hml, hown, hts⟩ (metX2_run l dC dI d s.heap.size sh g ln hv hw ht a1 a2 b1 b2 n gN lN gy gq ly lq 0 0 td lvs k t lv wy tr k_n k_go k_lo k_lN) (cwV 3 hts (lw_V q144 q145 q146 q16 q147) rfl rfl rfl (by decide +kernel) ⟨Nat.le_of_ble_eq_true rfl, Nat.le_of_ble_eq_true rfl⟩) (wk_M.preV (q := (RX2, TX2, 9)) (ci := 2) (q0 := 0) hK hPc hDc rfl rfl) rfl rfl hl.1 rfl (lv_room (Nat.le_of_ble_eq_true rfl)) dX0_forced_10 ⟨Nat.le_of_ble_eq_true rfl, Nat.le_of_ble_eq_true rfl⟩) hP hD hS hA [1, 2, 3, 4, 5, 6, 7, 8, 9, 10] [0, 11] [0, 2, 3, 4, 5, 6, 7, 8, 9, 10, 11, 1] rfl rfl (by decide) (by decide) (by decide) (fun _ => rfl) (fun r1 u H locs hp hK hP hD hS => ?_)
  have hP : va_P (dC, dI) vwCl [(h, .inr (0, [.ref g, .ref sh, .ref ct, .int (nI n), .int fo])), (sh, .inr (2, [.ref g, .ref ln, .ref hv, .ref hw, .ref ht, .int u.2.2.2.1, .int u.2.2.2.2.1, .int u.2.2.2.2.2.1, .int u.2.2.2.2.2.2.1])), (hv, .inl (d, 12, .inl u.1)), (hw, .inl (d, 12, .inl u.2.1)), (ht, .inl (d, 12, .inl u.2.2.1)), (g, .inr (1, [.ref a1, .ref a2, .int (nI gN)])), (a1, .inl (d, 256, .inl gy)), (a2, .inl (d, 256, .inl gq)), (ln, .inr (1, [.ref b1, .ref b2, .int (nI u.2.2.2.2.2.2.2.1)])), (b1, .inl (d, 6200, .inl u.2.2.2.2.2.2.2.2.1)), (b2, .inl (d, 6200, .inl u.2.2.2.2.2.2.2.2.2)), (ct, .inr (3, [.ref g]))] H := hP
  have hD : va_D A [(h, .inr (0, [.ref g, .ref sh, .ref ct, .int (nI n), .int fo])), (sh, .inr (2, [.ref g, .ref ln, .ref hv, .ref hw, .ref ht, .int u.2.2.2.1, .int u.2.2.2.2.1, .int u.2.2.2.2.2.1, .int u.2.2.2.2.2.2.1])), (hv, .inl (d, 12, .inl u.1)), (hw, .inl (d, 12, .inl u.2.1)), (ht, .inl (d, 12, .inl u.2.2.1)), (g, .inr (1, [.ref a1, .ref a2, .int (nI gN)])), (a1, .inl (d, 256, .inl gy)), (a2, .inl (d, 256, .inl gq)), (ln, .inr (1, [.ref b1, .ref b2, .int (nI u.2.2.2.2.2.2.2.1)])), (b1, .inl (d, 6200, .inl u.2.2.2.2.2.2.2.2.1)), (b2, .inl (d, 6200, .inl u.2.2.2.2.2.2.2.2.2)), (ct, .inr (3, [.ref g]))] := hD
  obtain ⟨lv, wy, tr, td, lvs, k, t, lN, ly, lq⟩ := u
  obtain ⟨k_lN, k_lo, hans⟩ := hp
  have k_lN : lN ≤ 6200 := k_lN
  have k_lo : sp_lok n gN gy gq lN ly lq := k_lo
  have hans : rn_ans n gN gy gq 0 0 r1 t := hans
  have hP : va_P (dC, dI) vwCl [(h, .inr (0, [.ref g, .ref sh, .ref ct, .int (nI n), .int fo])), (sh, .inr (2, [.ref g, .ref ln, .ref hv, .ref hw, .ref ht, .int td, .int lvs, .int k, .int t])), (hv, .inl (d, 12, .inl lv)), (hw, .inl (d, 12, .inl wy)), (ht, .inl (d, 12, .inl tr)), (g, .inr (1, [.ref a1, .ref a2, .int (nI gN)])), (a1, .inl (d, 256, .inl gy)), (a2, .inl (d, 256, .inl gq)), (ln, .inr (1, [.ref b1, .ref b2, .int (nI lN)])), (b1, .inl (d, 6200, .inl ly)), (b2, .inl (d, 6200, .inl lq)), (ct, .inr (3, [.ref g]))] H := hP
  have hD : va_D A [(h, .inr (0, [.ref g, .ref sh, .ref ct, .int (nI n), .int fo])), (sh, .inr (2, [.ref g, .ref ln, .ref hv, .ref hw, .ref ht, .int td, .int lvs, .int k, .int t])), (hv, .inl (d, 12, .inl lv)), (hw, .inl (d, 12, .inl wy)), (ht, .inl (d, 12, .inl tr)), (g, .inr (1, [.ref a1, .ref a2, .int (nI gN)])), (a1, .inl (d, 256, .inl gy)), (a2, .inl (d, 256, .inl gq)), (ln, .inr (1, [.ref b1, .ref b2, .int (nI lN)])), (b1, .inl (d, 6200, .inl ly)), (b2, .inl (d, 6200, .inl lq)), (ct, .inr (3, [.ref g]))] := hD
  refine lv_if_ne (tgt := 21) hx hb dX0_forced_13 (by decide) (fun c_1 => ?_) (fun c_1 => ?_)
  · have hG : sp_G gN gy gq (bt t) := by
      rcases hans with ⟨-, q1, -⟩ | ⟨q, -⟩
      · exact q1
      · exact absurd q c_1
    refine lv_aload_n hx hb dX0_forced_21 rfl (lv_at hl 0 rfl) ?_
    refine va_get (D := (dC, dI)) (ci := 0) (v := .ref sh) (C := RX0) (T := TX0) (N := 5) hx hb hts in_X0 hown hK hP 0 rfl rfl 1 (by decide) (hts _ q100) (fun _ h9 => h9) rfl dX0_forced_22 ?_
    refine va_get (D := (dC, dI)) (ci := 2) (v := .int t) (C := RX2) (T := TX2) (N := 9) hx hb hts in_X2 hown hK hP 1 rfl rfl 8 (by decide) (hts _ q69) (fun _ h9 => h9) rfl dX0_forced_25 ?_
    refine lv_istore_n (lv' := [(1, .int t), (0, .ref h)]) hx hb dX0_forced_28 rfl hl (by decide) rfl (fun ls hl => ?_)
    refine lv_aload_n hx hb dX0_forced_29 rfl (lv_at hl 1 rfl) ?_
    have hK0 := hK
    have hK : va_K (dC, dI) vwCl [] s := hK.sub [] rfl
    have hPc := hP.sub (ws' := [(h, .inr (0, [.ref g, .ref sh, .ref ct, .int (nI n), .int fo]))]) [0] rfl
    refine vp_callSi (W.runV (As := []) (rest := []) ⟨hx, hb, hml, hown, hts⟩ (metX0_all l dC dI d h g sh ct n fo) (cwV 0 hts (lw_V q128 q130 qs0 q14 q131) rfl rfl rfl (by decide +kernel) ⟨Nat.le_of_ble_eq_true rfl, Nat.le_of_ble_eq_true rfl⟩) (wk_R.preV (q := (RX0, TX0, 5)) (ci := 0) (q0 := 0) hK hPc rfl rfl) rfl rfl hl.1 rfl (lv_room (Nat.le_of_ble_eq_true rfl)) dX0_forced_30 ⟨Nat.le_of_ble_eq_true rfl, Nat.le_of_ble_eq_true rfl⟩) (fun r9 hr9 => ?_)
    have hK := hK0
    refine wk_top (y := (1 : Int32) <<< (nI n &&& 31) - 1) (hr9) ?_
    refine lv_istore_n (lv' := [(2, .int ((1 : Int32) <<< (nI n &&& 31) - 1)), (1, .int t), (0, .ref h)]) hx hb dX0_forced_33 rfl hl (by decide) rfl (fun ls hl => ?_)
    refine lv_iconst (v := 0) hx hb dX0_forced_34 (by decide) ?_
    refine lv_istore_n (lv' := [(3, .int 0), (2, .int ((1 : Int32) <<< (nI n &&& 31) - 1)), (1, .int t), (0, .ref h)]) hx hb dX0_forced_35 rfl hl (by decide) rfl (fun ls hl => ?_)
    exact loop (n + 1) 0 lN t ((1 : Int32) <<< (nI n &&& 31) - 1) lv wy tr ly lq td lvs k t (by omega) (by omega) k_lN k_lo hG ⟨fun z hz => by rw [b_all (by omega), decide_eq_true_eq] at hz; exact hz, fun z hz hb => (by rw [b_all (by omega), decide_eq_true hz] at hb; cases hb), fun z hz => absurd hz (Nat.not_lt_zero _)⟩ H locs hP hD hS ls (lv_sub hl [0, 1, 2, 3] rfl)
  · have hno : ∀ a, ¬ sp_G gN gy gq a := by
      rcases hans with ⟨q, -⟩ | ⟨-, q⟩
      · exact absurd (q.symm.trans c_1) (by decide)
      · exact fun a ha => q a ha (fun j _ hf => by rw [b_0] at hf; cases hf)
    refine lv_aload_n hx hb dX0_forced_16 rfl (lv_at hl 0 rfl) ?_
    have hK0 := hK
    have hK : va_K (dC, dI) vwCl [] s := hK.sub [] rfl
    have hPc := hP.sub (ws' := [(h, .inr (0, [.ref g, .ref sh, .ref ct, .int (nI n), .int fo]))]) [0] rfl
    refine vp_callSi (W.runV (As := []) (rest := []) ⟨hx, hb, hml, hown, hts⟩ (metX0_all l dC dI d h g sh ct n fo) (cwV 0 hts (lw_V q128 q130 qs0 q14 q131) rfl rfl rfl (by decide +kernel) ⟨Nat.le_of_ble_eq_true rfl, Nat.le_of_ble_eq_true rfl⟩) (wk_R.preV (q := (RX0, TX0, 5)) (ci := 0) (q0 := 0) hK hPc rfl rfl) rfl rfl hl.1 rfl (lv_room (Nat.le_of_ble_eq_true rfl)) dX0_forced_17 ⟨Nat.le_of_ble_eq_true rfl, Nat.le_of_ble_eq_true rfl⟩) (fun r9 hr9 => ?_)
    have hK := hK0
    refine wk_top (y := (1 : Int32) <<< (nI n &&& 31) - 1) (hr9) ?_
    exact wk_iret ((lv, wy, tr, td, lvs, k, t, lN, ly, lq)) hx hb hr hlocks (⟨k_lN, k_lo, fun i => by rw [b_all (by omega), decide_eq_true_eq]; exact ⟨fun q => ⟨q, Or.inl (fun a ha => absurd ha (hno a))⟩, fun q => q.1⟩⟩) hK hP hD hS dX0_forced_20
end
section
/-! What the class answers is what the reference answers -/
theorem tb_top {x n : Nat} (hx : x < 2 ^ (n + 1)) : (x.testBit n = false ∧ x < 2 ^ n) ∨ (x.testBit n = true ∧ 2 ^ n ≤ x) := by
  rw [Nat.pow_succ] at hx
  rcases Nat.lt_or_ge x (2 ^ n) with h | h
  · exact Or.inl ⟨Nat.testBit_lt_two_pow h, h⟩
  · refine Or.inr ⟨?_, h⟩
    obtain ⟨y, rfl⟩ : ∃ y, x = 2 ^ n + y := ⟨x - 2 ^ n, by omega⟩
    rw [Nat.testBit_two_pow_add_eq, Nat.testBit_lt_two_pow (by omega)]
    rfl
theorem tb_le : ∀ (n x y : Nat), x < 2 ^ n → y < 2 ^ n → (∀ k, k < n → (∀ j, k < j → j < n → y.testBit j = x.testBit j) → x.testBit k = true → y.testBit k = true) → x ≤ y
  | 0, x, y, hx, _, _ => by
    have : x = 0 := by simpa using hx
    omega
  | n + 1, x, y, hx, hy, h => by
    have hn := h n (Nat.lt_succ_self n) (fun j h1 h2 => absurd h1 (by omega))
    rcases tb_top hx with ⟨ex, lx⟩ | ⟨ex, lx⟩
    · rcases tb_top hy with ⟨ey, ly⟩ | ⟨ey, ly⟩
      · refine tb_le n x y lx ly (fun k hk hj => h k (by omega) (fun j h1 h2 => ?_))
        by_cases e : j = n
        · rw [e, ex, ey]
        · exact hj j h1 (by omega)
      · omega
    · have ey := hn ex
      rcases tb_top hy with ⟨ey2, -⟩ | ⟨-, ly⟩
      · rw [ey] at ey2; cases ey2
      · obtain ⟨x', rfl⟩ : ∃ x', x = 2 ^ n + x' := ⟨x - 2 ^ n, by omega⟩
        obtain ⟨y', rfl⟩ : ∃ y', y = 2 ^ n + y' := ⟨y - 2 ^ n, by omega⟩
        rw [Nat.pow_succ] at hx hy
        have := tb_le n x' y' (by omega) (by omega) (fun k hk hj hb => by
          have h1 := h k (by omega) (fun j h1 h2 => by
            by_cases e : j = n
            · rw [e, ex, ey]
            · rw [Nat.testBit_two_pow_add_gt (by omega), Nat.testBit_two_pow_add_gt (by omega)]
              exact hj j h1 (by omega)) (by rw [Nat.testBit_two_pow_add_gt hk]; exact hb)
          rw [Nat.testBit_two_pow_add_gt hk] at h1
          exact h1)
        omega
theorem tb_enc : ∀ (n : Nat) (a : Nat → Bool), ∃ z, z < 2 ^ n ∧ ∀ i, i < n → z.testBit i = a i
  | 0, _ => ⟨0, by decide, fun i hi => absurd hi (Nat.not_lt_zero _)⟩
  | n + 1, a => by
    obtain ⟨z, h1, h2⟩ := tb_enc n a
    cases ha : a n
    · refine ⟨z, by rw [Nat.pow_succ]; omega, fun i hi => ?_⟩
      by_cases e : i = n
      · rw [e, ha]; exact Nat.testBit_lt_two_pow h1
      · exact h2 i (by omega)
    · refine ⟨2 ^ n + z, by rw [Nat.pow_succ]; omega, fun i hi => ?_⟩
      by_cases e : i = n
      · rw [e, ha, Nat.testBit_two_pow_add_eq, Nat.testBit_lt_two_pow h1]; rfl
      · rw [Nat.testBit_two_pow_add_gt (by omega)]; exact h2 i (by omega)
theorem md_b_m (y q : Int32) (r : Nat) : md_b y q r = true ↔ ¬ sp_m (bt (nI r)) y q := by
  unfold md_b
  rw [Bool.and_eq_true, decide_eq_true_eq, decide_eq_true_eq, b_z, b_z]
  constructor
  · rintro ⟨h1, h2⟩ ⟨i, hi⟩
    rcases hi with hi | hi
    · have := h1 i
      rw [b_and, hi.1, hi.2] at this
      cases this
    · have := h2 i
      rw [b_and, b_not, hi.1, hi.2, decide_eq_true (b_lt hi.1)] at this
      cases this
  · intro h
    refine ⟨fun i => ?_, fun i => ?_⟩
    · rw [b_and]
      cases hr : bt (nI r) i
      · rfl
      · cases hy : bt y i
        · rfl
        · exact absurd ⟨i, Or.inl ⟨hy, hr⟩⟩ h
    · rw [b_and, b_not]
      cases hr : bt (nI r) i
      · cases hq : bt q i
        · exact Bool.and_false _
        · exact absurd ⟨i, Or.inr ⟨hq, hr⟩⟩ h
      · rw [Bool.not_true, Bool.and_false]; rfl
theorem hc_congr {P P' : Nat → Bool} : ∀ {n : Nat}, (∀ i, i < n → P i = P' i) → hc P n = hc P' n
  | 0, _ => rfl
  | n + 1, h => by
    show hc P n + (if P n = true then 1 else 0) = hc P' n + (if P' n = true then 1 else 0)
    rw [hc_congr (fun i hi => h i (by omega)), h n (Nat.lt_succ_self n)]
theorem hc_none {P : Nat → Bool} : ∀ {n : Nat}, hc P n = 0 ↔ ∀ i, i < n → P i = false
  | 0 => ⟨fun _ i hi => absurd hi (Nat.not_lt_zero _), fun _ => rfl⟩
  | n + 1 => by
    have ih := hc_none (P := P) (n := n)
    constructor
    · intro h i hi
      cases hp : P i
      · rfl
      · have := hc_0 hi hp
        omega
    · intro h
      rw [hc_n (by rw [h n (Nat.lt_succ_self n)]; decide)]
      exact ih.mpr (fun i hi => h i (by omega))
/-- the class and the reference hold the same -/
def eq_I (n gN lN : Nat) (gy gq ly lq my mq bk : Nat → Int32) : Prop := n ≤ 12 ∧ sp_gok n gN gy gq ∧ sp_lok n gN gy gq lN ly lq ∧ lN ≤ 6200 ∧ (∀ j, j < gN → my j = gy j ∧ mq j = gq j) ∧ ∀ r, r < 2 ^ n → bk r = nI (hc (fun j => md_b (gy j) (gq j) r) gN)
section EQ
variable {n gN lN : Nat} {gy gq ly lq my mq bk : Nat → Int32}
theorem eq_0 (h : eq_I n gN lN gy gq ly lq my mq bk) {r : Nat} (hr : r < 2 ^ n) : bk r = 0 ↔ sp_G gN gy gq (bt (nI r)) := by
  obtain ⟨hn, hg, hl, hL, hm, hb⟩ := h
  have hle := hc_le (fun j => md_b (gy j) (gq j) r) gN
  have hgN := hg.1
  rw [hb r hr, ← nI_0, nI_eq (by omega) (by omega), hc_none]
  constructor
  · intro h j hj
    apply Classical.byContradiction
    intro hn
    have h1 := h j hj
    rw [(md_b_m _ _ _).mpr hn] at h1
    cases h1
  · intro h j hj
    cases hp : md_b (gy j) (gq j) r
    · rfl
    · exact absurd (h j hj) ((md_b_m _ _ _).mp hp)
theorem eq_G (hg : sp_gok n gN gy gq) {a b : Nat → Bool} (hab : ∀ i, i < n → a i = b i) (h : sp_G gN gy gq a) : sp_G gN gy gq b := by
  intro j hj
  obtain ⟨i, hi⟩ := h j hj
  rw [hab i (hg.2 j hj i (cw_in hi))] at hi
  exact ⟨i, hi⟩
theorem eq_bt (hn : n ≤ 12) {z : Nat} (hz : z < 2 ^ n) (i : Nat) : bt (nI z) i = z.testBit i := by
  have := (md_p hn).2
  exact b_nI (by omega) i
/-- every row of letters has its number -/
theorem eq_enc (hn : n ≤ 12) (a : Nat → Bool) : ∃ z, z < 2 ^ n ∧ ∀ i, i < n → bt (nI z) i = a i := by
  obtain ⟨z, h1, h2⟩ := tb_enc n a
  exact ⟨z, h1, fun i hi => by rw [eq_bt hn h1]; exact h2 i hi⟩
theorem eq_mask (hn : n ≤ 12) (t : Int32) : ∃ z, z < 2 ^ n ∧ t &&& ((1 : Int32) <<< (nI n &&& 31) - 1) = nI z ∧ ∀ i, i < n → bt (nI z) i = bt t i := by
  obtain ⟨z, h1, h2⟩ := eq_enc hn (bt t)
  refine ⟨z, h1, b_ext (fun i hi => ?_), h2⟩
  rw [b_and, b_all (by omega)]
  by_cases e : i < n
  · rw [h2 i e, decide_eq_true e, Bool.and_true]
  · rw [decide_eq_false e, Bool.and_false, eq_bt hn h1]
    exact (Nat.testBit_lt_two_pow (Nat.lt_of_lt_of_le h1 (Nat.pow_le_pow_right (by decide) (by omega)))).symm
theorem eq_M (h : eq_I n gN lN gy gq ly lq my mq bk) (fx vs : Int32) {z : Nat} (hz : z < 2 ^ n) : ms_M n bk fx vs z ↔ sp_G gN gy gq (bt (nI z)) ∧ ∀ j, j < n → bt (fx &&& ((1 : Int32) <<< (nI n &&& 31) - 1)) j = true → bt (nI z) j = bt vs j := by
  have hn := h.1
  unfold ms_M
  rw [eq_0 h hz, b_z]
  constructor
  · rintro ⟨h1, h2⟩
    refine ⟨h1, fun j hj hf => ?_⟩
    have h3 := h2 j
    rw [b_and, b_all (by omega), decide_eq_true hj, Bool.and_true] at hf
    rw [b_and, b_and, b_xor, b_all (by omega), decide_eq_true hj, hf, Bool.and_true, Bool.and_true] at h3
    revert h3
    cases bt (nI z) j <;> cases bt vs j <;> simp
  · rintro ⟨h1, h2⟩
    refine ⟨h1, fun j => ?_⟩
    rw [b_and, b_and, b_xor, b_all (by omega)]
    by_cases hj : j < n
    · rw [decide_eq_true hj, Bool.and_true]
      cases hf : bt fx j
      · exact Bool.and_false _
      · rw [h2 j hj (by rw [b_and, b_all (by omega), decide_eq_true hj, hf]; rfl)]
        cases bt vs j <;> rfl
    · rw [decide_eq_false hj, Bool.and_false]
theorem eq_solve (h : eq_I n gN lN gy gq ly lq my mq bk) {fx vs r t f r' f' : Int32} (h1 : rn_ans n gN gy gq (fx &&& ((1 : Int32) <<< (nI n &&& 31) - 1)) vs r t) (h2 : f = if r = 0 then -1 else t &&& ((1 : Int32) <<< (nI n &&& 31) - 1)) (h3 : ms_post n bk fx vs r' f') : r = r' ∧ f = f' := by
  have hn := h.1
  have hg := h.2.1
  rcases h1 with ⟨rfl, g1, g2, g3⟩ | ⟨rfl, g1⟩
  · rw [if_neg (by decide)] at h2
    obtain ⟨z, hz, ez, hzt⟩ := eq_mask hn t
    have hM : ms_M n bk fx vs z := (eq_M h fx vs hz).mpr ⟨eq_G hg (fun i hi => (hzt i hi).symm) g1, fun j hj hf => by rw [hzt j hj]; exact g2 j hj hf⟩
    rcases h3 with ⟨-, -, q⟩ | ⟨rfl, y, hy, ey, qM, ql⟩
    · exact absurd hM (q z hz)
    · refine ⟨rfl, ?_⟩
      rw [h2, ez, ey]
      congr 1
      obtain ⟨y1, y2⟩ := (eq_M h fx vs hy).mp qM
      refine Nat.le_antisymm ?_ (Nat.le_of_not_lt (fun hlt => ql z hlt hM))
      refine tb_le n z y hz hy (fun k hk hj hb => ?_)
      have := g3 (bt (nI y)) y1 y2 k hk (fun j a1 a2 => by rw [eq_bt hn hy, hj j a1 a2, ← eq_bt hn hz]; exact hzt j a2) (by rw [← hzt k hk, eq_bt hn hz]; exact hb)
      rw [eq_bt hn hy] at this
      exact this
  · rw [if_pos rfl] at h2
    rcases h3 with ⟨rfl, q, -⟩ | ⟨-, y, hy, -, qM, -⟩
    · exact ⟨rfl, by rw [h2, q]⟩
    · obtain ⟨y1, y2⟩ := (eq_M h fx vs hy).mp qM
      exact absurd y2 (g1 _ y1)
theorem eq_count (h : eq_I n gN lN gy gq ly lq my mq bk) : cw_n gN gy gq 0 0 ((1 : Int32) <<< (nI n &&& 31) - 1) = hc (fun z => decide (bk z = 0)) (2 ^ n) := by
  have hn := h.1
  have hg := h.2.1
  have hP : ∀ a, cw_P gN gy gq 0 ((1 : Int32) <<< (nI n &&& 31) - 1) a ↔ sp_G gN gy gq a := fun a =>
    ⟨fun q j hj => q j hj (fun i hi => Or.inr (by rw [b_all (by omega), decide_eq_true_eq]; exact hg.2 j hj i hi)), fun q j hj _ => q j hj⟩
  have hs : ∀ i, bt ((1 : Int32) <<< (nI n &&& 31) - 1) i = decide (i < n) := fun i => b_all (by omega) i
  have e0 : bt 0 = fun i => (0 : Nat).testBit i := by
    funext i
    rw [b_0, Nat.zero_testBit]
  have hr := cn_rows (P := sp_G gN gy gq) (pb := fun r => @decide (sp_G gN gy gq (fun i => r.testBit i)) (Classical.propDecidable _)) (fun r => by
    exact @decide_eq_true_iff _ (Classical.propDecidable _)) (s := bt ((1 : Int32) <<< (nI n &&& 31) - 1)) n 0 (fun i hi => by rw [hs, decide_eq_true hi]) (Nat.zero_mod _)
  rw [Nat.zero_add] at hr
  unfold cw_n
  rw [cn_congr (P' := sp_G gN gy gq) (fun a _ => hP a) (fun _ _ => rfl), e0, show (12 : Nat) = n + (12 - n) by omega, cn_high (fun i hi => by rw [hs, decide_eq_false (by omega)])]
  have hz : hc (fun r => @decide (sp_G gN gy gq (fun i => r.testBit i)) (Classical.propDecidable _)) 0 = 0 := rfl
  rw [hz, Nat.zero_add] at hr
  rw [← hr]
  refine hc_congr (fun r hr => ?_)
  have e : (fun i => r.testBit i) = bt (nI r) := by
    funext i
    exact (eq_bt hn hr i).symm
  rw [e]
  cases hd : decide (bk r = 0)
  · exact @decide_eq_false _ (Classical.propDecidable _) (fun q => by rw [decide_eq_true ((eq_0 h hr).mpr q)] at hd; cases hd)
  · exact @decide_eq_true _ (Classical.propDecidable _) ((eq_0 h hr).mp (of_decide_eq_true hd))
theorem eq_forced (h : eq_I n gN lN gy gq ly lq my mq bk) {r r' : Int32} (h1 : df_ans n gN gy gq r) (h2 : mf_post n bk r') : r = r' := by
  have hn := h.1
  have hg := h.2.1
  have side : ∀ (i : Nat) (c : Bool), i < n → ((∀ a, sp_G gN gy gq a → a i = c) ↔ ∀ z, z < 2 ^ n → bk z = 0 → bt (nI z) i = c) := by
    intro i c hi
    constructor
    · intro q z hz hb
      exact q _ ((eq_0 h hz).mp hb)
    · intro q a ha
      obtain ⟨z, hz, hza⟩ := eq_enc hn a
      rw [← hza i hi]
      exact q z hz ((eq_0 h hz).mpr (eq_G hg (fun i hi => (hza i hi).symm) ha))
  have key : ∀ i, bt r i = true ↔ bt r' i = true := by
    intro i
    rw [h1 i, h2 i]
    constructor
    · rintro ⟨q1, q2⟩
      exact ⟨q1, q2.imp (side i true q1).mp (side i false q1).mp⟩
    · rintro ⟨q1, q2⟩
      exact ⟨q1, q2.imp (side i true q1).mpr (side i false q1).mpr⟩
  refine b_ext (fun i _ => ?_)
  cases hb : bt r' i
  · cases hb2 : bt r i
    · rfl
    · rw [(key i).mp hb2] at hb; cases hb
  · exact (key i).mpr hb
theorem eq_start (gy gq ly lq my mq bk : Nat → Int32) (hn : n ≤ 12) (hb : ∀ r, r < 2 ^ n → bk r = 0) : eq_I n 0 0 gy gq ly lq my mq bk :=
  ⟨hn, ⟨by omega, fun j hj => absurd hj (Nat.not_lt_zero _)⟩, fun j hj => absurd hj (Nat.not_lt_zero _), by omega, fun j hj => absurd hj (Nat.not_lt_zero _), fun r hr => by rw [hb r hr]; rfl⟩
theorem eq_learnt (h : eq_I n gN lN gy gq ly lq my mq bk) {lN' : Nat} {ly' lq' : Nat → Int32} (h1 : lN' ≤ 6200) (h2 : sp_lok n gN gy gq lN' ly' lq') : eq_I n gN lN' gy gq ly' lq' my mq bk := ⟨h.1, h.2.1, h2, h1, h.2.2.2.2⟩
theorem eq_letters (h : eq_I n gN lN gy gq ly lq my mq bk) (k : Int32) : eq_I (lt_n k) 0 0 gy gq ly lq my mq (md_z 4096 bk) := by
  have hk := lt_n_le k
  refine eq_start gy gq ly lq my mq _ hk.2 (fun r hr => ?_)
  have := (md_p hk.2).2
  exact if_pos (by omega)
theorem eq_clause (h : eq_I n gN lN gy gq ly lq my mq bk) (hN : gN < 256) (x1 x2 : Int32) : eq_I n (gN + 1) lN (upd gy gN (x1 &&& ((1 : Int32) <<< (nI n &&& 31) - 1))) (upd gq gN (x2 &&& ((1 : Int32) <<< (nI n &&& 31) - 1))) ly lq (upd my gN (x1 &&& ((1 : Int32) <<< (nI n &&& 31) - 1))) (upd mq gN (x2 &&& ((1 : Int32) <<< (nI n &&& 31) - 1))) (md_add (x1 &&& ((1 : Int32) <<< (nI n &&& 31) - 1)) (x2 &&& ((1 : Int32) <<< (nI n &&& 31) - 1)) 1 (2 ^ n) bk) := by
  obtain ⟨hn, hg, hl, hL, hm, hb⟩ := h
  have old : ∀ a, sp_G (gN + 1) (upd gy gN (x1 &&& ((1 : Int32) <<< (nI n &&& 31) - 1))) (upd gq gN (x2 &&& ((1 : Int32) <<< (nI n &&& 31) - 1))) a → sp_G gN gy gq a := by
    intro a ha j hj
    have h1 := ha j (by omega)
    rw [pk_un (by omega), pk_un (by omega)] at h1
    exact h1
  refine ⟨hn, ⟨by omega, fun j hj i hi => ?_⟩, fun j hj => ⟨fun a ha => (hl j hj).1 a (old a ha), (hl j hj).2⟩, hL, fun j hj => ?_, fun r hr => ?_⟩
  · by_cases e : j = gN
    · rw [e, pk_us, pk_us] at hi
      rcases hi with hi | hi <;> rw [b_and, Bool.and_eq_true, b_all (by omega), decide_eq_true_eq] at hi <;> exact hi.2
    · rw [pk_un e, pk_un e] at hi
      exact hg.2 j (by omega) i hi
  · by_cases e : j = gN
    · rw [e, pk_us, pk_us, pk_us, pk_us]; exact ⟨rfl, rfl⟩
    · rw [pk_un e, pk_un e, pk_un e, pk_un e]; exact hm j (by omega)
  · have e : hc (fun j => md_b (upd gy gN (x1 &&& ((1 : Int32) <<< (nI n &&& 31) - 1)) j) (upd gq gN (x2 &&& ((1 : Int32) <<< (nI n &&& 31) - 1)) j) r) gN = hc (fun j => md_b (gy j) (gq j) r) gN := hc_congr (fun j hj => by
      show md_b (upd gy gN _ j) (upd gq gN _ j) r = _
      rw [pk_un (by omega), pk_un (by omega)])
    unfold md_add
    rw [decide_eq_true hr, Bool.true_and]
    by_cases q : md_b (x1 &&& ((1 : Int32) <<< (nI n &&& 31) - 1)) (x2 &&& ((1 : Int32) <<< (nI n &&& 31) - 1)) r = true
    · rw [if_pos q, hc_s (by show md_b (upd gy gN _ gN) (upd gq gN _ gN) r = true; rw [pk_us, pk_us]; exact q), e, hb r hr, nI_succ]
    · rw [if_neg q, hc_n (by show ¬ md_b (upd gy gN _ gN) (upd gq gN _ gN) r = true; rw [pk_us, pk_us]; exact q), e]
      exact hb r hr
theorem eq_drop (h : eq_I n gN lN gy gq ly lq my mq bk) (hN : 0 < gN) : eq_I n (gN - 1) 0 gy gq ly lq my mq (md_add (my (gN - 1)) (mq (gN - 1)) (-1) (2 ^ n) bk) := by
  obtain ⟨hn, hg, hl, hL, hm, hb⟩ := h
  obtain ⟨m, rfl⟩ : ∃ m, gN = m + 1 := ⟨gN - 1, by omega⟩
  rw [Nat.add_sub_cancel]
  have hgN := hg.1
  refine ⟨hn, ⟨by omega, fun j hj => hg.2 j (by omega)⟩, fun j hj => absurd hj (Nat.not_lt_zero _), by omega, fun j hj => hm j (by omega), fun r hr => ?_⟩
  obtain ⟨e1, e2⟩ := hm m (Nat.lt_succ_self m)
  rw [e1, e2]
  unfold md_add
  rw [decide_eq_true hr, Bool.true_and, hb r hr]
  by_cases q : md_b (gy m) (gq m) r = true
  · rw [if_pos q, hc_s (P := fun j => md_b (gy j) (gq j) r) (k := m) q, pk_m1]
  · rw [if_neg q, hc_n (P := fun j => md_b (gy j) (gq j) r) (k := m) q]
end EQ
end
section
/-! THE CLAIM OUT OF ONE WALK OF THE LAW'S BODY. Your part is whole_start (and what it stands on); all else here is the same for every law, but numbers. -/
def R_law : String := "ClauseDeskLaw"
def lw_P (b : Addr) (xs : List Int32) (args : Array Value) (s : State) : Prop := args = #[.ref b] ∧ s.IntsAt b xs ∧ xs.length ≤ 192 ∧ (Jvm.Cond.and given_1 narrow_1).before args s = true
def lw_Q (_ : Array Value) (s : State) (o : Outcome) (t : State) : Prop := o = .returned (some (.int 1)) ∧ Framed s o t [] 600000 7302250
def lw_Z (below : List Frame) (a : Array Value) (s : State) : State → Prop := fun t => ∃ o, t.status = .running ∧ Ended t below o ∧ lw_Q a s o t
/-- the law's own end, with 1 on the stack, nothing written that was there before, its room as the claim has it -/
theorem lw_ret {p : Program} {l : Launch} {e : Env} {s : State} {m : MethodId} {below : List Frame} {meth : Method} {c : Code} {b : Nat} (hx : p.tables.exec = Jvm.exec) (hb : c.code = code) (hr : meth.sig.returnType = ret) (hlocks : meth.locks = false) {pc : Nat} {H : Heap} {ls : Array Slot} (hdg : decode code pc = .ok (.ireturn, 1)) : W p l e room_1 s m #[Value.ref b] below meth c H [] 600000 7302250 (lw_Z below #[Value.ref b] s) (F0 m pc ls [.int 1]) := by
  intro T hT X
  obtain ⟨fs, hret, hrun, hended, hW, hframe⟩ := X.leave (v := some (.int 1)) (hlocks := hlocks) (fun h => by rw [hr] at h; cases h)
  have hmeth' : T.vm.method? m = some meth := X.method'
  refine ⟨T.setFrames fs, ?_, .returned (some (.int 1)), hrun, hended, rfl, ⟨_, rfl⟩, hW, hframe⟩
  jvm_step X.here [X.here.top, hx, hb, hdg, hmeth', hr, ret, narrow_b1]
  (try refine ⟨rfl, ?_⟩); (try refine ⟨rfl, ?_⟩)
  first | (intro acts; rw [hret _ acts rfl rfl rfl]) | rw [hret _ _ rfl rfl rfl]
  exact Steps.refl _
/-- what holds at the law's entry: the machine, the code, the tables' words (any of lw_tbl by 'hts w (by decide +kernel)'), the script of L ints xs at the cell b, what the Statement gives of the start (any of its parts by flat_of_before) -/
def lw_At (p : Program) (s : State) (m : MethodId) (meth : Method) (c : Code) (b L : Nat) (xs : Nat → Int32) : Prop :=
  p.tables.exec = Jvm.exec ∧ c.code = code ∧ meth.sig.returnType = ret ∧ c.maxLocals = 4 ∧ s.vm.findClass R_law = some m.cls ∧ (∀ w ∈ lw_tbl, w.before #[Value.ref b] s = true) ∧ va_X b L xs s s.heap ∧ b < s.heap.size ∧ meth.locks = false ∧ (Jvm.Cond.and given_1 narrow_1).before #[Value.ref b] s = true
end
section
/-! The law -/
theorem lw_cmp {i L : Nat} (hi : i < 1000) (hL : L < 1000) (h : ¬ nI L - 3 < nI i) : i + 3 ≤ L := by
  apply Classical.byContradiction
  intro hn
  apply h
  rw [Int32.lt_iff_toInt_lt, nI_toInt (by omega), show (3 : Int32) = nI 3 from rfl, pk_sub_toInt (by omega) (by omega)]
  omega
theorem lw_arr {s : State} {args : Array Value} (h : (Cond.arrayClass .int).before args s = true) : ∃ d : ClassId, ArrOfT s d .int ∧ va_RA s d .int := by
  obtain ⟨d, k, comp, h1, h2, h3⟩ := Cond.arrayClass_spec h
  exact ⟨d, fun n z => ⟨fun k h => (by cases h), k, h2, comp, h3⟩, h1⟩
set_option maxHeartbeats 4000000 in
set_option maxRecDepth 100000 in
/-- from the entry, for every script of at most 192 ints, the law comes to its end with true -/
theorem whole_start {p : Program} {e : Env} {s : State} {m : MethodId} {below : List Frame} {meth : Method} {c : Code} (l : Launch) {b L : Nat} {xs : Nat → Int32} (hL : L ≤ 192) (C0 : lw_At p s m meth c b L xs) : W p l e room_1 s m #[Value.ref b] below meth c s.heap [] 0 0 (lw_Z below #[Value.ref b] s) (entryFrame m ([Value.ref b] : List Value).toArray 4) := by
  obtain ⟨hx, hb, hr, hml, hown, hts0, hX, hbl, hlocks, hgv⟩ := id C0
  have hts : ∀ w ∈ lw_all, w.before #[Value.ref b] s = true := fun w h => hts0 w (lw_all_tbl h)
  obtain ⟨A, hAe⟩ : ∃ A : Nat → Prop, A = fun q : Nat => s.heap.size ≤ q := ⟨_, rfl⟩
  have hA : ∀ q : Nat, s.heap.size ≤ q → A q := fun q h => by rw [hAe]; exact h
  have hAr : ∀ q : Nat, A q → s.heap.size ≤ q := fun q h => by rw [hAe] at h; exact h
  have hbA : ¬ A b := fun h => Nat.not_le.mpr hbl (hAr b h)
  obtain ⟨c0_, iS0, hKn0⟩ := u_known (C := RX0) (T := TX0) (N := 5) (n := 5) hts0 (fun w h => lw_all_tbl (in_X0 w h)) (hts _ q22)
  obtain ⟨c1_, iS1, hKn1⟩ := u_known (C := RX1) (T := TX1) (N := 3) (n := 3) hts0 (fun w h => lw_all_tbl (in_X1 w h)) (hts _ q30)
  obtain ⟨c2_, iS2, hKn2⟩ := u_known (C := RX2) (T := TX2) (N := 9) (n := 9) hts0 (fun w h => lw_all_tbl (in_X2 w h)) (hts _ q53)
  obtain ⟨c3_, iS3, hKn3⟩ := u_known (C := RX3) (T := TX3) (N := 1) (n := 1) hts0 (fun w h => lw_all_tbl (in_X3 w h)) (hts _ q90)
  obtain ⟨c4_, iS4, hKn4⟩ := u_known (C := RX4) (T := TX4) (N := 6) (n := 6) hts0 (fun w h => lw_all_tbl (in_X4 w h)) (hts _ q228)
  obtain ⟨dC, dI, hKc⟩ : ∃ (dC : Nat → ClassId) (dI : Nat → Nat → Nat), ∀ (k : Nat) (q : vw_C), vwCl[k]? = some q → u_Kn s q.1 q.2.1 q.2.2 (dC k) (dI k) := by
    refine ⟨fun k => if k = 0 then c0_ else if k = 1 then c1_ else if k = 2 then c2_ else if k = 3 then c3_ else c4_, fun k => if k = 0 then iS0 else if k = 1 then iS1 else if k = 2 then iS2 else if k = 3 then iS3 else iS4, ?_⟩
    intro k q hq
    match k, hq with
    | 0, hq => cases hq; exact hKn0
    | 1, hq => cases hq; exact hKn1
    | 2, hq => cases hq; exact hKn2
    | 3, hq => cases hq; exact hKn3
    | 4, hq => cases hq; exact hKn4
    | k + 5, hq => simp [vwCl] at hq
  obtain ⟨d, hd1, hd2⟩ := lw_arr (hts _ q51)
  have hS : va_S A s.heap s.heap [] := va_S.rf
  have hK : va_K (dC, dI) vwCl [(d, .int)] s := ⟨hKc, fun k q h => by
    cases k with
    | zero => cases h; exact ⟨hd1, hd2⟩
    | succ k => simp at h⟩
  have hP : va_P (dC, dI) vwCl [] s.heap := fun k q h => by simp at h
  have hD : va_D A [] := ⟨fun i j p q h => by simp at h, fun k q h => by simp at h⟩
  have hl := lv_entry ([.ref b]) (n := 4) (Nat.le_of_ble_eq_true rfl)
  rw [lg_entry_eq]
  generalize (lg_sl ([.ref b]) ++ List.replicate (4 - (lg_sl ([.ref b])).length) Slot.unset).toArray = ls at hl ⊢
  have hl : lv_has ls 4 [(0, .ref b)] := hl
  have loop : ∀ (dh sh g ln hv hw ht a1 a2 b1 b2 ct mh y1 y2 br : Nat) (N9 : Nat) (i n gN lN : Nat) (gy gq ly lq lv wy tr my mq bk : Nat → Int32) (td lvs k t fo : Int32), (200 - i < N9) → (i ≤ L) → (eq_I n gN lN gy gq ly lq my mq bk) → ∀ (H : Heap) (locs : List Loc), va_P (dC, dI) vwCl [(dh, .inr (0, [.ref g, .ref sh, .ref ct, .int (nI n), .int fo])), (sh, .inr (2, [.ref g, .ref ln, .ref hv, .ref hw, .ref ht, .int td, .int lvs, .int k, .int t])), (hv, .inl (d, 12, .inl lv)), (hw, .inl (d, 12, .inl wy)), (ht, .inl (d, 12, .inl tr)), (g, .inr (1, [.ref a1, .ref a2, .int (nI gN)])), (a1, .inl (d, 256, .inl gy)), (a2, .inl (d, 256, .inl gq)), (ln, .inr (1, [.ref b1, .ref b2, .int (nI lN)])), (b1, .inl (d, 6200, .inl ly)), (b2, .inl (d, 6200, .inl lq)), (ct, .inr (3, [.ref g])), (mh, .inr (4, [.ref y1, .ref y2, .int (nI gN), .int (nI n), .int fo, .ref br])), (y1, .inl (d, 256, .inl my)), (y2, .inl (d, 256, .inl mq)), (br, .inl (d, 4096, .inl bk))] H → va_D A [(dh, .inr (0, [.ref g, .ref sh, .ref ct, .int (nI n), .int fo])), (sh, .inr (2, [.ref g, .ref ln, .ref hv, .ref hw, .ref ht, .int td, .int lvs, .int k, .int t])), (hv, .inl (d, 12, .inl lv)), (hw, .inl (d, 12, .inl wy)), (ht, .inl (d, 12, .inl tr)), (g, .inr (1, [.ref a1, .ref a2, .int (nI gN)])), (a1, .inl (d, 256, .inl gy)), (a2, .inl (d, 256, .inl gq)), (ln, .inr (1, [.ref b1, .ref b2, .int (nI lN)])), (b1, .inl (d, 6200, .inl ly)), (b2, .inl (d, 6200, .inl lq)), (ct, .inr (3, [.ref g])), (mh, .inr (4, [.ref y1, .ref y2, .int (nI gN), .int (nI n), .int fo, .ref br])), (y1, .inl (d, 256, .inl my)), (y2, .inl (d, 256, .inl mq)), (br, .inl (d, 4096, .inl bk))] → va_S A s.heap H locs → ∀ (ls : Array Slot), lv_has ls 4 [(3, .int (nI i)), (2, .ref mh), (1, .ref dh), (0, .ref b)] → W p l e room_1 s m #[Value.ref b] below meth c H locs 600000 7302250 (lw_Z below #[Value.ref b] s) (F0 m 18 ls []) := by
    intro dh sh g ln hv hw ht a1 a2 b1 b2 ct mh y1 y2 br N9
    induction N9 with
    | zero =>
      intro i n gN lN gy gq ly lq lv wy tr my mq bk td lvs k t fo h9
      exact absurd h9 (Nat.not_lt_zero _)
    | succ N9 ih =>
      intro i n gN lN gy gq ly lq lv wy tr my mq bk td lvs k t fo h1 h2 hI H locs hP hD hS ls hl
      have k_n := hI.1
      have k_go := hI.2.1
      have k_lo := hI.2.2.1
      have k_lN := hI.2.2.2.1
      have k_gN := k_go.1
      refine lv_iload_n hx hb dL_law_18 rfl (lv_at hl 0 rfl) ?_
      refine lv_aload_n hx hb dL_law_19 rfl (lv_at hl 3 rfl) ?_
      refine va_slen hx hb hX hbl hbA hS dL_law_20 ?_
      refine wk_top (y := nI L) rfl ?_
      refine lv_iconst (v := 3) hx hb dL_law_21 (by decide) ?_
      refine lv_isub hx hb dL_law_22 ?_
      refine lv_icmp_gt (tgt := 221) hx hb dL_law_23 (by decide) (fun c_1 => ?_) (fun c_1 => ?_)
      · refine lv_iconst (v := 1) hx hb dL_law_221 (by decide) ?_
        refine va_forget (fun q hq => hAr _ (hS.2.2 q hq)) ?_
        exact lw_ret hx hb hr hlocks dL_law_222
      · have hi3 : i + 3 ≤ L := lw_cmp (by omega) (by omega) c_1
        refine lv_aload_n hx hb dL_law_26 rfl (lv_at hl 3 rfl) ?_
        refine lv_iload_n hx hb dL_law_27 rfl (lv_at hl 0 rfl) ?_
        refine va_sld (xs := xs) hx hb hX hbl hbA hS (vp_in_nI (n := i) (N := L) (by omega) (by omega)) dL_law_28 ?_
        refine wk_top (y := xs i) (by rw [nI_clamp (by omega)]) ?_
        refine lv_bipush (v := 7) hx hb dL_law_29 (by decide) ?_
        refine lv_iand hx hb dL_law_31 ?_
        obtain ⟨v, hv8, ev⟩ := pk_andE (xs i) (m := 7) 3 (by decide)
        rcases (show v = 0 ∨ v = 1 ∨ v = 2 ∨ v = 3 ∨ v = 4 ∨ v = 5 ∨ v = 6 ∨ v = 7 by omega) with rfl | rfl | rfl | rfl | rfl | rfl | rfl | rfl
        · refine wk_top (y := nI 0) ev ?_
          refine lv_tableIn (off := 44) (tgt := 76) hx hb dL_law_32 (by decide) (by decide) (by decide) (by decide) ?_
          refine lv_aload_n hx hb dL_law_76 rfl (lv_at hl 2 rfl) ?_
          refine lv_aload_n hx hb dL_law_77 rfl (lv_at hl 3 rfl) ?_
          refine lv_iload_n hx hb dL_law_78 rfl (lv_at hl 0 rfl) ?_
          refine lv_iconst (v := 1) hx hb dL_law_79 (by decide) ?_
          refine lv_iadd hx hb dL_law_80 ?_
          refine wk_top (y := nI (i + 1)) ((nI_succ i).symm) ?_
          refine va_sld (xs := xs) hx hb hX hbl hbA hS (vp_in_nI (n := i + 1) (N := L) (by omega) (by omega)) dL_law_81 ?_
          refine wk_top (y := xs (i + 1)) (by rw [nI_clamp (by omega)]) ?_
          have hPc := hP.sub (ws' := [(dh, .inr (0, [.ref g, .ref sh, .ref ct, .int (nI n), .int fo])), (sh, .inr (2, [.ref g, .ref ln, .ref hv, .ref hw, .ref ht, .int td, .int lvs, .int k, .int t])), (hv, .inl (d, 12, .inl lv)), (hw, .inl (d, 12, .inl wy)), (ht, .inl (d, 12, .inl tr)), (g, .inr (1, [.ref a1, .ref a2, .int (nI gN)])), (a1, .inl (d, 256, .inl gy)), (a2, .inl (d, 256, .inl gq)), (ln, .inr (1, [.ref b1, .ref b2, .int (nI lN)])), (b1, .inl (d, 6200, .inl ly)), (b2, .inl (d, 6200, .inl lq)), (ct, .inr (3, [.ref g]))]) [0, 1, 2, 3, 4, 5, 6, 7, 8, 9, 10, 11] rfl
          have hDc := hD.sub (ws' := [(dh, .inr (0, [.ref g, .ref sh, .ref ct, .int (nI n), .int fo])), (sh, .inr (2, [.ref g, .ref ln, .ref hv, .ref hw, .ref ht, .int td, .int lvs, .int k, .int t])), (hv, .inl (d, 12, .inl lv)), (hw, .inl (d, 12, .inl wy)), (ht, .inl (d, 12, .inl tr)), (g, .inr (1, [.ref a1, .ref a2, .int (nI gN)])), (a1, .inl (d, 256, .inl gy)), (a2, .inl (d, 256, .inl gq)), (ln, .inr (1, [.ref b1, .ref b2, .int (nI lN)])), (b1, .inl (d, 6200, .inl ly)), (b2, .inl (d, 6200, .inl lq)), (ct, .inr (3, [.ref g]))]) [0, 1, 2, 3, 4, 5, 6, 7, 8, 9, 10, 11] (by decide) rfl
          refine wk_cv (wr := [(mh, .inr (4, [.ref y1, .ref y2, .int (nI gN), .int (nI n), .int fo, .ref br])), (y1, .inl (d, 256, .inl my)), (y2, .inl (d, 256, .inl mq)), (br, .inl (d, 4096, .inl bk))]) (wn := fun (u : Unit) => [(dh, .inr (0, [.ref g, .ref sh, .ref ct, .int (nI (lt_n (xs (i + 1)))), .int (-1)])), (sh, .inr (2, [.ref g, .ref ln, .ref hv, .ref hw, .ref ht, .int td, .int lvs, .int k, .int t])), (hv, .inl (d, 12, .inl lv)), (hw, .inl (d, 12, .inl wy)), (ht, .inl (d, 12, .inl tr)), (g, .inr (1, [.ref a1, .ref a2, .int (nI 0)])), (a1, .inl (d, 256, .inl gy)), (a2, .inl (d, 256, .inl gq)), (ln, .inr (1, [.ref b1, .ref b2, .int (nI 0)])), (b1, .inl (d, 6200, .inl ly)), (b2, .inl (d, 6200, .inl lq)), (ct, .inr (3, [.ref g])), (mh, .inr (4, [.ref y1, .ref y2, .int (nI gN), .int (nI n), .int fo, .ref br])), (y1, .inl (d, 256, .inl my)), (y2, .inl (d, 256, .inl mq)), (br, .inl (d, 4096, .inl bk))]) (va_runV (As := [.int (xs (i + 1))]) (rest := []) ⟨hx, hb, hml, hown, hts⟩ (metX0_letters l dC dI d H.size dh sh g ln hv hw ht a1 a2 b1 b2 ct n gN lN gy gq ly lq lv wy tr td lvs k t fo (xs (i + 1))) (cwV 1 hts (lw_V q115 q116 q117 q14 q118) rfl rfl rfl (by decide +kernel) ⟨Nat.le_of_ble_eq_true rfl, Nat.le_of_ble_eq_true rfl⟩) (wk_M.preV (q := (RX0, TX0, 5)) (ci := 0) (q0 := 0) hK hPc hDc rfl rfl) rfl rfl hl.1 rfl (lv_room (Nat.le_of_ble_eq_true rfl)) dL_law_82 ⟨Nat.le_of_ble_eq_true rfl, Nat.le_of_ble_eq_true rfl⟩) hP hD hS hA [0, 1, 2, 3, 4, 5, 6, 7, 8, 9, 10, 11] [12, 13, 14, 15] [4, 5, 6, 7, 8, 9, 10, 11, 12, 13, 14, 15, 0, 1, 2, 3] rfl rfl (by decide) (by decide) (by decide) (fun _ => rfl) (fun u H locs hp hK hP hD hS => ?_)
          have hP : va_P (dC, dI) vwCl [(dh, .inr (0, [.ref g, .ref sh, .ref ct, .int (nI (lt_n (xs (i + 1)))), .int (-1)])), (sh, .inr (2, [.ref g, .ref ln, .ref hv, .ref hw, .ref ht, .int td, .int lvs, .int k, .int t])), (hv, .inl (d, 12, .inl lv)), (hw, .inl (d, 12, .inl wy)), (ht, .inl (d, 12, .inl tr)), (g, .inr (1, [.ref a1, .ref a2, .int (nI 0)])), (a1, .inl (d, 256, .inl gy)), (a2, .inl (d, 256, .inl gq)), (ln, .inr (1, [.ref b1, .ref b2, .int (nI 0)])), (b1, .inl (d, 6200, .inl ly)), (b2, .inl (d, 6200, .inl lq)), (ct, .inr (3, [.ref g])), (mh, .inr (4, [.ref y1, .ref y2, .int (nI gN), .int (nI n), .int fo, .ref br])), (y1, .inl (d, 256, .inl my)), (y2, .inl (d, 256, .inl mq)), (br, .inl (d, 4096, .inl bk))] H := hP
          have hD : va_D A [(dh, .inr (0, [.ref g, .ref sh, .ref ct, .int (nI (lt_n (xs (i + 1)))), .int (-1)])), (sh, .inr (2, [.ref g, .ref ln, .ref hv, .ref hw, .ref ht, .int td, .int lvs, .int k, .int t])), (hv, .inl (d, 12, .inl lv)), (hw, .inl (d, 12, .inl wy)), (ht, .inl (d, 12, .inl tr)), (g, .inr (1, [.ref a1, .ref a2, .int (nI 0)])), (a1, .inl (d, 256, .inl gy)), (a2, .inl (d, 256, .inl gq)), (ln, .inr (1, [.ref b1, .ref b2, .int (nI 0)])), (b1, .inl (d, 6200, .inl ly)), (b2, .inl (d, 6200, .inl lq)), (ct, .inr (3, [.ref g])), (mh, .inr (4, [.ref y1, .ref y2, .int (nI gN), .int (nI n), .int fo, .ref br])), (y1, .inl (d, 256, .inl my)), (y2, .inl (d, 256, .inl mq)), (br, .inl (d, 4096, .inl bk))] := hD
          refine lv_aload_n hx hb dL_law_85 rfl (lv_at hl 1 rfl) ?_
          refine lv_aload_n hx hb dL_law_86 rfl (lv_at hl 3 rfl) ?_
          refine lv_iload_n hx hb dL_law_87 rfl (lv_at hl 0 rfl) ?_
          refine lv_iconst (v := 1) hx hb dL_law_88 (by decide) ?_
          refine lv_iadd hx hb dL_law_89 ?_
          refine wk_top (y := nI (i + 1)) ((nI_succ i).symm) ?_
          refine va_sld (xs := xs) hx hb hX hbl hbA hS (vp_in_nI (n := i + 1) (N := L) (by omega) (by omega)) dL_law_90 ?_
          refine wk_top (y := xs (i + 1)) (by rw [nI_clamp (by omega)]) ?_
          have hPc := hP.sub (ws' := [(mh, .inr (4, [.ref y1, .ref y2, .int (nI gN), .int (nI n), .int fo, .ref br])), (y1, .inl (d, 256, .inl my)), (y2, .inl (d, 256, .inl mq)), (br, .inl (d, 4096, .inl bk))]) [12, 13, 14, 15] rfl
          have hDc := hD.sub (ws' := [(mh, .inr (4, [.ref y1, .ref y2, .int (nI gN), .int (nI n), .int fo, .ref br])), (y1, .inl (d, 256, .inl my)), (y2, .inl (d, 256, .inl mq)), (br, .inl (d, 4096, .inl bk))]) [12, 13, 14, 15] (by decide) rfl
          refine wk_cv (wr := [(dh, .inr (0, [.ref g, .ref sh, .ref ct, .int (nI (lt_n (xs (i + 1)))), .int (-1)])), (sh, .inr (2, [.ref g, .ref ln, .ref hv, .ref hw, .ref ht, .int td, .int lvs, .int k, .int t])), (hv, .inl (d, 12, .inl lv)), (hw, .inl (d, 12, .inl wy)), (ht, .inl (d, 12, .inl tr)), (g, .inr (1, [.ref a1, .ref a2, .int (nI 0)])), (a1, .inl (d, 256, .inl gy)), (a2, .inl (d, 256, .inl gq)), (ln, .inr (1, [.ref b1, .ref b2, .int (nI 0)])), (b1, .inl (d, 6200, .inl ly)), (b2, .inl (d, 6200, .inl lq)), (ct, .inr (3, [.ref g]))]) (wn := fun (u : Unit) => [(dh, .inr (0, [.ref g, .ref sh, .ref ct, .int (nI (lt_n (xs (i + 1)))), .int (-1)])), (sh, .inr (2, [.ref g, .ref ln, .ref hv, .ref hw, .ref ht, .int td, .int lvs, .int k, .int t])), (hv, .inl (d, 12, .inl lv)), (hw, .inl (d, 12, .inl wy)), (ht, .inl (d, 12, .inl tr)), (g, .inr (1, [.ref a1, .ref a2, .int (nI 0)])), (a1, .inl (d, 256, .inl gy)), (a2, .inl (d, 256, .inl gq)), (ln, .inr (1, [.ref b1, .ref b2, .int (nI 0)])), (b1, .inl (d, 6200, .inl ly)), (b2, .inl (d, 6200, .inl lq)), (ct, .inr (3, [.ref g])), (mh, .inr (4, [.ref y1, .ref y2, .int (nI 0), .int (nI (lt_n (xs (i + 1)))), .int (-1), .ref br])), (y1, .inl (d, 256, .inl my)), (y2, .inl (d, 256, .inl mq)), (br, .inl (d, 4096, .inl (md_z 4096 bk)))]) (va_runV (As := [.int (xs (i + 1))]) (rest := []) ⟨hx, hb, hml, hown, hts⟩ (metX4_letters l dC dI d H.size mh y1 y2 br (nI gN) (nI n) fo (xs (i + 1)) my mq bk) (cwV 1 hts (lw_V q252 q253 q254 q18 q255) rfl rfl rfl (by decide +kernel) ⟨Nat.le_of_ble_eq_true rfl, Nat.le_of_ble_eq_true rfl⟩) (wk_M.preV (q := (RX4, TX4, 6)) (ci := 4) (q0 := 0) hK hPc hDc rfl rfl) rfl rfl hl.1 rfl (lv_room (Nat.le_of_ble_eq_true rfl)) dL_law_91 ⟨Nat.le_of_ble_eq_true rfl, Nat.le_of_ble_eq_true rfl⟩) hP hD hS hA [12, 13, 14, 15] [0, 1, 2, 3, 4, 5, 6, 7, 8, 9, 10, 11] [0, 1, 2, 3, 4, 5, 6, 7, 8, 9, 10, 11, 12, 13, 14, 15] rfl rfl (by decide) (by decide) (by decide) (fun _ => rfl) (fun u H locs hp hK hP hD hS => ?_)
          have hP : va_P (dC, dI) vwCl [(dh, .inr (0, [.ref g, .ref sh, .ref ct, .int (nI (lt_n (xs (i + 1)))), .int (-1)])), (sh, .inr (2, [.ref g, .ref ln, .ref hv, .ref hw, .ref ht, .int td, .int lvs, .int k, .int t])), (hv, .inl (d, 12, .inl lv)), (hw, .inl (d, 12, .inl wy)), (ht, .inl (d, 12, .inl tr)), (g, .inr (1, [.ref a1, .ref a2, .int (nI 0)])), (a1, .inl (d, 256, .inl gy)), (a2, .inl (d, 256, .inl gq)), (ln, .inr (1, [.ref b1, .ref b2, .int (nI 0)])), (b1, .inl (d, 6200, .inl ly)), (b2, .inl (d, 6200, .inl lq)), (ct, .inr (3, [.ref g])), (mh, .inr (4, [.ref y1, .ref y2, .int (nI 0), .int (nI (lt_n (xs (i + 1)))), .int (-1), .ref br])), (y1, .inl (d, 256, .inl my)), (y2, .inl (d, 256, .inl mq)), (br, .inl (d, 4096, .inl (md_z 4096 bk)))] H := hP
          have hD : va_D A [(dh, .inr (0, [.ref g, .ref sh, .ref ct, .int (nI (lt_n (xs (i + 1)))), .int (-1)])), (sh, .inr (2, [.ref g, .ref ln, .ref hv, .ref hw, .ref ht, .int td, .int lvs, .int k, .int t])), (hv, .inl (d, 12, .inl lv)), (hw, .inl (d, 12, .inl wy)), (ht, .inl (d, 12, .inl tr)), (g, .inr (1, [.ref a1, .ref a2, .int (nI 0)])), (a1, .inl (d, 256, .inl gy)), (a2, .inl (d, 256, .inl gq)), (ln, .inr (1, [.ref b1, .ref b2, .int (nI 0)])), (b1, .inl (d, 6200, .inl ly)), (b2, .inl (d, 6200, .inl lq)), (ct, .inr (3, [.ref g])), (mh, .inr (4, [.ref y1, .ref y2, .int (nI 0), .int (nI (lt_n (xs (i + 1)))), .int (-1), .ref br])), (y1, .inl (d, 256, .inl my)), (y2, .inl (d, 256, .inl mq)), (br, .inl (d, 4096, .inl (md_z 4096 bk)))] := hD
          refine lv_goto (tgt := 215) hx hb dL_law_94 (by decide) ?_
          refine lv_iinc (v := nI (i + 3)) (lv' := [(3, .int (nI (i + 3))), (2, .ref mh), (1, .ref dh), (0, .ref b)]) hx hb dL_law_215 hl (k := 0) rfl (by rw [show Int32.ofInt 3 = nI 3 by decide]; exact nI_add i 3) (by decide) rfl (fun ls hl => ?_)
          refine lv_goto (tgt := 18) hx hb dL_law_218 (by decide) ?_
          exact ih (i + 3) (lt_n (xs (i + 1))) 0 0 gy gq ly lq lv wy tr my mq (md_z 4096 bk) td lvs k t (-1) (by omega) hi3 (eq_letters hI (xs (i + 1))) H locs hP hD hS ls (lv_sub hl [0, 1, 2, 3] rfl)
        · refine wk_top (y := nI 1) ev ?_
          refine lv_tableIn (off := 65) (tgt := 97) hx hb dL_law_32 (by decide) (by decide) (by decide) (by decide) ?_
          refine lv_aload_n hx hb dL_law_97 rfl (lv_at hl 2 rfl) ?_
          refine lv_aload_n hx hb dL_law_98 rfl (lv_at hl 3 rfl) ?_
          refine lv_iload_n hx hb dL_law_99 rfl (lv_at hl 0 rfl) ?_
          refine lv_iconst (v := 1) hx hb dL_law_100 (by decide) ?_
          refine lv_iadd hx hb dL_law_101 ?_
          refine wk_top (y := nI (i + 1)) ((nI_succ i).symm) ?_
          refine va_sld (xs := xs) hx hb hX hbl hbA hS (vp_in_nI (n := i + 1) (N := L) (by omega) (by omega)) dL_law_102 ?_
          refine wk_top (y := xs (i + 1)) (by rw [nI_clamp (by omega)]) ?_
          refine lv_aload_n hx hb dL_law_103 rfl (lv_at hl 3 rfl) ?_
          refine lv_iload_n hx hb dL_law_104 rfl (lv_at hl 0 rfl) ?_
          refine lv_iconst (v := 2) hx hb dL_law_105 (by decide) ?_
          refine lv_iadd hx hb dL_law_106 ?_
          refine wk_top (y := nI (i + 2)) (nI_add i 2) ?_
          refine va_sld (xs := xs) hx hb hX hbl hbA hS (vp_in_nI (n := i + 2) (N := L) (by omega) (by omega)) dL_law_107 ?_
          refine wk_top (y := xs (i + 2)) (by rw [nI_clamp (by omega)]) ?_
          have hPc := hP.sub (ws' := [(dh, .inr (0, [.ref g, .ref sh, .ref ct, .int (nI n), .int fo])), (sh, .inr (2, [.ref g, .ref ln, .ref hv, .ref hw, .ref ht, .int td, .int lvs, .int k, .int t])), (hv, .inl (d, 12, .inl lv)), (hw, .inl (d, 12, .inl wy)), (ht, .inl (d, 12, .inl tr)), (g, .inr (1, [.ref a1, .ref a2, .int (nI gN)])), (a1, .inl (d, 256, .inl gy)), (a2, .inl (d, 256, .inl gq)), (ln, .inr (1, [.ref b1, .ref b2, .int (nI lN)])), (b1, .inl (d, 6200, .inl ly)), (b2, .inl (d, 6200, .inl lq)), (ct, .inr (3, [.ref g]))]) [0, 1, 2, 3, 4, 5, 6, 7, 8, 9, 10, 11] rfl
          have hDc := hD.sub (ws' := [(dh, .inr (0, [.ref g, .ref sh, .ref ct, .int (nI n), .int fo])), (sh, .inr (2, [.ref g, .ref ln, .ref hv, .ref hw, .ref ht, .int td, .int lvs, .int k, .int t])), (hv, .inl (d, 12, .inl lv)), (hw, .inl (d, 12, .inl wy)), (ht, .inl (d, 12, .inl tr)), (g, .inr (1, [.ref a1, .ref a2, .int (nI gN)])), (a1, .inl (d, 256, .inl gy)), (a2, .inl (d, 256, .inl gq)), (ln, .inr (1, [.ref b1, .ref b2, .int (nI lN)])), (b1, .inl (d, 6200, .inl ly)), (b2, .inl (d, 6200, .inl lq)), (ct, .inr (3, [.ref g]))]) [0, 1, 2, 3, 4, 5, 6, 7, 8, 9, 10, 11] (by decide) rfl
          refine wk_ci (wr := [(mh, .inr (4, [.ref y1, .ref y2, .int (nI gN), .int (nI n), .int fo, .ref br])), (y1, .inl (d, 256, .inl my)), (y2, .inl (d, 256, .inl mq)), (br, .inl (d, 4096, .inl bk))]) (wn := fun (u : dc_S) => [(dh, .inr (0, [.ref g, .ref sh, .ref ct, .int (nI n), .int fo])), (sh, .inr (2, [.ref g, .ref ln, .ref hv, .ref hw, .ref ht, .int td, .int lvs, .int k, .int t])), (hv, .inl (d, 12, .inl lv)), (hw, .inl (d, 12, .inl wy)), (ht, .inl (d, 12, .inl tr)), (g, .inr (1, [.ref a1, .ref a2, .int (nI u.1)])), (a1, .inl (d, 256, .inl u.2.1)), (a2, .inl (d, 256, .inl u.2.2)), (ln, .inr (1, [.ref b1, .ref b2, .int (nI lN)])), (b1, .inl (d, 6200, .inl ly)), (b2, .inl (d, 6200, .inl lq)), (ct, .inr (3, [.ref g])), (mh, .inr (4, [.ref y1, .ref y2, .int (nI gN), .int (nI n), .int fo, .ref br])), (y1, .inl (d, 256, .inl my)), (y2, .inl (d, 256, .inl mq)), (br, .inl (d, 4096, .inl bk))]) (va_runV (As := [.int (xs (i + 1)), .int (xs (i + 2))]) (rest := []) ⟨hx, hb, hml, hown, hts⟩ (metX0_clause l dC dI d H.size dh sh g ln hv hw ht a1 a2 b1 b2 ct n gN lN gy gq ly lq lv wy tr td lvs k t fo (xs (i + 1)) (xs (i + 2)) k_gN) (cwV 2 hts (lw_V q124 q125 q126 q14 q127) rfl rfl rfl (by decide +kernel) ⟨Nat.le_of_ble_eq_true rfl, Nat.le_of_ble_eq_true rfl⟩) (wk_M.preV (q := (RX0, TX0, 5)) (ci := 0) (q0 := 0) hK hPc hDc rfl rfl) rfl rfl hl.1 rfl (lv_room (Nat.le_of_ble_eq_true rfl)) dL_law_108 ⟨Nat.le_of_ble_eq_true rfl, Nat.le_of_ble_eq_true rfl⟩) hP hD hS hA [0, 1, 2, 3, 4, 5, 6, 7, 8, 9, 10, 11] [12, 13, 14, 15] [4, 5, 6, 7, 8, 9, 10, 11, 12, 13, 14, 15, 0, 1, 2, 3] rfl rfl (by decide) (by decide) (by decide) (fun _ => rfl) (fun r1 u H locs hp hK hP hD hS => ?_)
          have hP : va_P (dC, dI) vwCl [(dh, .inr (0, [.ref g, .ref sh, .ref ct, .int (nI n), .int fo])), (sh, .inr (2, [.ref g, .ref ln, .ref hv, .ref hw, .ref ht, .int td, .int lvs, .int k, .int t])), (hv, .inl (d, 12, .inl lv)), (hw, .inl (d, 12, .inl wy)), (ht, .inl (d, 12, .inl tr)), (g, .inr (1, [.ref a1, .ref a2, .int (nI u.1)])), (a1, .inl (d, 256, .inl u.2.1)), (a2, .inl (d, 256, .inl u.2.2)), (ln, .inr (1, [.ref b1, .ref b2, .int (nI lN)])), (b1, .inl (d, 6200, .inl ly)), (b2, .inl (d, 6200, .inl lq)), (ct, .inr (3, [.ref g])), (mh, .inr (4, [.ref y1, .ref y2, .int (nI gN), .int (nI n), .int fo, .ref br])), (y1, .inl (d, 256, .inl my)), (y2, .inl (d, 256, .inl mq)), (br, .inl (d, 4096, .inl bk))] H := hP
          have hD : va_D A [(dh, .inr (0, [.ref g, .ref sh, .ref ct, .int (nI n), .int fo])), (sh, .inr (2, [.ref g, .ref ln, .ref hv, .ref hw, .ref ht, .int td, .int lvs, .int k, .int t])), (hv, .inl (d, 12, .inl lv)), (hw, .inl (d, 12, .inl wy)), (ht, .inl (d, 12, .inl tr)), (g, .inr (1, [.ref a1, .ref a2, .int (nI u.1)])), (a1, .inl (d, 256, .inl u.2.1)), (a2, .inl (d, 256, .inl u.2.2)), (ln, .inr (1, [.ref b1, .ref b2, .int (nI lN)])), (b1, .inl (d, 6200, .inl ly)), (b2, .inl (d, 6200, .inl lq)), (ct, .inr (3, [.ref g])), (mh, .inr (4, [.ref y1, .ref y2, .int (nI gN), .int (nI n), .int fo, .ref br])), (y1, .inl (d, 256, .inl my)), (y2, .inl (d, 256, .inl mq)), (br, .inl (d, 4096, .inl bk))] := hD
          refine lv_aload_n hx hb dL_law_111 rfl (lv_at hl 1 rfl) ?_
          refine lv_aload_n hx hb dL_law_112 rfl (lv_at hl 3 rfl) ?_
          refine lv_iload_n hx hb dL_law_113 rfl (lv_at hl 0 rfl) ?_
          refine lv_iconst (v := 1) hx hb dL_law_114 (by decide) ?_
          refine lv_iadd hx hb dL_law_115 ?_
          refine wk_top (y := nI (i + 1)) ((nI_succ i).symm) ?_
          refine va_sld (xs := xs) hx hb hX hbl hbA hS (vp_in_nI (n := i + 1) (N := L) (by omega) (by omega)) dL_law_116 ?_
          refine wk_top (y := xs (i + 1)) (by rw [nI_clamp (by omega)]) ?_
          refine lv_aload_n hx hb dL_law_117 rfl (lv_at hl 3 rfl) ?_
          refine lv_iload_n hx hb dL_law_118 rfl (lv_at hl 0 rfl) ?_
          refine lv_iconst (v := 2) hx hb dL_law_119 (by decide) ?_
          refine lv_iadd hx hb dL_law_120 ?_
          refine wk_top (y := nI (i + 2)) (nI_add i 2) ?_
          refine va_sld (xs := xs) hx hb hX hbl hbA hS (vp_in_nI (n := i + 2) (N := L) (by omega) (by omega)) dL_law_121 ?_
          refine wk_top (y := xs (i + 2)) (by rw [nI_clamp (by omega)]) ?_
          have hPc := hP.sub (ws' := [(mh, .inr (4, [.ref y1, .ref y2, .int (nI gN), .int (nI n), .int fo, .ref br])), (y1, .inl (d, 256, .inl my)), (y2, .inl (d, 256, .inl mq)), (br, .inl (d, 4096, .inl bk))]) [12, 13, 14, 15] rfl
          have hDc := hD.sub (ws' := [(mh, .inr (4, [.ref y1, .ref y2, .int (nI gN), .int (nI n), .int fo, .ref br])), (y1, .inl (d, 256, .inl my)), (y2, .inl (d, 256, .inl mq)), (br, .inl (d, 4096, .inl bk))]) [12, 13, 14, 15] (by decide) rfl
          refine wk_ci (wr := [(dh, .inr (0, [.ref g, .ref sh, .ref ct, .int (nI n), .int fo])), (sh, .inr (2, [.ref g, .ref ln, .ref hv, .ref hw, .ref ht, .int td, .int lvs, .int k, .int t])), (hv, .inl (d, 12, .inl lv)), (hw, .inl (d, 12, .inl wy)), (ht, .inl (d, 12, .inl tr)), (g, .inr (1, [.ref a1, .ref a2, .int (nI u.1)])), (a1, .inl (d, 256, .inl u.2.1)), (a2, .inl (d, 256, .inl u.2.2)), (ln, .inr (1, [.ref b1, .ref b2, .int (nI lN)])), (b1, .inl (d, 6200, .inl ly)), (b2, .inl (d, 6200, .inl lq)), (ct, .inr (3, [.ref g]))]) (wn := fun (v2 : mc_S) => [(dh, .inr (0, [.ref g, .ref sh, .ref ct, .int (nI n), .int fo])), (sh, .inr (2, [.ref g, .ref ln, .ref hv, .ref hw, .ref ht, .int td, .int lvs, .int k, .int t])), (hv, .inl (d, 12, .inl lv)), (hw, .inl (d, 12, .inl wy)), (ht, .inl (d, 12, .inl tr)), (g, .inr (1, [.ref a1, .ref a2, .int (nI u.1)])), (a1, .inl (d, 256, .inl u.2.1)), (a2, .inl (d, 256, .inl u.2.2)), (ln, .inr (1, [.ref b1, .ref b2, .int (nI lN)])), (b1, .inl (d, 6200, .inl ly)), (b2, .inl (d, 6200, .inl lq)), (ct, .inr (3, [.ref g])), (mh, .inr (4, [.ref y1, .ref y2, .int (nI v2.1), .int (nI n), .int fo, .ref br])), (y1, .inl (d, 256, .inl v2.2.1)), (y2, .inl (d, 256, .inl v2.2.2.1)), (br, .inl (d, 4096, .inl v2.2.2.2))]) (va_runV (As := [.int (xs (i + 1)), .int (xs (i + 2))]) (rest := [.int r1]) ⟨hx, hb, hml, hown, hts⟩ (metX4_clause l dC dI d H.size mh y1 y2 br gN n fo (xs (i + 1)) (xs (i + 2)) my mq bk k_gN k_n) (cwV 2 hts (lw_V q257 q258 q259 q18 q260) rfl rfl rfl (by decide +kernel) ⟨Nat.le_of_ble_eq_true rfl, Nat.le_of_ble_eq_true rfl⟩) (wk_M.preV (q := (RX4, TX4, 6)) (ci := 4) (q0 := 0) hK hPc hDc rfl rfl) rfl rfl hl.1 rfl (lv_room (Nat.le_of_ble_eq_true rfl)) dL_law_122 ⟨Nat.le_of_ble_eq_true rfl, Nat.le_of_ble_eq_true rfl⟩) hP hD hS hA [12, 13, 14, 15] [0, 1, 2, 3, 4, 5, 6, 7, 8, 9, 10, 11] [0, 1, 2, 3, 4, 5, 6, 7, 8, 9, 10, 11, 12, 13, 14, 15] rfl rfl (by decide) (by decide) (by decide) (fun _ => rfl) (fun r2 v2 H locs hq hK hP hD hS => ?_)
          have hP : va_P (dC, dI) vwCl [(dh, .inr (0, [.ref g, .ref sh, .ref ct, .int (nI n), .int fo])), (sh, .inr (2, [.ref g, .ref ln, .ref hv, .ref hw, .ref ht, .int td, .int lvs, .int k, .int t])), (hv, .inl (d, 12, .inl lv)), (hw, .inl (d, 12, .inl wy)), (ht, .inl (d, 12, .inl tr)), (g, .inr (1, [.ref a1, .ref a2, .int (nI u.1)])), (a1, .inl (d, 256, .inl u.2.1)), (a2, .inl (d, 256, .inl u.2.2)), (ln, .inr (1, [.ref b1, .ref b2, .int (nI lN)])), (b1, .inl (d, 6200, .inl ly)), (b2, .inl (d, 6200, .inl lq)), (ct, .inr (3, [.ref g])), (mh, .inr (4, [.ref y1, .ref y2, .int (nI v2.1), .int (nI n), .int fo, .ref br])), (y1, .inl (d, 256, .inl v2.2.1)), (y2, .inl (d, 256, .inl v2.2.2.1)), (br, .inl (d, 4096, .inl v2.2.2.2))] H := hP
          have hD : va_D A [(dh, .inr (0, [.ref g, .ref sh, .ref ct, .int (nI n), .int fo])), (sh, .inr (2, [.ref g, .ref ln, .ref hv, .ref hw, .ref ht, .int td, .int lvs, .int k, .int t])), (hv, .inl (d, 12, .inl lv)), (hw, .inl (d, 12, .inl wy)), (ht, .inl (d, 12, .inl tr)), (g, .inr (1, [.ref a1, .ref a2, .int (nI u.1)])), (a1, .inl (d, 256, .inl u.2.1)), (a2, .inl (d, 256, .inl u.2.2)), (ln, .inr (1, [.ref b1, .ref b2, .int (nI lN)])), (b1, .inl (d, 6200, .inl ly)), (b2, .inl (d, 6200, .inl lq)), (ct, .inr (3, [.ref g])), (mh, .inr (4, [.ref y1, .ref y2, .int (nI v2.1), .int (nI n), .int fo, .ref br])), (y1, .inl (d, 256, .inl v2.2.1)), (y2, .inl (d, 256, .inl v2.2.2.1)), (br, .inl (d, 4096, .inl v2.2.2.2))] := hD
          rcases hp with ⟨f1, f2, f3⟩ | ⟨f1, f2, f3⟩
          · rcases hq with ⟨g1, g2, g3⟩ | ⟨g1, g2, g3⟩
            · subst f3
              subst g3
              have hP : va_P (dC, dI) vwCl [(dh, .inr (0, [.ref g, .ref sh, .ref ct, .int (nI n), .int fo])), (sh, .inr (2, [.ref g, .ref ln, .ref hv, .ref hw, .ref ht, .int td, .int lvs, .int k, .int t])), (hv, .inl (d, 12, .inl lv)), (hw, .inl (d, 12, .inl wy)), (ht, .inl (d, 12, .inl tr)), (g, .inr (1, [.ref a1, .ref a2, .int (nI gN)])), (a1, .inl (d, 256, .inl gy)), (a2, .inl (d, 256, .inl gq)), (ln, .inr (1, [.ref b1, .ref b2, .int (nI lN)])), (b1, .inl (d, 6200, .inl ly)), (b2, .inl (d, 6200, .inl lq)), (ct, .inr (3, [.ref g])), (mh, .inr (4, [.ref y1, .ref y2, .int (nI gN), .int (nI n), .int fo, .ref br])), (y1, .inl (d, 256, .inl my)), (y2, .inl (d, 256, .inl mq)), (br, .inl (d, 4096, .inl bk))] H := hP
              have hD : va_D A [(dh, .inr (0, [.ref g, .ref sh, .ref ct, .int (nI n), .int fo])), (sh, .inr (2, [.ref g, .ref ln, .ref hv, .ref hw, .ref ht, .int td, .int lvs, .int k, .int t])), (hv, .inl (d, 12, .inl lv)), (hw, .inl (d, 12, .inl wy)), (ht, .inl (d, 12, .inl tr)), (g, .inr (1, [.ref a1, .ref a2, .int (nI gN)])), (a1, .inl (d, 256, .inl gy)), (a2, .inl (d, 256, .inl gq)), (ln, .inr (1, [.ref b1, .ref b2, .int (nI lN)])), (b1, .inl (d, 6200, .inl ly)), (b2, .inl (d, 6200, .inl lq)), (ct, .inr (3, [.ref g])), (mh, .inr (4, [.ref y1, .ref y2, .int (nI gN), .int (nI n), .int fo, .ref br])), (y1, .inl (d, 256, .inl my)), (y2, .inl (d, 256, .inl mq)), (br, .inl (d, 4096, .inl bk))] := hD
              refine lv_icmp_eq (tgt := 215) hx hb dL_law_125 (by decide) (fun c_9 => ?_) (fun c_9 => ?_)
              · refine lv_iinc (v := nI (i + 3)) (lv' := [(3, .int (nI (i + 3))), (2, .ref mh), (1, .ref dh), (0, .ref b)]) hx hb dL_law_215 hl (k := 0) rfl (by rw [show Int32.ofInt 3 = nI 3 by decide]; exact nI_add i 3) (by decide) rfl (fun ls hl => ?_)
                refine lv_goto (tgt := 18) hx hb dL_law_218 (by decide) ?_
                exact ih (i + 3) n gN lN gy gq ly lq lv wy tr my mq bk td lvs k t fo (by omega) hi3 (hI) H locs hP hD hS ls (lv_sub hl [0, 1, 2, 3] rfl)
              · exact absurd (f2.trans g2.symm) c_9
            · omega
          · rcases hq with ⟨g1, g2, g3⟩ | ⟨g1, g2, g3⟩
            · omega
            · subst f3
              subst g3
              have hP : va_P (dC, dI) vwCl [(dh, .inr (0, [.ref g, .ref sh, .ref ct, .int (nI n), .int fo])), (sh, .inr (2, [.ref g, .ref ln, .ref hv, .ref hw, .ref ht, .int td, .int lvs, .int k, .int t])), (hv, .inl (d, 12, .inl lv)), (hw, .inl (d, 12, .inl wy)), (ht, .inl (d, 12, .inl tr)), (g, .inr (1, [.ref a1, .ref a2, .int (nI (gN + 1))])), (a1, .inl (d, 256, .inl (upd gy gN ((xs (i + 1)) &&& ((1 : Int32) <<< (nI n &&& 31) - 1))))), (a2, .inl (d, 256, .inl (upd gq gN ((xs (i + 2)) &&& ((1 : Int32) <<< (nI n &&& 31) - 1))))), (ln, .inr (1, [.ref b1, .ref b2, .int (nI lN)])), (b1, .inl (d, 6200, .inl ly)), (b2, .inl (d, 6200, .inl lq)), (ct, .inr (3, [.ref g])), (mh, .inr (4, [.ref y1, .ref y2, .int (nI (gN + 1)), .int (nI n), .int fo, .ref br])), (y1, .inl (d, 256, .inl (upd my gN ((xs (i + 1)) &&& ((1 : Int32) <<< (nI n &&& 31) - 1))))), (y2, .inl (d, 256, .inl (upd mq gN ((xs (i + 2)) &&& ((1 : Int32) <<< (nI n &&& 31) - 1))))), (br, .inl (d, 4096, .inl (md_add ((xs (i + 1)) &&& ((1 : Int32) <<< (nI n &&& 31) - 1)) ((xs (i + 2)) &&& ((1 : Int32) <<< (nI n &&& 31) - 1)) 1 (2 ^ n) bk)))] H := hP
              have hD : va_D A [(dh, .inr (0, [.ref g, .ref sh, .ref ct, .int (nI n), .int fo])), (sh, .inr (2, [.ref g, .ref ln, .ref hv, .ref hw, .ref ht, .int td, .int lvs, .int k, .int t])), (hv, .inl (d, 12, .inl lv)), (hw, .inl (d, 12, .inl wy)), (ht, .inl (d, 12, .inl tr)), (g, .inr (1, [.ref a1, .ref a2, .int (nI (gN + 1))])), (a1, .inl (d, 256, .inl (upd gy gN ((xs (i + 1)) &&& ((1 : Int32) <<< (nI n &&& 31) - 1))))), (a2, .inl (d, 256, .inl (upd gq gN ((xs (i + 2)) &&& ((1 : Int32) <<< (nI n &&& 31) - 1))))), (ln, .inr (1, [.ref b1, .ref b2, .int (nI lN)])), (b1, .inl (d, 6200, .inl ly)), (b2, .inl (d, 6200, .inl lq)), (ct, .inr (3, [.ref g])), (mh, .inr (4, [.ref y1, .ref y2, .int (nI (gN + 1)), .int (nI n), .int fo, .ref br])), (y1, .inl (d, 256, .inl (upd my gN ((xs (i + 1)) &&& ((1 : Int32) <<< (nI n &&& 31) - 1))))), (y2, .inl (d, 256, .inl (upd mq gN ((xs (i + 2)) &&& ((1 : Int32) <<< (nI n &&& 31) - 1))))), (br, .inl (d, 4096, .inl (md_add ((xs (i + 1)) &&& ((1 : Int32) <<< (nI n &&& 31) - 1)) ((xs (i + 2)) &&& ((1 : Int32) <<< (nI n &&& 31) - 1)) 1 (2 ^ n) bk)))] := hD
              refine lv_icmp_eq (tgt := 215) hx hb dL_law_125 (by decide) (fun c_9 => ?_) (fun c_9 => ?_)
              · refine lv_iinc (v := nI (i + 3)) (lv' := [(3, .int (nI (i + 3))), (2, .ref mh), (1, .ref dh), (0, .ref b)]) hx hb dL_law_215 hl (k := 0) rfl (by rw [show Int32.ofInt 3 = nI 3 by decide]; exact nI_add i 3) (by decide) rfl (fun ls hl => ?_)
                refine lv_goto (tgt := 18) hx hb dL_law_218 (by decide) ?_
                exact ih (i + 3) n (gN + 1) lN _ _ ly lq lv wy tr _ _ _ td lvs k t fo (by omega) hi3 (eq_clause hI f1 (xs (i + 1)) (xs (i + 2))) H locs hP hD hS ls (lv_sub hl [0, 1, 2, 3] rfl)
              · exact absurd (f2.trans g2.symm) c_9
        · refine wk_top (y := nI 2) ev ?_
          refine lv_tableIn (off := 98) (tgt := 130) hx hb dL_law_32 (by decide) (by decide) (by decide) (by decide) ?_
          refine lv_aload_n hx hb dL_law_130 rfl (lv_at hl 2 rfl) ?_
          have hPc := hP.sub (ws' := [(dh, .inr (0, [.ref g, .ref sh, .ref ct, .int (nI n), .int fo])), (sh, .inr (2, [.ref g, .ref ln, .ref hv, .ref hw, .ref ht, .int td, .int lvs, .int k, .int t])), (hv, .inl (d, 12, .inl lv)), (hw, .inl (d, 12, .inl wy)), (ht, .inl (d, 12, .inl tr)), (g, .inr (1, [.ref a1, .ref a2, .int (nI gN)])), (a1, .inl (d, 256, .inl gy)), (a2, .inl (d, 256, .inl gq)), (ln, .inr (1, [.ref b1, .ref b2, .int (nI lN)])), (b1, .inl (d, 6200, .inl ly)), (b2, .inl (d, 6200, .inl lq)), (ct, .inr (3, [.ref g]))]) [0, 1, 2, 3, 4, 5, 6, 7, 8, 9, 10, 11] rfl
          have hDc := hD.sub (ws' := [(dh, .inr (0, [.ref g, .ref sh, .ref ct, .int (nI n), .int fo])), (sh, .inr (2, [.ref g, .ref ln, .ref hv, .ref hw, .ref ht, .int td, .int lvs, .int k, .int t])), (hv, .inl (d, 12, .inl lv)), (hw, .inl (d, 12, .inl wy)), (ht, .inl (d, 12, .inl tr)), (g, .inr (1, [.ref a1, .ref a2, .int (nI gN)])), (a1, .inl (d, 256, .inl gy)), (a2, .inl (d, 256, .inl gq)), (ln, .inr (1, [.ref b1, .ref b2, .int (nI lN)])), (b1, .inl (d, 6200, .inl ly)), (b2, .inl (d, 6200, .inl lq)), (ct, .inr (3, [.ref g]))]) [0, 1, 2, 3, 4, 5, 6, 7, 8, 9, 10, 11] (by decide) rfl
          refine wk_ci (wr := [(mh, .inr (4, [.ref y1, .ref y2, .int (nI gN), .int (nI n), .int fo, .ref br])), (y1, .inl (d, 256, .inl my)), (y2, .inl (d, 256, .inl mq)), (br, .inl (d, 4096, .inl bk))]) (wn := fun (u : Nat × Nat) => [(dh, .inr (0, [.ref g, .ref sh, .ref ct, .int (nI n), .int fo])), (sh, .inr (2, [.ref g, .ref ln, .ref hv, .ref hw, .ref ht, .int td, .int lvs, .int k, .int t])), (hv, .inl (d, 12, .inl lv)), (hw, .inl (d, 12, .inl wy)), (ht, .inl (d, 12, .inl tr)), (g, .inr (1, [.ref a1, .ref a2, .int (nI u.1)])), (a1, .inl (d, 256, .inl gy)), (a2, .inl (d, 256, .inl gq)), (ln, .inr (1, [.ref b1, .ref b2, .int (nI u.2)])), (b1, .inl (d, 6200, .inl ly)), (b2, .inl (d, 6200, .inl lq)), (ct, .inr (3, [.ref g])), (mh, .inr (4, [.ref y1, .ref y2, .int (nI gN), .int (nI n), .int fo, .ref br])), (y1, .inl (d, 256, .inl my)), (y2, .inl (d, 256, .inl mq)), (br, .inl (d, 4096, .inl bk))]) (va_runV (As := []) (rest := []) ⟨hx, hb, hml, hown, hts⟩ (metX0_drop l dC dI d H.size dh sh g ln hv hw ht a1 a2 b1 b2 ct n gN lN gy gq ly lq lv wy tr td lvs k t fo k_gN) (cwV 0 hts (lw_V q136 q137 q138 q14 q139) rfl rfl rfl (by decide +kernel) ⟨Nat.le_of_ble_eq_true rfl, Nat.le_of_ble_eq_true rfl⟩) (wk_M.preV (q := (RX0, TX0, 5)) (ci := 0) (q0 := 0) hK hPc hDc rfl rfl) rfl rfl hl.1 rfl (lv_room (Nat.le_of_ble_eq_true rfl)) dL_law_131 ⟨Nat.le_of_ble_eq_true rfl, Nat.le_of_ble_eq_true rfl⟩) hP hD hS hA [0, 1, 2, 3, 4, 5, 6, 7, 8, 9, 10, 11] [12, 13, 14, 15] [4, 5, 6, 7, 8, 9, 10, 11, 12, 13, 14, 15, 0, 1, 2, 3] rfl rfl (by decide) (by decide) (by decide) (fun _ => rfl) (fun r1 u H locs hp hK hP hD hS => ?_)
          have hP : va_P (dC, dI) vwCl [(dh, .inr (0, [.ref g, .ref sh, .ref ct, .int (nI n), .int fo])), (sh, .inr (2, [.ref g, .ref ln, .ref hv, .ref hw, .ref ht, .int td, .int lvs, .int k, .int t])), (hv, .inl (d, 12, .inl lv)), (hw, .inl (d, 12, .inl wy)), (ht, .inl (d, 12, .inl tr)), (g, .inr (1, [.ref a1, .ref a2, .int (nI u.1)])), (a1, .inl (d, 256, .inl gy)), (a2, .inl (d, 256, .inl gq)), (ln, .inr (1, [.ref b1, .ref b2, .int (nI u.2)])), (b1, .inl (d, 6200, .inl ly)), (b2, .inl (d, 6200, .inl lq)), (ct, .inr (3, [.ref g])), (mh, .inr (4, [.ref y1, .ref y2, .int (nI gN), .int (nI n), .int fo, .ref br])), (y1, .inl (d, 256, .inl my)), (y2, .inl (d, 256, .inl mq)), (br, .inl (d, 4096, .inl bk))] H := hP
          have hD : va_D A [(dh, .inr (0, [.ref g, .ref sh, .ref ct, .int (nI n), .int fo])), (sh, .inr (2, [.ref g, .ref ln, .ref hv, .ref hw, .ref ht, .int td, .int lvs, .int k, .int t])), (hv, .inl (d, 12, .inl lv)), (hw, .inl (d, 12, .inl wy)), (ht, .inl (d, 12, .inl tr)), (g, .inr (1, [.ref a1, .ref a2, .int (nI u.1)])), (a1, .inl (d, 256, .inl gy)), (a2, .inl (d, 256, .inl gq)), (ln, .inr (1, [.ref b1, .ref b2, .int (nI u.2)])), (b1, .inl (d, 6200, .inl ly)), (b2, .inl (d, 6200, .inl lq)), (ct, .inr (3, [.ref g])), (mh, .inr (4, [.ref y1, .ref y2, .int (nI gN), .int (nI n), .int fo, .ref br])), (y1, .inl (d, 256, .inl my)), (y2, .inl (d, 256, .inl mq)), (br, .inl (d, 4096, .inl bk))] := hD
          refine lv_aload_n hx hb dL_law_134 rfl (lv_at hl 1 rfl) ?_
          have hPc := hP.sub (ws' := [(mh, .inr (4, [.ref y1, .ref y2, .int (nI gN), .int (nI n), .int fo, .ref br])), (y1, .inl (d, 256, .inl my)), (y2, .inl (d, 256, .inl mq)), (br, .inl (d, 4096, .inl bk))]) [12, 13, 14, 15] rfl
          have hDc := hD.sub (ws' := [(mh, .inr (4, [.ref y1, .ref y2, .int (nI gN), .int (nI n), .int fo, .ref br])), (y1, .inl (d, 256, .inl my)), (y2, .inl (d, 256, .inl mq)), (br, .inl (d, 4096, .inl bk))]) [12, 13, 14, 15] (by decide) rfl
          refine wk_ci (wr := [(dh, .inr (0, [.ref g, .ref sh, .ref ct, .int (nI n), .int fo])), (sh, .inr (2, [.ref g, .ref ln, .ref hv, .ref hw, .ref ht, .int td, .int lvs, .int k, .int t])), (hv, .inl (d, 12, .inl lv)), (hw, .inl (d, 12, .inl wy)), (ht, .inl (d, 12, .inl tr)), (g, .inr (1, [.ref a1, .ref a2, .int (nI u.1)])), (a1, .inl (d, 256, .inl gy)), (a2, .inl (d, 256, .inl gq)), (ln, .inr (1, [.ref b1, .ref b2, .int (nI u.2)])), (b1, .inl (d, 6200, .inl ly)), (b2, .inl (d, 6200, .inl lq)), (ct, .inr (3, [.ref g]))]) (wn := fun (v2 : Nat × (Nat → Int32)) => [(dh, .inr (0, [.ref g, .ref sh, .ref ct, .int (nI n), .int fo])), (sh, .inr (2, [.ref g, .ref ln, .ref hv, .ref hw, .ref ht, .int td, .int lvs, .int k, .int t])), (hv, .inl (d, 12, .inl lv)), (hw, .inl (d, 12, .inl wy)), (ht, .inl (d, 12, .inl tr)), (g, .inr (1, [.ref a1, .ref a2, .int (nI u.1)])), (a1, .inl (d, 256, .inl gy)), (a2, .inl (d, 256, .inl gq)), (ln, .inr (1, [.ref b1, .ref b2, .int (nI u.2)])), (b1, .inl (d, 6200, .inl ly)), (b2, .inl (d, 6200, .inl lq)), (ct, .inr (3, [.ref g])), (mh, .inr (4, [.ref y1, .ref y2, .int (nI v2.1), .int (nI n), .int fo, .ref br])), (y1, .inl (d, 256, .inl my)), (y2, .inl (d, 256, .inl mq)), (br, .inl (d, 4096, .inl v2.2))]) (va_runV (As := []) (rest := [.int r1]) ⟨hx, hb, hml, hown, hts⟩ (metX4_drop l dC dI d H.size mh y1 y2 br gN n fo my mq bk k_gN k_n) (cwV 0 hts (lw_V q265 q266 q267 q18 q268) rfl rfl rfl (by decide +kernel) ⟨Nat.le_of_ble_eq_true rfl, Nat.le_of_ble_eq_true rfl⟩) (wk_M.preV (q := (RX4, TX4, 6)) (ci := 4) (q0 := 0) hK hPc hDc rfl rfl) rfl rfl hl.1 rfl (lv_room (Nat.le_of_ble_eq_true rfl)) dL_law_135 ⟨Nat.le_of_ble_eq_true rfl, Nat.le_of_ble_eq_true rfl⟩) hP hD hS hA [12, 13, 14, 15] [0, 1, 2, 3, 4, 5, 6, 7, 8, 9, 10, 11] [0, 1, 2, 3, 4, 5, 6, 7, 8, 9, 10, 11, 12, 13, 14, 15] rfl rfl (by decide) (by decide) (by decide) (fun _ => rfl) (fun r2 v2 H locs hq hK hP hD hS => ?_)
          have hP : va_P (dC, dI) vwCl [(dh, .inr (0, [.ref g, .ref sh, .ref ct, .int (nI n), .int fo])), (sh, .inr (2, [.ref g, .ref ln, .ref hv, .ref hw, .ref ht, .int td, .int lvs, .int k, .int t])), (hv, .inl (d, 12, .inl lv)), (hw, .inl (d, 12, .inl wy)), (ht, .inl (d, 12, .inl tr)), (g, .inr (1, [.ref a1, .ref a2, .int (nI u.1)])), (a1, .inl (d, 256, .inl gy)), (a2, .inl (d, 256, .inl gq)), (ln, .inr (1, [.ref b1, .ref b2, .int (nI u.2)])), (b1, .inl (d, 6200, .inl ly)), (b2, .inl (d, 6200, .inl lq)), (ct, .inr (3, [.ref g])), (mh, .inr (4, [.ref y1, .ref y2, .int (nI v2.1), .int (nI n), .int fo, .ref br])), (y1, .inl (d, 256, .inl my)), (y2, .inl (d, 256, .inl mq)), (br, .inl (d, 4096, .inl v2.2))] H := hP
          have hD : va_D A [(dh, .inr (0, [.ref g, .ref sh, .ref ct, .int (nI n), .int fo])), (sh, .inr (2, [.ref g, .ref ln, .ref hv, .ref hw, .ref ht, .int td, .int lvs, .int k, .int t])), (hv, .inl (d, 12, .inl lv)), (hw, .inl (d, 12, .inl wy)), (ht, .inl (d, 12, .inl tr)), (g, .inr (1, [.ref a1, .ref a2, .int (nI u.1)])), (a1, .inl (d, 256, .inl gy)), (a2, .inl (d, 256, .inl gq)), (ln, .inr (1, [.ref b1, .ref b2, .int (nI u.2)])), (b1, .inl (d, 6200, .inl ly)), (b2, .inl (d, 6200, .inl lq)), (ct, .inr (3, [.ref g])), (mh, .inr (4, [.ref y1, .ref y2, .int (nI v2.1), .int (nI n), .int fo, .ref br])), (y1, .inl (d, 256, .inl my)), (y2, .inl (d, 256, .inl mq)), (br, .inl (d, 4096, .inl v2.2))] := hD
          rcases hp with ⟨f1, f2, f3⟩ | ⟨f1, f2, f3⟩
          · rcases hq with ⟨g1, g2, g3⟩ | ⟨g1, g2, g3⟩
            · subst f3
              subst g3
              have hP : va_P (dC, dI) vwCl [(dh, .inr (0, [.ref g, .ref sh, .ref ct, .int (nI n), .int fo])), (sh, .inr (2, [.ref g, .ref ln, .ref hv, .ref hw, .ref ht, .int td, .int lvs, .int k, .int t])), (hv, .inl (d, 12, .inl lv)), (hw, .inl (d, 12, .inl wy)), (ht, .inl (d, 12, .inl tr)), (g, .inr (1, [.ref a1, .ref a2, .int (nI gN)])), (a1, .inl (d, 256, .inl gy)), (a2, .inl (d, 256, .inl gq)), (ln, .inr (1, [.ref b1, .ref b2, .int (nI lN)])), (b1, .inl (d, 6200, .inl ly)), (b2, .inl (d, 6200, .inl lq)), (ct, .inr (3, [.ref g])), (mh, .inr (4, [.ref y1, .ref y2, .int (nI gN), .int (nI n), .int fo, .ref br])), (y1, .inl (d, 256, .inl my)), (y2, .inl (d, 256, .inl mq)), (br, .inl (d, 4096, .inl bk))] H := hP
              have hD : va_D A [(dh, .inr (0, [.ref g, .ref sh, .ref ct, .int (nI n), .int fo])), (sh, .inr (2, [.ref g, .ref ln, .ref hv, .ref hw, .ref ht, .int td, .int lvs, .int k, .int t])), (hv, .inl (d, 12, .inl lv)), (hw, .inl (d, 12, .inl wy)), (ht, .inl (d, 12, .inl tr)), (g, .inr (1, [.ref a1, .ref a2, .int (nI gN)])), (a1, .inl (d, 256, .inl gy)), (a2, .inl (d, 256, .inl gq)), (ln, .inr (1, [.ref b1, .ref b2, .int (nI lN)])), (b1, .inl (d, 6200, .inl ly)), (b2, .inl (d, 6200, .inl lq)), (ct, .inr (3, [.ref g])), (mh, .inr (4, [.ref y1, .ref y2, .int (nI gN), .int (nI n), .int fo, .ref br])), (y1, .inl (d, 256, .inl my)), (y2, .inl (d, 256, .inl mq)), (br, .inl (d, 4096, .inl bk))] := hD
              refine lv_icmp_eq (tgt := 215) hx hb dL_law_138 (by decide) (fun c_9 => ?_) (fun c_9 => ?_)
              · refine lv_iinc (v := nI (i + 3)) (lv' := [(3, .int (nI (i + 3))), (2, .ref mh), (1, .ref dh), (0, .ref b)]) hx hb dL_law_215 hl (k := 0) rfl (by rw [show Int32.ofInt 3 = nI 3 by decide]; exact nI_add i 3) (by decide) rfl (fun ls hl => ?_)
                refine lv_goto (tgt := 18) hx hb dL_law_218 (by decide) ?_
                exact ih (i + 3) n gN lN gy gq ly lq lv wy tr my mq bk td lvs k t fo (by omega) hi3 (hI) H locs hP hD hS ls (lv_sub hl [0, 1, 2, 3] rfl)
              · exact absurd (f2.trans g2.symm) c_9
            · omega
          · rcases hq with ⟨g1, g2, g3⟩ | ⟨g1, g2, g3⟩
            · omega
            · subst f3
              subst g3
              have hP : va_P (dC, dI) vwCl [(dh, .inr (0, [.ref g, .ref sh, .ref ct, .int (nI n), .int fo])), (sh, .inr (2, [.ref g, .ref ln, .ref hv, .ref hw, .ref ht, .int td, .int lvs, .int k, .int t])), (hv, .inl (d, 12, .inl lv)), (hw, .inl (d, 12, .inl wy)), (ht, .inl (d, 12, .inl tr)), (g, .inr (1, [.ref a1, .ref a2, .int (nI (gN - 1))])), (a1, .inl (d, 256, .inl gy)), (a2, .inl (d, 256, .inl gq)), (ln, .inr (1, [.ref b1, .ref b2, .int (nI 0)])), (b1, .inl (d, 6200, .inl ly)), (b2, .inl (d, 6200, .inl lq)), (ct, .inr (3, [.ref g])), (mh, .inr (4, [.ref y1, .ref y2, .int (nI (gN - 1)), .int (nI n), .int fo, .ref br])), (y1, .inl (d, 256, .inl my)), (y2, .inl (d, 256, .inl mq)), (br, .inl (d, 4096, .inl (md_add (my (gN - 1)) (mq (gN - 1)) (-1) (2 ^ n) bk)))] H := hP
              have hD : va_D A [(dh, .inr (0, [.ref g, .ref sh, .ref ct, .int (nI n), .int fo])), (sh, .inr (2, [.ref g, .ref ln, .ref hv, .ref hw, .ref ht, .int td, .int lvs, .int k, .int t])), (hv, .inl (d, 12, .inl lv)), (hw, .inl (d, 12, .inl wy)), (ht, .inl (d, 12, .inl tr)), (g, .inr (1, [.ref a1, .ref a2, .int (nI (gN - 1))])), (a1, .inl (d, 256, .inl gy)), (a2, .inl (d, 256, .inl gq)), (ln, .inr (1, [.ref b1, .ref b2, .int (nI 0)])), (b1, .inl (d, 6200, .inl ly)), (b2, .inl (d, 6200, .inl lq)), (ct, .inr (3, [.ref g])), (mh, .inr (4, [.ref y1, .ref y2, .int (nI (gN - 1)), .int (nI n), .int fo, .ref br])), (y1, .inl (d, 256, .inl my)), (y2, .inl (d, 256, .inl mq)), (br, .inl (d, 4096, .inl (md_add (my (gN - 1)) (mq (gN - 1)) (-1) (2 ^ n) bk)))] := hD
              refine lv_icmp_eq (tgt := 215) hx hb dL_law_138 (by decide) (fun c_9 => ?_) (fun c_9 => ?_)
              · refine lv_iinc (v := nI (i + 3)) (lv' := [(3, .int (nI (i + 3))), (2, .ref mh), (1, .ref dh), (0, .ref b)]) hx hb dL_law_215 hl (k := 0) rfl (by rw [show Int32.ofInt 3 = nI 3 by decide]; exact nI_add i 3) (by decide) rfl (fun ls hl => ?_)
                refine lv_goto (tgt := 18) hx hb dL_law_218 (by decide) ?_
                exact ih (i + 3) n (gN - 1) 0 gy gq ly lq lv wy tr my mq _ td lvs k t fo (by omega) hi3 (eq_drop hI f1) H locs hP hD hS ls (lv_sub hl [0, 1, 2, 3] rfl)
              · exact absurd (f2.trans g2.symm) c_9
        · refine wk_top (y := nI 3) ev ?_
          refine lv_tableIn (off := 111) (tgt := 143) hx hb dL_law_32 (by decide) (by decide) (by decide) (by decide) ?_
          refine lv_aload_n hx hb dL_law_143 rfl (lv_at hl 2 rfl) ?_
          refine lv_aload_n hx hb dL_law_144 rfl (lv_at hl 3 rfl) ?_
          refine lv_iload_n hx hb dL_law_145 rfl (lv_at hl 0 rfl) ?_
          refine lv_iconst (v := 1) hx hb dL_law_146 (by decide) ?_
          refine lv_iadd hx hb dL_law_147 ?_
          refine wk_top (y := nI (i + 1)) ((nI_succ i).symm) ?_
          refine va_sld (xs := xs) hx hb hX hbl hbA hS (vp_in_nI (n := i + 1) (N := L) (by omega) (by omega)) dL_law_148 ?_
          refine wk_top (y := xs (i + 1)) (by rw [nI_clamp (by omega)]) ?_
          refine lv_aload_n hx hb dL_law_149 rfl (lv_at hl 3 rfl) ?_
          refine lv_iload_n hx hb dL_law_150 rfl (lv_at hl 0 rfl) ?_
          refine lv_iconst (v := 2) hx hb dL_law_151 (by decide) ?_
          refine lv_iadd hx hb dL_law_152 ?_
          refine wk_top (y := nI (i + 2)) (nI_add i 2) ?_
          refine va_sld (xs := xs) hx hb hX hbl hbA hS (vp_in_nI (n := i + 2) (N := L) (by omega) (by omega)) dL_law_153 ?_
          refine wk_top (y := xs (i + 2)) (by rw [nI_clamp (by omega)]) ?_
          have hPc := hP.sub (ws' := [(dh, .inr (0, [.ref g, .ref sh, .ref ct, .int (nI n), .int fo])), (sh, .inr (2, [.ref g, .ref ln, .ref hv, .ref hw, .ref ht, .int td, .int lvs, .int k, .int t])), (hv, .inl (d, 12, .inl lv)), (hw, .inl (d, 12, .inl wy)), (ht, .inl (d, 12, .inl tr)), (g, .inr (1, [.ref a1, .ref a2, .int (nI gN)])), (a1, .inl (d, 256, .inl gy)), (a2, .inl (d, 256, .inl gq)), (ln, .inr (1, [.ref b1, .ref b2, .int (nI lN)])), (b1, .inl (d, 6200, .inl ly)), (b2, .inl (d, 6200, .inl lq)), (ct, .inr (3, [.ref g]))]) [0, 1, 2, 3, 4, 5, 6, 7, 8, 9, 10, 11] rfl
          have hDc := hD.sub (ws' := [(dh, .inr (0, [.ref g, .ref sh, .ref ct, .int (nI n), .int fo])), (sh, .inr (2, [.ref g, .ref ln, .ref hv, .ref hw, .ref ht, .int td, .int lvs, .int k, .int t])), (hv, .inl (d, 12, .inl lv)), (hw, .inl (d, 12, .inl wy)), (ht, .inl (d, 12, .inl tr)), (g, .inr (1, [.ref a1, .ref a2, .int (nI gN)])), (a1, .inl (d, 256, .inl gy)), (a2, .inl (d, 256, .inl gq)), (ln, .inr (1, [.ref b1, .ref b2, .int (nI lN)])), (b1, .inl (d, 6200, .inl ly)), (b2, .inl (d, 6200, .inl lq)), (ct, .inr (3, [.ref g]))]) [0, 1, 2, 3, 4, 5, 6, 7, 8, 9, 10, 11] (by decide) rfl
          refine wk_ci (wr := [(mh, .inr (4, [.ref y1, .ref y2, .int (nI gN), .int (nI n), .int fo, .ref br])), (y1, .inl (d, 256, .inl my)), (y2, .inl (d, 256, .inl mq)), (br, .inl (d, 4096, .inl bk))]) (wn := fun (u : rn_S × Int32) => [(dh, .inr (0, [.ref g, .ref sh, .ref ct, .int (nI n), .int u.2])), (sh, .inr (2, [.ref g, .ref ln, .ref hv, .ref hw, .ref ht, .int u.1.2.2.2.1, .int u.1.2.2.2.2.1, .int u.1.2.2.2.2.2.1, .int u.1.2.2.2.2.2.2.1])), (hv, .inl (d, 12, .inl u.1.1)), (hw, .inl (d, 12, .inl u.1.2.1)), (ht, .inl (d, 12, .inl u.1.2.2.1)), (g, .inr (1, [.ref a1, .ref a2, .int (nI gN)])), (a1, .inl (d, 256, .inl gy)), (a2, .inl (d, 256, .inl gq)), (ln, .inr (1, [.ref b1, .ref b2, .int (nI u.1.2.2.2.2.2.2.2.1)])), (b1, .inl (d, 6200, .inl u.1.2.2.2.2.2.2.2.2.1)), (b2, .inl (d, 6200, .inl u.1.2.2.2.2.2.2.2.2.2)), (ct, .inr (3, [.ref g])), (mh, .inr (4, [.ref y1, .ref y2, .int (nI gN), .int (nI n), .int fo, .ref br])), (y1, .inl (d, 256, .inl my)), (y2, .inl (d, 256, .inl mq)), (br, .inl (d, 4096, .inl bk))]) (va_runV (As := [.int (xs (i + 1)), .int (xs (i + 2))]) (rest := []) ⟨hx, hb, hml, hown, hts⟩ (metX0_solve l dC dI d H.size dh sh g ln hv hw ht a1 a2 b1 b2 ct n gN lN gy gq ly lq lv wy tr td lvs k t fo (xs (i + 1)) (xs (i + 2)) k_n k_go k_lo k_lN) (cwV 2 hts (lw_V q140 q141 q142 q14 q143) rfl rfl rfl (by decide +kernel) ⟨Nat.le_of_ble_eq_true rfl, Nat.le_of_ble_eq_true rfl⟩) (wk_M.preV (q := (RX0, TX0, 5)) (ci := 0) (q0 := 0) hK hPc hDc rfl rfl) rfl rfl hl.1 rfl (lv_room (Nat.le_of_ble_eq_true rfl)) dL_law_154 ⟨Nat.le_of_ble_eq_true rfl, Nat.le_of_ble_eq_true rfl⟩) hP hD hS hA [0, 1, 2, 3, 4, 5, 6, 7, 8, 9, 10, 11] [12, 13, 14, 15] [4, 5, 6, 7, 8, 9, 10, 11, 12, 13, 14, 15, 0, 1, 2, 3] rfl rfl (by decide) (by decide) (by decide) (fun _ => rfl) (fun r1 u H locs hp hK hP hD hS => ?_)
          have hP : va_P (dC, dI) vwCl [(dh, .inr (0, [.ref g, .ref sh, .ref ct, .int (nI n), .int u.2])), (sh, .inr (2, [.ref g, .ref ln, .ref hv, .ref hw, .ref ht, .int u.1.2.2.2.1, .int u.1.2.2.2.2.1, .int u.1.2.2.2.2.2.1, .int u.1.2.2.2.2.2.2.1])), (hv, .inl (d, 12, .inl u.1.1)), (hw, .inl (d, 12, .inl u.1.2.1)), (ht, .inl (d, 12, .inl u.1.2.2.1)), (g, .inr (1, [.ref a1, .ref a2, .int (nI gN)])), (a1, .inl (d, 256, .inl gy)), (a2, .inl (d, 256, .inl gq)), (ln, .inr (1, [.ref b1, .ref b2, .int (nI u.1.2.2.2.2.2.2.2.1)])), (b1, .inl (d, 6200, .inl u.1.2.2.2.2.2.2.2.2.1)), (b2, .inl (d, 6200, .inl u.1.2.2.2.2.2.2.2.2.2)), (ct, .inr (3, [.ref g])), (mh, .inr (4, [.ref y1, .ref y2, .int (nI gN), .int (nI n), .int fo, .ref br])), (y1, .inl (d, 256, .inl my)), (y2, .inl (d, 256, .inl mq)), (br, .inl (d, 4096, .inl bk))] H := hP
          have hD : va_D A [(dh, .inr (0, [.ref g, .ref sh, .ref ct, .int (nI n), .int u.2])), (sh, .inr (2, [.ref g, .ref ln, .ref hv, .ref hw, .ref ht, .int u.1.2.2.2.1, .int u.1.2.2.2.2.1, .int u.1.2.2.2.2.2.1, .int u.1.2.2.2.2.2.2.1])), (hv, .inl (d, 12, .inl u.1.1)), (hw, .inl (d, 12, .inl u.1.2.1)), (ht, .inl (d, 12, .inl u.1.2.2.1)), (g, .inr (1, [.ref a1, .ref a2, .int (nI gN)])), (a1, .inl (d, 256, .inl gy)), (a2, .inl (d, 256, .inl gq)), (ln, .inr (1, [.ref b1, .ref b2, .int (nI u.1.2.2.2.2.2.2.2.1)])), (b1, .inl (d, 6200, .inl u.1.2.2.2.2.2.2.2.2.1)), (b2, .inl (d, 6200, .inl u.1.2.2.2.2.2.2.2.2.2)), (ct, .inr (3, [.ref g])), (mh, .inr (4, [.ref y1, .ref y2, .int (nI gN), .int (nI n), .int fo, .ref br])), (y1, .inl (d, 256, .inl my)), (y2, .inl (d, 256, .inl mq)), (br, .inl (d, 4096, .inl bk))] := hD
          refine lv_aload_n hx hb dL_law_157 rfl (lv_at hl 1 rfl) ?_
          refine lv_aload_n hx hb dL_law_158 rfl (lv_at hl 3 rfl) ?_
          refine lv_iload_n hx hb dL_law_159 rfl (lv_at hl 0 rfl) ?_
          refine lv_iconst (v := 1) hx hb dL_law_160 (by decide) ?_
          refine lv_iadd hx hb dL_law_161 ?_
          refine wk_top (y := nI (i + 1)) ((nI_succ i).symm) ?_
          refine va_sld (xs := xs) hx hb hX hbl hbA hS (vp_in_nI (n := i + 1) (N := L) (by omega) (by omega)) dL_law_162 ?_
          refine wk_top (y := xs (i + 1)) (by rw [nI_clamp (by omega)]) ?_
          refine lv_aload_n hx hb dL_law_163 rfl (lv_at hl 3 rfl) ?_
          refine lv_iload_n hx hb dL_law_164 rfl (lv_at hl 0 rfl) ?_
          refine lv_iconst (v := 2) hx hb dL_law_165 (by decide) ?_
          refine lv_iadd hx hb dL_law_166 ?_
          refine wk_top (y := nI (i + 2)) (nI_add i 2) ?_
          refine va_sld (xs := xs) hx hb hX hbl hbA hS (vp_in_nI (n := i + 2) (N := L) (by omega) (by omega)) dL_law_167 ?_
          refine wk_top (y := xs (i + 2)) (by rw [nI_clamp (by omega)]) ?_
          have hPc := hP.sub (ws' := [(mh, .inr (4, [.ref y1, .ref y2, .int (nI gN), .int (nI n), .int fo, .ref br])), (y1, .inl (d, 256, .inl my)), (y2, .inl (d, 256, .inl mq)), (br, .inl (d, 4096, .inl bk))]) [12, 13, 14, 15] rfl
          have hDc := hD.sub (ws' := [(mh, .inr (4, [.ref y1, .ref y2, .int (nI gN), .int (nI n), .int fo, .ref br])), (y1, .inl (d, 256, .inl my)), (y2, .inl (d, 256, .inl mq)), (br, .inl (d, 4096, .inl bk))]) [12, 13, 14, 15] (by decide) rfl
          refine wk_ci (wr := [(dh, .inr (0, [.ref g, .ref sh, .ref ct, .int (nI n), .int u.2])), (sh, .inr (2, [.ref g, .ref ln, .ref hv, .ref hw, .ref ht, .int u.1.2.2.2.1, .int u.1.2.2.2.2.1, .int u.1.2.2.2.2.2.1, .int u.1.2.2.2.2.2.2.1])), (hv, .inl (d, 12, .inl u.1.1)), (hw, .inl (d, 12, .inl u.1.2.1)), (ht, .inl (d, 12, .inl u.1.2.2.1)), (g, .inr (1, [.ref a1, .ref a2, .int (nI gN)])), (a1, .inl (d, 256, .inl gy)), (a2, .inl (d, 256, .inl gq)), (ln, .inr (1, [.ref b1, .ref b2, .int (nI u.1.2.2.2.2.2.2.2.1)])), (b1, .inl (d, 6200, .inl u.1.2.2.2.2.2.2.2.2.1)), (b2, .inl (d, 6200, .inl u.1.2.2.2.2.2.2.2.2.2)), (ct, .inr (3, [.ref g]))]) (wn := fun (v2 : Int32) => [(dh, .inr (0, [.ref g, .ref sh, .ref ct, .int (nI n), .int u.2])), (sh, .inr (2, [.ref g, .ref ln, .ref hv, .ref hw, .ref ht, .int u.1.2.2.2.1, .int u.1.2.2.2.2.1, .int u.1.2.2.2.2.2.1, .int u.1.2.2.2.2.2.2.1])), (hv, .inl (d, 12, .inl u.1.1)), (hw, .inl (d, 12, .inl u.1.2.1)), (ht, .inl (d, 12, .inl u.1.2.2.1)), (g, .inr (1, [.ref a1, .ref a2, .int (nI gN)])), (a1, .inl (d, 256, .inl gy)), (a2, .inl (d, 256, .inl gq)), (ln, .inr (1, [.ref b1, .ref b2, .int (nI u.1.2.2.2.2.2.2.2.1)])), (b1, .inl (d, 6200, .inl u.1.2.2.2.2.2.2.2.2.1)), (b2, .inl (d, 6200, .inl u.1.2.2.2.2.2.2.2.2.2)), (ct, .inr (3, [.ref g])), (mh, .inr (4, [.ref y1, .ref y2, .int (nI gN), .int (nI n), .int v2, .ref br])), (y1, .inl (d, 256, .inl my)), (y2, .inl (d, 256, .inl mq)), (br, .inl (d, 4096, .inl bk))]) (va_runV (As := [.int (xs (i + 1)), .int (xs (i + 2))]) (rest := [.int r1]) ⟨hx, hb, hml, hown, hts⟩ (metX4_solve l dC dI d H.size mh y1 y2 br n (nI gN) fo (xs (i + 1)) (xs (i + 2)) my mq bk k_n) (cwV 2 hts (lw_V q269 q270 q271 q18 q272) rfl rfl rfl (by decide +kernel) ⟨Nat.le_of_ble_eq_true rfl, Nat.le_of_ble_eq_true rfl⟩) (wk_M.preV (q := (RX4, TX4, 6)) (ci := 4) (q0 := 0) hK hPc hDc rfl rfl) rfl rfl hl.1 rfl (lv_room (Nat.le_of_ble_eq_true rfl)) dL_law_168 ⟨Nat.le_of_ble_eq_true rfl, Nat.le_of_ble_eq_true rfl⟩) hP hD hS hA [12, 13, 14, 15] [0, 1, 2, 3, 4, 5, 6, 7, 8, 9, 10, 11] [0, 1, 2, 3, 4, 5, 6, 7, 8, 9, 10, 11, 12, 13, 14, 15] rfl rfl (by decide) (by decide) (by decide) (fun _ => rfl) (fun r2 v2 H locs hq hK hP hD hS => ?_)
          have hP : va_P (dC, dI) vwCl [(dh, .inr (0, [.ref g, .ref sh, .ref ct, .int (nI n), .int u.2])), (sh, .inr (2, [.ref g, .ref ln, .ref hv, .ref hw, .ref ht, .int u.1.2.2.2.1, .int u.1.2.2.2.2.1, .int u.1.2.2.2.2.2.1, .int u.1.2.2.2.2.2.2.1])), (hv, .inl (d, 12, .inl u.1.1)), (hw, .inl (d, 12, .inl u.1.2.1)), (ht, .inl (d, 12, .inl u.1.2.2.1)), (g, .inr (1, [.ref a1, .ref a2, .int (nI gN)])), (a1, .inl (d, 256, .inl gy)), (a2, .inl (d, 256, .inl gq)), (ln, .inr (1, [.ref b1, .ref b2, .int (nI u.1.2.2.2.2.2.2.2.1)])), (b1, .inl (d, 6200, .inl u.1.2.2.2.2.2.2.2.2.1)), (b2, .inl (d, 6200, .inl u.1.2.2.2.2.2.2.2.2.2)), (ct, .inr (3, [.ref g])), (mh, .inr (4, [.ref y1, .ref y2, .int (nI gN), .int (nI n), .int v2, .ref br])), (y1, .inl (d, 256, .inl my)), (y2, .inl (d, 256, .inl mq)), (br, .inl (d, 4096, .inl bk))] H := hP
          have hD : va_D A [(dh, .inr (0, [.ref g, .ref sh, .ref ct, .int (nI n), .int u.2])), (sh, .inr (2, [.ref g, .ref ln, .ref hv, .ref hw, .ref ht, .int u.1.2.2.2.1, .int u.1.2.2.2.2.1, .int u.1.2.2.2.2.2.1, .int u.1.2.2.2.2.2.2.1])), (hv, .inl (d, 12, .inl u.1.1)), (hw, .inl (d, 12, .inl u.1.2.1)), (ht, .inl (d, 12, .inl u.1.2.2.1)), (g, .inr (1, [.ref a1, .ref a2, .int (nI gN)])), (a1, .inl (d, 256, .inl gy)), (a2, .inl (d, 256, .inl gq)), (ln, .inr (1, [.ref b1, .ref b2, .int (nI u.1.2.2.2.2.2.2.2.1)])), (b1, .inl (d, 6200, .inl u.1.2.2.2.2.2.2.2.2.1)), (b2, .inl (d, 6200, .inl u.1.2.2.2.2.2.2.2.2.2)), (ct, .inr (3, [.ref g])), (mh, .inr (4, [.ref y1, .ref y2, .int (nI gN), .int (nI n), .int v2, .ref br])), (y1, .inl (d, 256, .inl my)), (y2, .inl (d, 256, .inl mq)), (br, .inl (d, 4096, .inl bk))] := hD
          obtain ⟨⟨lv, wy, tr, td, lvs, k, t, lN, ly, lq⟩, fo2⟩ := u
          obtain ⟨⟨p1, p2, p3⟩, p4⟩ := hp
          obtain ⟨er, ef⟩ := eq_solve hI p3 p4 hq
          have ef : fo2 = v2 := ef
          subst ef
          have hP : va_P (dC, dI) vwCl [(dh, .inr (0, [.ref g, .ref sh, .ref ct, .int (nI n), .int fo2])), (sh, .inr (2, [.ref g, .ref ln, .ref hv, .ref hw, .ref ht, .int td, .int lvs, .int k, .int t])), (hv, .inl (d, 12, .inl lv)), (hw, .inl (d, 12, .inl wy)), (ht, .inl (d, 12, .inl tr)), (g, .inr (1, [.ref a1, .ref a2, .int (nI gN)])), (a1, .inl (d, 256, .inl gy)), (a2, .inl (d, 256, .inl gq)), (ln, .inr (1, [.ref b1, .ref b2, .int (nI lN)])), (b1, .inl (d, 6200, .inl ly)), (b2, .inl (d, 6200, .inl lq)), (ct, .inr (3, [.ref g])), (mh, .inr (4, [.ref y1, .ref y2, .int (nI gN), .int (nI n), .int fo2, .ref br])), (y1, .inl (d, 256, .inl my)), (y2, .inl (d, 256, .inl mq)), (br, .inl (d, 4096, .inl bk))] H := hP
          have hD : va_D A [(dh, .inr (0, [.ref g, .ref sh, .ref ct, .int (nI n), .int fo2])), (sh, .inr (2, [.ref g, .ref ln, .ref hv, .ref hw, .ref ht, .int td, .int lvs, .int k, .int t])), (hv, .inl (d, 12, .inl lv)), (hw, .inl (d, 12, .inl wy)), (ht, .inl (d, 12, .inl tr)), (g, .inr (1, [.ref a1, .ref a2, .int (nI gN)])), (a1, .inl (d, 256, .inl gy)), (a2, .inl (d, 256, .inl gq)), (ln, .inr (1, [.ref b1, .ref b2, .int (nI lN)])), (b1, .inl (d, 6200, .inl ly)), (b2, .inl (d, 6200, .inl lq)), (ct, .inr (3, [.ref g])), (mh, .inr (4, [.ref y1, .ref y2, .int (nI gN), .int (nI n), .int fo2, .ref br])), (y1, .inl (d, 256, .inl my)), (y2, .inl (d, 256, .inl mq)), (br, .inl (d, 4096, .inl bk))] := hD
          refine lv_icmp_eq (tgt := 215) hx hb dL_law_171 (by decide) (fun c_9 => ?_) (fun c_9 => ?_)
          · refine lv_iinc (v := nI (i + 3)) (lv' := [(3, .int (nI (i + 3))), (2, .ref mh), (1, .ref dh), (0, .ref b)]) hx hb dL_law_215 hl (k := 0) rfl (by rw [show Int32.ofInt 3 = nI 3 by decide]; exact nI_add i 3) (by decide) rfl (fun ls hl => ?_)
            refine lv_goto (tgt := 18) hx hb dL_law_218 (by decide) ?_
            exact ih (i + 3) n gN lN gy gq ly lq lv wy tr my mq bk td lvs k t fo2 (by omega) hi3 (eq_learnt hI p1 p2) H locs hP hD hS ls (lv_sub hl [0, 1, 2, 3] rfl)
          · exact absurd (er) c_9
        · refine wk_top (y := nI 4) ev ?_
          refine lv_tableIn (off := 144) (tgt := 176) hx hb dL_law_32 (by decide) (by decide) (by decide) (by decide) ?_
          refine lv_aload_n hx hb dL_law_176 rfl (lv_at hl 2 rfl) ?_
          have hK0 := hK
          have hK : va_K (dC, dI) vwCl [] s := hK.sub [] rfl
          have hPc := hP.sub (ws' := [(dh, .inr (0, [.ref g, .ref sh, .ref ct, .int (nI n), .int fo]))]) [0] rfl
          refine vp_callSi (W.runV (As := []) (rest := []) ⟨hx, hb, hml, hown, hts⟩ (metX0_found l dC dI d dh g sh ct n fo) (cwV 0 hts (lw_V q196 q197 q198 q14 q199) rfl rfl rfl (by decide +kernel) ⟨Nat.le_of_ble_eq_true rfl, Nat.le_of_ble_eq_true rfl⟩) (wk_R.preV (q := (RX0, TX0, 5)) (ci := 0) (q0 := 0) hK hPc rfl rfl) rfl rfl hl.1 rfl (lv_room (Nat.le_of_ble_eq_true rfl)) dL_law_177 ⟨Nat.le_of_ble_eq_true rfl, Nat.le_of_ble_eq_true rfl⟩) (fun r1 hr1 => ?_)
          refine lv_aload_n hx hb dL_law_180 rfl (lv_at hl 1 rfl) ?_
          have hPc := hP.sub (ws' := [(mh, .inr (4, [.ref y1, .ref y2, .int (nI gN), .int (nI n), .int fo, .ref br]))]) [12] rfl
          refine vp_callSi (W.runV (As := []) (rest := [.int r1]) ⟨hx, hb, hml, hown, hts⟩ (metX4_found l dC dI d mh y1 y2 br (nI gN) (nI n) fo) (cwV 0 hts (lw_V q273 q274 q275 q18 q276) rfl rfl rfl (by decide +kernel) ⟨Nat.le_of_ble_eq_true rfl, Nat.le_of_ble_eq_true rfl⟩) (wk_R.preV (q := (RX4, TX4, 6)) (ci := 4) (q0 := 0) hK hPc rfl rfl) rfl rfl hl.1 rfl (lv_room (Nat.le_of_ble_eq_true rfl)) dL_law_181 ⟨Nat.le_of_ble_eq_true rfl, Nat.le_of_ble_eq_true rfl⟩) (fun r2 hr2 => ?_)
          have hK := hK0
          refine lv_icmp_eq (tgt := 215) hx hb dL_law_184 (by decide) (fun c_9 => ?_) (fun c_9 => ?_)
          · refine lv_iinc (v := nI (i + 3)) (lv' := [(3, .int (nI (i + 3))), (2, .ref mh), (1, .ref dh), (0, .ref b)]) hx hb dL_law_215 hl (k := 0) rfl (by rw [show Int32.ofInt 3 = nI 3 by decide]; exact nI_add i 3) (by decide) rfl (fun ls hl => ?_)
            refine lv_goto (tgt := 18) hx hb dL_law_218 (by decide) ?_
            exact ih (i + 3) n gN lN gy gq ly lq lv wy tr my mq bk td lvs k t fo (by omega) hi3 (hI) H locs hP hD hS ls (lv_sub hl [0, 1, 2, 3] rfl)
          · exact absurd (hr1.trans hr2.symm) c_9
        · refine wk_top (y := nI 5) ev ?_
          refine lv_tableIn (off := 157) (tgt := 189) hx hb dL_law_32 (by decide) (by decide) (by decide) (by decide) ?_
          refine lv_aload_n hx hb dL_law_189 rfl (lv_at hl 2 rfl) ?_
          have hPc := hP.sub (ws' := [(dh, .inr (0, [.ref g, .ref sh, .ref ct, .int (nI n), .int fo])), (sh, .inr (2, [.ref g, .ref ln, .ref hv, .ref hw, .ref ht, .int td, .int lvs, .int k, .int t])), (hv, .inl (d, 12, .inl lv)), (hw, .inl (d, 12, .inl wy)), (ht, .inl (d, 12, .inl tr)), (g, .inr (1, [.ref a1, .ref a2, .int (nI gN)])), (a1, .inl (d, 256, .inl gy)), (a2, .inl (d, 256, .inl gq)), (ln, .inr (1, [.ref b1, .ref b2, .int (nI lN)])), (b1, .inl (d, 6200, .inl ly)), (b2, .inl (d, 6200, .inl lq)), (ct, .inr (3, [.ref g]))]) [0, 1, 2, 3, 4, 5, 6, 7, 8, 9, 10, 11] rfl
          refine vp_callSi (W.runV (As := []) (rest := []) ⟨hx, hb, hml, hown, hts⟩ (metX0_count l dC dI d dh sh g ln hv hw ht a1 a2 b1 b2 ct n gN lN gy gq ly lq lv wy tr td lvs k t fo k_n k_go) (cwV 0 hts (lw_V q200 q201 q202 q14 q203) rfl rfl rfl (by decide +kernel) ⟨Nat.le_of_ble_eq_true rfl, Nat.le_of_ble_eq_true rfl⟩) (wk_R.preV (q := (RX0, TX0, 5)) (ci := 0) (q0 := 0) hK hPc rfl rfl) rfl rfl hl.1 rfl (lv_room (Nat.le_of_ble_eq_true rfl)) dL_law_190 ⟨Nat.le_of_ble_eq_true rfl, Nat.le_of_ble_eq_true rfl⟩) (fun r1 hr1 => ?_)
          refine lv_aload_n hx hb dL_law_193 rfl (lv_at hl 1 rfl) ?_
          have hPc := hP.sub (ws' := [(mh, .inr (4, [.ref y1, .ref y2, .int (nI gN), .int (nI n), .int fo, .ref br])), (br, .inl (d, 4096, .inl bk))]) [12, 15] rfl
          refine vp_callSi (W.runV (As := []) (rest := [.int r1]) ⟨hx, hb, hml, hown, hts⟩ (metX4_count l dC dI d mh y1 y2 br n (nI gN) fo bk k_n) (cwV 0 hts (lw_V q277 q278 q279 q18 q280) rfl rfl rfl (by decide +kernel) ⟨Nat.le_of_ble_eq_true rfl, Nat.le_of_ble_eq_true rfl⟩) (wk_R.preV (q := (RX4, TX4, 6)) (ci := 4) (q0 := 0) hK hPc rfl rfl) rfl rfl hl.1 rfl (lv_room (Nat.le_of_ble_eq_true rfl)) dL_law_194 ⟨Nat.le_of_ble_eq_true rfl, Nat.le_of_ble_eq_true rfl⟩) (fun r2 hr2 => ?_)
          refine lv_icmp_eq (tgt := 215) hx hb dL_law_197 (by decide) (fun c_9 => ?_) (fun c_9 => ?_)
          · refine lv_iinc (v := nI (i + 3)) (lv' := [(3, .int (nI (i + 3))), (2, .ref mh), (1, .ref dh), (0, .ref b)]) hx hb dL_law_215 hl (k := 0) rfl (by rw [show Int32.ofInt 3 = nI 3 by decide]; exact nI_add i 3) (by decide) rfl (fun ls hl => ?_)
            refine lv_goto (tgt := 18) hx hb dL_law_218 (by decide) ?_
            exact ih (i + 3) n gN lN gy gq ly lq lv wy tr my mq bk td lvs k t fo (by omega) hi3 (hI) H locs hP hD hS ls (lv_sub hl [0, 1, 2, 3] rfl)
          · exact absurd (by rw [hr1, hr2, eq_count hI]) c_9
        · refine wk_top (y := nI 6) ev ?_
          refine lv_tableIn (off := 170) (tgt := 202) hx hb dL_law_32 (by decide) (by decide) (by decide) (by decide) ?_
          refine lv_aload_n hx hb dL_law_202 rfl (lv_at hl 2 rfl) ?_
          have hPc := hP.sub (ws' := [(dh, .inr (0, [.ref g, .ref sh, .ref ct, .int (nI n), .int fo])), (sh, .inr (2, [.ref g, .ref ln, .ref hv, .ref hw, .ref ht, .int td, .int lvs, .int k, .int t])), (hv, .inl (d, 12, .inl lv)), (hw, .inl (d, 12, .inl wy)), (ht, .inl (d, 12, .inl tr)), (g, .inr (1, [.ref a1, .ref a2, .int (nI gN)])), (a1, .inl (d, 256, .inl gy)), (a2, .inl (d, 256, .inl gq)), (ln, .inr (1, [.ref b1, .ref b2, .int (nI lN)])), (b1, .inl (d, 6200, .inl ly)), (b2, .inl (d, 6200, .inl lq)), (ct, .inr (3, [.ref g]))]) [0, 1, 2, 3, 4, 5, 6, 7, 8, 9, 10, 11] rfl
          have hDc := hD.sub (ws' := [(dh, .inr (0, [.ref g, .ref sh, .ref ct, .int (nI n), .int fo])), (sh, .inr (2, [.ref g, .ref ln, .ref hv, .ref hw, .ref ht, .int td, .int lvs, .int k, .int t])), (hv, .inl (d, 12, .inl lv)), (hw, .inl (d, 12, .inl wy)), (ht, .inl (d, 12, .inl tr)), (g, .inr (1, [.ref a1, .ref a2, .int (nI gN)])), (a1, .inl (d, 256, .inl gy)), (a2, .inl (d, 256, .inl gq)), (ln, .inr (1, [.ref b1, .ref b2, .int (nI lN)])), (b1, .inl (d, 6200, .inl ly)), (b2, .inl (d, 6200, .inl lq)), (ct, .inr (3, [.ref g]))]) [0, 1, 2, 3, 4, 5, 6, 7, 8, 9, 10, 11] (by decide) rfl
          refine wk_ci (wr := [(mh, .inr (4, [.ref y1, .ref y2, .int (nI gN), .int (nI n), .int fo, .ref br])), (y1, .inl (d, 256, .inl my)), (y2, .inl (d, 256, .inl mq)), (br, .inl (d, 4096, .inl bk))]) (wn := fun (u : rn_S) => [(dh, .inr (0, [.ref g, .ref sh, .ref ct, .int (nI n), .int fo])), (sh, .inr (2, [.ref g, .ref ln, .ref hv, .ref hw, .ref ht, .int u.2.2.2.1, .int u.2.2.2.2.1, .int u.2.2.2.2.2.1, .int u.2.2.2.2.2.2.1])), (hv, .inl (d, 12, .inl u.1)), (hw, .inl (d, 12, .inl u.2.1)), (ht, .inl (d, 12, .inl u.2.2.1)), (g, .inr (1, [.ref a1, .ref a2, .int (nI gN)])), (a1, .inl (d, 256, .inl gy)), (a2, .inl (d, 256, .inl gq)), (ln, .inr (1, [.ref b1, .ref b2, .int (nI u.2.2.2.2.2.2.2.1)])), (b1, .inl (d, 6200, .inl u.2.2.2.2.2.2.2.2.1)), (b2, .inl (d, 6200, .inl u.2.2.2.2.2.2.2.2.2)), (ct, .inr (3, [.ref g])), (mh, .inr (4, [.ref y1, .ref y2, .int (nI gN), .int (nI n), .int fo, .ref br])), (y1, .inl (d, 256, .inl my)), (y2, .inl (d, 256, .inl mq)), (br, .inl (d, 4096, .inl bk))]) (va_runV (As := []) (rest := []) ⟨hx, hb, hml, hown, hts⟩ (metX0_forced l dC dI d H.size dh sh g ln hv hw ht a1 a2 b1 b2 ct n gN lN gy gq ly lq lv wy tr td lvs k t fo k_n k_go k_lo k_lN) (cwV 0 hts (lw_V q223 q224 q225 q14 q226) rfl rfl rfl (by decide +kernel) ⟨Nat.le_of_ble_eq_true rfl, Nat.le_of_ble_eq_true rfl⟩) (wk_M.preV (q := (RX0, TX0, 5)) (ci := 0) (q0 := 0) hK hPc hDc rfl rfl) rfl rfl hl.1 rfl (lv_room (Nat.le_of_ble_eq_true rfl)) dL_law_203 ⟨Nat.le_of_ble_eq_true rfl, Nat.le_of_ble_eq_true rfl⟩) hP hD hS hA [0, 1, 2, 3, 4, 5, 6, 7, 8, 9, 10, 11] [12, 13, 14, 15] [4, 5, 6, 7, 8, 9, 10, 11, 12, 13, 14, 15, 0, 1, 2, 3] rfl rfl (by decide) (by decide) (by decide) (fun _ => rfl) (fun r1 u H locs hp hK hP hD hS => ?_)
          have hP : va_P (dC, dI) vwCl [(dh, .inr (0, [.ref g, .ref sh, .ref ct, .int (nI n), .int fo])), (sh, .inr (2, [.ref g, .ref ln, .ref hv, .ref hw, .ref ht, .int u.2.2.2.1, .int u.2.2.2.2.1, .int u.2.2.2.2.2.1, .int u.2.2.2.2.2.2.1])), (hv, .inl (d, 12, .inl u.1)), (hw, .inl (d, 12, .inl u.2.1)), (ht, .inl (d, 12, .inl u.2.2.1)), (g, .inr (1, [.ref a1, .ref a2, .int (nI gN)])), (a1, .inl (d, 256, .inl gy)), (a2, .inl (d, 256, .inl gq)), (ln, .inr (1, [.ref b1, .ref b2, .int (nI u.2.2.2.2.2.2.2.1)])), (b1, .inl (d, 6200, .inl u.2.2.2.2.2.2.2.2.1)), (b2, .inl (d, 6200, .inl u.2.2.2.2.2.2.2.2.2)), (ct, .inr (3, [.ref g])), (mh, .inr (4, [.ref y1, .ref y2, .int (nI gN), .int (nI n), .int fo, .ref br])), (y1, .inl (d, 256, .inl my)), (y2, .inl (d, 256, .inl mq)), (br, .inl (d, 4096, .inl bk))] H := hP
          have hD : va_D A [(dh, .inr (0, [.ref g, .ref sh, .ref ct, .int (nI n), .int fo])), (sh, .inr (2, [.ref g, .ref ln, .ref hv, .ref hw, .ref ht, .int u.2.2.2.1, .int u.2.2.2.2.1, .int u.2.2.2.2.2.1, .int u.2.2.2.2.2.2.1])), (hv, .inl (d, 12, .inl u.1)), (hw, .inl (d, 12, .inl u.2.1)), (ht, .inl (d, 12, .inl u.2.2.1)), (g, .inr (1, [.ref a1, .ref a2, .int (nI gN)])), (a1, .inl (d, 256, .inl gy)), (a2, .inl (d, 256, .inl gq)), (ln, .inr (1, [.ref b1, .ref b2, .int (nI u.2.2.2.2.2.2.2.1)])), (b1, .inl (d, 6200, .inl u.2.2.2.2.2.2.2.2.1)), (b2, .inl (d, 6200, .inl u.2.2.2.2.2.2.2.2.2)), (ct, .inr (3, [.ref g])), (mh, .inr (4, [.ref y1, .ref y2, .int (nI gN), .int (nI n), .int fo, .ref br])), (y1, .inl (d, 256, .inl my)), (y2, .inl (d, 256, .inl mq)), (br, .inl (d, 4096, .inl bk))] := hD
          obtain ⟨lv, wy, tr, td, lvs, k, t, lN, ly, lq⟩ := u
          obtain ⟨p1, p2, p3⟩ := hp
          have hP : va_P (dC, dI) vwCl [(dh, .inr (0, [.ref g, .ref sh, .ref ct, .int (nI n), .int fo])), (sh, .inr (2, [.ref g, .ref ln, .ref hv, .ref hw, .ref ht, .int td, .int lvs, .int k, .int t])), (hv, .inl (d, 12, .inl lv)), (hw, .inl (d, 12, .inl wy)), (ht, .inl (d, 12, .inl tr)), (g, .inr (1, [.ref a1, .ref a2, .int (nI gN)])), (a1, .inl (d, 256, .inl gy)), (a2, .inl (d, 256, .inl gq)), (ln, .inr (1, [.ref b1, .ref b2, .int (nI lN)])), (b1, .inl (d, 6200, .inl ly)), (b2, .inl (d, 6200, .inl lq)), (ct, .inr (3, [.ref g])), (mh, .inr (4, [.ref y1, .ref y2, .int (nI gN), .int (nI n), .int fo, .ref br])), (y1, .inl (d, 256, .inl my)), (y2, .inl (d, 256, .inl mq)), (br, .inl (d, 4096, .inl bk))] H := hP
          have hD : va_D A [(dh, .inr (0, [.ref g, .ref sh, .ref ct, .int (nI n), .int fo])), (sh, .inr (2, [.ref g, .ref ln, .ref hv, .ref hw, .ref ht, .int td, .int lvs, .int k, .int t])), (hv, .inl (d, 12, .inl lv)), (hw, .inl (d, 12, .inl wy)), (ht, .inl (d, 12, .inl tr)), (g, .inr (1, [.ref a1, .ref a2, .int (nI gN)])), (a1, .inl (d, 256, .inl gy)), (a2, .inl (d, 256, .inl gq)), (ln, .inr (1, [.ref b1, .ref b2, .int (nI lN)])), (b1, .inl (d, 6200, .inl ly)), (b2, .inl (d, 6200, .inl lq)), (ct, .inr (3, [.ref g])), (mh, .inr (4, [.ref y1, .ref y2, .int (nI gN), .int (nI n), .int fo, .ref br])), (y1, .inl (d, 256, .inl my)), (y2, .inl (d, 256, .inl mq)), (br, .inl (d, 4096, .inl bk))] := hD
          refine lv_aload_n hx hb dL_law_206 rfl (lv_at hl 1 rfl) ?_
          have hPc := hP.sub (ws' := [(mh, .inr (4, [.ref y1, .ref y2, .int (nI gN), .int (nI n), .int fo, .ref br])), (br, .inl (d, 4096, .inl bk))]) [12, 15] rfl
          refine vp_callSi (W.runV (As := []) (rest := [.int r1]) ⟨hx, hb, hml, hown, hts⟩ (metX4_forced l dC dI d mh y1 y2 br n (nI gN) fo bk k_n) (cwV 0 hts (lw_V q281 q282 q283 q18 q284) rfl rfl rfl (by decide +kernel) ⟨Nat.le_of_ble_eq_true rfl, Nat.le_of_ble_eq_true rfl⟩) (wk_R.preV (q := (RX4, TX4, 6)) (ci := 4) (q0 := 0) hK hPc rfl rfl) rfl rfl hl.1 rfl (lv_room (Nat.le_of_ble_eq_true rfl)) dL_law_207 ⟨Nat.le_of_ble_eq_true rfl, Nat.le_of_ble_eq_true rfl⟩) (fun r2 hr2 => ?_)
          refine lv_icmp_eq (tgt := 215) hx hb dL_law_210 (by decide) (fun c_9 => ?_) (fun c_9 => ?_)
          · refine lv_iinc (v := nI (i + 3)) (lv' := [(3, .int (nI (i + 3))), (2, .ref mh), (1, .ref dh), (0, .ref b)]) hx hb dL_law_215 hl (k := 0) rfl (by rw [show Int32.ofInt 3 = nI 3 by decide]; exact nI_add i 3) (by decide) rfl (fun ls hl => ?_)
            refine lv_goto (tgt := 18) hx hb dL_law_218 (by decide) ?_
            exact ih (i + 3) n gN lN gy gq ly lq lv wy tr my mq bk td lvs k t fo (by omega) hi3 (eq_learnt hI p1 p2) H locs hP hD hS ls (lv_sub hl [0, 1, 2, 3] rfl)
          · exact absurd (eq_forced hI p3 hr2) c_9
        · refine wk_top (y := nI 7) ev ?_
          refine lv_tableOut (tgt := 215) hx hb dL_law_32 (by decide) (by decide) ?_
          refine lv_iinc (v := nI (i + 3)) (lv' := [(3, .int (nI (i + 3))), (2, .ref mh), (1, .ref dh), (0, .ref b)]) hx hb dL_law_215 hl (k := 0) rfl (by rw [show Int32.ofInt 3 = nI 3 by decide]; exact nI_add i 3) (by decide) rfl (fun ls hl => ?_)
          refine lv_goto (tgt := 18) hx hb dL_law_218 (by decide) ?_
          exact ih (i + 3) n gN lN gy gq ly lq lv wy tr my mq bk td lvs k t fo (by omega) hi3 (hI) H locs hP hD hS ls (lv_sub hl [0, 1, 2, 3] rfl)
  refine va_new (ci := 0) (fs := [.null, .null, .null, .int 0, .int 0]) (C := RX0) (T := TX0) (N := 5) hx hb hts in_X0 tyX0 tyX0_ok hown (hts _ q21) (hts _ q22) (hts _ q14) hK hP hD hS hA rfl (fun j hj => by rcases (show j = 0 ∨ j = 1 ∨ j = 2 ∨ j = 3 ∨ j = 4 by omega) with rfl | rfl | rfl | rfl | rfl <;> rfl) (Nat.le_of_ble_eq_true rfl) (Nat.le_of_ble_eq_true rfl) dL_law_0 (fun dh H hP hD hS => ?_)
  have hP : va_P (dC, dI) vwCl [(dh, .inr (0, [.null, .null, .null, .int 0, .int 0]))] H := hP
  have hD : va_D A [(dh, .inr (0, [.null, .null, .null, .int 0, .int 0]))] := hD
  refine lv_dup hx hb dL_law_3 rfl ?_
  have hPc := hP.sub (ws' := [(dh, .inr (0, [.null, .null, .null, .int 0, .int 0]))]) [0] rfl
  have hDc := hD.sub (ws' := [(dh, .inr (0, [.null, .null, .null, .int 0, .int 0]))]) [0] (by decide) rfl
  refine wk_cv (wr := []) (wn := fun (u : Nat × Nat × Nat × Nat × Nat × Nat × Nat × Nat × Nat × Nat × Nat) => [(dh, .inr (0, [.ref u.1, .ref u.2.2.2.1, .ref u.2.2.2.2.2.2.2.2.2.2, .int 4, .int (-1)])), (u.1, .inr (1, [.ref u.2.1, .ref u.2.2.1, .int 0])), (u.2.1, .inl (d, 256, .inl (fun _ => 0))), (u.2.2.1, .inl (d, 256, .inl (fun _ => 0))), (u.2.2.2.1, .inr (2, [.ref u.1, .ref u.2.2.2.2.1, .ref u.2.2.2.2.2.2.2.1, .ref u.2.2.2.2.2.2.2.2.1, .ref u.2.2.2.2.2.2.2.2.2.1, .int 0, .int 0, .int 0, .int 0])), (u.2.2.2.2.1, .inr (1, [.ref u.2.2.2.2.2.1, .ref u.2.2.2.2.2.2.1, .int 0])), (u.2.2.2.2.2.1, .inl (d, 6200, .inl (fun _ => 0))), (u.2.2.2.2.2.2.1, .inl (d, 6200, .inl (fun _ => 0))), (u.2.2.2.2.2.2.2.1, .inl (d, 12, .inl (fun _ => 0))), (u.2.2.2.2.2.2.2.2.1, .inl (d, 12, .inl (fun _ => 0))), (u.2.2.2.2.2.2.2.2.2.1, .inl (d, 12, .inl (fun _ => 0))), (u.2.2.2.2.2.2.2.2.2.2, .inr (3, [.ref u.1]))]) (va_runI (As := []) (rest := [.ref dh]) ⟨hx, hb, hml, hown, hts⟩ (metX0_init l dC dI d H.size dh) (cwI 0 hts (lw_meth q25) rfl rfl rfl (hts _ q14) (hts _ q23) (hts _ q24) rfl (by decide +kernel) ⟨Nat.le_of_ble_eq_true rfl, Nat.le_of_ble_eq_true rfl⟩) (wk_M.preS hK hPc hDc) rfl rfl hl.1 rfl (lv_room (Nat.le_of_ble_eq_true rfl)) dL_law_4 ⟨Nat.le_of_ble_eq_true rfl, Nat.le_of_ble_eq_true rfl⟩) hP hD hS hA [0] [] [0, 1, 2, 3, 4, 5, 6, 7, 8, 9, 10, 11] rfl rfl (by decide) (by decide) (by decide) (fun _ => rfl) (fun u H locs hp hK hP hD hS => ?_)
  have hP : va_P (dC, dI) vwCl [(dh, .inr (0, [.ref u.1, .ref u.2.2.2.1, .ref u.2.2.2.2.2.2.2.2.2.2, .int 4, .int (-1)])), (u.1, .inr (1, [.ref u.2.1, .ref u.2.2.1, .int 0])), (u.2.1, .inl (d, 256, .inl (fun _ => 0))), (u.2.2.1, .inl (d, 256, .inl (fun _ => 0))), (u.2.2.2.1, .inr (2, [.ref u.1, .ref u.2.2.2.2.1, .ref u.2.2.2.2.2.2.2.1, .ref u.2.2.2.2.2.2.2.2.1, .ref u.2.2.2.2.2.2.2.2.2.1, .int 0, .int 0, .int 0, .int 0])), (u.2.2.2.2.1, .inr (1, [.ref u.2.2.2.2.2.1, .ref u.2.2.2.2.2.2.1, .int 0])), (u.2.2.2.2.2.1, .inl (d, 6200, .inl (fun _ => 0))), (u.2.2.2.2.2.2.1, .inl (d, 6200, .inl (fun _ => 0))), (u.2.2.2.2.2.2.2.1, .inl (d, 12, .inl (fun _ => 0))), (u.2.2.2.2.2.2.2.2.1, .inl (d, 12, .inl (fun _ => 0))), (u.2.2.2.2.2.2.2.2.2.1, .inl (d, 12, .inl (fun _ => 0))), (u.2.2.2.2.2.2.2.2.2.2, .inr (3, [.ref u.1]))] H := hP
  have hD : va_D A [(dh, .inr (0, [.ref u.1, .ref u.2.2.2.1, .ref u.2.2.2.2.2.2.2.2.2.2, .int 4, .int (-1)])), (u.1, .inr (1, [.ref u.2.1, .ref u.2.2.1, .int 0])), (u.2.1, .inl (d, 256, .inl (fun _ => 0))), (u.2.2.1, .inl (d, 256, .inl (fun _ => 0))), (u.2.2.2.1, .inr (2, [.ref u.1, .ref u.2.2.2.2.1, .ref u.2.2.2.2.2.2.2.1, .ref u.2.2.2.2.2.2.2.2.1, .ref u.2.2.2.2.2.2.2.2.2.1, .int 0, .int 0, .int 0, .int 0])), (u.2.2.2.2.1, .inr (1, [.ref u.2.2.2.2.2.1, .ref u.2.2.2.2.2.2.1, .int 0])), (u.2.2.2.2.2.1, .inl (d, 6200, .inl (fun _ => 0))), (u.2.2.2.2.2.2.1, .inl (d, 6200, .inl (fun _ => 0))), (u.2.2.2.2.2.2.2.1, .inl (d, 12, .inl (fun _ => 0))), (u.2.2.2.2.2.2.2.2.1, .inl (d, 12, .inl (fun _ => 0))), (u.2.2.2.2.2.2.2.2.2.1, .inl (d, 12, .inl (fun _ => 0))), (u.2.2.2.2.2.2.2.2.2.2, .inr (3, [.ref u.1]))] := hD
  obtain ⟨g, a1, a2, sh, ln, b1, b2, hv, hw, ht, ct⟩ := u
  have hP : va_P (dC, dI) vwCl [(dh, .inr (0, [.ref g, .ref sh, .ref ct, .int 4, .int (-1)])), (g, .inr (1, [.ref a1, .ref a2, .int 0])), (a1, .inl (d, 256, .inl (fun _ => 0))), (a2, .inl (d, 256, .inl (fun _ => 0))), (sh, .inr (2, [.ref g, .ref ln, .ref hv, .ref hw, .ref ht, .int 0, .int 0, .int 0, .int 0])), (ln, .inr (1, [.ref b1, .ref b2, .int 0])), (b1, .inl (d, 6200, .inl (fun _ => 0))), (b2, .inl (d, 6200, .inl (fun _ => 0))), (hv, .inl (d, 12, .inl (fun _ => 0))), (hw, .inl (d, 12, .inl (fun _ => 0))), (ht, .inl (d, 12, .inl (fun _ => 0))), (ct, .inr (3, [.ref g]))] H := hP
  have hD : va_D A [(dh, .inr (0, [.ref g, .ref sh, .ref ct, .int 4, .int (-1)])), (g, .inr (1, [.ref a1, .ref a2, .int 0])), (a1, .inl (d, 256, .inl (fun _ => 0))), (a2, .inl (d, 256, .inl (fun _ => 0))), (sh, .inr (2, [.ref g, .ref ln, .ref hv, .ref hw, .ref ht, .int 0, .int 0, .int 0, .int 0])), (ln, .inr (1, [.ref b1, .ref b2, .int 0])), (b1, .inl (d, 6200, .inl (fun _ => 0))), (b2, .inl (d, 6200, .inl (fun _ => 0))), (hv, .inl (d, 12, .inl (fun _ => 0))), (hw, .inl (d, 12, .inl (fun _ => 0))), (ht, .inl (d, 12, .inl (fun _ => 0))), (ct, .inr (3, [.ref g]))] := hD
  refine lv_astore_n (lv' := [(1, .ref dh), (0, .ref b)]) hx hb dL_law_7 rfl hl (by decide) rfl (fun ls hl => ?_)
  refine va_new (ci := 4) (fs := [.null, .null, .int 0, .int 0, .int 0, .null]) (C := RX4) (T := TX4) (N := 6) hx hb hts in_X4 tyX4 tyX4_ok hown (hts _ q227) (hts _ q228) (hts _ q18) hK hP hD hS hA rfl (fun j hj => by rcases (show j = 0 ∨ j = 1 ∨ j = 2 ∨ j = 3 ∨ j = 4 ∨ j = 5 by omega) with rfl | rfl | rfl | rfl | rfl | rfl <;> rfl) (Nat.le_of_ble_eq_true rfl) (Nat.le_of_ble_eq_true rfl) dL_law_8 (fun mh H hP hD hS => ?_)
  have hP : va_P (dC, dI) vwCl [(dh, .inr (0, [.ref g, .ref sh, .ref ct, .int 4, .int (-1)])), (g, .inr (1, [.ref a1, .ref a2, .int 0])), (a1, .inl (d, 256, .inl (fun _ => 0))), (a2, .inl (d, 256, .inl (fun _ => 0))), (sh, .inr (2, [.ref g, .ref ln, .ref hv, .ref hw, .ref ht, .int 0, .int 0, .int 0, .int 0])), (ln, .inr (1, [.ref b1, .ref b2, .int 0])), (b1, .inl (d, 6200, .inl (fun _ => 0))), (b2, .inl (d, 6200, .inl (fun _ => 0))), (hv, .inl (d, 12, .inl (fun _ => 0))), (hw, .inl (d, 12, .inl (fun _ => 0))), (ht, .inl (d, 12, .inl (fun _ => 0))), (ct, .inr (3, [.ref g])), (mh, .inr (4, [.null, .null, .int 0, .int 0, .int 0, .null]))] H := hP
  have hD : va_D A [(dh, .inr (0, [.ref g, .ref sh, .ref ct, .int 4, .int (-1)])), (g, .inr (1, [.ref a1, .ref a2, .int 0])), (a1, .inl (d, 256, .inl (fun _ => 0))), (a2, .inl (d, 256, .inl (fun _ => 0))), (sh, .inr (2, [.ref g, .ref ln, .ref hv, .ref hw, .ref ht, .int 0, .int 0, .int 0, .int 0])), (ln, .inr (1, [.ref b1, .ref b2, .int 0])), (b1, .inl (d, 6200, .inl (fun _ => 0))), (b2, .inl (d, 6200, .inl (fun _ => 0))), (hv, .inl (d, 12, .inl (fun _ => 0))), (hw, .inl (d, 12, .inl (fun _ => 0))), (ht, .inl (d, 12, .inl (fun _ => 0))), (ct, .inr (3, [.ref g])), (mh, .inr (4, [.null, .null, .int 0, .int 0, .int 0, .null]))] := hD
  refine lv_dup hx hb dL_law_11 rfl ?_
  have hPc := hP.sub (ws' := [(mh, .inr (4, [.null, .null, .int 0, .int 0, .int 0, .null]))]) [12] rfl
  have hDc := hD.sub (ws' := [(mh, .inr (4, [.null, .null, .int 0, .int 0, .int 0, .null]))]) [12] (by decide) rfl
  refine wk_cv (wr := [(dh, .inr (0, [.ref g, .ref sh, .ref ct, .int 4, .int (-1)])), (g, .inr (1, [.ref a1, .ref a2, .int 0])), (a1, .inl (d, 256, .inl (fun _ => 0))), (a2, .inl (d, 256, .inl (fun _ => 0))), (sh, .inr (2, [.ref g, .ref ln, .ref hv, .ref hw, .ref ht, .int 0, .int 0, .int 0, .int 0])), (ln, .inr (1, [.ref b1, .ref b2, .int 0])), (b1, .inl (d, 6200, .inl (fun _ => 0))), (b2, .inl (d, 6200, .inl (fun _ => 0))), (hv, .inl (d, 12, .inl (fun _ => 0))), (hw, .inl (d, 12, .inl (fun _ => 0))), (ht, .inl (d, 12, .inl (fun _ => 0))), (ct, .inr (3, [.ref g]))]) (wn := fun (u : Nat × Nat × Nat) => [(dh, .inr (0, [.ref g, .ref sh, .ref ct, .int 4, .int (-1)])), (g, .inr (1, [.ref a1, .ref a2, .int 0])), (a1, .inl (d, 256, .inl (fun _ => 0))), (a2, .inl (d, 256, .inl (fun _ => 0))), (sh, .inr (2, [.ref g, .ref ln, .ref hv, .ref hw, .ref ht, .int 0, .int 0, .int 0, .int 0])), (ln, .inr (1, [.ref b1, .ref b2, .int 0])), (b1, .inl (d, 6200, .inl (fun _ => 0))), (b2, .inl (d, 6200, .inl (fun _ => 0))), (hv, .inl (d, 12, .inl (fun _ => 0))), (hw, .inl (d, 12, .inl (fun _ => 0))), (ht, .inl (d, 12, .inl (fun _ => 0))), (ct, .inr (3, [.ref g])), (mh, .inr (4, [.ref u.1, .ref u.2.1, .int 0, .int 4, .int (-1), .ref u.2.2])), (u.1, .inl (d, 256, .inl (fun _ => 0))), (u.2.1, .inl (d, 256, .inl (fun _ => 0))), (u.2.2, .inl (d, 4096, .inl (fun _ => 0)))]) (va_runI (As := []) (rest := [.ref mh]) ⟨hx, hb, hml, hown, hts⟩ (metX4_init l dC dI d H.size mh) (cwI 0 hts (lw_meth q231) rfl rfl rfl (hts _ q18) (hts _ q229) (hts _ q230) rfl (by decide +kernel) ⟨Nat.le_of_ble_eq_true rfl, Nat.le_of_ble_eq_true rfl⟩) (wk_M.preS hK hPc hDc) rfl rfl hl.1 rfl (lv_room (Nat.le_of_ble_eq_true rfl)) dL_law_12 ⟨Nat.le_of_ble_eq_true rfl, Nat.le_of_ble_eq_true rfl⟩) hP hD hS hA [12] [0, 1, 2, 3, 4, 5, 6, 7, 8, 9, 10, 11] [0, 1, 2, 3, 4, 5, 6, 7, 8, 9, 10, 11, 12, 13, 14, 15] rfl rfl (by decide) (by decide) (by decide) (fun _ => rfl) (fun u H locs hp hK hP hD hS => ?_)
  have hP : va_P (dC, dI) vwCl [(dh, .inr (0, [.ref g, .ref sh, .ref ct, .int 4, .int (-1)])), (g, .inr (1, [.ref a1, .ref a2, .int 0])), (a1, .inl (d, 256, .inl (fun _ => 0))), (a2, .inl (d, 256, .inl (fun _ => 0))), (sh, .inr (2, [.ref g, .ref ln, .ref hv, .ref hw, .ref ht, .int 0, .int 0, .int 0, .int 0])), (ln, .inr (1, [.ref b1, .ref b2, .int 0])), (b1, .inl (d, 6200, .inl (fun _ => 0))), (b2, .inl (d, 6200, .inl (fun _ => 0))), (hv, .inl (d, 12, .inl (fun _ => 0))), (hw, .inl (d, 12, .inl (fun _ => 0))), (ht, .inl (d, 12, .inl (fun _ => 0))), (ct, .inr (3, [.ref g])), (mh, .inr (4, [.ref u.1, .ref u.2.1, .int 0, .int 4, .int (-1), .ref u.2.2])), (u.1, .inl (d, 256, .inl (fun _ => 0))), (u.2.1, .inl (d, 256, .inl (fun _ => 0))), (u.2.2, .inl (d, 4096, .inl (fun _ => 0)))] H := hP
  have hD : va_D A [(dh, .inr (0, [.ref g, .ref sh, .ref ct, .int 4, .int (-1)])), (g, .inr (1, [.ref a1, .ref a2, .int 0])), (a1, .inl (d, 256, .inl (fun _ => 0))), (a2, .inl (d, 256, .inl (fun _ => 0))), (sh, .inr (2, [.ref g, .ref ln, .ref hv, .ref hw, .ref ht, .int 0, .int 0, .int 0, .int 0])), (ln, .inr (1, [.ref b1, .ref b2, .int 0])), (b1, .inl (d, 6200, .inl (fun _ => 0))), (b2, .inl (d, 6200, .inl (fun _ => 0))), (hv, .inl (d, 12, .inl (fun _ => 0))), (hw, .inl (d, 12, .inl (fun _ => 0))), (ht, .inl (d, 12, .inl (fun _ => 0))), (ct, .inr (3, [.ref g])), (mh, .inr (4, [.ref u.1, .ref u.2.1, .int 0, .int 4, .int (-1), .ref u.2.2])), (u.1, .inl (d, 256, .inl (fun _ => 0))), (u.2.1, .inl (d, 256, .inl (fun _ => 0))), (u.2.2, .inl (d, 4096, .inl (fun _ => 0)))] := hD
  obtain ⟨y1, y2, br⟩ := u
  have hP : va_P (dC, dI) vwCl [(dh, .inr (0, [.ref g, .ref sh, .ref ct, .int 4, .int (-1)])), (g, .inr (1, [.ref a1, .ref a2, .int 0])), (a1, .inl (d, 256, .inl (fun _ => 0))), (a2, .inl (d, 256, .inl (fun _ => 0))), (sh, .inr (2, [.ref g, .ref ln, .ref hv, .ref hw, .ref ht, .int 0, .int 0, .int 0, .int 0])), (ln, .inr (1, [.ref b1, .ref b2, .int 0])), (b1, .inl (d, 6200, .inl (fun _ => 0))), (b2, .inl (d, 6200, .inl (fun _ => 0))), (hv, .inl (d, 12, .inl (fun _ => 0))), (hw, .inl (d, 12, .inl (fun _ => 0))), (ht, .inl (d, 12, .inl (fun _ => 0))), (ct, .inr (3, [.ref g])), (mh, .inr (4, [.ref y1, .ref y2, .int 0, .int 4, .int (-1), .ref br])), (y1, .inl (d, 256, .inl (fun _ => 0))), (y2, .inl (d, 256, .inl (fun _ => 0))), (br, .inl (d, 4096, .inl (fun _ => 0)))] H := hP
  have hD : va_D A [(dh, .inr (0, [.ref g, .ref sh, .ref ct, .int 4, .int (-1)])), (g, .inr (1, [.ref a1, .ref a2, .int 0])), (a1, .inl (d, 256, .inl (fun _ => 0))), (a2, .inl (d, 256, .inl (fun _ => 0))), (sh, .inr (2, [.ref g, .ref ln, .ref hv, .ref hw, .ref ht, .int 0, .int 0, .int 0, .int 0])), (ln, .inr (1, [.ref b1, .ref b2, .int 0])), (b1, .inl (d, 6200, .inl (fun _ => 0))), (b2, .inl (d, 6200, .inl (fun _ => 0))), (hv, .inl (d, 12, .inl (fun _ => 0))), (hw, .inl (d, 12, .inl (fun _ => 0))), (ht, .inl (d, 12, .inl (fun _ => 0))), (ct, .inr (3, [.ref g])), (mh, .inr (4, [.ref y1, .ref y2, .int 0, .int 4, .int (-1), .ref br])), (y1, .inl (d, 256, .inl (fun _ => 0))), (y2, .inl (d, 256, .inl (fun _ => 0))), (br, .inl (d, 4096, .inl (fun _ => 0)))] := hD
  refine lv_astore_n (lv' := [(2, .ref mh), (1, .ref dh), (0, .ref b)]) hx hb dL_law_15 rfl hl (by decide) rfl (fun ls hl => ?_)
  refine lv_iconst (v := 0) hx hb dL_law_16 (by decide) ?_
  refine lv_istore_n (lv' := [(3, .int 0), (2, .ref mh), (1, .ref dh), (0, .ref b)]) hx hb dL_law_17 rfl hl (by decide) rfl (fun ls hl => ?_)
  refine W.widen (k := 600000) (n := 7302250) (Nat.le_of_ble_eq_true rfl) (Nat.le_of_ble_eq_true rfl) ?_
  have hP := hP.sub (ws' := [(dh, .inr (0, [.ref g, .ref sh, .ref ct, .int 4, .int (-1)])), (sh, .inr (2, [.ref g, .ref ln, .ref hv, .ref hw, .ref ht, .int 0, .int 0, .int 0, .int 0])), (hv, .inl (d, 12, .inl (fun _ => 0))), (hw, .inl (d, 12, .inl (fun _ => 0))), (ht, .inl (d, 12, .inl (fun _ => 0))), (g, .inr (1, [.ref a1, .ref a2, .int 0])), (a1, .inl (d, 256, .inl (fun _ => 0))), (a2, .inl (d, 256, .inl (fun _ => 0))), (ln, .inr (1, [.ref b1, .ref b2, .int 0])), (b1, .inl (d, 6200, .inl (fun _ => 0))), (b2, .inl (d, 6200, .inl (fun _ => 0))), (ct, .inr (3, [.ref g])), (mh, .inr (4, [.ref y1, .ref y2, .int 0, .int 4, .int (-1), .ref br])), (y1, .inl (d, 256, .inl (fun _ => 0))), (y2, .inl (d, 256, .inl (fun _ => 0))), (br, .inl (d, 4096, .inl (fun _ => 0)))]) [0, 4, 8, 9, 10, 1, 2, 3, 5, 6, 7, 11, 12, 13, 14, 15] rfl
  have hD := hD.sub (ws' := [(dh, .inr (0, [.ref g, .ref sh, .ref ct, .int 4, .int (-1)])), (sh, .inr (2, [.ref g, .ref ln, .ref hv, .ref hw, .ref ht, .int 0, .int 0, .int 0, .int 0])), (hv, .inl (d, 12, .inl (fun _ => 0))), (hw, .inl (d, 12, .inl (fun _ => 0))), (ht, .inl (d, 12, .inl (fun _ => 0))), (g, .inr (1, [.ref a1, .ref a2, .int 0])), (a1, .inl (d, 256, .inl (fun _ => 0))), (a2, .inl (d, 256, .inl (fun _ => 0))), (ln, .inr (1, [.ref b1, .ref b2, .int 0])), (b1, .inl (d, 6200, .inl (fun _ => 0))), (b2, .inl (d, 6200, .inl (fun _ => 0))), (ct, .inr (3, [.ref g])), (mh, .inr (4, [.ref y1, .ref y2, .int 0, .int 4, .int (-1), .ref br])), (y1, .inl (d, 256, .inl (fun _ => 0))), (y2, .inl (d, 256, .inl (fun _ => 0))), (br, .inl (d, 4096, .inl (fun _ => 0)))]) [0, 4, 8, 9, 10, 1, 2, 3, 5, 6, 7, 11, 12, 13, 14, 15] (by decide) rfl
  exact loop dh sh g ln hv hw ht a1 a2 b1 b2 ct mh y1 y2 br 201 0 4 0 0 (fun _ => 0) (fun _ => 0) (fun _ => 0) (fun _ => 0) (fun _ => 0) (fun _ => 0) (fun _ => 0) (fun _ => 0) (fun _ => 0) (fun _ => 0) 0 0 0 0 (-1) (by omega) (Nat.zero_le _) (eq_start _ _ _ _ _ _ _ (by decide) (fun r _ => rfl)) H locs hP hD hS ls (lv_sub hl [0, 1, 2, 3] rfl)
end
section
set_option maxHeartbeats 4000000 in
theorem lw_walk (l : Launch) (b : Addr) (xs : List Int32) : MetFree l x (headSpec (Jvm.Cond.code x code maxLocals ret :: tables_1) room_1) (lw_P b xs) (fun _ _ _ _ _ => True) lw_Q := by
  refine MetFree.of_bodyS (code := code) (maxLocals := maxLocals) (ret := ret) (by decide) ?_ ?_
  · intro args s m h hn
    obtain ⟨meth, c, h1, h2, h3, h4, h5, h6, -, -⟩ := Cond.code_spec hn (atoms_spec (ws := Jvm.Cond.code x code maxLocals ret :: tables_1) h _ List.mem_cons_self)
    exact ⟨meth, c, h1, h2, h3, h4, h5, h6⟩
  · intro p e s m args below meth c s₁ B hml0 hP _
    obtain ⟨rfl, hx, hbd, hgv⟩ := hP
    obtain ⟨scr, harrAt, hlist, hof, hsmall⟩ := hx
    obtain ⟨hcb, hkn, -, -⟩ := State.arrayAt?_spec harrAt
    have hown : s.vm.findClass R_law = some m.cls := findClass_of_methodNamed B.named
    have hts0 : ∀ c ∈ (Jvm.Cond.code x code maxLocals ret :: tables_1), c.before #[Value.ref b] s = true := atoms_spec (ws := Jvm.Cond.code x code maxLocals ret :: tables_1) B.pre
    have hts : ∀ w ∈ lw_tbl, w.before #[Value.ref b] s = true := k2_hts_sels lw_privs (fun w hw => hts0 w (List.mem_cons_of_mem _ hw)) lw_privs_ok
    have hml : c.maxLocals = 4 := B.maxLocals_eq (hts0 _ List.mem_cons_self)
    have X₀ : Stand p l e room_1 s m #[Value.ref b] below meth c s₁ [] 0 0 := Stand.of_body B
    have hh0 : s₁.heap = s.heap := by rw [B.state]; rfl
    have hsz : scr.slots.size = xs.length := by rw [← Array.length_toList, hlist, List.length_map]
    have hval : ∀ j : Nat, j < xs.length → scr.slots[j]? = some (.int (xs.getD j 0)) := fun j hj => by
      rw [← Array.getElem?_toList, hlist]
      simp [hj]
    have hbl : b < s.heap.size := (Array.getElem?_eq_some_iff.mp hcb).1
    have hX : va_X b xs.length (fun j => xs.getD j 0) s s.heap := ⟨scr, hcb, hof, hkn, hsz, hval⟩
    have K : W p l e room_1 s m #[Value.ref b] below meth c s₁.heap [] 0 0 (lw_Z below #[Value.ref b] s) (entryFrame m ([Value.ref b] : List Value).toArray 4) := by
      rw [hh0]
      exact whole_start l hbd ⟨B.exec, B.bytes, B.returns, hml, hown, hts, hX, hbl, B.notSynchronized, hgv⟩
    obtain ⟨t, a1, o, b1, b2, b3⟩ := K s₁ rfl X₀
    exact ⟨t, o, a1, b1, b2, b3⟩
theorem lw_pre_spec {args : Array Value} {s : State} (h : (Jvm.Cond.and given_1 narrow_1).before args s = true) (hr : rest_1_c.before args s = true) : ∃ (b : Addr) (xs : List Int32), lw_P b xs args s := by
  have hs := flat_of_before _ h
  have hq := flat_of_before _ hr
  have hc : (Cond.count 1).before args s = true := hs _ (by decide +kernel)
  have harr : (Cond.arrayOf (.arg 0) .int).before args s = true := hs _ (by decide +kernel)
  have hle : (Cond.le (.length (.arg 0)) (.int 192)).before args s = true := hs _ (by decide +kernel)
  have hlen : (Cond.isInt (.length (.arg 0))).before args s = true := hq _ (by decide +kernel)
  have hall : (Cond.all (.arg 0) (.isInt (.elem (.arg 0) (.index 0)))).before args s = true := hq _ (by decide +kernel)
  obtain ⟨b, xs, hb, hx⟩ := State.ints_of_pre rfl harr hlen hall
  have hsm : xs.length < 2 ^ 31 := hx.choose_spec.2.2.2
  have hev : (Term.length (.arg 0)).eval args s none [] s = some (.int xs.length.toInt32) := hx.length_eval hb
  have hv := Cond.le_ints hev (show (Term.int 192).eval args s none [] s = some (.int 192) from rfl)
  have hd : xs.length.toInt32 ≤ 192 := by
    simpa [Cond.before, Cond.holds, hv] using hle
  have hN : xs.length ≤ 192 := (Int32.ofNat_le_ofNat hsm (by decide)).mp (show Int32.ofNat xs.length ≤ Int32.ofNat 192 from hd)
  exact ⟨b, xs, Cond.one_arg hc (show args[0]? = some (.ref b) from hb), hx, hN, h⟩
theorem lw_comes (l : Launch) : Comes l x (Jvm.Cond.code x code maxLocals ret :: tables_1) room_1 (fun tb e args s => Calls_1 tb e args s ∧ rest_1 tb e args s ∧ Pre_1 tb e args s)
    (fun _ _ args s o t => lw_Q args s o t) := by
  intro p e ha hc hk s m args below hf hfit hheap happ hpre
  obtain ⟨b, xs, hP⟩ := lw_pre_spec hpre.2.2 hpre.2.1
  obtain ⟨k, o, h1, h2, h3, hQ⟩ := lw_walk l b xs p e ha hc hk s m args below hf ((Spec.applies_iff_loose hf).mp happ).1 hP trivial
  exact ⟨k, o, h1, h2, h3, hQ⟩
theorem lw_frame {s t : State} {o : Outcome} {args : Array Value} (h : Framed s o t [] 600000 7302250) :
    Framed s o t (fieldLocs frame_1_writes args s ++ arrayLocs frame_1_arrays args s ++ staticLocs frame_1_statics s) 600000 7302250 := h
theorem lw_limb (L : Cond) (hL : ∀ (args : Array Value) (s t : State), L.after args s (.returned (some (.int 1))) t = true) :
    ArmFor flags0 classFile x code maxLocals ret World_1 tables_1 room_1 Calls_1 rest_1 Pre_1
      (fun tb e a s o t => postC L tb e a s o t ∧ Framed s o t (fieldLocs frame_1_writes a s ++ arrayLocs frame_1_arrays a s ++ staticLocs frame_1_statics s) 600000 7302250) := by
  intro l _ _ _ p e ha hc hk s m args below hf hfit hheap happ hpre
  obtain ⟨k, o, h1, h2, h3, rfl, hF⟩ := lw_comes l p e ha hc hk s m args below hf hfit hheap happ hpre
  exact ⟨k, _, h1, h2, h3, hL args s _, lw_frame hF⟩
theorem i_vc : Claimed_1_1 ∧ Claimed_1_2 := ⟨lw_limb limb_1_1 (fun args s t => by simp [limb_1_1, Cond.after, Cond.holds, Cond.value]), lw_limb limb_1_2 (fun args s t => Cond.after_iff.mpr (by
  first | (rw [show limb_1_2 = Cond.eq .result (.int 1) from rfl, Cond.eq_ints (x := 1) (y := 1) rfl rfl]; simp; done) | (simp [limb_1_2, Cond.value, Term.eval]; done)))⟩
end
