section
-- ===== PART A: goes FIRST, ahead of the names: the tables' words, and 'selects' of the private methods out of them =====
/-- a private method of a class that the tables say can be made, by its rows of tables_1 -/
def lw_okq (q : MethodName × Nat) : Prop := (q.1.cls ≠ "java/lang/invoke/MethodHandle" ∧ q.1.cls ≠ "java/lang/invoke/VarHandle") ∧ Cond.instantiable q.1.cls q.2 ∈ tables_1 ∧ Cond.privateMethod q.1 ∈ tables_1 ∧ Cond.instanceMethod q.1 ∈ tables_1
set_option maxRecDepth 100000
theorem lw_t1 {w : Cond} (h : w ∈ tables_1_1) : w ∈ tables_1 := List.mem_append_left _ h
theorem lw_t2 {w : Cond} (h : w ∈ tables_1_2) : w ∈ tables_1 := List.mem_append_right _ h
theorem lw_p0 : lw_okq (⟨"PowerFailCore", "fits", "(IIII)Z"⟩, 19) := ⟨⟨by decide +kernel, by decide +kernel⟩, lw_t1 (List.mem_of_getElem? (i := 4) rfl), lw_t1 (List.mem_of_getElem? (i := 76) rfl), lw_t1 (List.mem_of_getElem? (i := 77) rfl)⟩
theorem lw_p1 : lw_okq (⟨"PowerFailCore", "isRegister", "(I)Z"⟩, 19) := ⟨⟨by decide +kernel, by decide +kernel⟩, lw_t1 (List.mem_of_getElem? (i := 4) rfl), lw_t1 (List.mem_of_getElem? (i := 80) rfl), lw_t1 (List.mem_of_getElem? (i := 81) rfl)⟩
theorem lw_p2 : lw_okq (⟨"PowerFailCore", "mayLeaveOut", "(I)Z"⟩, 19) := ⟨⟨by decide +kernel, by decide +kernel⟩, lw_t1 (List.mem_of_getElem? (i := 4) rfl), lw_t1 (List.mem_of_getElem? (i := 92) rfl), lw_t1 (List.mem_of_getElem? (i := 93) rfl)⟩
theorem lw_p3 : lw_okq (⟨"PowerFailCore", "startFromNothing", "()V"⟩, 19) := ⟨⟨by decide +kernel, by decide +kernel⟩, lw_t1 (List.mem_of_getElem? (i := 4) rfl), lw_t1 (List.mem_of_getElem? (i := 105) rfl), lw_t1 (List.mem_of_getElem? (i := 106) rfl)⟩
theorem lw_p4 : lw_okq (⟨"PowerFailCore", "wakeUp", "()V"⟩, 19) := ⟨⟨by decide +kernel, by decide +kernel⟩, lw_t1 (List.mem_of_getElem? (i := 4) rfl), lw_t1 (List.mem_of_getElem? (i := 109) rfl), lw_t1 (List.mem_of_getElem? (i := 110) rfl)⟩
theorem lw_p5 : lw_okq (⟨"PowerFailCore", "validArea", "()I"⟩, 19) := ⟨⟨by decide +kernel, by decide +kernel⟩, lw_t1 (List.mem_of_getElem? (i := 4) rfl), lw_t1 (List.mem_of_getElem? (i := 113) rfl), lw_t1 (List.mem_of_getElem? (i := 114) rfl)⟩
theorem lw_p6 : lw_okq (⟨"PowerFailCore", "tick", "()Z"⟩, 19) := ⟨⟨by decide +kernel, by decide +kernel⟩, lw_t1 (List.mem_of_getElem? (i := 4) rfl), lw_t1 (List.mem_of_getElem? (i := 117) rfl), lw_t1 (List.mem_of_getElem? (i := 118) rfl)⟩
theorem lw_p7 : lw_okq (⟨"PowerFailCore", "loseAll", "()V"⟩, 19) := ⟨⟨by decide +kernel, by decide +kernel⟩, lw_t1 (List.mem_of_getElem? (i := 4) rfl), lw_t1 (List.mem_of_getElem? (i := 121) rfl), lw_t1 (List.mem_of_getElem? (i := 122) rfl)⟩
theorem lw_p8 : lw_okq (⟨"PowerFailCore", "startStretch", "()V"⟩, 19) := ⟨⟨by decide +kernel, by decide +kernel⟩, lw_t1 (List.mem_of_getElem? (i := 4) rfl), lw_t1 (List.mem_of_getElem? (i := 125) rfl), lw_t1 (List.mem_of_getElem? (i := 126) rfl)⟩
theorem lw_p9 : lw_okq (⟨"PowerFailCore", "step", "()V"⟩, 19) := ⟨⟨by decide +kernel, by decide +kernel⟩, lw_t1 (List.mem_of_getElem? (i := 4) rfl), lw_t1 (List.mem_of_getElem? (i := 129) rfl), lw_t1 (List.mem_of_getElem? (i := 130) rfl)⟩
theorem lw_p10 : lw_okq (⟨"PowerFailCore", "cellOf", "(I)I"⟩, 19) := ⟨⟨by decide +kernel, by decide +kernel⟩, lw_t1 (List.mem_of_getElem? (i := 4) rfl), lw_t1 (List.mem_of_getElem? (i := 133) rfl), lw_t1 (List.mem_of_getElem? (i := 134) rfl)⟩
theorem lw_p11 : lw_okq (⟨"PowerFailCore", "save", "()V"⟩, 19) := ⟨⟨by decide +kernel, by decide +kernel⟩, lw_t1 (List.mem_of_getElem? (i := 4) rfl), lw_t1 (List.mem_of_getElem? (i := 137) rfl), lw_t1 (List.mem_of_getElem? (i := 138) rfl)⟩
theorem lw_p12 : lw_okq (⟨"PowerFailCore", "wordToSave", "(I)I"⟩, 19) := ⟨⟨by decide +kernel, by decide +kernel⟩, lw_t1 (List.mem_of_getElem? (i := 4) rfl), lw_t1 (List.mem_of_getElem? (i := 141) rfl), lw_t1 (List.mem_of_getElem? (i := 142) rfl)⟩
theorem lw_p13 : lw_okq (⟨"PowerFailCore", "control", "(II)V"⟩, 19) := ⟨⟨by decide +kernel, by decide +kernel⟩, lw_t1 (List.mem_of_getElem? (i := 4) rfl), lw_t1 (List.mem_of_getElem? (i := 145) rfl), lw_t1 (List.mem_of_getElem? (i := 146) rfl)⟩
theorem lw_p14 : lw_okq (⟨"PowerFailCore", "moveCell", "(II)V"⟩, 19) := ⟨⟨by decide +kernel, by decide +kernel⟩, lw_t1 (List.mem_of_getElem? (i := 4) rfl), lw_t1 (List.mem_of_getElem? (i := 149) rfl), lw_t1 (List.mem_of_getElem? (i := 150) rfl)⟩
theorem lw_p15 : lw_okq (⟨"PowerFailCore", "compute", "(II)V"⟩, 19) := ⟨⟨by decide +kernel, by decide +kernel⟩, lw_t1 (List.mem_of_getElem? (i := 4) rfl), lw_t1 (List.mem_of_getElem? (i := 153) rfl), lw_t1 (List.mem_of_getElem? (i := 154) rfl)⟩
def lw_privs_1 : List (MethodName × Nat) := [(⟨"PowerFailCore", "fits", "(IIII)Z"⟩, 19), (⟨"PowerFailCore", "isRegister", "(I)Z"⟩, 19), (⟨"PowerFailCore", "mayLeaveOut", "(I)Z"⟩, 19), (⟨"PowerFailCore", "startFromNothing", "()V"⟩, 19), (⟨"PowerFailCore", "wakeUp", "()V"⟩, 19), (⟨"PowerFailCore", "validArea", "()I"⟩, 19), (⟨"PowerFailCore", "tick", "()Z"⟩, 19), (⟨"PowerFailCore", "loseAll", "()V"⟩, 19), (⟨"PowerFailCore", "startStretch", "()V"⟩, 19), (⟨"PowerFailCore", "step", "()V"⟩, 19), (⟨"PowerFailCore", "cellOf", "(I)I"⟩, 19), (⟨"PowerFailCore", "save", "()V"⟩, 19), (⟨"PowerFailCore", "wordToSave", "(I)I"⟩, 19), (⟨"PowerFailCore", "control", "(II)V"⟩, 19), (⟨"PowerFailCore", "moveCell", "(II)V"⟩, 19), (⟨"PowerFailCore", "compute", "(II)V"⟩, 19)]
theorem lw_r1 : ∀ q ∈ lw_privs_1, lw_okq q := List.forall_mem_cons.mpr ⟨lw_p0, List.forall_mem_cons.mpr ⟨lw_p1, List.forall_mem_cons.mpr ⟨lw_p2, List.forall_mem_cons.mpr ⟨lw_p3, List.forall_mem_cons.mpr ⟨lw_p4, List.forall_mem_cons.mpr ⟨lw_p5, List.forall_mem_cons.mpr ⟨lw_p6, List.forall_mem_cons.mpr ⟨lw_p7, List.forall_mem_cons.mpr ⟨lw_p8, List.forall_mem_cons.mpr ⟨lw_p9, List.forall_mem_cons.mpr ⟨lw_p10, List.forall_mem_cons.mpr ⟨lw_p11, List.forall_mem_cons.mpr ⟨lw_p12, List.forall_mem_cons.mpr ⟨lw_p13, List.forall_mem_cons.mpr ⟨lw_p14, List.forall_mem_cons.mpr ⟨lw_p15, fun _ h => absurd h List.not_mem_nil⟩⟩⟩⟩⟩⟩⟩⟩⟩⟩⟩⟩⟩⟩⟩⟩
theorem lw_p16 : lw_okq (⟨"PowerFailCoreModel", "fits", "(IIII)Z"⟩, 8) := ⟨⟨by decide +kernel, by decide +kernel⟩, lw_t1 (List.mem_of_getElem? (i := 169) rfl), lw_t1 (List.mem_of_getElem? (i := 204) rfl), lw_t1 (List.mem_of_getElem? (i := 205) rfl)⟩
theorem lw_p17 : lw_okq (⟨"PowerFailCoreModel", "in", "(II)Z"⟩, 8) := ⟨⟨by decide +kernel, by decide +kernel⟩, lw_t1 (List.mem_of_getElem? (i := 169) rfl), lw_t1 (List.mem_of_getElem? (i := 208) rfl), lw_t1 (List.mem_of_getElem? (i := 209) rfl)⟩
theorem lw_p18 : lw_okq (⟨"PowerFailCoreModel", "skipFits", "(I)Z"⟩, 8) := ⟨⟨by decide +kernel, by decide +kernel⟩, lw_t1 (List.mem_of_getElem? (i := 169) rfl), lw_t1 (List.mem_of_getElem? (i := 220) rfl), lw_t1 (List.mem_of_getElem? (i := 221) rfl)⟩
theorem lw_p19 : lw_okq (⟨"PowerFailCoreModel", "step", "(I)I"⟩, 8) := ⟨⟨by decide +kernel, by decide +kernel⟩, lw_t1 (List.mem_of_getElem? (i := 169) rfl), lw_t1 (List.mem_of_getElem? (i := 233) rfl), lw_t1 (List.mem_of_getElem? (i := 234) rfl)⟩
theorem lw_p20 : lw_okq (⟨"PowerFailCoreModel", "openerOf", "(I)I"⟩, 8) := ⟨⟨by decide +kernel, by decide +kernel⟩, lw_t1 (List.mem_of_getElem? (i := 169) rfl), lw_t1 (List.mem_of_getElem? (i := 237) rfl), lw_t1 (List.mem_of_getElem? (i := 238) rfl)⟩
def lw_privs_2 : List (MethodName × Nat) := [(⟨"PowerFailCoreModel", "fits", "(IIII)Z"⟩, 8), (⟨"PowerFailCoreModel", "in", "(II)Z"⟩, 8), (⟨"PowerFailCoreModel", "skipFits", "(I)Z"⟩, 8), (⟨"PowerFailCoreModel", "step", "(I)I"⟩, 8), (⟨"PowerFailCoreModel", "openerOf", "(I)I"⟩, 8)]
theorem lw_r2 : ∀ q ∈ lw_privs_2, lw_okq q := List.forall_mem_cons.mpr ⟨lw_p16, List.forall_mem_cons.mpr ⟨lw_p17, List.forall_mem_cons.mpr ⟨lw_p18, List.forall_mem_cons.mpr ⟨lw_p19, List.forall_mem_cons.mpr ⟨lw_p20, fun _ h => absurd h List.not_mem_nil⟩⟩⟩⟩⟩
def lw_privs : List (MethodName × Nat) := lw_privs_1 ++ (lw_privs_2)
def lw_tbl : List Cond := k2_sels lw_privs ++ tables_1
theorem lw_privs_ok : ∀ q ∈ lw_privs, lw_okq q := by
  show ∀ q ∈ lw_privs_1 ++ (lw_privs_2), lw_okq q
  exact List.forall_mem_append.mpr ⟨lw_r1, lw_r2⟩
-- ===== ONE list of words for every method: the tables' words that hold all through a run =====
def lw_all : List Cond := lw_tbl.filter goodWord
/-- a word of the tables by its place: claim/WORDS.tsv -/
theorem lw_w {w : Cond} (i : Nat) (h : lw_tbl[i]? = some w) (g : goodWord w = true) : w ∈ lw_all := List.mem_filter.mpr ⟨List.mem_of_getElem? h, g⟩
theorem lw_all_tbl {w : Cond} (h : w ∈ lw_all) : w ∈ lw_tbl := (List.mem_filter.mp h).1
theorem lw_self : GoodIn lw_all lw_all := fun w h => ⟨h, good_of_word (List.mem_filter.mp h).2⟩
/-- a class's field words, by their places -/
theorem lw_in (ws : List Cond) (ps : List Nat) (hp : ws = ps.filterMap (fun i => lw_tbl[i]?)) (hg : ws.all goodWord = true) : ∀ w ∈ ws, w ∈ lw_all := by
  intro w h
  have h1 := List.all_eq_true.mp hg w h
  rw [hp] at h
  obtain ⟨i, -, hi⟩ := List.mem_filterMap.mp h
  exact lw_w i hi h1
/-- the words of a contract for the method y with code b, L locals, answer r -/
abbrev ws_ (y : MethodName) (b : ByteArray) (L : Nat) (r : Option FieldType) : List Cond := Cond.code y b L r :: lw_all
theorem lw_meth {y : MethodName} {b : ByteArray} {L : Nat} {r : Option FieldType} (h : Cond.code y b L r ∈ lw_all) : GoodIn lw_all (ws_ y b L r) := by
  intro w hw
  rcases List.mem_cons.mp hw with e | e
  · rw [e]
    exact lw_self _ h
  · exact lw_self _ e
theorem lw_app {a c : List Cond} (ha : ∀ w ∈ a, w ∈ lw_all) (hc : GoodIn lw_all c) : GoodIn lw_all (a ++ c) := by
  intro w hw
  rcases List.mem_append.mp hw with e | e
  · exact lw_self w (ha w e)
  · exact hc w e
/-- what a call through an object asks: cwV n hts (lw_V ..) -/
theorem lw_V {own : String} {idx : Nat} {C : String} {y : MethodName} {b : ByteArray} {L : Nat} {r : Option FieldType} (h1 : Cond.methodLink own idx y ∈ lw_all) (h2 : Cond.instanceMethod y ∈ lw_all) (h3 : Cond.selects C y y ∈ lw_all) (h4 : Cond.initialized C ∈ lw_all) (h5 : Cond.code y b L r ∈ lw_all) : GoodIn lw_all (wsV own idx C y (ws_ y b L r)) := by
  refine lw_app ?_ (lw_meth h5)
  intro w hw
  simp only [List.mem_cons, List.not_mem_nil, or_false] at hw
  rcases hw with e | e | e | e
  · rw [e]; exact h1
  · rw [e]; exact h2
  · rw [e]; exact h3
  · rw [e]; exact h4
/-- what a static call asks: va_cwS n hts (lw_S ..) -/
theorem lw_S {own : String} {idx : Nat} {y : MethodName} {b : ByteArray} {L : Nat} {r : Option FieldType} (h1 : Cond.methodLink own idx y ∈ lw_all) (h2 : Cond.static y ∈ lw_all) (h3 : Cond.initialized y.cls ∈ lw_all) (h4 : Cond.code y b L r ∈ lw_all) : GoodIn lw_all (va_wsS own idx y (ws_ y b L r)) := by
  refine lw_app ?_ (lw_meth h4)
  intro w hw
  simp only [List.mem_cons, List.not_mem_nil, or_false] at hw
  rcases hw with e | e | e
  · rw [e]; exact h1
  · rw [e]; exact h2
  · rw [e]; exact h3
/-- the words of a contract for a method WITH HANDLERS (hh: its table) -/
abbrev wsW_ (y : MethodName) (b : ByteArray) (L : Nat) (r : Option FieldType) (hh : List (Nat × Nat × Nat × Nat)) : List Cond := Cond.codeWith y b L r hh :: lw_all
theorem lw_methW {y : MethodName} {b : ByteArray} {L : Nat} {r : Option FieldType} {hh : List (Nat × Nat × Nat × Nat)} (h : Cond.codeWith y b L r hh ∈ lw_all) : GoodIn lw_all (wsW_ y b L r hh) := by
  intro w hw
  rcases List.mem_cons.mp hw with e | e
  · rw [e]
    exact lw_self _ h
  · exact lw_self _ e
/-- any list of words by their places (lw_in), good -/
theorem lw_good {ws : List Cond} (h : ∀ w ∈ ws, w ∈ lw_all) : GoodIn lw_all ws := fun w hw => lw_self w (h w hw)
/-- what a call of a method with handlers asks: vx_cwVW n hts (lw_VW ..), vx_cwSW n hts (lw_SW ..) -/
theorem lw_VW {own : String} {idx : Nat} {C : String} {y : MethodName} {b : ByteArray} {L : Nat} {r : Option FieldType} {hh : List (Nat × Nat × Nat × Nat)} (h1 : Cond.methodLink own idx y ∈ lw_all) (h2 : Cond.instanceMethod y ∈ lw_all) (h3 : Cond.selects C y y ∈ lw_all) (h4 : Cond.initialized C ∈ lw_all) (h5 : Cond.codeWith y b L r hh ∈ lw_all) : GoodIn lw_all (wsV own idx C y (wsW_ y b L r hh)) := by
  refine lw_app ?_ (lw_methW h5)
  intro w hw
  simp only [List.mem_cons, List.not_mem_nil, or_false] at hw
  rcases hw with e | e | e | e
  · rw [e]; exact h1
  · rw [e]; exact h2
  · rw [e]; exact h3
  · rw [e]; exact h4
theorem lw_SW {own : String} {idx : Nat} {y : MethodName} {b : ByteArray} {L : Nat} {r : Option FieldType} {hh : List (Nat × Nat × Nat × Nat)} (h1 : Cond.methodLink own idx y ∈ lw_all) (h2 : Cond.static y ∈ lw_all) (h3 : Cond.initialized y.cls ∈ lw_all) (h4 : Cond.codeWith y b L r hh ∈ lw_all) : GoodIn lw_all (va_wsS own idx y (wsW_ y b L r hh)) := by
  refine lw_app ?_ (lw_methW h4)
  intro w hw
  simp only [List.mem_cons, List.not_mem_nil, or_false] at hw
  rcases hw with e | e | e
  · rw [e]; exact h1
  · rw [e]; exact h2
  · rw [e]; exact h3
/-- a word by its place in its run of the tables -/
theorem lw_at {r : List Cond} (hr : ∀ w ∈ r, w ∈ lw_tbl) {w : Cond} (i : Nat) (h : r[i]? = some w) : w ∈ lw_tbl := hr w (List.mem_of_getElem? h)
theorem lw_g {w : Cond} (h : w ∈ lw_tbl) (g : goodWord w = true) : w ∈ lw_all := List.mem_filter.mpr ⟨h, g⟩
theorem lw_ms : ∀ w ∈ k2_sels lw_privs, w ∈ lw_tbl := fun w h => show w ∈ k2_sels lw_privs ++ tables_1 from List.mem_append_left _ h
theorem lw_m1 : ∀ w ∈ tables_1_1, w ∈ lw_tbl := fun w h => show w ∈ k2_sels lw_privs ++ tables_1 from List.mem_append_right (k2_sels lw_privs) (show w ∈ tables_1 from List.mem_append_left _ h)
theorem lw_m2 : ∀ w ∈ tables_1_2, w ∈ lw_tbl := fun w h => show w ∈ k2_sels lw_privs ++ tables_1 from List.mem_append_right (k2_sels lw_privs) (show w ∈ tables_1 from List.mem_append_right _ h)
theorem qs0 : (Cond.selects "PowerFailCore" ⟨"PowerFailCore", "fits", "(IIII)Z"⟩ ⟨"PowerFailCore", "fits", "(IIII)Z"⟩) ∈ lw_all := lw_g (lw_at lw_ms 0 rfl) rfl
theorem qs1 : (Cond.selects "PowerFailCore" ⟨"PowerFailCore", "isRegister", "(I)Z"⟩ ⟨"PowerFailCore", "isRegister", "(I)Z"⟩) ∈ lw_all := lw_g (lw_at lw_ms 1 rfl) rfl
theorem qs2 : (Cond.selects "PowerFailCore" ⟨"PowerFailCore", "mayLeaveOut", "(I)Z"⟩ ⟨"PowerFailCore", "mayLeaveOut", "(I)Z"⟩) ∈ lw_all := lw_g (lw_at lw_ms 2 rfl) rfl
theorem qs3 : (Cond.selects "PowerFailCore" ⟨"PowerFailCore", "startFromNothing", "()V"⟩ ⟨"PowerFailCore", "startFromNothing", "()V"⟩) ∈ lw_all := lw_g (lw_at lw_ms 3 rfl) rfl
theorem qs4 : (Cond.selects "PowerFailCore" ⟨"PowerFailCore", "wakeUp", "()V"⟩ ⟨"PowerFailCore", "wakeUp", "()V"⟩) ∈ lw_all := lw_g (lw_at lw_ms 4 rfl) rfl
theorem qs5 : (Cond.selects "PowerFailCore" ⟨"PowerFailCore", "validArea", "()I"⟩ ⟨"PowerFailCore", "validArea", "()I"⟩) ∈ lw_all := lw_g (lw_at lw_ms 5 rfl) rfl
theorem qs6 : (Cond.selects "PowerFailCore" ⟨"PowerFailCore", "tick", "()Z"⟩ ⟨"PowerFailCore", "tick", "()Z"⟩) ∈ lw_all := lw_g (lw_at lw_ms 6 rfl) rfl
theorem qs7 : (Cond.selects "PowerFailCore" ⟨"PowerFailCore", "loseAll", "()V"⟩ ⟨"PowerFailCore", "loseAll", "()V"⟩) ∈ lw_all := lw_g (lw_at lw_ms 7 rfl) rfl
theorem qs8 : (Cond.selects "PowerFailCore" ⟨"PowerFailCore", "startStretch", "()V"⟩ ⟨"PowerFailCore", "startStretch", "()V"⟩) ∈ lw_all := lw_g (lw_at lw_ms 8 rfl) rfl
theorem qs9 : (Cond.selects "PowerFailCore" ⟨"PowerFailCore", "step", "()V"⟩ ⟨"PowerFailCore", "step", "()V"⟩) ∈ lw_all := lw_g (lw_at lw_ms 9 rfl) rfl
theorem qs10 : (Cond.selects "PowerFailCore" ⟨"PowerFailCore", "cellOf", "(I)I"⟩ ⟨"PowerFailCore", "cellOf", "(I)I"⟩) ∈ lw_all := lw_g (lw_at lw_ms 10 rfl) rfl
theorem qs11 : (Cond.selects "PowerFailCore" ⟨"PowerFailCore", "save", "()V"⟩ ⟨"PowerFailCore", "save", "()V"⟩) ∈ lw_all := lw_g (lw_at lw_ms 11 rfl) rfl
theorem qs12 : (Cond.selects "PowerFailCore" ⟨"PowerFailCore", "wordToSave", "(I)I"⟩ ⟨"PowerFailCore", "wordToSave", "(I)I"⟩) ∈ lw_all := lw_g (lw_at lw_ms 12 rfl) rfl
theorem qs13 : (Cond.selects "PowerFailCore" ⟨"PowerFailCore", "control", "(II)V"⟩ ⟨"PowerFailCore", "control", "(II)V"⟩) ∈ lw_all := lw_g (lw_at lw_ms 13 rfl) rfl
theorem qs14 : (Cond.selects "PowerFailCore" ⟨"PowerFailCore", "moveCell", "(II)V"⟩ ⟨"PowerFailCore", "moveCell", "(II)V"⟩) ∈ lw_all := lw_g (lw_at lw_ms 14 rfl) rfl
theorem qs15 : (Cond.selects "PowerFailCore" ⟨"PowerFailCore", "compute", "(II)V"⟩ ⟨"PowerFailCore", "compute", "(II)V"⟩) ∈ lw_all := lw_g (lw_at lw_ms 15 rfl) rfl
theorem qs16 : (Cond.selects "PowerFailCoreModel" ⟨"PowerFailCoreModel", "fits", "(IIII)Z"⟩ ⟨"PowerFailCoreModel", "fits", "(IIII)Z"⟩) ∈ lw_all := lw_g (lw_at lw_ms 16 rfl) rfl
theorem qs17 : (Cond.selects "PowerFailCoreModel" ⟨"PowerFailCoreModel", "in", "(II)Z"⟩ ⟨"PowerFailCoreModel", "in", "(II)Z"⟩) ∈ lw_all := lw_g (lw_at lw_ms 17 rfl) rfl
theorem qs18 : (Cond.selects "PowerFailCoreModel" ⟨"PowerFailCoreModel", "skipFits", "(I)Z"⟩ ⟨"PowerFailCoreModel", "skipFits", "(I)Z"⟩) ∈ lw_all := lw_g (lw_at lw_ms 18 rfl) rfl
theorem qs19 : (Cond.selects "PowerFailCoreModel" ⟨"PowerFailCoreModel", "step", "(I)I"⟩ ⟨"PowerFailCoreModel", "step", "(I)I"⟩) ∈ lw_all := lw_g (lw_at lw_ms 19 rfl) rfl
theorem qs20 : (Cond.selects "PowerFailCoreModel" ⟨"PowerFailCoreModel", "openerOf", "(I)I"⟩ ⟨"PowerFailCoreModel", "openerOf", "(I)I"⟩) ∈ lw_all := lw_g (lw_at lw_ms 20 rfl) rfl
end
section
/-! PowerFailCore -/
set_option maxRecDepth 100000
def RX0 : String := "PowerFailCore"
def TX0 : u_T := fun k => match k with
  | 0 => ("PowerFailCore", "length", "I", false)
  | 1 => ("PowerFailCore", "opcode", "[B", true)
  | 2 => ("PowerFailCore", "fieldX", "[B", true)
  | 3 => ("PowerFailCore", "fieldY", "[I", true)
  | 4 => ("PowerFailCore", "fieldZ", "[B", true)
  | 5 => ("PowerFailCore", "cells", "[I", true)
  | 6 => ("PowerFailCore", "saves", "[I", true)
  | 7 => ("PowerFailCore", "finalRegisters", "[I", true)
  | 8 => ("PowerFailCore", "registers", "[I", true)
  | 9 => ("PowerFailCore", "place", "I", false)
  | 10 => ("PowerFailCore", "count", "I", false)
  | 11 => ("PowerFailCore", "openLoops", "I", false)
  | 12 => ("PowerFailCore", "loopStart", "[I", true)
  | 13 => ("PowerFailCore", "loopLeft", "[I", true)
  | 14 => ("PowerFailCore", "readCells", "I", false)
  | 15 => ("PowerFailCore", "writtenCells", "I", false)
  | 16 => ("PowerFailCore", "stretch", "I", false)
  | 17 => ("PowerFailCore", "ticksLeft", "I", false)
  | _ => ("PowerFailCore", "failed", "Z", false)
def tyX0 : Nat → FieldType := fun k => match k with
  | 0 => .int
  | 1 => .array .byte
  | 2 => .array .byte
  | 3 => .array .int
  | 4 => .array .byte
  | 5 => .array .int
  | 6 => .array .int
  | 7 => .array .int
  | 8 => .array .int
  | 9 => .int
  | 10 => .int
  | 11 => .int
  | 12 => .array .int
  | 13 => .array .int
  | 14 => .int
  | 15 => .int
  | 16 => .int
  | 17 => .int
  | _ => .boolean
abbrev wsX00 : List Cond := u_ws RX0 TX0 19
set_option maxRecDepth 100000 in
theorem nmX0 : ∀ a, a < 19 → ∀ b, b < 19 → a ≠ b → (TX0 a).2.1 ≠ (TX0 b).2.1 := by decide +kernel
set_option maxRecDepth 100000 in
theorem tyX0_ok : ∀ k, k < 19 → parseFieldDescriptor (TX0 k).2.2.1 = some (tyX0 k) := by decide +kernel
abbrev cX0_init : ByteArray := prog_1_method_1_code
def yX0_init : MethodName := ⟨RX0, "<init>", "()V"⟩
theorem dX0_init_0 : decode cX0_init 0 = .ok (.aload_n 0, 1) := by decide +kernel
theorem dX0_init_1 : decode cX0_init 1 = .ok (.invokespecial 1, 3) := by decide +kernel
theorem dX0_init_4 : decode cX0_init 4 = .ok (.aload_n 0, 1) := by decide +kernel
theorem dX0_init_5 : decode cX0_init 5 = .ok (.bipush 30, 2) := by decide +kernel
theorem dX0_init_7 : decode cX0_init 7 = .ok (.newarray .byte, 2) := by decide +kernel
theorem dX0_init_9 : decode cX0_init 9 = .ok (.putfield 7, 3) := by decide +kernel
theorem dX0_init_12 : decode cX0_init 12 = .ok (.aload_n 0, 1) := by decide +kernel
theorem dX0_init_13 : decode cX0_init 13 = .ok (.bipush 30, 2) := by decide +kernel
theorem dX0_init_15 : decode cX0_init 15 = .ok (.newarray .byte, 2) := by decide +kernel
theorem dX0_init_17 : decode cX0_init 17 = .ok (.putfield 13, 3) := by decide +kernel
theorem dX0_init_20 : decode cX0_init 20 = .ok (.aload_n 0, 1) := by decide +kernel
theorem dX0_init_21 : decode cX0_init 21 = .ok (.bipush 30, 2) := by decide +kernel
theorem dX0_init_23 : decode cX0_init 23 = .ok (.newarray .int, 2) := by decide +kernel
theorem dX0_init_25 : decode cX0_init 25 = .ok (.putfield 16, 3) := by decide +kernel
theorem dX0_init_28 : decode cX0_init 28 = .ok (.aload_n 0, 1) := by decide +kernel
theorem dX0_init_29 : decode cX0_init 29 = .ok (.bipush 30, 2) := by decide +kernel
theorem dX0_init_31 : decode cX0_init 31 = .ok (.newarray .byte, 2) := by decide +kernel
theorem dX0_init_33 : decode cX0_init 33 = .ok (.putfield 20, 3) := by decide +kernel
theorem dX0_init_36 : decode cX0_init 36 = .ok (.aload_n 0, 1) := by decide +kernel
theorem dX0_init_37 : decode cX0_init 37 = .ok (.bipush 12, 2) := by decide +kernel
theorem dX0_init_39 : decode cX0_init 39 = .ok (.newarray .int, 2) := by decide +kernel
theorem dX0_init_41 : decode cX0_init 41 = .ok (.putfield 23, 3) := by decide +kernel
theorem dX0_init_44 : decode cX0_init 44 = .ok (.aload_n 0, 1) := by decide +kernel
theorem dX0_init_45 : decode cX0_init 45 = .ok (.bipush 24, 2) := by decide +kernel
theorem dX0_init_47 : decode cX0_init 47 = .ok (.newarray .int, 2) := by decide +kernel
theorem dX0_init_49 : decode cX0_init 49 = .ok (.putfield 26, 3) := by decide +kernel
theorem dX0_init_52 : decode cX0_init 52 = .ok (.aload_n 0, 1) := by decide +kernel
theorem dX0_init_53 : decode cX0_init 53 = .ok (.iconst 4, 1) := by decide +kernel
theorem dX0_init_54 : decode cX0_init 54 = .ok (.newarray .int, 2) := by decide +kernel
theorem dX0_init_56 : decode cX0_init 56 = .ok (.putfield 29, 3) := by decide +kernel
theorem dX0_init_59 : decode cX0_init 59 = .ok (.aload_n 0, 1) := by decide +kernel
theorem dX0_init_60 : decode cX0_init 60 = .ok (.iconst 4, 1) := by decide +kernel
theorem dX0_init_61 : decode cX0_init 61 = .ok (.newarray .int, 2) := by decide +kernel
theorem dX0_init_63 : decode cX0_init 63 = .ok (.putfield 32, 3) := by decide +kernel
theorem dX0_init_66 : decode cX0_init 66 = .ok (.aload_n 0, 1) := by decide +kernel
theorem dX0_init_67 : decode cX0_init 67 = .ok (.iconst 2, 1) := by decide +kernel
theorem dX0_init_68 : decode cX0_init 68 = .ok (.newarray .int, 2) := by decide +kernel
theorem dX0_init_70 : decode cX0_init 70 = .ok (.putfield 35, 3) := by decide +kernel
theorem dX0_init_73 : decode cX0_init 73 = .ok (.aload_n 0, 1) := by decide +kernel
theorem dX0_init_74 : decode cX0_init 74 = .ok (.iconst 2, 1) := by decide +kernel
theorem dX0_init_75 : decode cX0_init 75 = .ok (.newarray .int, 2) := by decide +kernel
theorem dX0_init_77 : decode cX0_init 77 = .ok (.putfield 38, 3) := by decide +kernel
theorem dX0_init_80 : decode cX0_init 80 = .ok (.return_, 1) := by decide +kernel
abbrev cX0_emit : ByteArray := prog_1_method_2_code
def yX0_emit : MethodName := ⟨RX0, "emit", "(IIII)I"⟩
theorem dX0_emit_0 : decode cX0_emit 0 = .ok (.aload_n 0, 1) := by decide +kernel
theorem dX0_emit_1 : decode cX0_emit 1 = .ok (.getfield 41, 3) := by decide +kernel
theorem dX0_emit_4 : decode cX0_emit 4 = .ok (.bipush 30, 2) := by decide +kernel
theorem dX0_emit_6 : decode cX0_emit 6 = .ok (.if_icmp .lt 6, 3) := by decide +kernel
theorem dX0_emit_9 : decode cX0_emit 9 = .ok (.bipush (-2), 2) := by decide +kernel
theorem dX0_emit_11 : decode cX0_emit 11 = .ok (.ireturn, 1) := by decide +kernel
theorem dX0_emit_12 : decode cX0_emit 12 = .ok (.iload_n 1, 1) := by decide +kernel
theorem dX0_emit_13 : decode cX0_emit 13 = .ok (.ifCond .lt 21, 3) := by decide +kernel
theorem dX0_emit_16 : decode cX0_emit 16 = .ok (.iload_n 1, 1) := by decide +kernel
theorem dX0_emit_17 : decode cX0_emit 17 = .ok (.bipush 10, 2) := by decide +kernel
theorem dX0_emit_19 : decode cX0_emit 19 = .ok (.if_icmp .gt 15, 3) := by decide +kernel
theorem dX0_emit_22 : decode cX0_emit 22 = .ok (.aload_n 0, 1) := by decide +kernel
theorem dX0_emit_23 : decode cX0_emit 23 = .ok (.iload_n 1, 1) := by decide +kernel
theorem dX0_emit_24 : decode cX0_emit 24 = .ok (.iload_n 2, 1) := by decide +kernel
theorem dX0_emit_25 : decode cX0_emit 25 = .ok (.iload_n 3, 1) := by decide +kernel
theorem dX0_emit_26 : decode cX0_emit 26 = .ok (.iload 4, 2) := by decide +kernel
theorem dX0_emit_28 : decode cX0_emit 28 = .ok (.invokevirtual 45, 3) := by decide +kernel
theorem dX0_emit_31 : decode cX0_emit 31 = .ok (.ifCond .ne 5, 3) := by decide +kernel
theorem dX0_emit_34 : decode cX0_emit 34 = .ok (.iconst (-1), 1) := by decide +kernel
theorem dX0_emit_35 : decode cX0_emit 35 = .ok (.ireturn, 1) := by decide +kernel
theorem dX0_emit_36 : decode cX0_emit 36 = .ok (.aload_n 0, 1) := by decide +kernel
theorem dX0_emit_37 : decode cX0_emit 37 = .ok (.getfield 7, 3) := by decide +kernel
theorem dX0_emit_40 : decode cX0_emit 40 = .ok (.aload_n 0, 1) := by decide +kernel
theorem dX0_emit_41 : decode cX0_emit 41 = .ok (.getfield 41, 3) := by decide +kernel
theorem dX0_emit_44 : decode cX0_emit 44 = .ok (.iload_n 1, 1) := by decide +kernel
theorem dX0_emit_45 : decode cX0_emit 45 = .ok (.i2b, 1) := by decide +kernel
theorem dX0_emit_46 : decode cX0_emit 46 = .ok (.bastore, 1) := by decide +kernel
theorem dX0_emit_47 : decode cX0_emit 47 = .ok (.aload_n 0, 1) := by decide +kernel
theorem dX0_emit_48 : decode cX0_emit 48 = .ok (.getfield 13, 3) := by decide +kernel
theorem dX0_emit_51 : decode cX0_emit 51 = .ok (.aload_n 0, 1) := by decide +kernel
theorem dX0_emit_52 : decode cX0_emit 52 = .ok (.getfield 41, 3) := by decide +kernel
theorem dX0_emit_55 : decode cX0_emit 55 = .ok (.iload_n 2, 1) := by decide +kernel
theorem dX0_emit_56 : decode cX0_emit 56 = .ok (.i2b, 1) := by decide +kernel
theorem dX0_emit_57 : decode cX0_emit 57 = .ok (.bastore, 1) := by decide +kernel
theorem dX0_emit_58 : decode cX0_emit 58 = .ok (.aload_n 0, 1) := by decide +kernel
theorem dX0_emit_59 : decode cX0_emit 59 = .ok (.getfield 16, 3) := by decide +kernel
theorem dX0_emit_62 : decode cX0_emit 62 = .ok (.aload_n 0, 1) := by decide +kernel
theorem dX0_emit_63 : decode cX0_emit 63 = .ok (.getfield 41, 3) := by decide +kernel
theorem dX0_emit_66 : decode cX0_emit 66 = .ok (.iload_n 3, 1) := by decide +kernel
theorem dX0_emit_67 : decode cX0_emit 67 = .ok (.iastore, 1) := by decide +kernel
theorem dX0_emit_68 : decode cX0_emit 68 = .ok (.aload_n 0, 1) := by decide +kernel
theorem dX0_emit_69 : decode cX0_emit 69 = .ok (.getfield 20, 3) := by decide +kernel
theorem dX0_emit_72 : decode cX0_emit 72 = .ok (.aload_n 0, 1) := by decide +kernel
theorem dX0_emit_73 : decode cX0_emit 73 = .ok (.getfield 41, 3) := by decide +kernel
theorem dX0_emit_76 : decode cX0_emit 76 = .ok (.iload 4, 2) := by decide +kernel
theorem dX0_emit_78 : decode cX0_emit 78 = .ok (.i2b, 1) := by decide +kernel
theorem dX0_emit_79 : decode cX0_emit 79 = .ok (.bastore, 1) := by decide +kernel
theorem dX0_emit_80 : decode cX0_emit 80 = .ok (.aload_n 0, 1) := by decide +kernel
theorem dX0_emit_81 : decode cX0_emit 81 = .ok (.dup, 1) := by decide +kernel
theorem dX0_emit_82 : decode cX0_emit 82 = .ok (.getfield 41, 3) := by decide +kernel
theorem dX0_emit_85 : decode cX0_emit 85 = .ok (.iconst 1, 1) := by decide +kernel
theorem dX0_emit_86 : decode cX0_emit 86 = .ok (.iadd, 1) := by decide +kernel
theorem dX0_emit_87 : decode cX0_emit 87 = .ok (.putfield 41, 3) := by decide +kernel
theorem dX0_emit_90 : decode cX0_emit 90 = .ok (.aload_n 0, 1) := by decide +kernel
theorem dX0_emit_91 : decode cX0_emit 91 = .ok (.getfield 41, 3) := by decide +kernel
theorem dX0_emit_94 : decode cX0_emit 94 = .ok (.ireturn, 1) := by decide +kernel
abbrev cX0_fits : ByteArray := prog_1_method_3_code
def yX0_fits : MethodName := ⟨RX0, "fits", "(IIII)Z"⟩
theorem dX0_fits_0 : decode cX0_fits 0 = .ok (.iload_n 1, 1) := by decide +kernel
theorem dX0_fits_1 : decode cX0_fits 1 = .ok (.bipush 10, 2) := by decide +kernel
theorem dX0_fits_3 : decode cX0_fits 3 = .ok (.if_icmp .ne 5, 3) := by decide +kernel
theorem dX0_fits_6 : decode cX0_fits 6 = .ok (.iconst 1, 1) := by decide +kernel
theorem dX0_fits_7 : decode cX0_fits 7 = .ok (.ireturn, 1) := by decide +kernel
theorem dX0_fits_8 : decode cX0_fits 8 = .ok (.iload_n 1, 1) := by decide +kernel
theorem dX0_fits_9 : decode cX0_fits 9 = .ok (.bipush 9, 2) := by decide +kernel
theorem dX0_fits_11 : decode cX0_fits 11 = .ok (.if_icmp .ne 20, 3) := by decide +kernel
theorem dX0_fits_14 : decode cX0_fits 14 = .ok (.iload_n 2, 1) := by decide +kernel
theorem dX0_fits_15 : decode cX0_fits 15 = .ok (.iconst 1, 1) := by decide +kernel
theorem dX0_fits_16 : decode cX0_fits 16 = .ok (.if_icmp .lt 13, 3) := by decide +kernel
theorem dX0_fits_19 : decode cX0_fits 19 = .ok (.iload_n 2, 1) := by decide +kernel
theorem dX0_fits_20 : decode cX0_fits 20 = .ok (.bipush 6, 2) := by decide +kernel
theorem dX0_fits_22 : decode cX0_fits 22 = .ok (.if_icmp .gt 7, 3) := by decide +kernel
theorem dX0_fits_25 : decode cX0_fits 25 = .ok (.iconst 1, 1) := by decide +kernel
theorem dX0_fits_26 : decode cX0_fits 26 = .ok (.goto 4, 3) := by decide +kernel
theorem dX0_fits_29 : decode cX0_fits 29 = .ok (.iconst 0, 1) := by decide +kernel
theorem dX0_fits_30 : decode cX0_fits 30 = .ok (.ireturn, 1) := by decide +kernel
theorem dX0_fits_31 : decode cX0_fits 31 = .ok (.aload_n 0, 1) := by decide +kernel
theorem dX0_fits_32 : decode cX0_fits 32 = .ok (.iload_n 2, 1) := by decide +kernel
theorem dX0_fits_33 : decode cX0_fits 33 = .ok (.invokevirtual 49, 3) := by decide +kernel
theorem dX0_fits_36 : decode cX0_fits 36 = .ok (.ifCond .ne 5, 3) := by decide +kernel
theorem dX0_fits_39 : decode cX0_fits 39 = .ok (.iconst 0, 1) := by decide +kernel
theorem dX0_fits_40 : decode cX0_fits 40 = .ok (.ireturn, 1) := by decide +kernel
theorem dX0_fits_41 : decode cX0_fits 41 = .ok (.iload_n 1, 1) := by decide +kernel
theorem dX0_fits_42 : decode cX0_fits 42 = .ok (.ifCond .ne 5, 3) := by decide +kernel
theorem dX0_fits_45 : decode cX0_fits 45 = .ok (.iconst 1, 1) := by decide +kernel
theorem dX0_fits_46 : decode cX0_fits 46 = .ok (.ireturn, 1) := by decide +kernel
theorem dX0_fits_47 : decode cX0_fits 47 = .ok (.iload_n 1, 1) := by decide +kernel
theorem dX0_fits_48 : decode cX0_fits 48 = .ok (.iconst 4, 1) := by decide +kernel
theorem dX0_fits_49 : decode cX0_fits 49 = .ok (.if_icmp .eq 8, 3) := by decide +kernel
theorem dX0_fits_52 : decode cX0_fits 52 = .ok (.iload_n 1, 1) := by decide +kernel
theorem dX0_fits_53 : decode cX0_fits 53 = .ok (.iconst 5, 1) := by decide +kernel
theorem dX0_fits_54 : decode cX0_fits 54 = .ok (.if_icmp .ne 19, 3) := by decide +kernel
theorem dX0_fits_57 : decode cX0_fits 57 = .ok (.iload_n 3, 1) := by decide +kernel
theorem dX0_fits_58 : decode cX0_fits 58 = .ok (.ifCond .lt 13, 3) := by decide +kernel
theorem dX0_fits_61 : decode cX0_fits 61 = .ok (.iload_n 3, 1) := by decide +kernel
theorem dX0_fits_62 : decode cX0_fits 62 = .ok (.bipush 11, 2) := by decide +kernel
theorem dX0_fits_64 : decode cX0_fits 64 = .ok (.if_icmp .gt 7, 3) := by decide +kernel
theorem dX0_fits_67 : decode cX0_fits 67 = .ok (.iconst 1, 1) := by decide +kernel
theorem dX0_fits_68 : decode cX0_fits 68 = .ok (.goto 4, 3) := by decide +kernel
theorem dX0_fits_71 : decode cX0_fits 71 = .ok (.iconst 0, 1) := by decide +kernel
theorem dX0_fits_72 : decode cX0_fits 72 = .ok (.ireturn, 1) := by decide +kernel
theorem dX0_fits_73 : decode cX0_fits 73 = .ok (.iload_n 1, 1) := by decide +kernel
theorem dX0_fits_74 : decode cX0_fits 74 = .ok (.bipush 8, 2) := by decide +kernel
theorem dX0_fits_76 : decode cX0_fits 76 = .ok (.if_icmp .ne 20, 3) := by decide +kernel
theorem dX0_fits_79 : decode cX0_fits 79 = .ok (.iload_n 3, 1) := by decide +kernel
theorem dX0_fits_80 : decode cX0_fits 80 = .ok (.iconst 1, 1) := by decide +kernel
theorem dX0_fits_81 : decode cX0_fits 81 = .ok (.if_icmp .lt 13, 3) := by decide +kernel
theorem dX0_fits_84 : decode cX0_fits 84 = .ok (.iload_n 3, 1) := by decide +kernel
theorem dX0_fits_85 : decode cX0_fits 85 = .ok (.bipush 6, 2) := by decide +kernel
theorem dX0_fits_87 : decode cX0_fits 87 = .ok (.if_icmp .gt 7, 3) := by decide +kernel
theorem dX0_fits_90 : decode cX0_fits 90 = .ok (.iconst 1, 1) := by decide +kernel
theorem dX0_fits_91 : decode cX0_fits 91 = .ok (.goto 4, 3) := by decide +kernel
theorem dX0_fits_94 : decode cX0_fits 94 = .ok (.iconst 0, 1) := by decide +kernel
theorem dX0_fits_95 : decode cX0_fits 95 = .ok (.ireturn, 1) := by decide +kernel
theorem dX0_fits_96 : decode cX0_fits 96 = .ok (.aload_n 0, 1) := by decide +kernel
theorem dX0_fits_97 : decode cX0_fits 97 = .ok (.iload_n 3, 1) := by decide +kernel
theorem dX0_fits_98 : decode cX0_fits 98 = .ok (.invokevirtual 49, 3) := by decide +kernel
theorem dX0_fits_101 : decode cX0_fits 101 = .ok (.ifCond .ne 5, 3) := by decide +kernel
theorem dX0_fits_104 : decode cX0_fits 104 = .ok (.iconst 0, 1) := by decide +kernel
theorem dX0_fits_105 : decode cX0_fits 105 = .ok (.ireturn, 1) := by decide +kernel
theorem dX0_fits_106 : decode cX0_fits 106 = .ok (.iload_n 1, 1) := by decide +kernel
theorem dX0_fits_107 : decode cX0_fits 107 = .ok (.iconst 3, 1) := by decide +kernel
theorem dX0_fits_108 : decode cX0_fits 108 = .ok (.if_icmp .gt 12, 3) := by decide +kernel
theorem dX0_fits_111 : decode cX0_fits 111 = .ok (.aload_n 0, 1) := by decide +kernel
theorem dX0_fits_112 : decode cX0_fits 112 = .ok (.iload 4, 2) := by decide +kernel
theorem dX0_fits_114 : decode cX0_fits 114 = .ok (.invokevirtual 49, 3) := by decide +kernel
theorem dX0_fits_117 : decode cX0_fits 117 = .ok (.ifCond .eq 7, 3) := by decide +kernel
theorem dX0_fits_120 : decode cX0_fits 120 = .ok (.iconst 1, 1) := by decide +kernel
theorem dX0_fits_121 : decode cX0_fits 121 = .ok (.goto 4, 3) := by decide +kernel
theorem dX0_fits_124 : decode cX0_fits 124 = .ok (.iconst 0, 1) := by decide +kernel
theorem dX0_fits_125 : decode cX0_fits 125 = .ok (.ireturn, 1) := by decide +kernel
abbrev cX0_isRegister : ByteArray := prog_1_method_12_code
def yX0_isRegister : MethodName := ⟨RX0, "isRegister", "(I)Z"⟩
theorem dX0_isRegister_0 : decode cX0_isRegister 0 = .ok (.iload_n 1, 1) := by decide +kernel
theorem dX0_isRegister_1 : decode cX0_isRegister 1 = .ok (.ifCond .lt 12, 3) := by decide +kernel
theorem dX0_isRegister_4 : decode cX0_isRegister 4 = .ok (.iload_n 1, 1) := by decide +kernel
theorem dX0_isRegister_5 : decode cX0_isRegister 5 = .ok (.iconst 3, 1) := by decide +kernel
theorem dX0_isRegister_6 : decode cX0_isRegister 6 = .ok (.if_icmp .gt 7, 3) := by decide +kernel
theorem dX0_isRegister_9 : decode cX0_isRegister 9 = .ok (.iconst 1, 1) := by decide +kernel
theorem dX0_isRegister_10 : decode cX0_isRegister 10 = .ok (.goto 4, 3) := by decide +kernel
theorem dX0_isRegister_13 : decode cX0_isRegister 13 = .ok (.iconst 0, 1) := by decide +kernel
theorem dX0_isRegister_14 : decode cX0_isRegister 14 = .ok (.ireturn, 1) := by decide +kernel
abbrev cX0_retract : ByteArray := prog_1_method_4_code
def yX0_retract : MethodName := ⟨RX0, "retract", "()I"⟩
theorem dX0_retract_0 : decode cX0_retract 0 = .ok (.aload_n 0, 1) := by decide +kernel
theorem dX0_retract_1 : decode cX0_retract 1 = .ok (.getfield 41, 3) := by decide +kernel
theorem dX0_retract_4 : decode cX0_retract 4 = .ok (.ifCond .ne 5, 3) := by decide +kernel
theorem dX0_retract_7 : decode cX0_retract 7 = .ok (.iconst (-1), 1) := by decide +kernel
theorem dX0_retract_8 : decode cX0_retract 8 = .ok (.ireturn, 1) := by decide +kernel
theorem dX0_retract_9 : decode cX0_retract 9 = .ok (.aload_n 0, 1) := by decide +kernel
theorem dX0_retract_10 : decode cX0_retract 10 = .ok (.dup, 1) := by decide +kernel
theorem dX0_retract_11 : decode cX0_retract 11 = .ok (.getfield 41, 3) := by decide +kernel
theorem dX0_retract_14 : decode cX0_retract 14 = .ok (.iconst 1, 1) := by decide +kernel
theorem dX0_retract_15 : decode cX0_retract 15 = .ok (.isub, 1) := by decide +kernel
theorem dX0_retract_16 : decode cX0_retract 16 = .ok (.putfield 41, 3) := by decide +kernel
theorem dX0_retract_19 : decode cX0_retract 19 = .ok (.aload_n 0, 1) := by decide +kernel
theorem dX0_retract_20 : decode cX0_retract 20 = .ok (.getfield 41, 3) := by decide +kernel
theorem dX0_retract_23 : decode cX0_retract 23 = .ok (.ireturn, 1) := by decide +kernel
end
section
set_option maxRecDepth 100000
abbrev cX0_sound : ByteArray := prog_1_method_5_code
def yX0_sound : MethodName := ⟨RX0, "sound", "()Z"⟩
theorem dX0_sound_0 : decode cX0_sound 0 = .ok (.iconst 0, 1) := by decide +kernel
theorem dX0_sound_1 : decode cX0_sound 1 = .ok (.istore_n 1, 1) := by decide +kernel
theorem dX0_sound_2 : decode cX0_sound 2 = .ok (.iconst 0, 1) := by decide +kernel
theorem dX0_sound_3 : decode cX0_sound 3 = .ok (.istore_n 2, 1) := by decide +kernel
theorem dX0_sound_4 : decode cX0_sound 4 = .ok (.iload_n 2, 1) := by decide +kernel
theorem dX0_sound_5 : decode cX0_sound 5 = .ok (.aload_n 0, 1) := by decide +kernel
theorem dX0_sound_6 : decode cX0_sound 6 = .ok (.getfield 41, 3) := by decide +kernel
theorem dX0_sound_9 : decode cX0_sound 9 = .ok (.if_icmp .ge 69, 3) := by decide +kernel
theorem dX0_sound_12 : decode cX0_sound 12 = .ok (.aload_n 0, 1) := by decide +kernel
theorem dX0_sound_13 : decode cX0_sound 13 = .ok (.getfield 7, 3) := by decide +kernel
theorem dX0_sound_16 : decode cX0_sound 16 = .ok (.iload_n 2, 1) := by decide +kernel
theorem dX0_sound_17 : decode cX0_sound 17 = .ok (.baload, 1) := by decide +kernel
theorem dX0_sound_18 : decode cX0_sound 18 = .ok (.bipush 9, 2) := by decide +kernel
theorem dX0_sound_20 : decode cX0_sound 20 = .ok (.if_icmp .ne 6, 3) := by decide +kernel
theorem dX0_sound_23 : decode cX0_sound 23 = .ok (.iinc 1 1, 3) := by decide +kernel
theorem dX0_sound_26 : decode cX0_sound 26 = .ok (.aload_n 0, 1) := by decide +kernel
theorem dX0_sound_27 : decode cX0_sound 27 = .ok (.getfield 7, 3) := by decide +kernel
theorem dX0_sound_30 : decode cX0_sound 30 = .ok (.iload_n 2, 1) := by decide +kernel
theorem dX0_sound_31 : decode cX0_sound 31 = .ok (.baload, 1) := by decide +kernel
theorem dX0_sound_32 : decode cX0_sound 32 = .ok (.bipush 10, 2) := by decide +kernel
theorem dX0_sound_34 : decode cX0_sound 34 = .ok (.if_icmp .ne 6, 3) := by decide +kernel
theorem dX0_sound_37 : decode cX0_sound 37 = .ok (.iinc 1 (-1), 3) := by decide +kernel
theorem dX0_sound_40 : decode cX0_sound 40 = .ok (.iload_n 1, 1) := by decide +kernel
theorem dX0_sound_41 : decode cX0_sound 41 = .ok (.ifCond .lt 8, 3) := by decide +kernel
theorem dX0_sound_44 : decode cX0_sound 44 = .ok (.iload_n 1, 1) := by decide +kernel
theorem dX0_sound_45 : decode cX0_sound 45 = .ok (.iconst 2, 1) := by decide +kernel
theorem dX0_sound_46 : decode cX0_sound 46 = .ok (.if_icmp .le 5, 3) := by decide +kernel
theorem dX0_sound_49 : decode cX0_sound 49 = .ok (.iconst 0, 1) := by decide +kernel
theorem dX0_sound_50 : decode cX0_sound 50 = .ok (.ireturn, 1) := by decide +kernel
theorem dX0_sound_51 : decode cX0_sound 51 = .ok (.aload_n 0, 1) := by decide +kernel
theorem dX0_sound_52 : decode cX0_sound 52 = .ok (.getfield 7, 3) := by decide +kernel
theorem dX0_sound_55 : decode cX0_sound 55 = .ok (.iload_n 2, 1) := by decide +kernel
theorem dX0_sound_56 : decode cX0_sound 56 = .ok (.baload, 1) := by decide +kernel
theorem dX0_sound_57 : decode cX0_sound 57 = .ok (.bipush 8, 2) := by decide +kernel
theorem dX0_sound_59 : decode cX0_sound 59 = .ok (.if_icmp .ne 13, 3) := by decide +kernel
theorem dX0_sound_62 : decode cX0_sound 62 = .ok (.aload_n 0, 1) := by decide +kernel
theorem dX0_sound_63 : decode cX0_sound 63 = .ok (.iload_n 2, 1) := by decide +kernel
theorem dX0_sound_64 : decode cX0_sound 64 = .ok (.invokevirtual 53, 3) := by decide +kernel
theorem dX0_sound_67 : decode cX0_sound 67 = .ok (.ifCond .ne 5, 3) := by decide +kernel
theorem dX0_sound_70 : decode cX0_sound 70 = .ok (.iconst 0, 1) := by decide +kernel
theorem dX0_sound_71 : decode cX0_sound 71 = .ok (.ireturn, 1) := by decide +kernel
theorem dX0_sound_72 : decode cX0_sound 72 = .ok (.iinc 2 1, 3) := by decide +kernel
theorem dX0_sound_75 : decode cX0_sound 75 = .ok (.goto (-71), 3) := by decide +kernel
theorem dX0_sound_78 : decode cX0_sound 78 = .ok (.iload_n 1, 1) := by decide +kernel
theorem dX0_sound_79 : decode cX0_sound 79 = .ok (.ifCond .ne 7, 3) := by decide +kernel
theorem dX0_sound_82 : decode cX0_sound 82 = .ok (.iconst 1, 1) := by decide +kernel
theorem dX0_sound_83 : decode cX0_sound 83 = .ok (.goto 4, 3) := by decide +kernel
theorem dX0_sound_86 : decode cX0_sound 86 = .ok (.iconst 0, 1) := by decide +kernel
theorem dX0_sound_87 : decode cX0_sound 87 = .ok (.ireturn, 1) := by decide +kernel
abbrev cX0_mayLeaveOut : ByteArray := prog_1_method_6_code
def yX0_mayLeaveOut : MethodName := ⟨RX0, "mayLeaveOut", "(I)Z"⟩
theorem dX0_mayLeaveOut_0 : decode cX0_mayLeaveOut 0 = .ok (.iload_n 1, 1) := by decide +kernel
theorem dX0_mayLeaveOut_1 : decode cX0_mayLeaveOut 1 = .ok (.aload_n 0, 1) := by decide +kernel
theorem dX0_mayLeaveOut_2 : decode cX0_mayLeaveOut 2 = .ok (.getfield 16, 3) := by decide +kernel
theorem dX0_mayLeaveOut_5 : decode cX0_mayLeaveOut 5 = .ok (.iload_n 1, 1) := by decide +kernel
theorem dX0_mayLeaveOut_6 : decode cX0_mayLeaveOut 6 = .ok (.iaload, 1) := by decide +kernel
theorem dX0_mayLeaveOut_7 : decode cX0_mayLeaveOut 7 = .ok (.iadd, 1) := by decide +kernel
theorem dX0_mayLeaveOut_8 : decode cX0_mayLeaveOut 8 = .ok (.istore_n 2, 1) := by decide +kernel
theorem dX0_mayLeaveOut_9 : decode cX0_mayLeaveOut 9 = .ok (.iload_n 2, 1) := by decide +kernel
theorem dX0_mayLeaveOut_10 : decode cX0_mayLeaveOut 10 = .ok (.aload_n 0, 1) := by decide +kernel
theorem dX0_mayLeaveOut_11 : decode cX0_mayLeaveOut 11 = .ok (.getfield 41, 3) := by decide +kernel
theorem dX0_mayLeaveOut_14 : decode cX0_mayLeaveOut 14 = .ok (.if_icmp .lt 5, 3) := by decide +kernel
theorem dX0_mayLeaveOut_17 : decode cX0_mayLeaveOut 17 = .ok (.iconst 0, 1) := by decide +kernel
theorem dX0_mayLeaveOut_18 : decode cX0_mayLeaveOut 18 = .ok (.ireturn, 1) := by decide +kernel
theorem dX0_mayLeaveOut_19 : decode cX0_mayLeaveOut 19 = .ok (.iload_n 1, 1) := by decide +kernel
theorem dX0_mayLeaveOut_20 : decode cX0_mayLeaveOut 20 = .ok (.iconst 1, 1) := by decide +kernel
theorem dX0_mayLeaveOut_21 : decode cX0_mayLeaveOut 21 = .ok (.iadd, 1) := by decide +kernel
theorem dX0_mayLeaveOut_22 : decode cX0_mayLeaveOut 22 = .ok (.istore_n 3, 1) := by decide +kernel
theorem dX0_mayLeaveOut_23 : decode cX0_mayLeaveOut 23 = .ok (.iload_n 3, 1) := by decide +kernel
theorem dX0_mayLeaveOut_24 : decode cX0_mayLeaveOut 24 = .ok (.iload_n 2, 1) := by decide +kernel
theorem dX0_mayLeaveOut_25 : decode cX0_mayLeaveOut 25 = .ok (.if_icmp .gt 33, 3) := by decide +kernel
theorem dX0_mayLeaveOut_28 : decode cX0_mayLeaveOut 28 = .ok (.aload_n 0, 1) := by decide +kernel
theorem dX0_mayLeaveOut_29 : decode cX0_mayLeaveOut 29 = .ok (.getfield 7, 3) := by decide +kernel
theorem dX0_mayLeaveOut_32 : decode cX0_mayLeaveOut 32 = .ok (.iload_n 3, 1) := by decide +kernel
theorem dX0_mayLeaveOut_33 : decode cX0_mayLeaveOut 33 = .ok (.baload, 1) := by decide +kernel
theorem dX0_mayLeaveOut_34 : decode cX0_mayLeaveOut 34 = .ok (.bipush 9, 2) := by decide +kernel
theorem dX0_mayLeaveOut_36 : decode cX0_mayLeaveOut 36 = .ok (.if_icmp .eq 14, 3) := by decide +kernel
theorem dX0_mayLeaveOut_39 : decode cX0_mayLeaveOut 39 = .ok (.aload_n 0, 1) := by decide +kernel
theorem dX0_mayLeaveOut_40 : decode cX0_mayLeaveOut 40 = .ok (.getfield 7, 3) := by decide +kernel
theorem dX0_mayLeaveOut_43 : decode cX0_mayLeaveOut 43 = .ok (.iload_n 3, 1) := by decide +kernel
theorem dX0_mayLeaveOut_44 : decode cX0_mayLeaveOut 44 = .ok (.baload, 1) := by decide +kernel
theorem dX0_mayLeaveOut_45 : decode cX0_mayLeaveOut 45 = .ok (.bipush 10, 2) := by decide +kernel
theorem dX0_mayLeaveOut_47 : decode cX0_mayLeaveOut 47 = .ok (.if_icmp .ne 5, 3) := by decide +kernel
theorem dX0_mayLeaveOut_50 : decode cX0_mayLeaveOut 50 = .ok (.iconst 0, 1) := by decide +kernel
theorem dX0_mayLeaveOut_51 : decode cX0_mayLeaveOut 51 = .ok (.ireturn, 1) := by decide +kernel
theorem dX0_mayLeaveOut_52 : decode cX0_mayLeaveOut 52 = .ok (.iinc 3 1, 3) := by decide +kernel
theorem dX0_mayLeaveOut_55 : decode cX0_mayLeaveOut 55 = .ok (.goto (-32), 3) := by decide +kernel
theorem dX0_mayLeaveOut_58 : decode cX0_mayLeaveOut 58 = .ok (.iconst 1, 1) := by decide +kernel
theorem dX0_mayLeaveOut_59 : decode cX0_mayLeaveOut 59 = .ok (.ireturn, 1) := by decide +kernel
abbrev cX0_setCell : ByteArray := prog_1_method_7_code
def yX0_setCell : MethodName := ⟨RX0, "setCell", "(II)Z"⟩
theorem dX0_setCell_0 : decode cX0_setCell 0 = .ok (.iload_n 1, 1) := by decide +kernel
theorem dX0_setCell_1 : decode cX0_setCell 1 = .ok (.ifCond .lt 9, 3) := by decide +kernel
theorem dX0_setCell_4 : decode cX0_setCell 4 = .ok (.iload_n 1, 1) := by decide +kernel
theorem dX0_setCell_5 : decode cX0_setCell 5 = .ok (.bipush 11, 2) := by decide +kernel
theorem dX0_setCell_7 : decode cX0_setCell 7 = .ok (.if_icmp .le 5, 3) := by decide +kernel
theorem dX0_setCell_10 : decode cX0_setCell 10 = .ok (.iconst 0, 1) := by decide +kernel
theorem dX0_setCell_11 : decode cX0_setCell 11 = .ok (.ireturn, 1) := by decide +kernel
theorem dX0_setCell_12 : decode cX0_setCell 12 = .ok (.aload_n 0, 1) := by decide +kernel
theorem dX0_setCell_13 : decode cX0_setCell 13 = .ok (.getfield 23, 3) := by decide +kernel
theorem dX0_setCell_16 : decode cX0_setCell 16 = .ok (.iload_n 1, 1) := by decide +kernel
theorem dX0_setCell_17 : decode cX0_setCell 17 = .ok (.iload_n 2, 1) := by decide +kernel
theorem dX0_setCell_18 : decode cX0_setCell 18 = .ok (.iastore, 1) := by decide +kernel
theorem dX0_setCell_19 : decode cX0_setCell 19 = .ok (.iconst 1, 1) := by decide +kernel
theorem dX0_setCell_20 : decode cX0_setCell 20 = .ok (.ireturn, 1) := by decide +kernel
abbrev cX0_run : ByteArray := prog_1_method_8_code
def yX0_run : MethodName := ⟨RX0, "run", "(I)I"⟩
theorem dX0_run_0 : decode cX0_run 0 = .ok (.aload_n 0, 1) := by decide +kernel
theorem dX0_run_1 : decode cX0_run 1 = .ok (.invokevirtual 56, 3) := by decide +kernel
theorem dX0_run_4 : decode cX0_run 4 = .ok (.ifCond .ne 6, 3) := by decide +kernel
theorem dX0_run_7 : decode cX0_run 7 = .ok (.bipush (-3), 2) := by decide +kernel
theorem dX0_run_9 : decode cX0_run 9 = .ok (.ireturn, 1) := by decide +kernel
theorem dX0_run_10 : decode cX0_run 10 = .ok (.iload_n 1, 1) := by decide +kernel
theorem dX0_run_11 : decode cX0_run 11 = .ok (.bipush 40, 2) := by decide +kernel
theorem dX0_run_13 : decode cX0_run 13 = .ok (.if_icmp .ge 8, 3) := by decide +kernel
theorem dX0_run_16 : decode cX0_run 16 = .ok (.bipush 40, 2) := by decide +kernel
theorem dX0_run_18 : decode cX0_run 18 = .ok (.goto 15, 3) := by decide +kernel
theorem dX0_run_21 : decode cX0_run 21 = .ok (.iload_n 1, 1) := by decide +kernel
theorem dX0_run_22 : decode cX0_run 22 = .ok (.bipush 100, 2) := by decide +kernel
theorem dX0_run_24 : decode cX0_run 24 = .ok (.if_icmp .le 8, 3) := by decide +kernel
theorem dX0_run_27 : decode cX0_run 27 = .ok (.bipush 100, 2) := by decide +kernel
theorem dX0_run_29 : decode cX0_run 29 = .ok (.goto 4, 3) := by decide +kernel
theorem dX0_run_32 : decode cX0_run 32 = .ok (.iload_n 1, 1) := by decide +kernel
theorem dX0_run_33 : decode cX0_run 33 = .ok (.istore_n 2, 1) := by decide +kernel
theorem dX0_run_34 : decode cX0_run 34 = .ok (.aload_n 0, 1) := by decide +kernel
theorem dX0_run_35 : decode cX0_run 35 = .ok (.invokevirtual 60, 3) := by decide +kernel
theorem dX0_run_38 : decode cX0_run 38 = .ok (.iconst 0, 1) := by decide +kernel
theorem dX0_run_39 : decode cX0_run 39 = .ok (.istore_n 3, 1) := by decide +kernel
theorem dX0_run_40 : decode cX0_run 40 = .ok (.iload_n 3, 1) := by decide +kernel
theorem dX0_run_41 : decode cX0_run 41 = .ok (.ifCond .ne 69, 3) := by decide +kernel
theorem dX0_run_44 : decode cX0_run 44 = .ok (.aload_n 0, 1) := by decide +kernel
theorem dX0_run_45 : decode cX0_run 45 = .ok (.iload_n 2, 1) := by decide +kernel
theorem dX0_run_46 : decode cX0_run 46 = .ok (.putfield 63, 3) := by decide +kernel
theorem dX0_run_49 : decode cX0_run 49 = .ok (.aload_n 0, 1) := by decide +kernel
theorem dX0_run_50 : decode cX0_run 50 = .ok (.iconst 0, 1) := by decide +kernel
theorem dX0_run_51 : decode cX0_run 51 = .ok (.putfield 66, 3) := by decide +kernel
theorem dX0_run_54 : decode cX0_run 54 = .ok (.aload_n 0, 1) := by decide +kernel
theorem dX0_run_55 : decode cX0_run 55 = .ok (.invokevirtual 70, 3) := by decide +kernel
theorem dX0_run_58 : decode cX0_run 58 = .ok (.aload_n 0, 1) := by decide +kernel
theorem dX0_run_59 : decode cX0_run 59 = .ok (.getfield 66, 3) := by decide +kernel
theorem dX0_run_62 : decode cX0_run 62 = .ok (.ifCond .ne 21, 3) := by decide +kernel
theorem dX0_run_65 : decode cX0_run 65 = .ok (.aload_n 0, 1) := by decide +kernel
theorem dX0_run_66 : decode cX0_run 66 = .ok (.getfield 73, 3) := by decide +kernel
theorem dX0_run_69 : decode cX0_run 69 = .ok (.aload_n 0, 1) := by decide +kernel
theorem dX0_run_70 : decode cX0_run 70 = .ok (.getfield 41, 3) := by decide +kernel
theorem dX0_run_73 : decode cX0_run 73 = .ok (.if_icmp .ge 10, 3) := by decide +kernel
theorem dX0_run_76 : decode cX0_run 76 = .ok (.aload_n 0, 1) := by decide +kernel
theorem dX0_run_77 : decode cX0_run 77 = .ok (.invokevirtual 76, 3) := by decide +kernel
theorem dX0_run_80 : decode cX0_run 80 = .ok (.goto (-22), 3) := by decide +kernel
theorem dX0_run_83 : decode cX0_run 83 = .ok (.aload_n 0, 1) := by decide +kernel
theorem dX0_run_84 : decode cX0_run 84 = .ok (.getfield 66, 3) := by decide +kernel
theorem dX0_run_87 : decode cX0_run 87 = .ok (.ifCond .ne 7, 3) := by decide +kernel
theorem dX0_run_90 : decode cX0_run 90 = .ok (.aload_n 0, 1) := by decide +kernel
theorem dX0_run_91 : decode cX0_run 91 = .ok (.invokevirtual 79, 3) := by decide +kernel
theorem dX0_run_94 : decode cX0_run 94 = .ok (.aload_n 0, 1) := by decide +kernel
theorem dX0_run_95 : decode cX0_run 95 = .ok (.getfield 66, 3) := by decide +kernel
theorem dX0_run_98 : decode cX0_run 98 = .ok (.ifCond .ne 7, 3) := by decide +kernel
theorem dX0_run_101 : decode cX0_run 101 = .ok (.iconst 1, 1) := by decide +kernel
theorem dX0_run_102 : decode cX0_run 102 = .ok (.goto 4, 3) := by decide +kernel
theorem dX0_run_105 : decode cX0_run 105 = .ok (.iconst 0, 1) := by decide +kernel
theorem dX0_run_106 : decode cX0_run 106 = .ok (.istore_n 3, 1) := by decide +kernel
theorem dX0_run_107 : decode cX0_run 107 = .ok (.goto (-67), 3) := by decide +kernel
theorem dX0_run_110 : decode cX0_run 110 = .ok (.iconst 0, 1) := by decide +kernel
theorem dX0_run_111 : decode cX0_run 111 = .ok (.istore 4, 2) := by decide +kernel
theorem dX0_run_113 : decode cX0_run 113 = .ok (.iload 4, 2) := by decide +kernel
theorem dX0_run_115 : decode cX0_run 115 = .ok (.iconst 4, 1) := by decide +kernel
theorem dX0_run_116 : decode cX0_run 116 = .ok (.if_icmp .ge 23, 3) := by decide +kernel
theorem dX0_run_119 : decode cX0_run 119 = .ok (.aload_n 0, 1) := by decide +kernel
theorem dX0_run_120 : decode cX0_run 120 = .ok (.getfield 29, 3) := by decide +kernel
theorem dX0_run_123 : decode cX0_run 123 = .ok (.iload 4, 2) := by decide +kernel
theorem dX0_run_125 : decode cX0_run 125 = .ok (.aload_n 0, 1) := by decide +kernel
theorem dX0_run_126 : decode cX0_run 126 = .ok (.getfield 32, 3) := by decide +kernel
theorem dX0_run_129 : decode cX0_run 129 = .ok (.iload 4, 2) := by decide +kernel
theorem dX0_run_131 : decode cX0_run 131 = .ok (.iaload, 1) := by decide +kernel
theorem dX0_run_132 : decode cX0_run 132 = .ok (.iastore, 1) := by decide +kernel
theorem dX0_run_133 : decode cX0_run 133 = .ok (.iinc 4 1, 3) := by decide +kernel
theorem dX0_run_136 : decode cX0_run 136 = .ok (.goto (-23), 3) := by decide +kernel
theorem dX0_run_139 : decode cX0_run 139 = .ok (.aload_n 0, 1) := by decide +kernel
theorem dX0_run_140 : decode cX0_run 140 = .ok (.getfield 82, 3) := by decide +kernel
theorem dX0_run_143 : decode cX0_run 143 = .ok (.ireturn, 1) := by decide +kernel
abbrev cX0_startFromNothing : ByteArray := prog_1_method_13_code
def yX0_startFromNothing : MethodName := ⟨RX0, "startFromNothing", "()V"⟩
theorem dX0_startFromNothing_0 : decode cX0_startFromNothing 0 = .ok (.iconst 0, 1) := by decide +kernel
theorem dX0_startFromNothing_1 : decode cX0_startFromNothing 1 = .ok (.istore_n 1, 1) := by decide +kernel
theorem dX0_startFromNothing_2 : decode cX0_startFromNothing 2 = .ok (.iload_n 1, 1) := by decide +kernel
theorem dX0_startFromNothing_3 : decode cX0_startFromNothing 3 = .ok (.bipush 24, 2) := by decide +kernel
theorem dX0_startFromNothing_5 : decode cX0_startFromNothing 5 = .ok (.if_icmp .ge 16, 3) := by decide +kernel
theorem dX0_startFromNothing_8 : decode cX0_startFromNothing 8 = .ok (.aload_n 0, 1) := by decide +kernel
theorem dX0_startFromNothing_9 : decode cX0_startFromNothing 9 = .ok (.getfield 26, 3) := by decide +kernel
theorem dX0_startFromNothing_12 : decode cX0_startFromNothing 12 = .ok (.iload_n 1, 1) := by decide +kernel
theorem dX0_startFromNothing_13 : decode cX0_startFromNothing 13 = .ok (.iconst 0, 1) := by decide +kernel
theorem dX0_startFromNothing_14 : decode cX0_startFromNothing 14 = .ok (.iastore, 1) := by decide +kernel
theorem dX0_startFromNothing_15 : decode cX0_startFromNothing 15 = .ok (.iinc 1 1, 3) := by decide +kernel
theorem dX0_startFromNothing_18 : decode cX0_startFromNothing 18 = .ok (.goto (-16), 3) := by decide +kernel
theorem dX0_startFromNothing_21 : decode cX0_startFromNothing 21 = .ok (.aload_n 0, 1) := by decide +kernel
theorem dX0_startFromNothing_22 : decode cX0_startFromNothing 22 = .ok (.getfield 26, 3) := by decide +kernel
theorem dX0_startFromNothing_25 : decode cX0_startFromNothing 25 = .ok (.bipush 11, 2) := by decide +kernel
theorem dX0_startFromNothing_27 : decode cX0_startFromNothing 27 = .ok (.iconst 1, 1) := by decide +kernel
theorem dX0_startFromNothing_28 : decode cX0_startFromNothing 28 = .ok (.iastore, 1) := by decide +kernel
theorem dX0_startFromNothing_29 : decode cX0_startFromNothing 29 = .ok (.return_, 1) := by decide +kernel
abbrev cX0_wakeUp : ByteArray := prog_1_method_20_code
def yX0_wakeUp : MethodName := ⟨RX0, "wakeUp", "()V"⟩
theorem dX0_wakeUp_0 : decode cX0_wakeUp 0 = .ok (.aload_n 0, 1) := by decide +kernel
theorem dX0_wakeUp_1 : decode cX0_wakeUp 1 = .ok (.invokevirtual 91, 3) := by decide +kernel
theorem dX0_wakeUp_4 : decode cX0_wakeUp 4 = .ok (.istore_n 1, 1) := by decide +kernel
theorem dX0_wakeUp_5 : decode cX0_wakeUp 5 = .ok (.iconst 0, 1) := by decide +kernel
theorem dX0_wakeUp_6 : decode cX0_wakeUp 6 = .ok (.istore_n 2, 1) := by decide +kernel
theorem dX0_wakeUp_7 : decode cX0_wakeUp 7 = .ok (.iload_n 2, 1) := by decide +kernel
theorem dX0_wakeUp_8 : decode cX0_wakeUp 8 = .ok (.bipush 12, 2) := by decide +kernel
theorem dX0_wakeUp_10 : decode cX0_wakeUp 10 = .ok (.if_icmp .ge 14, 3) := by decide +kernel
theorem dX0_wakeUp_13 : decode cX0_wakeUp 13 = .ok (.aload_n 0, 1) := by decide +kernel
theorem dX0_wakeUp_14 : decode cX0_wakeUp 14 = .ok (.invokevirtual 95, 3) := by decide +kernel
theorem dX0_wakeUp_17 : decode cX0_wakeUp 17 = .ok (.pop, 1) := by decide +kernel
theorem dX0_wakeUp_18 : decode cX0_wakeUp 18 = .ok (.iinc 2 1, 3) := by decide +kernel
theorem dX0_wakeUp_21 : decode cX0_wakeUp 21 = .ok (.goto (-14), 3) := by decide +kernel
theorem dX0_wakeUp_24 : decode cX0_wakeUp 24 = .ok (.iconst 0, 1) := by decide +kernel
theorem dX0_wakeUp_25 : decode cX0_wakeUp 25 = .ok (.istore_n 2, 1) := by decide +kernel
theorem dX0_wakeUp_26 : decode cX0_wakeUp 26 = .ok (.iload_n 2, 1) := by decide +kernel
theorem dX0_wakeUp_27 : decode cX0_wakeUp 27 = .ok (.iconst 4, 1) := by decide +kernel
theorem dX0_wakeUp_28 : decode cX0_wakeUp 28 = .ok (.if_icmp .ge 23, 3) := by decide +kernel
theorem dX0_wakeUp_31 : decode cX0_wakeUp 31 = .ok (.aload_n 0, 1) := by decide +kernel
theorem dX0_wakeUp_32 : decode cX0_wakeUp 32 = .ok (.getfield 32, 3) := by decide +kernel
theorem dX0_wakeUp_35 : decode cX0_wakeUp 35 = .ok (.iload_n 2, 1) := by decide +kernel
theorem dX0_wakeUp_36 : decode cX0_wakeUp 36 = .ok (.aload_n 0, 1) := by decide +kernel
theorem dX0_wakeUp_37 : decode cX0_wakeUp 37 = .ok (.getfield 26, 3) := by decide +kernel
theorem dX0_wakeUp_40 : decode cX0_wakeUp 40 = .ok (.iload_n 1, 1) := by decide +kernel
theorem dX0_wakeUp_41 : decode cX0_wakeUp 41 = .ok (.iload_n 2, 1) := by decide +kernel
theorem dX0_wakeUp_42 : decode cX0_wakeUp 42 = .ok (.iadd, 1) := by decide +kernel
theorem dX0_wakeUp_43 : decode cX0_wakeUp 43 = .ok (.iaload, 1) := by decide +kernel
theorem dX0_wakeUp_44 : decode cX0_wakeUp 44 = .ok (.iastore, 1) := by decide +kernel
theorem dX0_wakeUp_45 : decode cX0_wakeUp 45 = .ok (.iinc 2 1, 3) := by decide +kernel
theorem dX0_wakeUp_48 : decode cX0_wakeUp 48 = .ok (.goto (-22), 3) := by decide +kernel
theorem dX0_wakeUp_51 : decode cX0_wakeUp 51 = .ok (.aload_n 0, 1) := by decide +kernel
theorem dX0_wakeUp_52 : decode cX0_wakeUp 52 = .ok (.aload_n 0, 1) := by decide +kernel
theorem dX0_wakeUp_53 : decode cX0_wakeUp 53 = .ok (.getfield 26, 3) := by decide +kernel
theorem dX0_wakeUp_56 : decode cX0_wakeUp 56 = .ok (.iload_n 1, 1) := by decide +kernel
theorem dX0_wakeUp_57 : decode cX0_wakeUp 57 = .ok (.iconst 4, 1) := by decide +kernel
theorem dX0_wakeUp_58 : decode cX0_wakeUp 58 = .ok (.iadd, 1) := by decide +kernel
theorem dX0_wakeUp_59 : decode cX0_wakeUp 59 = .ok (.iaload, 1) := by decide +kernel
theorem dX0_wakeUp_60 : decode cX0_wakeUp 60 = .ok (.putfield 73, 3) := by decide +kernel
theorem dX0_wakeUp_63 : decode cX0_wakeUp 63 = .ok (.aload_n 0, 1) := by decide +kernel
theorem dX0_wakeUp_64 : decode cX0_wakeUp 64 = .ok (.aload_n 0, 1) := by decide +kernel
theorem dX0_wakeUp_65 : decode cX0_wakeUp 65 = .ok (.getfield 26, 3) := by decide +kernel
theorem dX0_wakeUp_68 : decode cX0_wakeUp 68 = .ok (.iload_n 1, 1) := by decide +kernel
theorem dX0_wakeUp_69 : decode cX0_wakeUp 69 = .ok (.iconst 5, 1) := by decide +kernel
theorem dX0_wakeUp_70 : decode cX0_wakeUp 70 = .ok (.iadd, 1) := by decide +kernel
theorem dX0_wakeUp_71 : decode cX0_wakeUp 71 = .ok (.iaload, 1) := by decide +kernel
theorem dX0_wakeUp_72 : decode cX0_wakeUp 72 = .ok (.putfield 82, 3) := by decide +kernel
theorem dX0_wakeUp_75 : decode cX0_wakeUp 75 = .ok (.aload_n 0, 1) := by decide +kernel
theorem dX0_wakeUp_76 : decode cX0_wakeUp 76 = .ok (.aload_n 0, 1) := by decide +kernel
theorem dX0_wakeUp_77 : decode cX0_wakeUp 77 = .ok (.getfield 26, 3) := by decide +kernel
theorem dX0_wakeUp_80 : decode cX0_wakeUp 80 = .ok (.iload_n 1, 1) := by decide +kernel
theorem dX0_wakeUp_81 : decode cX0_wakeUp 81 = .ok (.bipush 6, 2) := by decide +kernel
theorem dX0_wakeUp_83 : decode cX0_wakeUp 83 = .ok (.iadd, 1) := by decide +kernel
theorem dX0_wakeUp_84 : decode cX0_wakeUp 84 = .ok (.iaload, 1) := by decide +kernel
theorem dX0_wakeUp_85 : decode cX0_wakeUp 85 = .ok (.putfield 88, 3) := by decide +kernel
theorem dX0_wakeUp_88 : decode cX0_wakeUp 88 = .ok (.iconst 0, 1) := by decide +kernel
theorem dX0_wakeUp_89 : decode cX0_wakeUp 89 = .ok (.istore_n 2, 1) := by decide +kernel
theorem dX0_wakeUp_90 : decode cX0_wakeUp 90 = .ok (.iload_n 2, 1) := by decide +kernel
theorem dX0_wakeUp_91 : decode cX0_wakeUp 91 = .ok (.iconst 2, 1) := by decide +kernel
theorem dX0_wakeUp_92 : decode cX0_wakeUp 92 = .ok (.if_icmp .ge 43, 3) := by decide +kernel
theorem dX0_wakeUp_95 : decode cX0_wakeUp 95 = .ok (.aload_n 0, 1) := by decide +kernel
theorem dX0_wakeUp_96 : decode cX0_wakeUp 96 = .ok (.getfield 35, 3) := by decide +kernel
theorem dX0_wakeUp_99 : decode cX0_wakeUp 99 = .ok (.iload_n 2, 1) := by decide +kernel
theorem dX0_wakeUp_100 : decode cX0_wakeUp 100 = .ok (.aload_n 0, 1) := by decide +kernel
theorem dX0_wakeUp_101 : decode cX0_wakeUp 101 = .ok (.getfield 26, 3) := by decide +kernel
theorem dX0_wakeUp_104 : decode cX0_wakeUp 104 = .ok (.iload_n 1, 1) := by decide +kernel
theorem dX0_wakeUp_105 : decode cX0_wakeUp 105 = .ok (.bipush 7, 2) := by decide +kernel
theorem dX0_wakeUp_107 : decode cX0_wakeUp 107 = .ok (.iadd, 1) := by decide +kernel
theorem dX0_wakeUp_108 : decode cX0_wakeUp 108 = .ok (.iload_n 2, 1) := by decide +kernel
theorem dX0_wakeUp_109 : decode cX0_wakeUp 109 = .ok (.iadd, 1) := by decide +kernel
theorem dX0_wakeUp_110 : decode cX0_wakeUp 110 = .ok (.iaload, 1) := by decide +kernel
theorem dX0_wakeUp_111 : decode cX0_wakeUp 111 = .ok (.iastore, 1) := by decide +kernel
theorem dX0_wakeUp_112 : decode cX0_wakeUp 112 = .ok (.aload_n 0, 1) := by decide +kernel
theorem dX0_wakeUp_113 : decode cX0_wakeUp 113 = .ok (.getfield 38, 3) := by decide +kernel
theorem dX0_wakeUp_116 : decode cX0_wakeUp 116 = .ok (.iload_n 2, 1) := by decide +kernel
theorem dX0_wakeUp_117 : decode cX0_wakeUp 117 = .ok (.aload_n 0, 1) := by decide +kernel
theorem dX0_wakeUp_118 : decode cX0_wakeUp 118 = .ok (.getfield 26, 3) := by decide +kernel
theorem dX0_wakeUp_121 : decode cX0_wakeUp 121 = .ok (.iload_n 1, 1) := by decide +kernel
theorem dX0_wakeUp_122 : decode cX0_wakeUp 122 = .ok (.bipush 9, 2) := by decide +kernel
theorem dX0_wakeUp_124 : decode cX0_wakeUp 124 = .ok (.iadd, 1) := by decide +kernel
theorem dX0_wakeUp_125 : decode cX0_wakeUp 125 = .ok (.iload_n 2, 1) := by decide +kernel
theorem dX0_wakeUp_126 : decode cX0_wakeUp 126 = .ok (.iadd, 1) := by decide +kernel
theorem dX0_wakeUp_127 : decode cX0_wakeUp 127 = .ok (.iaload, 1) := by decide +kernel
theorem dX0_wakeUp_128 : decode cX0_wakeUp 128 = .ok (.iastore, 1) := by decide +kernel
theorem dX0_wakeUp_129 : decode cX0_wakeUp 129 = .ok (.iinc 2 1, 3) := by decide +kernel
theorem dX0_wakeUp_132 : decode cX0_wakeUp 132 = .ok (.goto (-42), 3) := by decide +kernel
theorem dX0_wakeUp_135 : decode cX0_wakeUp 135 = .ok (.aload_n 0, 1) := by decide +kernel
theorem dX0_wakeUp_136 : decode cX0_wakeUp 136 = .ok (.invokevirtual 102, 3) := by decide +kernel
theorem dX0_wakeUp_139 : decode cX0_wakeUp 139 = .ok (.return_, 1) := by decide +kernel
abbrev cX0_validArea : ByteArray := prog_1_method_16_code
def yX0_validArea : MethodName := ⟨RX0, "validArea", "()I"⟩
theorem dX0_validArea_0 : decode cX0_validArea 0 = .ok (.aload_n 0, 1) := by decide +kernel
theorem dX0_validArea_1 : decode cX0_validArea 1 = .ok (.getfield 26, 3) := by decide +kernel
theorem dX0_validArea_4 : decode cX0_validArea 4 = .ok (.bipush 11, 2) := by decide +kernel
theorem dX0_validArea_6 : decode cX0_validArea 6 = .ok (.iaload, 1) := by decide +kernel
theorem dX0_validArea_7 : decode cX0_validArea 7 = .ok (.aload_n 0, 1) := by decide +kernel
theorem dX0_validArea_8 : decode cX0_validArea 8 = .ok (.getfield 26, 3) := by decide +kernel
theorem dX0_validArea_11 : decode cX0_validArea 11 = .ok (.bipush 23, 2) := by decide +kernel
theorem dX0_validArea_13 : decode cX0_validArea 13 = .ok (.iaload, 1) := by decide +kernel
theorem dX0_validArea_14 : decode cX0_validArea 14 = .ok (.if_icmp .le 7, 3) := by decide +kernel
theorem dX0_validArea_17 : decode cX0_validArea 17 = .ok (.iconst 0, 1) := by decide +kernel
theorem dX0_validArea_18 : decode cX0_validArea 18 = .ok (.goto 5, 3) := by decide +kernel
theorem dX0_validArea_21 : decode cX0_validArea 21 = .ok (.bipush 12, 2) := by decide +kernel
theorem dX0_validArea_23 : decode cX0_validArea 23 = .ok (.ireturn, 1) := by decide +kernel
end
section
set_option maxRecDepth 100000
abbrev cX0_tick : ByteArray := prog_1_method_14_code
def yX0_tick : MethodName := ⟨RX0, "tick", "()Z"⟩
theorem dX0_tick_0 : decode cX0_tick 0 = .ok (.aload_n 0, 1) := by decide +kernel
theorem dX0_tick_1 : decode cX0_tick 1 = .ok (.getfield 63, 3) := by decide +kernel
theorem dX0_tick_4 : decode cX0_tick 4 = .ok (.ifCond .ne 9, 3) := by decide +kernel
theorem dX0_tick_7 : decode cX0_tick 7 = .ok (.aload_n 0, 1) := by decide +kernel
theorem dX0_tick_8 : decode cX0_tick 8 = .ok (.invokevirtual 85, 3) := by decide +kernel
theorem dX0_tick_11 : decode cX0_tick 11 = .ok (.iconst 0, 1) := by decide +kernel
theorem dX0_tick_12 : decode cX0_tick 12 = .ok (.ireturn, 1) := by decide +kernel
theorem dX0_tick_13 : decode cX0_tick 13 = .ok (.aload_n 0, 1) := by decide +kernel
theorem dX0_tick_14 : decode cX0_tick 14 = .ok (.dup, 1) := by decide +kernel
theorem dX0_tick_15 : decode cX0_tick 15 = .ok (.getfield 63, 3) := by decide +kernel
theorem dX0_tick_18 : decode cX0_tick 18 = .ok (.iconst 1, 1) := by decide +kernel
theorem dX0_tick_19 : decode cX0_tick 19 = .ok (.isub, 1) := by decide +kernel
theorem dX0_tick_20 : decode cX0_tick 20 = .ok (.putfield 63, 3) := by decide +kernel
theorem dX0_tick_23 : decode cX0_tick 23 = .ok (.iconst 1, 1) := by decide +kernel
theorem dX0_tick_24 : decode cX0_tick 24 = .ok (.ireturn, 1) := by decide +kernel
abbrev cX0_loseAll : ByteArray := prog_1_method_15_code
def yX0_loseAll : MethodName := ⟨RX0, "loseAll", "()V"⟩
theorem dX0_loseAll_0 : decode cX0_loseAll 0 = .ok (.aload_n 0, 1) := by decide +kernel
theorem dX0_loseAll_1 : decode cX0_loseAll 1 = .ok (.iconst 1, 1) := by decide +kernel
theorem dX0_loseAll_2 : decode cX0_loseAll 2 = .ok (.putfield 66, 3) := by decide +kernel
theorem dX0_loseAll_5 : decode cX0_loseAll 5 = .ok (.iconst 0, 1) := by decide +kernel
theorem dX0_loseAll_6 : decode cX0_loseAll 6 = .ok (.istore_n 1, 1) := by decide +kernel
theorem dX0_loseAll_7 : decode cX0_loseAll 7 = .ok (.iload_n 1, 1) := by decide +kernel
theorem dX0_loseAll_8 : decode cX0_loseAll 8 = .ok (.iconst 4, 1) := by decide +kernel
theorem dX0_loseAll_9 : decode cX0_loseAll 9 = .ok (.if_icmp .ge 17, 3) := by decide +kernel
theorem dX0_loseAll_12 : decode cX0_loseAll 12 = .ok (.aload_n 0, 1) := by decide +kernel
theorem dX0_loseAll_13 : decode cX0_loseAll 13 = .ok (.getfield 32, 3) := by decide +kernel
theorem dX0_loseAll_16 : decode cX0_loseAll 16 = .ok (.iload_n 1, 1) := by decide +kernel
theorem dX0_loseAll_17 : decode cX0_loseAll 17 = .ok (.bipush (-77), 2) := by decide +kernel
theorem dX0_loseAll_19 : decode cX0_loseAll 19 = .ok (.iastore, 1) := by decide +kernel
theorem dX0_loseAll_20 : decode cX0_loseAll 20 = .ok (.iinc 1 1, 3) := by decide +kernel
theorem dX0_loseAll_23 : decode cX0_loseAll 23 = .ok (.goto (-16), 3) := by decide +kernel
theorem dX0_loseAll_26 : decode cX0_loseAll 26 = .ok (.aload_n 0, 1) := by decide +kernel
theorem dX0_loseAll_27 : decode cX0_loseAll 27 = .ok (.aload_n 0, 1) := by decide +kernel
theorem dX0_loseAll_28 : decode cX0_loseAll 28 = .ok (.getfield 41, 3) := by decide +kernel
theorem dX0_loseAll_31 : decode cX0_loseAll 31 = .ok (.putfield 73, 3) := by decide +kernel
theorem dX0_loseAll_34 : decode cX0_loseAll 34 = .ok (.aload_n 0, 1) := by decide +kernel
theorem dX0_loseAll_35 : decode cX0_loseAll 35 = .ok (.iconst (-1), 1) := by decide +kernel
theorem dX0_loseAll_36 : decode cX0_loseAll 36 = .ok (.putfield 82, 3) := by decide +kernel
theorem dX0_loseAll_39 : decode cX0_loseAll 39 = .ok (.aload_n 0, 1) := by decide +kernel
theorem dX0_loseAll_40 : decode cX0_loseAll 40 = .ok (.iconst 0, 1) := by decide +kernel
theorem dX0_loseAll_41 : decode cX0_loseAll 41 = .ok (.putfield 88, 3) := by decide +kernel
theorem dX0_loseAll_44 : decode cX0_loseAll 44 = .ok (.return_, 1) := by decide +kernel
abbrev cX0_startStretch : ByteArray := prog_1_method_19_code
def yX0_startStretch : MethodName := ⟨RX0, "startStretch", "()V"⟩
theorem dX0_startStretch_0 : decode cX0_startStretch 0 = .ok (.aload_n 0, 1) := by decide +kernel
theorem dX0_startStretch_1 : decode cX0_startStretch 1 = .ok (.iconst 0, 1) := by decide +kernel
theorem dX0_startStretch_2 : decode cX0_startStretch 2 = .ok (.putfield 105, 3) := by decide +kernel
theorem dX0_startStretch_5 : decode cX0_startStretch 5 = .ok (.aload_n 0, 1) := by decide +kernel
theorem dX0_startStretch_6 : decode cX0_startStretch 6 = .ok (.iconst 0, 1) := by decide +kernel
theorem dX0_startStretch_7 : decode cX0_startStretch 7 = .ok (.putfield 108, 3) := by decide +kernel
theorem dX0_startStretch_10 : decode cX0_startStretch 10 = .ok (.aload_n 0, 1) := by decide +kernel
theorem dX0_startStretch_11 : decode cX0_startStretch 11 = .ok (.iconst 0, 1) := by decide +kernel
theorem dX0_startStretch_12 : decode cX0_startStretch 12 = .ok (.putfield 111, 3) := by decide +kernel
theorem dX0_startStretch_15 : decode cX0_startStretch 15 = .ok (.return_, 1) := by decide +kernel
abbrev cX0_step : ByteArray := prog_1_method_22_code
def yX0_step : MethodName := ⟨RX0, "step", "()V"⟩
theorem dX0_step_0 : decode cX0_step 0 = .ok (.aload_n 0, 1) := by decide +kernel
theorem dX0_step_1 : decode cX0_step 1 = .ok (.getfield 73, 3) := by decide +kernel
theorem dX0_step_4 : decode cX0_step 4 = .ok (.istore_n 1, 1) := by decide +kernel
theorem dX0_step_5 : decode cX0_step 5 = .ok (.aload_n 0, 1) := by decide +kernel
theorem dX0_step_6 : decode cX0_step 6 = .ok (.getfield 7, 3) := by decide +kernel
theorem dX0_step_9 : decode cX0_step 9 = .ok (.iload_n 1, 1) := by decide +kernel
theorem dX0_step_10 : decode cX0_step 10 = .ok (.baload, 1) := by decide +kernel
theorem dX0_step_11 : decode cX0_step 11 = .ok (.istore_n 2, 1) := by decide +kernel
theorem dX0_step_12 : decode cX0_step 12 = .ok (.iload_n 2, 1) := by decide +kernel
theorem dX0_step_13 : decode cX0_step 13 = .ok (.iconst 5, 1) := by decide +kernel
theorem dX0_step_14 : decode cX0_step 14 = .ok (.if_icmp .eq 9, 3) := by decide +kernel
theorem dX0_step_17 : decode cX0_step 17 = .ok (.iload_n 2, 1) := by decide +kernel
theorem dX0_step_18 : decode cX0_step 18 = .ok (.bipush 7, 2) := by decide +kernel
theorem dX0_step_20 : decode cX0_step 20 = .ok (.if_icmp .ne 7, 3) := by decide +kernel
theorem dX0_step_23 : decode cX0_step 23 = .ok (.iconst 1, 1) := by decide +kernel
theorem dX0_step_24 : decode cX0_step 24 = .ok (.goto 4, 3) := by decide +kernel
theorem dX0_step_27 : decode cX0_step 27 = .ok (.iconst 0, 1) := by decide +kernel
theorem dX0_step_28 : decode cX0_step 28 = .ok (.istore_n 3, 1) := by decide +kernel
theorem dX0_step_29 : decode cX0_step 29 = .ok (.aload_n 0, 1) := by decide +kernel
theorem dX0_step_30 : decode cX0_step 30 = .ok (.getfield 111, 3) := by decide +kernel
theorem dX0_step_33 : decode cX0_step 33 = .ok (.bipush 10, 2) := by decide +kernel
theorem dX0_step_35 : decode cX0_step 35 = .ok (.if_icmp .eq 22, 3) := by decide +kernel
theorem dX0_step_38 : decode cX0_step 38 = .ok (.iload_n 3, 1) := by decide +kernel
theorem dX0_step_39 : decode cX0_step 39 = .ok (.ifCond .eq 30, 3) := by decide +kernel
theorem dX0_step_42 : decode cX0_step 42 = .ok (.aload_n 0, 1) := by decide +kernel
theorem dX0_step_43 : decode cX0_step 43 = .ok (.getfield 105, 3) := by decide +kernel
theorem dX0_step_46 : decode cX0_step 46 = .ok (.aload_n 0, 1) := by decide +kernel
theorem dX0_step_47 : decode cX0_step 47 = .ok (.iload_n 1, 1) := by decide +kernel
theorem dX0_step_48 : decode cX0_step 48 = .ok (.invokevirtual 114, 3) := by decide +kernel
theorem dX0_step_51 : decode cX0_step 51 = .ok (.ishr, 1) := by decide +kernel
theorem dX0_step_52 : decode cX0_step 52 = .ok (.iconst 1, 1) := by decide +kernel
theorem dX0_step_53 : decode cX0_step 53 = .ok (.iand, 1) := by decide +kernel
theorem dX0_step_54 : decode cX0_step 54 = .ok (.ifCond .eq 15, 3) := by decide +kernel
theorem dX0_step_57 : decode cX0_step 57 = .ok (.aload_n 0, 1) := by decide +kernel
theorem dX0_step_58 : decode cX0_step 58 = .ok (.invokevirtual 79, 3) := by decide +kernel
theorem dX0_step_61 : decode cX0_step 61 = .ok (.aload_n 0, 1) := by decide +kernel
theorem dX0_step_62 : decode cX0_step 62 = .ok (.getfield 66, 3) := by decide +kernel
theorem dX0_step_65 : decode cX0_step 65 = .ok (.ifCond .eq 4, 3) := by decide +kernel
theorem dX0_step_68 : decode cX0_step 68 = .ok (.return_, 1) := by decide +kernel
theorem dX0_step_69 : decode cX0_step 69 = .ok (.aload_n 0, 1) := by decide +kernel
theorem dX0_step_70 : decode cX0_step 70 = .ok (.invokevirtual 95, 3) := by decide +kernel
theorem dX0_step_73 : decode cX0_step 73 = .ok (.ifCond .ne 4, 3) := by decide +kernel
theorem dX0_step_76 : decode cX0_step 76 = .ok (.return_, 1) := by decide +kernel
theorem dX0_step_77 : decode cX0_step 77 = .ok (.aload_n 0, 1) := by decide +kernel
theorem dX0_step_78 : decode cX0_step 78 = .ok (.dup, 1) := by decide +kernel
theorem dX0_step_79 : decode cX0_step 79 = .ok (.getfield 111, 3) := by decide +kernel
theorem dX0_step_82 : decode cX0_step 82 = .ok (.iconst 1, 1) := by decide +kernel
theorem dX0_step_83 : decode cX0_step 83 = .ok (.iadd, 1) := by decide +kernel
theorem dX0_step_84 : decode cX0_step 84 = .ok (.putfield 111, 3) := by decide +kernel
theorem dX0_step_87 : decode cX0_step 87 = .ok (.aload_n 0, 1) := by decide +kernel
theorem dX0_step_88 : decode cX0_step 88 = .ok (.dup, 1) := by decide +kernel
theorem dX0_step_89 : decode cX0_step 89 = .ok (.getfield 82, 3) := by decide +kernel
theorem dX0_step_92 : decode cX0_step 92 = .ok (.iconst 1, 1) := by decide +kernel
theorem dX0_step_93 : decode cX0_step 93 = .ok (.iadd, 1) := by decide +kernel
theorem dX0_step_94 : decode cX0_step 94 = .ok (.putfield 82, 3) := by decide +kernel
theorem dX0_step_97 : decode cX0_step 97 = .ok (.aload_n 0, 1) := by decide +kernel
theorem dX0_step_98 : decode cX0_step 98 = .ok (.dup, 1) := by decide +kernel
theorem dX0_step_99 : decode cX0_step 99 = .ok (.getfield 73, 3) := by decide +kernel
theorem dX0_step_102 : decode cX0_step 102 = .ok (.iconst 1, 1) := by decide +kernel
theorem dX0_step_103 : decode cX0_step 103 = .ok (.iadd, 1) := by decide +kernel
theorem dX0_step_104 : decode cX0_step 104 = .ok (.putfield 73, 3) := by decide +kernel
theorem dX0_step_107 : decode cX0_step 107 = .ok (.iload_n 2, 1) := by decide +kernel
theorem dX0_step_108 : decode cX0_step 108 = .ok (.bipush 8, 2) := by decide +kernel
theorem dX0_step_110 : decode cX0_step 110 = .ok (.if_icmp .lt 12, 3) := by decide +kernel
theorem dX0_step_113 : decode cX0_step 113 = .ok (.aload_n 0, 1) := by decide +kernel
theorem dX0_step_114 : decode cX0_step 114 = .ok (.iload_n 2, 1) := by decide +kernel
theorem dX0_step_115 : decode cX0_step 115 = .ok (.iload_n 1, 1) := by decide +kernel
theorem dX0_step_116 : decode cX0_step 116 = .ok (.invokevirtual 117, 3) := by decide +kernel
theorem dX0_step_119 : decode cX0_step 119 = .ok (.goto 23, 3) := by decide +kernel
theorem dX0_step_122 : decode cX0_step 122 = .ok (.iload_n 2, 1) := by decide +kernel
theorem dX0_step_123 : decode cX0_step 123 = .ok (.iconst 4, 1) := by decide +kernel
theorem dX0_step_124 : decode cX0_step 124 = .ok (.if_icmp .lt 12, 3) := by decide +kernel
theorem dX0_step_127 : decode cX0_step 127 = .ok (.aload_n 0, 1) := by decide +kernel
theorem dX0_step_128 : decode cX0_step 128 = .ok (.iload_n 2, 1) := by decide +kernel
theorem dX0_step_129 : decode cX0_step 129 = .ok (.iload_n 1, 1) := by decide +kernel
theorem dX0_step_130 : decode cX0_step 130 = .ok (.invokevirtual 121, 3) := by decide +kernel
theorem dX0_step_133 : decode cX0_step 133 = .ok (.goto 9, 3) := by decide +kernel
theorem dX0_step_136 : decode cX0_step 136 = .ok (.aload_n 0, 1) := by decide +kernel
theorem dX0_step_137 : decode cX0_step 137 = .ok (.iload_n 2, 1) := by decide +kernel
theorem dX0_step_138 : decode cX0_step 138 = .ok (.iload_n 1, 1) := by decide +kernel
theorem dX0_step_139 : decode cX0_step 139 = .ok (.invokevirtual 124, 3) := by decide +kernel
theorem dX0_step_142 : decode cX0_step 142 = .ok (.return_, 1) := by decide +kernel
abbrev cX0_cellOf : ByteArray := prog_1_method_21_code
def yX0_cellOf : MethodName := ⟨RX0, "cellOf", "(I)I"⟩
theorem dX0_cellOf_0 : decode cX0_cellOf 0 = .ok (.aload_n 0, 1) := by decide +kernel
theorem dX0_cellOf_1 : decode cX0_cellOf 1 = .ok (.getfield 7, 3) := by decide +kernel
theorem dX0_cellOf_4 : decode cX0_cellOf 4 = .ok (.iload_n 1, 1) := by decide +kernel
theorem dX0_cellOf_5 : decode cX0_cellOf 5 = .ok (.baload, 1) := by decide +kernel
theorem dX0_cellOf_6 : decode cX0_cellOf 6 = .ok (.iconst 5, 1) := by decide +kernel
theorem dX0_cellOf_7 : decode cX0_cellOf 7 = .ok (.if_icmp .gt 12, 3) := by decide +kernel
theorem dX0_cellOf_10 : decode cX0_cellOf 10 = .ok (.aload_n 0, 1) := by decide +kernel
theorem dX0_cellOf_11 : decode cX0_cellOf 11 = .ok (.getfield 16, 3) := by decide +kernel
theorem dX0_cellOf_14 : decode cX0_cellOf 14 = .ok (.iload_n 1, 1) := by decide +kernel
theorem dX0_cellOf_15 : decode cX0_cellOf 15 = .ok (.iaload, 1) := by decide +kernel
theorem dX0_cellOf_16 : decode cX0_cellOf 16 = .ok (.goto 17, 3) := by decide +kernel
theorem dX0_cellOf_19 : decode cX0_cellOf 19 = .ok (.aload_n 0, 1) := by decide +kernel
theorem dX0_cellOf_20 : decode cX0_cellOf 20 = .ok (.getfield 32, 3) := by decide +kernel
theorem dX0_cellOf_23 : decode cX0_cellOf 23 = .ok (.aload_n 0, 1) := by decide +kernel
theorem dX0_cellOf_24 : decode cX0_cellOf 24 = .ok (.getfield 16, 3) := by decide +kernel
theorem dX0_cellOf_27 : decode cX0_cellOf 27 = .ok (.iload_n 1, 1) := by decide +kernel
theorem dX0_cellOf_28 : decode cX0_cellOf 28 = .ok (.iaload, 1) := by decide +kernel
theorem dX0_cellOf_29 : decode cX0_cellOf 29 = .ok (.iaload, 1) := by decide +kernel
theorem dX0_cellOf_30 : decode cX0_cellOf 30 = .ok (.bipush 7, 2) := by decide +kernel
theorem dX0_cellOf_32 : decode cX0_cellOf 32 = .ok (.iand, 1) := by decide +kernel
theorem dX0_cellOf_33 : decode cX0_cellOf 33 = .ok (.ireturn, 1) := by decide +kernel
abbrev cX0_save : ByteArray := prog_1_method_18_code
def yX0_save : MethodName := ⟨RX0, "save", "()V"⟩
theorem dX0_save_0 : decode cX0_save 0 = .ok (.aload_n 0, 1) := by decide +kernel
theorem dX0_save_1 : decode cX0_save 1 = .ok (.invokevirtual 91, 3) := by decide +kernel
theorem dX0_save_4 : decode cX0_save 4 = .ok (.istore_n 1, 1) := by decide +kernel
theorem dX0_save_5 : decode cX0_save 5 = .ok (.bipush 12, 2) := by decide +kernel
theorem dX0_save_7 : decode cX0_save 7 = .ok (.iload_n 1, 1) := by decide +kernel
theorem dX0_save_8 : decode cX0_save 8 = .ok (.isub, 1) := by decide +kernel
theorem dX0_save_9 : decode cX0_save 9 = .ok (.istore_n 2, 1) := by decide +kernel
theorem dX0_save_10 : decode cX0_save 10 = .ok (.iconst 0, 1) := by decide +kernel
theorem dX0_save_11 : decode cX0_save 11 = .ok (.istore_n 3, 1) := by decide +kernel
theorem dX0_save_12 : decode cX0_save 12 = .ok (.iload_n 3, 1) := by decide +kernel
theorem dX0_save_13 : decode cX0_save 13 = .ok (.bipush 11, 2) := by decide +kernel
theorem dX0_save_15 : decode cX0_save 15 = .ok (.if_icmp .ge 30, 3) := by decide +kernel
theorem dX0_save_18 : decode cX0_save 18 = .ok (.aload_n 0, 1) := by decide +kernel
theorem dX0_save_19 : decode cX0_save 19 = .ok (.invokevirtual 95, 3) := by decide +kernel
theorem dX0_save_22 : decode cX0_save 22 = .ok (.ifCond .ne 4, 3) := by decide +kernel
theorem dX0_save_25 : decode cX0_save 25 = .ok (.return_, 1) := by decide +kernel
theorem dX0_save_26 : decode cX0_save 26 = .ok (.aload_n 0, 1) := by decide +kernel
theorem dX0_save_27 : decode cX0_save 27 = .ok (.getfield 26, 3) := by decide +kernel
theorem dX0_save_30 : decode cX0_save 30 = .ok (.iload_n 2, 1) := by decide +kernel
theorem dX0_save_31 : decode cX0_save 31 = .ok (.iload_n 3, 1) := by decide +kernel
theorem dX0_save_32 : decode cX0_save 32 = .ok (.iadd, 1) := by decide +kernel
theorem dX0_save_33 : decode cX0_save 33 = .ok (.aload_n 0, 1) := by decide +kernel
theorem dX0_save_34 : decode cX0_save 34 = .ok (.iload_n 3, 1) := by decide +kernel
theorem dX0_save_35 : decode cX0_save 35 = .ok (.invokevirtual 98, 3) := by decide +kernel
theorem dX0_save_38 : decode cX0_save 38 = .ok (.iastore, 1) := by decide +kernel
theorem dX0_save_39 : decode cX0_save 39 = .ok (.iinc 3 1, 3) := by decide +kernel
theorem dX0_save_42 : decode cX0_save 42 = .ok (.goto (-30), 3) := by decide +kernel
theorem dX0_save_45 : decode cX0_save 45 = .ok (.aload_n 0, 1) := by decide +kernel
theorem dX0_save_46 : decode cX0_save 46 = .ok (.invokevirtual 95, 3) := by decide +kernel
theorem dX0_save_49 : decode cX0_save 49 = .ok (.ifCond .ne 4, 3) := by decide +kernel
theorem dX0_save_52 : decode cX0_save 52 = .ok (.return_, 1) := by decide +kernel
theorem dX0_save_53 : decode cX0_save 53 = .ok (.aload_n 0, 1) := by decide +kernel
theorem dX0_save_54 : decode cX0_save 54 = .ok (.getfield 26, 3) := by decide +kernel
theorem dX0_save_57 : decode cX0_save 57 = .ok (.iload_n 2, 1) := by decide +kernel
theorem dX0_save_58 : decode cX0_save 58 = .ok (.bipush 11, 2) := by decide +kernel
theorem dX0_save_60 : decode cX0_save 60 = .ok (.iadd, 1) := by decide +kernel
theorem dX0_save_61 : decode cX0_save 61 = .ok (.aload_n 0, 1) := by decide +kernel
theorem dX0_save_62 : decode cX0_save 62 = .ok (.getfield 26, 3) := by decide +kernel
theorem dX0_save_65 : decode cX0_save 65 = .ok (.iload_n 1, 1) := by decide +kernel
theorem dX0_save_66 : decode cX0_save 66 = .ok (.bipush 11, 2) := by decide +kernel
theorem dX0_save_68 : decode cX0_save 68 = .ok (.iadd, 1) := by decide +kernel
theorem dX0_save_69 : decode cX0_save 69 = .ok (.iaload, 1) := by decide +kernel
theorem dX0_save_70 : decode cX0_save 70 = .ok (.iconst 1, 1) := by decide +kernel
theorem dX0_save_71 : decode cX0_save 71 = .ok (.iadd, 1) := by decide +kernel
theorem dX0_save_72 : decode cX0_save 72 = .ok (.iastore, 1) := by decide +kernel
theorem dX0_save_73 : decode cX0_save 73 = .ok (.aload_n 0, 1) := by decide +kernel
theorem dX0_save_74 : decode cX0_save 74 = .ok (.invokevirtual 102, 3) := by decide +kernel
theorem dX0_save_77 : decode cX0_save 77 = .ok (.return_, 1) := by decide +kernel
abbrev cX0_wordToSave : ByteArray := prog_1_method_17_code
def yX0_wordToSave : MethodName := ⟨RX0, "wordToSave", "(I)I"⟩
theorem dX0_wordToSave_0 : decode cX0_wordToSave 0 = .ok (.iload_n 1, 1) := by decide +kernel
theorem dX0_wordToSave_1 : decode cX0_wordToSave 1 = .ok (.iconst 4, 1) := by decide +kernel
theorem dX0_wordToSave_2 : decode cX0_wordToSave 2 = .ok (.if_icmp .ge 10, 3) := by decide +kernel
theorem dX0_wordToSave_5 : decode cX0_wordToSave 5 = .ok (.aload_n 0, 1) := by decide +kernel
theorem dX0_wordToSave_6 : decode cX0_wordToSave 6 = .ok (.getfield 32, 3) := by decide +kernel
theorem dX0_wordToSave_9 : decode cX0_wordToSave 9 = .ok (.iload_n 1, 1) := by decide +kernel
theorem dX0_wordToSave_10 : decode cX0_wordToSave 10 = .ok (.iaload, 1) := by decide +kernel
theorem dX0_wordToSave_11 : decode cX0_wordToSave 11 = .ok (.ireturn, 1) := by decide +kernel
theorem dX0_wordToSave_12 : decode cX0_wordToSave 12 = .ok (.iload_n 1, 1) := by decide +kernel
theorem dX0_wordToSave_13 : decode cX0_wordToSave 13 = .ok (.iconst 4, 1) := by decide +kernel
theorem dX0_wordToSave_14 : decode cX0_wordToSave 14 = .ok (.if_icmp .ne 8, 3) := by decide +kernel
theorem dX0_wordToSave_17 : decode cX0_wordToSave 17 = .ok (.aload_n 0, 1) := by decide +kernel
theorem dX0_wordToSave_18 : decode cX0_wordToSave 18 = .ok (.getfield 73, 3) := by decide +kernel
theorem dX0_wordToSave_21 : decode cX0_wordToSave 21 = .ok (.ireturn, 1) := by decide +kernel
theorem dX0_wordToSave_22 : decode cX0_wordToSave 22 = .ok (.iload_n 1, 1) := by decide +kernel
theorem dX0_wordToSave_23 : decode cX0_wordToSave 23 = .ok (.iconst 5, 1) := by decide +kernel
theorem dX0_wordToSave_24 : decode cX0_wordToSave 24 = .ok (.if_icmp .ne 8, 3) := by decide +kernel
theorem dX0_wordToSave_27 : decode cX0_wordToSave 27 = .ok (.aload_n 0, 1) := by decide +kernel
theorem dX0_wordToSave_28 : decode cX0_wordToSave 28 = .ok (.getfield 82, 3) := by decide +kernel
theorem dX0_wordToSave_31 : decode cX0_wordToSave 31 = .ok (.ireturn, 1) := by decide +kernel
theorem dX0_wordToSave_32 : decode cX0_wordToSave 32 = .ok (.iload_n 1, 1) := by decide +kernel
theorem dX0_wordToSave_33 : decode cX0_wordToSave 33 = .ok (.bipush 6, 2) := by decide +kernel
theorem dX0_wordToSave_35 : decode cX0_wordToSave 35 = .ok (.if_icmp .ne 8, 3) := by decide +kernel
theorem dX0_wordToSave_38 : decode cX0_wordToSave 38 = .ok (.aload_n 0, 1) := by decide +kernel
theorem dX0_wordToSave_39 : decode cX0_wordToSave 39 = .ok (.getfield 88, 3) := by decide +kernel
theorem dX0_wordToSave_42 : decode cX0_wordToSave 42 = .ok (.ireturn, 1) := by decide +kernel
theorem dX0_wordToSave_43 : decode cX0_wordToSave 43 = .ok (.iload_n 1, 1) := by decide +kernel
theorem dX0_wordToSave_44 : decode cX0_wordToSave 44 = .ok (.bipush 9, 2) := by decide +kernel
theorem dX0_wordToSave_46 : decode cX0_wordToSave 46 = .ok (.if_icmp .ge 15, 3) := by decide +kernel
theorem dX0_wordToSave_49 : decode cX0_wordToSave 49 = .ok (.aload_n 0, 1) := by decide +kernel
theorem dX0_wordToSave_50 : decode cX0_wordToSave 50 = .ok (.getfield 35, 3) := by decide +kernel
theorem dX0_wordToSave_53 : decode cX0_wordToSave 53 = .ok (.iload_n 1, 1) := by decide +kernel
theorem dX0_wordToSave_54 : decode cX0_wordToSave 54 = .ok (.bipush 7, 2) := by decide +kernel
theorem dX0_wordToSave_56 : decode cX0_wordToSave 56 = .ok (.isub, 1) := by decide +kernel
theorem dX0_wordToSave_57 : decode cX0_wordToSave 57 = .ok (.iaload, 1) := by decide +kernel
theorem dX0_wordToSave_58 : decode cX0_wordToSave 58 = .ok (.goto 12, 3) := by decide +kernel
theorem dX0_wordToSave_61 : decode cX0_wordToSave 61 = .ok (.aload_n 0, 1) := by decide +kernel
theorem dX0_wordToSave_62 : decode cX0_wordToSave 62 = .ok (.getfield 38, 3) := by decide +kernel
theorem dX0_wordToSave_65 : decode cX0_wordToSave 65 = .ok (.iload_n 1, 1) := by decide +kernel
theorem dX0_wordToSave_66 : decode cX0_wordToSave 66 = .ok (.bipush 9, 2) := by decide +kernel
theorem dX0_wordToSave_68 : decode cX0_wordToSave 68 = .ok (.isub, 1) := by decide +kernel
theorem dX0_wordToSave_69 : decode cX0_wordToSave 69 = .ok (.iaload, 1) := by decide +kernel
theorem dX0_wordToSave_70 : decode cX0_wordToSave 70 = .ok (.ireturn, 1) := by decide +kernel
abbrev cX0_control : ByteArray := prog_1_method_25_code
def yX0_control : MethodName := ⟨RX0, "control", "(II)V"⟩
theorem dX0_control_0 : decode cX0_control 0 = .ok (.iload_n 1, 1) := by decide +kernel
theorem dX0_control_1 : decode cX0_control 1 = .ok (.bipush 8, 2) := by decide +kernel
theorem dX0_control_3 : decode cX0_control 3 = .ok (.if_icmp .ne 35, 3) := by decide +kernel
theorem dX0_control_6 : decode cX0_control 6 = .ok (.aload_n 0, 1) := by decide +kernel
theorem dX0_control_7 : decode cX0_control 7 = .ok (.getfield 32, 3) := by decide +kernel
theorem dX0_control_10 : decode cX0_control 10 = .ok (.aload_n 0, 1) := by decide +kernel
theorem dX0_control_11 : decode cX0_control 11 = .ok (.getfield 13, 3) := by decide +kernel
theorem dX0_control_14 : decode cX0_control 14 = .ok (.iload_n 2, 1) := by decide +kernel
theorem dX0_control_15 : decode cX0_control 15 = .ok (.baload, 1) := by decide +kernel
theorem dX0_control_16 : decode cX0_control 16 = .ok (.iaload, 1) := by decide +kernel
theorem dX0_control_17 : decode cX0_control 17 = .ok (.ifCond .gt 111, 3) := by decide +kernel
theorem dX0_control_20 : decode cX0_control 20 = .ok (.aload_n 0, 1) := by decide +kernel
theorem dX0_control_21 : decode cX0_control 21 = .ok (.dup, 1) := by decide +kernel
theorem dX0_control_22 : decode cX0_control 22 = .ok (.getfield 73, 3) := by decide +kernel
theorem dX0_control_25 : decode cX0_control 25 = .ok (.aload_n 0, 1) := by decide +kernel
theorem dX0_control_26 : decode cX0_control 26 = .ok (.getfield 16, 3) := by decide +kernel
theorem dX0_control_29 : decode cX0_control 29 = .ok (.iload_n 2, 1) := by decide +kernel
theorem dX0_control_30 : decode cX0_control 30 = .ok (.iaload, 1) := by decide +kernel
theorem dX0_control_31 : decode cX0_control 31 = .ok (.iadd, 1) := by decide +kernel
theorem dX0_control_32 : decode cX0_control 32 = .ok (.putfield 73, 3) := by decide +kernel
theorem dX0_control_35 : decode cX0_control 35 = .ok (.goto 93, 3) := by decide +kernel
theorem dX0_control_38 : decode cX0_control 38 = .ok (.iload_n 1, 1) := by decide +kernel
theorem dX0_control_39 : decode cX0_control 39 = .ok (.bipush 9, 2) := by decide +kernel
theorem dX0_control_41 : decode cX0_control 41 = .ok (.if_icmp .ne 41, 3) := by decide +kernel
theorem dX0_control_44 : decode cX0_control 44 = .ok (.aload_n 0, 1) := by decide +kernel
theorem dX0_control_45 : decode cX0_control 45 = .ok (.getfield 35, 3) := by decide +kernel
theorem dX0_control_48 : decode cX0_control 48 = .ok (.aload_n 0, 1) := by decide +kernel
theorem dX0_control_49 : decode cX0_control 49 = .ok (.getfield 88, 3) := by decide +kernel
theorem dX0_control_52 : decode cX0_control 52 = .ok (.iload_n 2, 1) := by decide +kernel
theorem dX0_control_53 : decode cX0_control 53 = .ok (.iastore, 1) := by decide +kernel
theorem dX0_control_54 : decode cX0_control 54 = .ok (.aload_n 0, 1) := by decide +kernel
theorem dX0_control_55 : decode cX0_control 55 = .ok (.getfield 38, 3) := by decide +kernel
theorem dX0_control_58 : decode cX0_control 58 = .ok (.aload_n 0, 1) := by decide +kernel
theorem dX0_control_59 : decode cX0_control 59 = .ok (.getfield 88, 3) := by decide +kernel
theorem dX0_control_62 : decode cX0_control 62 = .ok (.aload_n 0, 1) := by decide +kernel
theorem dX0_control_63 : decode cX0_control 63 = .ok (.getfield 13, 3) := by decide +kernel
theorem dX0_control_66 : decode cX0_control 66 = .ok (.iload_n 2, 1) := by decide +kernel
theorem dX0_control_67 : decode cX0_control 67 = .ok (.baload, 1) := by decide +kernel
theorem dX0_control_68 : decode cX0_control 68 = .ok (.iastore, 1) := by decide +kernel
theorem dX0_control_69 : decode cX0_control 69 = .ok (.aload_n 0, 1) := by decide +kernel
theorem dX0_control_70 : decode cX0_control 70 = .ok (.dup, 1) := by decide +kernel
theorem dX0_control_71 : decode cX0_control 71 = .ok (.getfield 88, 3) := by decide +kernel
theorem dX0_control_74 : decode cX0_control 74 = .ok (.iconst 1, 1) := by decide +kernel
theorem dX0_control_75 : decode cX0_control 75 = .ok (.iadd, 1) := by decide +kernel
theorem dX0_control_76 : decode cX0_control 76 = .ok (.putfield 88, 3) := by decide +kernel
theorem dX0_control_79 : decode cX0_control 79 = .ok (.goto 49, 3) := by decide +kernel
theorem dX0_control_82 : decode cX0_control 82 = .ok (.aload_n 0, 1) := by decide +kernel
theorem dX0_control_83 : decode cX0_control 83 = .ok (.getfield 88, 3) := by decide +kernel
theorem dX0_control_86 : decode cX0_control 86 = .ok (.iconst 1, 1) := by decide +kernel
theorem dX0_control_87 : decode cX0_control 87 = .ok (.isub, 1) := by decide +kernel
theorem dX0_control_88 : decode cX0_control 88 = .ok (.istore_n 3, 1) := by decide +kernel
theorem dX0_control_89 : decode cX0_control 89 = .ok (.aload_n 0, 1) := by decide +kernel
theorem dX0_control_90 : decode cX0_control 90 = .ok (.getfield 38, 3) := by decide +kernel
theorem dX0_control_93 : decode cX0_control 93 = .ok (.iload_n 3, 1) := by decide +kernel
theorem dX0_control_94 : decode cX0_control 94 = .ok (.dup2, 1) := by decide +kernel
theorem dX0_control_95 : decode cX0_control 95 = .ok (.iaload, 1) := by decide +kernel
theorem dX0_control_96 : decode cX0_control 96 = .ok (.iconst 1, 1) := by decide +kernel
theorem dX0_control_97 : decode cX0_control 97 = .ok (.isub, 1) := by decide +kernel
theorem dX0_control_98 : decode cX0_control 98 = .ok (.iastore, 1) := by decide +kernel
theorem dX0_control_99 : decode cX0_control 99 = .ok (.aload_n 0, 1) := by decide +kernel
theorem dX0_control_100 : decode cX0_control 100 = .ok (.getfield 38, 3) := by decide +kernel
theorem dX0_control_103 : decode cX0_control 103 = .ok (.iload_n 3, 1) := by decide +kernel
theorem dX0_control_104 : decode cX0_control 104 = .ok (.iaload, 1) := by decide +kernel
theorem dX0_control_105 : decode cX0_control 105 = .ok (.ifCond .le 18, 3) := by decide +kernel
theorem dX0_control_108 : decode cX0_control 108 = .ok (.aload_n 0, 1) := by decide +kernel
theorem dX0_control_109 : decode cX0_control 109 = .ok (.aload_n 0, 1) := by decide +kernel
theorem dX0_control_110 : decode cX0_control 110 = .ok (.getfield 35, 3) := by decide +kernel
theorem dX0_control_113 : decode cX0_control 113 = .ok (.iload_n 3, 1) := by decide +kernel
theorem dX0_control_114 : decode cX0_control 114 = .ok (.iaload, 1) := by decide +kernel
theorem dX0_control_115 : decode cX0_control 115 = .ok (.iconst 1, 1) := by decide +kernel
theorem dX0_control_116 : decode cX0_control 116 = .ok (.iadd, 1) := by decide +kernel
theorem dX0_control_117 : decode cX0_control 117 = .ok (.putfield 73, 3) := by decide +kernel
theorem dX0_control_120 : decode cX0_control 120 = .ok (.goto 8, 3) := by decide +kernel
theorem dX0_control_123 : decode cX0_control 123 = .ok (.aload_n 0, 1) := by decide +kernel
theorem dX0_control_124 : decode cX0_control 124 = .ok (.iload_n 3, 1) := by decide +kernel
theorem dX0_control_125 : decode cX0_control 125 = .ok (.putfield 88, 3) := by decide +kernel
theorem dX0_control_128 : decode cX0_control 128 = .ok (.return_, 1) := by decide +kernel
abbrev cX0_moveCell : ByteArray := prog_1_method_24_code
def yX0_moveCell : MethodName := ⟨RX0, "moveCell", "(II)V"⟩
theorem dX0_moveCell_0 : decode cX0_moveCell 0 = .ok (.aload_n 0, 1) := by decide +kernel
theorem dX0_moveCell_1 : decode cX0_moveCell 1 = .ok (.iload_n 2, 1) := by decide +kernel
theorem dX0_moveCell_2 : decode cX0_moveCell 2 = .ok (.invokevirtual 114, 3) := by decide +kernel
theorem dX0_moveCell_5 : decode cX0_moveCell 5 = .ok (.istore_n 3, 1) := by decide +kernel
theorem dX0_moveCell_6 : decode cX0_moveCell 6 = .ok (.aload_n 0, 1) := by decide +kernel
theorem dX0_moveCell_7 : decode cX0_moveCell 7 = .ok (.getfield 13, 3) := by decide +kernel
theorem dX0_moveCell_10 : decode cX0_moveCell 10 = .ok (.iload_n 2, 1) := by decide +kernel
theorem dX0_moveCell_11 : decode cX0_moveCell 11 = .ok (.baload, 1) := by decide +kernel
theorem dX0_moveCell_12 : decode cX0_moveCell 12 = .ok (.istore 4, 2) := by decide +kernel
theorem dX0_moveCell_14 : decode cX0_moveCell 14 = .ok (.iload_n 1, 1) := by decide +kernel
theorem dX0_moveCell_15 : decode cX0_moveCell 15 = .ok (.iconst 5, 1) := by decide +kernel
theorem dX0_moveCell_16 : decode cX0_moveCell 16 = .ok (.if_icmp .eq 9, 3) := by decide +kernel
theorem dX0_moveCell_19 : decode cX0_moveCell 19 = .ok (.iload_n 1, 1) := by decide +kernel
theorem dX0_moveCell_20 : decode cX0_moveCell 20 = .ok (.bipush 7, 2) := by decide +kernel
theorem dX0_moveCell_22 : decode cX0_moveCell 22 = .ok (.if_icmp .ne 29, 3) := by decide +kernel
theorem dX0_moveCell_25 : decode cX0_moveCell 25 = .ok (.aload_n 0, 1) := by decide +kernel
theorem dX0_moveCell_26 : decode cX0_moveCell 26 = .ok (.getfield 23, 3) := by decide +kernel
theorem dX0_moveCell_29 : decode cX0_moveCell 29 = .ok (.iload_n 3, 1) := by decide +kernel
theorem dX0_moveCell_30 : decode cX0_moveCell 30 = .ok (.aload_n 0, 1) := by decide +kernel
theorem dX0_moveCell_31 : decode cX0_moveCell 31 = .ok (.getfield 32, 3) := by decide +kernel
theorem dX0_moveCell_34 : decode cX0_moveCell 34 = .ok (.iload 4, 2) := by decide +kernel
theorem dX0_moveCell_36 : decode cX0_moveCell 36 = .ok (.iaload, 1) := by decide +kernel
theorem dX0_moveCell_37 : decode cX0_moveCell 37 = .ok (.iastore, 1) := by decide +kernel
theorem dX0_moveCell_38 : decode cX0_moveCell 38 = .ok (.aload_n 0, 1) := by decide +kernel
theorem dX0_moveCell_39 : decode cX0_moveCell 39 = .ok (.dup, 1) := by decide +kernel
theorem dX0_moveCell_40 : decode cX0_moveCell 40 = .ok (.getfield 108, 3) := by decide +kernel
theorem dX0_moveCell_43 : decode cX0_moveCell 43 = .ok (.iconst 1, 1) := by decide +kernel
theorem dX0_moveCell_44 : decode cX0_moveCell 44 = .ok (.iload_n 3, 1) := by decide +kernel
theorem dX0_moveCell_45 : decode cX0_moveCell 45 = .ok (.ishl, 1) := by decide +kernel
theorem dX0_moveCell_46 : decode cX0_moveCell 46 = .ok (.ior, 1) := by decide +kernel
theorem dX0_moveCell_47 : decode cX0_moveCell 47 = .ok (.putfield 108, 3) := by decide +kernel
theorem dX0_moveCell_50 : decode cX0_moveCell 50 = .ok (.return_, 1) := by decide +kernel
theorem dX0_moveCell_51 : decode cX0_moveCell 51 = .ok (.aload_n 0, 1) := by decide +kernel
theorem dX0_moveCell_52 : decode cX0_moveCell 52 = .ok (.getfield 108, 3) := by decide +kernel
theorem dX0_moveCell_55 : decode cX0_moveCell 55 = .ok (.iload_n 3, 1) := by decide +kernel
theorem dX0_moveCell_56 : decode cX0_moveCell 56 = .ok (.ishr, 1) := by decide +kernel
theorem dX0_moveCell_57 : decode cX0_moveCell 57 = .ok (.iconst 1, 1) := by decide +kernel
theorem dX0_moveCell_58 : decode cX0_moveCell 58 = .ok (.iand, 1) := by decide +kernel
theorem dX0_moveCell_59 : decode cX0_moveCell 59 = .ok (.ifCond .ne 15, 3) := by decide +kernel
theorem dX0_moveCell_62 : decode cX0_moveCell 62 = .ok (.aload_n 0, 1) := by decide +kernel
theorem dX0_moveCell_63 : decode cX0_moveCell 63 = .ok (.dup, 1) := by decide +kernel
theorem dX0_moveCell_64 : decode cX0_moveCell 64 = .ok (.getfield 105, 3) := by decide +kernel
theorem dX0_moveCell_67 : decode cX0_moveCell 67 = .ok (.iconst 1, 1) := by decide +kernel
theorem dX0_moveCell_68 : decode cX0_moveCell 68 = .ok (.iload_n 3, 1) := by decide +kernel
theorem dX0_moveCell_69 : decode cX0_moveCell 69 = .ok (.ishl, 1) := by decide +kernel
theorem dX0_moveCell_70 : decode cX0_moveCell 70 = .ok (.ior, 1) := by decide +kernel
theorem dX0_moveCell_71 : decode cX0_moveCell 71 = .ok (.putfield 105, 3) := by decide +kernel
theorem dX0_moveCell_74 : decode cX0_moveCell 74 = .ok (.aload_n 0, 1) := by decide +kernel
theorem dX0_moveCell_75 : decode cX0_moveCell 75 = .ok (.getfield 32, 3) := by decide +kernel
theorem dX0_moveCell_78 : decode cX0_moveCell 78 = .ok (.iload 4, 2) := by decide +kernel
theorem dX0_moveCell_80 : decode cX0_moveCell 80 = .ok (.aload_n 0, 1) := by decide +kernel
theorem dX0_moveCell_81 : decode cX0_moveCell 81 = .ok (.getfield 23, 3) := by decide +kernel
theorem dX0_moveCell_84 : decode cX0_moveCell 84 = .ok (.iload_n 3, 1) := by decide +kernel
theorem dX0_moveCell_85 : decode cX0_moveCell 85 = .ok (.iaload, 1) := by decide +kernel
theorem dX0_moveCell_86 : decode cX0_moveCell 86 = .ok (.iastore, 1) := by decide +kernel
theorem dX0_moveCell_87 : decode cX0_moveCell 87 = .ok (.return_, 1) := by decide +kernel
abbrev cX0_compute : ByteArray := prog_1_method_23_code
def yX0_compute : MethodName := ⟨RX0, "compute", "(II)V"⟩
theorem dX0_compute_0 : decode cX0_compute 0 = .ok (.aload_n 0, 1) := by decide +kernel
theorem dX0_compute_1 : decode cX0_compute 1 = .ok (.getfield 13, 3) := by decide +kernel
theorem dX0_compute_4 : decode cX0_compute 4 = .ok (.iload_n 2, 1) := by decide +kernel
theorem dX0_compute_5 : decode cX0_compute 5 = .ok (.baload, 1) := by decide +kernel
theorem dX0_compute_6 : decode cX0_compute 6 = .ok (.istore_n 3, 1) := by decide +kernel
theorem dX0_compute_7 : decode cX0_compute 7 = .ok (.iload_n 1, 1) := by decide +kernel
theorem dX0_compute_8 : decode cX0_compute 8 = .ok (.ifCond .ne 16, 3) := by decide +kernel
theorem dX0_compute_11 : decode cX0_compute 11 = .ok (.aload_n 0, 1) := by decide +kernel
theorem dX0_compute_12 : decode cX0_compute 12 = .ok (.getfield 32, 3) := by decide +kernel
theorem dX0_compute_15 : decode cX0_compute 15 = .ok (.iload_n 3, 1) := by decide +kernel
theorem dX0_compute_16 : decode cX0_compute 16 = .ok (.aload_n 0, 1) := by decide +kernel
theorem dX0_compute_17 : decode cX0_compute 17 = .ok (.getfield 16, 3) := by decide +kernel
theorem dX0_compute_20 : decode cX0_compute 20 = .ok (.iload_n 2, 1) := by decide +kernel
theorem dX0_compute_21 : decode cX0_compute 21 = .ok (.iaload, 1) := by decide +kernel
theorem dX0_compute_22 : decode cX0_compute 22 = .ok (.iastore, 1) := by decide +kernel
theorem dX0_compute_23 : decode cX0_compute 23 = .ok (.return_, 1) := by decide +kernel
theorem dX0_compute_24 : decode cX0_compute 24 = .ok (.aload_n 0, 1) := by decide +kernel
theorem dX0_compute_25 : decode cX0_compute 25 = .ok (.getfield 32, 3) := by decide +kernel
theorem dX0_compute_28 : decode cX0_compute 28 = .ok (.aload_n 0, 1) := by decide +kernel
theorem dX0_compute_29 : decode cX0_compute 29 = .ok (.getfield 16, 3) := by decide +kernel
theorem dX0_compute_32 : decode cX0_compute 32 = .ok (.iload_n 2, 1) := by decide +kernel
theorem dX0_compute_33 : decode cX0_compute 33 = .ok (.iaload, 1) := by decide +kernel
theorem dX0_compute_34 : decode cX0_compute 34 = .ok (.iaload, 1) := by decide +kernel
theorem dX0_compute_35 : decode cX0_compute 35 = .ok (.istore 4, 2) := by decide +kernel
theorem dX0_compute_37 : decode cX0_compute 37 = .ok (.aload_n 0, 1) := by decide +kernel
theorem dX0_compute_38 : decode cX0_compute 38 = .ok (.getfield 32, 3) := by decide +kernel
theorem dX0_compute_41 : decode cX0_compute 41 = .ok (.aload_n 0, 1) := by decide +kernel
theorem dX0_compute_42 : decode cX0_compute 42 = .ok (.getfield 20, 3) := by decide +kernel
theorem dX0_compute_45 : decode cX0_compute 45 = .ok (.iload_n 2, 1) := by decide +kernel
theorem dX0_compute_46 : decode cX0_compute 46 = .ok (.baload, 1) := by decide +kernel
theorem dX0_compute_47 : decode cX0_compute 47 = .ok (.iaload, 1) := by decide +kernel
theorem dX0_compute_48 : decode cX0_compute 48 = .ok (.istore 5, 2) := by decide +kernel
theorem dX0_compute_50 : decode cX0_compute 50 = .ok (.aload_n 0, 1) := by decide +kernel
theorem dX0_compute_51 : decode cX0_compute 51 = .ok (.getfield 32, 3) := by decide +kernel
theorem dX0_compute_54 : decode cX0_compute 54 = .ok (.iload_n 3, 1) := by decide +kernel
theorem dX0_compute_55 : decode cX0_compute 55 = .ok (.iload_n 1, 1) := by decide +kernel
theorem dX0_compute_56 : decode cX0_compute 56 = .ok (.iconst 1, 1) := by decide +kernel
theorem dX0_compute_57 : decode cX0_compute 57 = .ok (.if_icmp .ne 11, 3) := by decide +kernel
theorem dX0_compute_60 : decode cX0_compute 60 = .ok (.iload 4, 2) := by decide +kernel
theorem dX0_compute_62 : decode cX0_compute 62 = .ok (.iload 5, 2) := by decide +kernel
theorem dX0_compute_64 : decode cX0_compute 64 = .ok (.iadd, 1) := by decide +kernel
theorem dX0_compute_65 : decode cX0_compute 65 = .ok (.goto 21, 3) := by decide +kernel
theorem dX0_compute_68 : decode cX0_compute 68 = .ok (.iload_n 1, 1) := by decide +kernel
theorem dX0_compute_69 : decode cX0_compute 69 = .ok (.iconst 2, 1) := by decide +kernel
theorem dX0_compute_70 : decode cX0_compute 70 = .ok (.if_icmp .ne 11, 3) := by decide +kernel
theorem dX0_compute_73 : decode cX0_compute 73 = .ok (.iload 4, 2) := by decide +kernel
theorem dX0_compute_75 : decode cX0_compute 75 = .ok (.iload 5, 2) := by decide +kernel
theorem dX0_compute_77 : decode cX0_compute 77 = .ok (.isub, 1) := by decide +kernel
theorem dX0_compute_78 : decode cX0_compute 78 = .ok (.goto 8, 3) := by decide +kernel
theorem dX0_compute_81 : decode cX0_compute 81 = .ok (.iload 4, 2) := by decide +kernel
theorem dX0_compute_83 : decode cX0_compute 83 = .ok (.iload 5, 2) := by decide +kernel
theorem dX0_compute_85 : decode cX0_compute 85 = .ok (.imul, 1) := by decide +kernel
theorem dX0_compute_86 : decode cX0_compute 86 = .ok (.iastore, 1) := by decide +kernel
theorem dX0_compute_87 : decode cX0_compute 87 = .ok (.return_, 1) := by decide +kernel
abbrev cX0_cell : ByteArray := prog_1_method_9_code
def yX0_cell : MethodName := ⟨RX0, "cell", "(I)I"⟩
theorem dX0_cell_0 : decode cX0_cell 0 = .ok (.iload_n 1, 1) := by decide +kernel
theorem dX0_cell_1 : decode cX0_cell 1 = .ok (.ifCond .lt 9, 3) := by decide +kernel
theorem dX0_cell_4 : decode cX0_cell 4 = .ok (.iload_n 1, 1) := by decide +kernel
theorem dX0_cell_5 : decode cX0_cell 5 = .ok (.bipush 11, 2) := by decide +kernel
theorem dX0_cell_7 : decode cX0_cell 7 = .ok (.if_icmp .le 7, 3) := by decide +kernel
theorem dX0_cell_10 : decode cX0_cell 10 = .ok (.iconst 0, 1) := by decide +kernel
theorem dX0_cell_11 : decode cX0_cell 11 = .ok (.goto 9, 3) := by decide +kernel
theorem dX0_cell_14 : decode cX0_cell 14 = .ok (.aload_n 0, 1) := by decide +kernel
theorem dX0_cell_15 : decode cX0_cell 15 = .ok (.getfield 23, 3) := by decide +kernel
theorem dX0_cell_18 : decode cX0_cell 18 = .ok (.iload_n 1, 1) := by decide +kernel
theorem dX0_cell_19 : decode cX0_cell 19 = .ok (.iaload, 1) := by decide +kernel
theorem dX0_cell_20 : decode cX0_cell 20 = .ok (.ireturn, 1) := by decide +kernel
abbrev cX0_register : ByteArray := prog_1_method_10_code
def yX0_register : MethodName := ⟨RX0, "register", "(I)I"⟩
theorem dX0_register_0 : decode cX0_register 0 = .ok (.aload_n 0, 1) := by decide +kernel
theorem dX0_register_1 : decode cX0_register 1 = .ok (.iload_n 1, 1) := by decide +kernel
theorem dX0_register_2 : decode cX0_register 2 = .ok (.invokevirtual 49, 3) := by decide +kernel
theorem dX0_register_5 : decode cX0_register 5 = .ok (.ifCond .eq 12, 3) := by decide +kernel
theorem dX0_register_8 : decode cX0_register 8 = .ok (.aload_n 0, 1) := by decide +kernel
theorem dX0_register_9 : decode cX0_register 9 = .ok (.getfield 29, 3) := by decide +kernel
theorem dX0_register_12 : decode cX0_register 12 = .ok (.iload_n 1, 1) := by decide +kernel
theorem dX0_register_13 : decode cX0_register 13 = .ok (.iaload, 1) := by decide +kernel
theorem dX0_register_14 : decode cX0_register 14 = .ok (.goto 4, 3) := by decide +kernel
theorem dX0_register_17 : decode cX0_register 17 = .ok (.iconst 0, 1) := by decide +kernel
theorem dX0_register_18 : decode cX0_register 18 = .ok (.ireturn, 1) := by decide +kernel
abbrev cX0_clear : ByteArray := prog_1_method_11_code
def yX0_clear : MethodName := ⟨RX0, "clear", "()V"⟩
theorem dX0_clear_0 : decode cX0_clear 0 = .ok (.aload_n 0, 1) := by decide +kernel
theorem dX0_clear_1 : decode cX0_clear 1 = .ok (.iconst 0, 1) := by decide +kernel
theorem dX0_clear_2 : decode cX0_clear 2 = .ok (.putfield 41, 3) := by decide +kernel
theorem dX0_clear_5 : decode cX0_clear 5 = .ok (.iconst 0, 1) := by decide +kernel
theorem dX0_clear_6 : decode cX0_clear 6 = .ok (.istore_n 1, 1) := by decide +kernel
theorem dX0_clear_7 : decode cX0_clear 7 = .ok (.iload_n 1, 1) := by decide +kernel
theorem dX0_clear_8 : decode cX0_clear 8 = .ok (.bipush 12, 2) := by decide +kernel
theorem dX0_clear_10 : decode cX0_clear 10 = .ok (.if_icmp .ge 16, 3) := by decide +kernel
theorem dX0_clear_13 : decode cX0_clear 13 = .ok (.aload_n 0, 1) := by decide +kernel
theorem dX0_clear_14 : decode cX0_clear 14 = .ok (.getfield 23, 3) := by decide +kernel
theorem dX0_clear_17 : decode cX0_clear 17 = .ok (.iload_n 1, 1) := by decide +kernel
theorem dX0_clear_18 : decode cX0_clear 18 = .ok (.iconst 0, 1) := by decide +kernel
theorem dX0_clear_19 : decode cX0_clear 19 = .ok (.iastore, 1) := by decide +kernel
theorem dX0_clear_20 : decode cX0_clear 20 = .ok (.iinc 1 1, 3) := by decide +kernel
theorem dX0_clear_23 : decode cX0_clear 23 = .ok (.goto (-16), 3) := by decide +kernel
theorem dX0_clear_26 : decode cX0_clear 26 = .ok (.iconst 0, 1) := by decide +kernel
theorem dX0_clear_27 : decode cX0_clear 27 = .ok (.istore_n 1, 1) := by decide +kernel
theorem dX0_clear_28 : decode cX0_clear 28 = .ok (.iload_n 1, 1) := by decide +kernel
theorem dX0_clear_29 : decode cX0_clear 29 = .ok (.iconst 4, 1) := by decide +kernel
theorem dX0_clear_30 : decode cX0_clear 30 = .ok (.if_icmp .ge 16, 3) := by decide +kernel
theorem dX0_clear_33 : decode cX0_clear 33 = .ok (.aload_n 0, 1) := by decide +kernel
theorem dX0_clear_34 : decode cX0_clear 34 = .ok (.getfield 29, 3) := by decide +kernel
theorem dX0_clear_37 : decode cX0_clear 37 = .ok (.iload_n 1, 1) := by decide +kernel
theorem dX0_clear_38 : decode cX0_clear 38 = .ok (.iconst 0, 1) := by decide +kernel
theorem dX0_clear_39 : decode cX0_clear 39 = .ok (.iastore, 1) := by decide +kernel
theorem dX0_clear_40 : decode cX0_clear 40 = .ok (.iinc 1 1, 3) := by decide +kernel
theorem dX0_clear_43 : decode cX0_clear 43 = .ok (.goto (-15), 3) := by decide +kernel
theorem dX0_clear_46 : decode cX0_clear 46 = .ok (.return_, 1) := by decide +kernel
end
section
set_option maxRecDepth 100000
theorem q22 : (Jvm.Cond.initialized "PowerFailCore") ∈ lw_all := lw_g (lw_at lw_m1 1 rfl) rfl
theorem q25 : (Jvm.Cond.instantiable "PowerFailCore" (19 : Nat)) ∈ lw_all := lw_g (lw_at lw_m1 4 rfl) rfl
theorem q27 : (Jvm.Cond.instanceMethod ({ cls := "PowerFailCore", name := "<init>", desc := "()V" } : Jvm.MethodName)) ∈ lw_all := lw_g (lw_at lw_m1 6 rfl) rfl
theorem q28 : (Jvm.Cond.code ({ cls := "PowerFailCore", name := "<init>", desc := "()V" } : Jvm.MethodName) prog_1_method_1_code (1 : Nat) (Option.none : Option Jvm.ClassFile.FieldType)) ∈ lw_all := lw_g (lw_at lw_m1 7 rfl) rfl
theorem q29 : (Jvm.Cond.methodLink "PowerFailCore" (1 : Nat) ({ cls := "java/lang/Object", name := "<init>", desc := "()V" } : Jvm.MethodName)) ∈ lw_all := lw_g (lw_at lw_m1 8 rfl) rfl
theorem q32 : (Jvm.Cond.fieldLink "PowerFailCore" (41 : Nat) "PowerFailCore" "length" "I") ∈ lw_all := lw_g (lw_at lw_m1 11 rfl) rfl
theorem q33 : (Jvm.Cond.fieldLink "PowerFailCore" (7 : Nat) "PowerFailCore" "opcode" "[B") ∈ lw_all := lw_g (lw_at lw_m1 12 rfl) rfl
theorem q34 : (Jvm.Cond.fieldLink "PowerFailCore" (13 : Nat) "PowerFailCore" "fieldX" "[B") ∈ lw_all := lw_g (lw_at lw_m1 13 rfl) rfl
theorem q35 : (Jvm.Cond.fieldLink "PowerFailCore" (16 : Nat) "PowerFailCore" "fieldY" "[I") ∈ lw_all := lw_g (lw_at lw_m1 14 rfl) rfl
theorem q36 : (Jvm.Cond.fieldLink "PowerFailCore" (20 : Nat) "PowerFailCore" "fieldZ" "[B") ∈ lw_all := lw_g (lw_at lw_m1 15 rfl) rfl
theorem q37 : (Jvm.Cond.fieldLink "PowerFailCore" (23 : Nat) "PowerFailCore" "cells" "[I") ∈ lw_all := lw_g (lw_at lw_m1 16 rfl) rfl
theorem q38 : (Jvm.Cond.fieldLink "PowerFailCore" (26 : Nat) "PowerFailCore" "saves" "[I") ∈ lw_all := lw_g (lw_at lw_m1 17 rfl) rfl
theorem q39 : (Jvm.Cond.fieldLink "PowerFailCore" (29 : Nat) "PowerFailCore" "finalRegisters" "[I") ∈ lw_all := lw_g (lw_at lw_m1 18 rfl) rfl
theorem q40 : (Jvm.Cond.fieldLink "PowerFailCore" (32 : Nat) "PowerFailCore" "registers" "[I") ∈ lw_all := lw_g (lw_at lw_m1 19 rfl) rfl
theorem q41 : (Jvm.Cond.fieldLink "PowerFailCore" (73 : Nat) "PowerFailCore" "place" "I") ∈ lw_all := lw_g (lw_at lw_m1 20 rfl) rfl
theorem q42 : (Jvm.Cond.fieldLink "PowerFailCore" (82 : Nat) "PowerFailCore" "count" "I") ∈ lw_all := lw_g (lw_at lw_m1 21 rfl) rfl
theorem q43 : (Jvm.Cond.fieldLink "PowerFailCore" (88 : Nat) "PowerFailCore" "openLoops" "I") ∈ lw_all := lw_g (lw_at lw_m1 22 rfl) rfl
theorem q44 : (Jvm.Cond.fieldLink "PowerFailCore" (35 : Nat) "PowerFailCore" "loopStart" "[I") ∈ lw_all := lw_g (lw_at lw_m1 23 rfl) rfl
theorem q45 : (Jvm.Cond.fieldLink "PowerFailCore" (38 : Nat) "PowerFailCore" "loopLeft" "[I") ∈ lw_all := lw_g (lw_at lw_m1 24 rfl) rfl
theorem q46 : (Jvm.Cond.fieldLink "PowerFailCore" (105 : Nat) "PowerFailCore" "readCells" "I") ∈ lw_all := lw_g (lw_at lw_m1 25 rfl) rfl
theorem q47 : (Jvm.Cond.fieldLink "PowerFailCore" (108 : Nat) "PowerFailCore" "writtenCells" "I") ∈ lw_all := lw_g (lw_at lw_m1 26 rfl) rfl
theorem q48 : (Jvm.Cond.fieldLink "PowerFailCore" (111 : Nat) "PowerFailCore" "stretch" "I") ∈ lw_all := lw_g (lw_at lw_m1 27 rfl) rfl
theorem q49 : (Jvm.Cond.fieldLink "PowerFailCore" (63 : Nat) "PowerFailCore" "ticksLeft" "I") ∈ lw_all := lw_g (lw_at lw_m1 28 rfl) rfl
theorem q50 : (Jvm.Cond.fieldLink "PowerFailCore" (66 : Nat) "PowerFailCore" "failed" "Z") ∈ lw_all := lw_g (lw_at lw_m1 29 rfl) rfl
theorem q51 : (Jvm.Cond.lays "PowerFailCore" "PowerFailCore" "length" "I") ∈ lw_all := lw_g (lw_at lw_m1 30 rfl) rfl
theorem q52 : (Jvm.Cond.soleField "PowerFailCore" "length") ∈ lw_all := lw_g (lw_at lw_m1 31 rfl) rfl
theorem q53 : (Jvm.Cond.laysFinal "PowerFailCore" "PowerFailCore" "opcode" "[B") ∈ lw_all := lw_g (lw_at lw_m1 32 rfl) rfl
theorem q54 : (Jvm.Cond.soleField "PowerFailCore" "opcode") ∈ lw_all := lw_g (lw_at lw_m1 33 rfl) rfl
theorem q55 : (Jvm.Cond.laysFinal "PowerFailCore" "PowerFailCore" "fieldX" "[B") ∈ lw_all := lw_g (lw_at lw_m1 34 rfl) rfl
theorem q56 : (Jvm.Cond.soleField "PowerFailCore" "fieldX") ∈ lw_all := lw_g (lw_at lw_m1 35 rfl) rfl
theorem q57 : (Jvm.Cond.laysFinal "PowerFailCore" "PowerFailCore" "fieldY" "[I") ∈ lw_all := lw_g (lw_at lw_m1 36 rfl) rfl
theorem q58 : (Jvm.Cond.soleField "PowerFailCore" "fieldY") ∈ lw_all := lw_g (lw_at lw_m1 37 rfl) rfl
theorem q59 : (Jvm.Cond.laysFinal "PowerFailCore" "PowerFailCore" "fieldZ" "[B") ∈ lw_all := lw_g (lw_at lw_m1 38 rfl) rfl
theorem q60 : (Jvm.Cond.soleField "PowerFailCore" "fieldZ") ∈ lw_all := lw_g (lw_at lw_m1 39 rfl) rfl
theorem q61 : (Jvm.Cond.laysFinal "PowerFailCore" "PowerFailCore" "cells" "[I") ∈ lw_all := lw_g (lw_at lw_m1 40 rfl) rfl
theorem q62 : (Jvm.Cond.soleField "PowerFailCore" "cells") ∈ lw_all := lw_g (lw_at lw_m1 41 rfl) rfl
theorem q63 : (Jvm.Cond.laysFinal "PowerFailCore" "PowerFailCore" "saves" "[I") ∈ lw_all := lw_g (lw_at lw_m1 42 rfl) rfl
theorem q64 : (Jvm.Cond.soleField "PowerFailCore" "saves") ∈ lw_all := lw_g (lw_at lw_m1 43 rfl) rfl
theorem q65 : (Jvm.Cond.laysFinal "PowerFailCore" "PowerFailCore" "finalRegisters" "[I") ∈ lw_all := lw_g (lw_at lw_m1 44 rfl) rfl
theorem q66 : (Jvm.Cond.soleField "PowerFailCore" "finalRegisters") ∈ lw_all := lw_g (lw_at lw_m1 45 rfl) rfl
theorem q67 : (Jvm.Cond.laysFinal "PowerFailCore" "PowerFailCore" "registers" "[I") ∈ lw_all := lw_g (lw_at lw_m1 46 rfl) rfl
theorem q68 : (Jvm.Cond.soleField "PowerFailCore" "registers") ∈ lw_all := lw_g (lw_at lw_m1 47 rfl) rfl
theorem q69 : (Jvm.Cond.lays "PowerFailCore" "PowerFailCore" "place" "I") ∈ lw_all := lw_g (lw_at lw_m1 48 rfl) rfl
theorem q70 : (Jvm.Cond.soleField "PowerFailCore" "place") ∈ lw_all := lw_g (lw_at lw_m1 49 rfl) rfl
theorem q71 : (Jvm.Cond.lays "PowerFailCore" "PowerFailCore" "count" "I") ∈ lw_all := lw_g (lw_at lw_m1 50 rfl) rfl
theorem q72 : (Jvm.Cond.soleField "PowerFailCore" "count") ∈ lw_all := lw_g (lw_at lw_m1 51 rfl) rfl
theorem q73 : (Jvm.Cond.lays "PowerFailCore" "PowerFailCore" "openLoops" "I") ∈ lw_all := lw_g (lw_at lw_m1 52 rfl) rfl
theorem q74 : (Jvm.Cond.soleField "PowerFailCore" "openLoops") ∈ lw_all := lw_g (lw_at lw_m1 53 rfl) rfl
theorem q75 : (Jvm.Cond.laysFinal "PowerFailCore" "PowerFailCore" "loopStart" "[I") ∈ lw_all := lw_g (lw_at lw_m1 54 rfl) rfl
theorem q76 : (Jvm.Cond.soleField "PowerFailCore" "loopStart") ∈ lw_all := lw_g (lw_at lw_m1 55 rfl) rfl
theorem q77 : (Jvm.Cond.laysFinal "PowerFailCore" "PowerFailCore" "loopLeft" "[I") ∈ lw_all := lw_g (lw_at lw_m1 56 rfl) rfl
theorem q78 : (Jvm.Cond.soleField "PowerFailCore" "loopLeft") ∈ lw_all := lw_g (lw_at lw_m1 57 rfl) rfl
theorem q79 : (Jvm.Cond.lays "PowerFailCore" "PowerFailCore" "readCells" "I") ∈ lw_all := lw_g (lw_at lw_m1 58 rfl) rfl
theorem q80 : (Jvm.Cond.soleField "PowerFailCore" "readCells") ∈ lw_all := lw_g (lw_at lw_m1 59 rfl) rfl
theorem q81 : (Jvm.Cond.lays "PowerFailCore" "PowerFailCore" "writtenCells" "I") ∈ lw_all := lw_g (lw_at lw_m1 60 rfl) rfl
theorem q82 : (Jvm.Cond.soleField "PowerFailCore" "writtenCells") ∈ lw_all := lw_g (lw_at lw_m1 61 rfl) rfl
theorem q83 : (Jvm.Cond.lays "PowerFailCore" "PowerFailCore" "stretch" "I") ∈ lw_all := lw_g (lw_at lw_m1 62 rfl) rfl
theorem q84 : (Jvm.Cond.soleField "PowerFailCore" "stretch") ∈ lw_all := lw_g (lw_at lw_m1 63 rfl) rfl
theorem q85 : (Jvm.Cond.lays "PowerFailCore" "PowerFailCore" "ticksLeft" "I") ∈ lw_all := lw_g (lw_at lw_m1 64 rfl) rfl
theorem q86 : (Jvm.Cond.soleField "PowerFailCore" "ticksLeft") ∈ lw_all := lw_g (lw_at lw_m1 65 rfl) rfl
theorem q87 : (Jvm.Cond.lays "PowerFailCore" "PowerFailCore" "failed" "Z") ∈ lw_all := lw_g (lw_at lw_m1 66 rfl) rfl
theorem q88 : (Jvm.Cond.soleField "PowerFailCore" "failed") ∈ lw_all := lw_g (lw_at lw_m1 67 rfl) rfl
theorem q89 : (Jvm.Cond.superclass "PowerFailCore" "java/lang/Object") ∈ lw_all := lw_g (lw_at lw_m1 68 rfl) rfl
theorem q93 : (Jvm.Cond.instanceMethod ({ cls := "PowerFailCore", name := "emit", desc := "(IIII)I" } : Jvm.MethodName)) ∈ lw_all := lw_g (lw_at lw_m1 72 rfl) rfl
theorem q94 : (Jvm.Cond.selects "PowerFailCore" ({ cls := "PowerFailCore", name := "emit", desc := "(IIII)I" } : Jvm.MethodName) ({ cls := "PowerFailCore", name := "emit", desc := "(IIII)I" } : Jvm.MethodName)) ∈ lw_all := lw_g (lw_at lw_m1 73 rfl) rfl
theorem q95 : (Jvm.Cond.code ({ cls := "PowerFailCore", name := "emit", desc := "(IIII)I" } : Jvm.MethodName) prog_1_method_2_code (5 : Nat) (Option.some Jvm.ClassFile.FieldType.int)) ∈ lw_all := lw_g (lw_at lw_m1 74 rfl) rfl
theorem q96 : (Jvm.Cond.methodLink "PowerFailCore" (45 : Nat) ({ cls := "PowerFailCore", name := "fits", desc := "(IIII)Z" } : Jvm.MethodName)) ∈ lw_all := lw_g (lw_at lw_m1 75 rfl) rfl
theorem q97 : (Jvm.Cond.privateMethod ({ cls := "PowerFailCore", name := "fits", desc := "(IIII)Z" } : Jvm.MethodName)) ∈ lw_tbl := lw_at lw_m1 76 rfl
theorem q98 : (Jvm.Cond.instanceMethod ({ cls := "PowerFailCore", name := "fits", desc := "(IIII)Z" } : Jvm.MethodName)) ∈ lw_all := lw_g (lw_at lw_m1 77 rfl) rfl
theorem q99 : (Jvm.Cond.code ({ cls := "PowerFailCore", name := "fits", desc := "(IIII)Z" } : Jvm.MethodName) prog_1_method_3_code (5 : Nat) (Option.some Jvm.ClassFile.FieldType.boolean)) ∈ lw_all := lw_g (lw_at lw_m1 78 rfl) rfl
theorem q100 : (Jvm.Cond.methodLink "PowerFailCore" (49 : Nat) ({ cls := "PowerFailCore", name := "isRegister", desc := "(I)Z" } : Jvm.MethodName)) ∈ lw_all := lw_g (lw_at lw_m1 79 rfl) rfl
theorem q101 : (Jvm.Cond.privateMethod ({ cls := "PowerFailCore", name := "isRegister", desc := "(I)Z" } : Jvm.MethodName)) ∈ lw_tbl := lw_at lw_m1 80 rfl
theorem q102 : (Jvm.Cond.instanceMethod ({ cls := "PowerFailCore", name := "isRegister", desc := "(I)Z" } : Jvm.MethodName)) ∈ lw_all := lw_g (lw_at lw_m1 81 rfl) rfl
theorem q103 : (Jvm.Cond.code ({ cls := "PowerFailCore", name := "isRegister", desc := "(I)Z" } : Jvm.MethodName) prog_1_method_12_code (2 : Nat) (Option.some Jvm.ClassFile.FieldType.boolean)) ∈ lw_all := lw_g (lw_at lw_m1 82 rfl) rfl
theorem q105 : (Jvm.Cond.instanceMethod ({ cls := "PowerFailCore", name := "retract", desc := "()I" } : Jvm.MethodName)) ∈ lw_all := lw_g (lw_at lw_m1 84 rfl) rfl
theorem q106 : (Jvm.Cond.selects "PowerFailCore" ({ cls := "PowerFailCore", name := "retract", desc := "()I" } : Jvm.MethodName) ({ cls := "PowerFailCore", name := "retract", desc := "()I" } : Jvm.MethodName)) ∈ lw_all := lw_g (lw_at lw_m1 85 rfl) rfl
theorem q107 : (Jvm.Cond.code ({ cls := "PowerFailCore", name := "retract", desc := "()I" } : Jvm.MethodName) prog_1_method_4_code (1 : Nat) (Option.some Jvm.ClassFile.FieldType.int)) ∈ lw_all := lw_g (lw_at lw_m1 86 rfl) rfl
theorem q109 : (Jvm.Cond.instanceMethod ({ cls := "PowerFailCore", name := "sound", desc := "()Z" } : Jvm.MethodName)) ∈ lw_all := lw_g (lw_at lw_m1 88 rfl) rfl
theorem q110 : (Jvm.Cond.selects "PowerFailCore" ({ cls := "PowerFailCore", name := "sound", desc := "()Z" } : Jvm.MethodName) ({ cls := "PowerFailCore", name := "sound", desc := "()Z" } : Jvm.MethodName)) ∈ lw_all := lw_g (lw_at lw_m1 89 rfl) rfl
theorem q111 : (Jvm.Cond.code ({ cls := "PowerFailCore", name := "sound", desc := "()Z" } : Jvm.MethodName) prog_1_method_5_code (3 : Nat) (Option.some Jvm.ClassFile.FieldType.boolean)) ∈ lw_all := lw_g (lw_at lw_m1 90 rfl) rfl
theorem q112 : (Jvm.Cond.methodLink "PowerFailCore" (53 : Nat) ({ cls := "PowerFailCore", name := "mayLeaveOut", desc := "(I)Z" } : Jvm.MethodName)) ∈ lw_all := lw_g (lw_at lw_m1 91 rfl) rfl
theorem q113 : (Jvm.Cond.privateMethod ({ cls := "PowerFailCore", name := "mayLeaveOut", desc := "(I)Z" } : Jvm.MethodName)) ∈ lw_tbl := lw_at lw_m1 92 rfl
theorem q114 : (Jvm.Cond.instanceMethod ({ cls := "PowerFailCore", name := "mayLeaveOut", desc := "(I)Z" } : Jvm.MethodName)) ∈ lw_all := lw_g (lw_at lw_m1 93 rfl) rfl
theorem q115 : (Jvm.Cond.code ({ cls := "PowerFailCore", name := "mayLeaveOut", desc := "(I)Z" } : Jvm.MethodName) prog_1_method_6_code (4 : Nat) (Option.some Jvm.ClassFile.FieldType.boolean)) ∈ lw_all := lw_g (lw_at lw_m1 94 rfl) rfl
theorem q117 : (Jvm.Cond.instanceMethod ({ cls := "PowerFailCore", name := "setCell", desc := "(II)Z" } : Jvm.MethodName)) ∈ lw_all := lw_g (lw_at lw_m1 96 rfl) rfl
theorem q118 : (Jvm.Cond.selects "PowerFailCore" ({ cls := "PowerFailCore", name := "setCell", desc := "(II)Z" } : Jvm.MethodName) ({ cls := "PowerFailCore", name := "setCell", desc := "(II)Z" } : Jvm.MethodName)) ∈ lw_all := lw_g (lw_at lw_m1 97 rfl) rfl
theorem q119 : (Jvm.Cond.code ({ cls := "PowerFailCore", name := "setCell", desc := "(II)Z" } : Jvm.MethodName) prog_1_method_7_code (3 : Nat) (Option.some Jvm.ClassFile.FieldType.boolean)) ∈ lw_all := lw_g (lw_at lw_m1 98 rfl) rfl
theorem q121 : (Jvm.Cond.instanceMethod ({ cls := "PowerFailCore", name := "run", desc := "(I)I" } : Jvm.MethodName)) ∈ lw_all := lw_g (lw_at lw_m1 100 rfl) rfl
theorem q122 : (Jvm.Cond.selects "PowerFailCore" ({ cls := "PowerFailCore", name := "run", desc := "(I)I" } : Jvm.MethodName) ({ cls := "PowerFailCore", name := "run", desc := "(I)I" } : Jvm.MethodName)) ∈ lw_all := lw_g (lw_at lw_m1 101 rfl) rfl
theorem q123 : (Jvm.Cond.code ({ cls := "PowerFailCore", name := "run", desc := "(I)I" } : Jvm.MethodName) prog_1_method_8_code (5 : Nat) (Option.some Jvm.ClassFile.FieldType.int)) ∈ lw_all := lw_g (lw_at lw_m1 102 rfl) rfl
theorem q124 : (Jvm.Cond.methodLink "PowerFailCore" (56 : Nat) ({ cls := "PowerFailCore", name := "sound", desc := "()Z" } : Jvm.MethodName)) ∈ lw_all := lw_g (lw_at lw_m1 103 rfl) rfl
theorem q125 : (Jvm.Cond.methodLink "PowerFailCore" (60 : Nat) ({ cls := "PowerFailCore", name := "startFromNothing", desc := "()V" } : Jvm.MethodName)) ∈ lw_all := lw_g (lw_at lw_m1 104 rfl) rfl
theorem q126 : (Jvm.Cond.privateMethod ({ cls := "PowerFailCore", name := "startFromNothing", desc := "()V" } : Jvm.MethodName)) ∈ lw_tbl := lw_at lw_m1 105 rfl
theorem q127 : (Jvm.Cond.instanceMethod ({ cls := "PowerFailCore", name := "startFromNothing", desc := "()V" } : Jvm.MethodName)) ∈ lw_all := lw_g (lw_at lw_m1 106 rfl) rfl
theorem q128 : (Jvm.Cond.code ({ cls := "PowerFailCore", name := "startFromNothing", desc := "()V" } : Jvm.MethodName) prog_1_method_13_code (2 : Nat) (Option.none : Option Jvm.ClassFile.FieldType)) ∈ lw_all := lw_g (lw_at lw_m1 107 rfl) rfl
theorem q129 : (Jvm.Cond.methodLink "PowerFailCore" (70 : Nat) ({ cls := "PowerFailCore", name := "wakeUp", desc := "()V" } : Jvm.MethodName)) ∈ lw_all := lw_g (lw_at lw_m1 108 rfl) rfl
theorem q130 : (Jvm.Cond.privateMethod ({ cls := "PowerFailCore", name := "wakeUp", desc := "()V" } : Jvm.MethodName)) ∈ lw_tbl := lw_at lw_m1 109 rfl
theorem q131 : (Jvm.Cond.instanceMethod ({ cls := "PowerFailCore", name := "wakeUp", desc := "()V" } : Jvm.MethodName)) ∈ lw_all := lw_g (lw_at lw_m1 110 rfl) rfl
theorem q132 : (Jvm.Cond.code ({ cls := "PowerFailCore", name := "wakeUp", desc := "()V" } : Jvm.MethodName) prog_1_method_20_code (3 : Nat) (Option.none : Option Jvm.ClassFile.FieldType)) ∈ lw_all := lw_g (lw_at lw_m1 111 rfl) rfl
theorem q133 : (Jvm.Cond.methodLink "PowerFailCore" (91 : Nat) ({ cls := "PowerFailCore", name := "validArea", desc := "()I" } : Jvm.MethodName)) ∈ lw_all := lw_g (lw_at lw_m1 112 rfl) rfl
theorem q134 : (Jvm.Cond.privateMethod ({ cls := "PowerFailCore", name := "validArea", desc := "()I" } : Jvm.MethodName)) ∈ lw_tbl := lw_at lw_m1 113 rfl
theorem q135 : (Jvm.Cond.instanceMethod ({ cls := "PowerFailCore", name := "validArea", desc := "()I" } : Jvm.MethodName)) ∈ lw_all := lw_g (lw_at lw_m1 114 rfl) rfl
theorem q136 : (Jvm.Cond.code ({ cls := "PowerFailCore", name := "validArea", desc := "()I" } : Jvm.MethodName) prog_1_method_16_code (1 : Nat) (Option.some Jvm.ClassFile.FieldType.int)) ∈ lw_all := lw_g (lw_at lw_m1 115 rfl) rfl
theorem q137 : (Jvm.Cond.methodLink "PowerFailCore" (95 : Nat) ({ cls := "PowerFailCore", name := "tick", desc := "()Z" } : Jvm.MethodName)) ∈ lw_all := lw_g (lw_at lw_m1 116 rfl) rfl
theorem q138 : (Jvm.Cond.privateMethod ({ cls := "PowerFailCore", name := "tick", desc := "()Z" } : Jvm.MethodName)) ∈ lw_tbl := lw_at lw_m1 117 rfl
theorem q139 : (Jvm.Cond.instanceMethod ({ cls := "PowerFailCore", name := "tick", desc := "()Z" } : Jvm.MethodName)) ∈ lw_all := lw_g (lw_at lw_m1 118 rfl) rfl
theorem q140 : (Jvm.Cond.code ({ cls := "PowerFailCore", name := "tick", desc := "()Z" } : Jvm.MethodName) prog_1_method_14_code (1 : Nat) (Option.some Jvm.ClassFile.FieldType.boolean)) ∈ lw_all := lw_g (lw_at lw_m1 119 rfl) rfl
theorem q141 : (Jvm.Cond.methodLink "PowerFailCore" (85 : Nat) ({ cls := "PowerFailCore", name := "loseAll", desc := "()V" } : Jvm.MethodName)) ∈ lw_all := lw_g (lw_at lw_m1 120 rfl) rfl
theorem q142 : (Jvm.Cond.privateMethod ({ cls := "PowerFailCore", name := "loseAll", desc := "()V" } : Jvm.MethodName)) ∈ lw_tbl := lw_at lw_m1 121 rfl
theorem q143 : (Jvm.Cond.instanceMethod ({ cls := "PowerFailCore", name := "loseAll", desc := "()V" } : Jvm.MethodName)) ∈ lw_all := lw_g (lw_at lw_m1 122 rfl) rfl
theorem q144 : (Jvm.Cond.code ({ cls := "PowerFailCore", name := "loseAll", desc := "()V" } : Jvm.MethodName) prog_1_method_15_code (2 : Nat) (Option.none : Option Jvm.ClassFile.FieldType)) ∈ lw_all := lw_g (lw_at lw_m1 123 rfl) rfl
theorem q145 : (Jvm.Cond.methodLink "PowerFailCore" (102 : Nat) ({ cls := "PowerFailCore", name := "startStretch", desc := "()V" } : Jvm.MethodName)) ∈ lw_all := lw_g (lw_at lw_m1 124 rfl) rfl
theorem q146 : (Jvm.Cond.privateMethod ({ cls := "PowerFailCore", name := "startStretch", desc := "()V" } : Jvm.MethodName)) ∈ lw_tbl := lw_at lw_m1 125 rfl
theorem q147 : (Jvm.Cond.instanceMethod ({ cls := "PowerFailCore", name := "startStretch", desc := "()V" } : Jvm.MethodName)) ∈ lw_all := lw_g (lw_at lw_m1 126 rfl) rfl
theorem q148 : (Jvm.Cond.code ({ cls := "PowerFailCore", name := "startStretch", desc := "()V" } : Jvm.MethodName) prog_1_method_19_code (1 : Nat) (Option.none : Option Jvm.ClassFile.FieldType)) ∈ lw_all := lw_g (lw_at lw_m1 127 rfl) rfl
theorem q149 : (Jvm.Cond.methodLink "PowerFailCore" (76 : Nat) ({ cls := "PowerFailCore", name := "step", desc := "()V" } : Jvm.MethodName)) ∈ lw_all := lw_g (lw_at lw_m1 128 rfl) rfl
theorem q150 : (Jvm.Cond.privateMethod ({ cls := "PowerFailCore", name := "step", desc := "()V" } : Jvm.MethodName)) ∈ lw_tbl := lw_at lw_m1 129 rfl
theorem q151 : (Jvm.Cond.instanceMethod ({ cls := "PowerFailCore", name := "step", desc := "()V" } : Jvm.MethodName)) ∈ lw_all := lw_g (lw_at lw_m1 130 rfl) rfl
theorem q152 : (Jvm.Cond.code ({ cls := "PowerFailCore", name := "step", desc := "()V" } : Jvm.MethodName) prog_1_method_22_code (4 : Nat) (Option.none : Option Jvm.ClassFile.FieldType)) ∈ lw_all := lw_g (lw_at lw_m1 131 rfl) rfl
theorem q153 : (Jvm.Cond.methodLink "PowerFailCore" (114 : Nat) ({ cls := "PowerFailCore", name := "cellOf", desc := "(I)I" } : Jvm.MethodName)) ∈ lw_all := lw_g (lw_at lw_m1 132 rfl) rfl
theorem q154 : (Jvm.Cond.privateMethod ({ cls := "PowerFailCore", name := "cellOf", desc := "(I)I" } : Jvm.MethodName)) ∈ lw_tbl := lw_at lw_m1 133 rfl
theorem q155 : (Jvm.Cond.instanceMethod ({ cls := "PowerFailCore", name := "cellOf", desc := "(I)I" } : Jvm.MethodName)) ∈ lw_all := lw_g (lw_at lw_m1 134 rfl) rfl
theorem q156 : (Jvm.Cond.code ({ cls := "PowerFailCore", name := "cellOf", desc := "(I)I" } : Jvm.MethodName) prog_1_method_21_code (2 : Nat) (Option.some Jvm.ClassFile.FieldType.int)) ∈ lw_all := lw_g (lw_at lw_m1 135 rfl) rfl
theorem q157 : (Jvm.Cond.methodLink "PowerFailCore" (79 : Nat) ({ cls := "PowerFailCore", name := "save", desc := "()V" } : Jvm.MethodName)) ∈ lw_all := lw_g (lw_at lw_m1 136 rfl) rfl
theorem q158 : (Jvm.Cond.privateMethod ({ cls := "PowerFailCore", name := "save", desc := "()V" } : Jvm.MethodName)) ∈ lw_tbl := lw_at lw_m1 137 rfl
theorem q159 : (Jvm.Cond.instanceMethod ({ cls := "PowerFailCore", name := "save", desc := "()V" } : Jvm.MethodName)) ∈ lw_all := lw_g (lw_at lw_m1 138 rfl) rfl
theorem q160 : (Jvm.Cond.code ({ cls := "PowerFailCore", name := "save", desc := "()V" } : Jvm.MethodName) prog_1_method_18_code (4 : Nat) (Option.none : Option Jvm.ClassFile.FieldType)) ∈ lw_all := lw_g (lw_at lw_m1 139 rfl) rfl
theorem q161 : (Jvm.Cond.methodLink "PowerFailCore" (98 : Nat) ({ cls := "PowerFailCore", name := "wordToSave", desc := "(I)I" } : Jvm.MethodName)) ∈ lw_all := lw_g (lw_at lw_m1 140 rfl) rfl
theorem q162 : (Jvm.Cond.privateMethod ({ cls := "PowerFailCore", name := "wordToSave", desc := "(I)I" } : Jvm.MethodName)) ∈ lw_tbl := lw_at lw_m1 141 rfl
theorem q163 : (Jvm.Cond.instanceMethod ({ cls := "PowerFailCore", name := "wordToSave", desc := "(I)I" } : Jvm.MethodName)) ∈ lw_all := lw_g (lw_at lw_m1 142 rfl) rfl
theorem q164 : (Jvm.Cond.code ({ cls := "PowerFailCore", name := "wordToSave", desc := "(I)I" } : Jvm.MethodName) prog_1_method_17_code (2 : Nat) (Option.some Jvm.ClassFile.FieldType.int)) ∈ lw_all := lw_g (lw_at lw_m1 143 rfl) rfl
theorem q165 : (Jvm.Cond.methodLink "PowerFailCore" (117 : Nat) ({ cls := "PowerFailCore", name := "control", desc := "(II)V" } : Jvm.MethodName)) ∈ lw_all := lw_g (lw_at lw_m1 144 rfl) rfl
theorem q166 : (Jvm.Cond.privateMethod ({ cls := "PowerFailCore", name := "control", desc := "(II)V" } : Jvm.MethodName)) ∈ lw_tbl := lw_at lw_m1 145 rfl
theorem q167 : (Jvm.Cond.instanceMethod ({ cls := "PowerFailCore", name := "control", desc := "(II)V" } : Jvm.MethodName)) ∈ lw_all := lw_g (lw_at lw_m1 146 rfl) rfl
theorem q168 : (Jvm.Cond.code ({ cls := "PowerFailCore", name := "control", desc := "(II)V" } : Jvm.MethodName) prog_1_method_25_code (4 : Nat) (Option.none : Option Jvm.ClassFile.FieldType)) ∈ lw_all := lw_g (lw_at lw_m1 147 rfl) rfl
theorem q169 : (Jvm.Cond.methodLink "PowerFailCore" (121 : Nat) ({ cls := "PowerFailCore", name := "moveCell", desc := "(II)V" } : Jvm.MethodName)) ∈ lw_all := lw_g (lw_at lw_m1 148 rfl) rfl
theorem q170 : (Jvm.Cond.privateMethod ({ cls := "PowerFailCore", name := "moveCell", desc := "(II)V" } : Jvm.MethodName)) ∈ lw_tbl := lw_at lw_m1 149 rfl
theorem q171 : (Jvm.Cond.instanceMethod ({ cls := "PowerFailCore", name := "moveCell", desc := "(II)V" } : Jvm.MethodName)) ∈ lw_all := lw_g (lw_at lw_m1 150 rfl) rfl
theorem q172 : (Jvm.Cond.code ({ cls := "PowerFailCore", name := "moveCell", desc := "(II)V" } : Jvm.MethodName) prog_1_method_24_code (5 : Nat) (Option.none : Option Jvm.ClassFile.FieldType)) ∈ lw_all := lw_g (lw_at lw_m1 151 rfl) rfl
theorem q173 : (Jvm.Cond.methodLink "PowerFailCore" (124 : Nat) ({ cls := "PowerFailCore", name := "compute", desc := "(II)V" } : Jvm.MethodName)) ∈ lw_all := lw_g (lw_at lw_m1 152 rfl) rfl
theorem q174 : (Jvm.Cond.privateMethod ({ cls := "PowerFailCore", name := "compute", desc := "(II)V" } : Jvm.MethodName)) ∈ lw_tbl := lw_at lw_m1 153 rfl
theorem q175 : (Jvm.Cond.instanceMethod ({ cls := "PowerFailCore", name := "compute", desc := "(II)V" } : Jvm.MethodName)) ∈ lw_all := lw_g (lw_at lw_m1 154 rfl) rfl
theorem q176 : (Jvm.Cond.code ({ cls := "PowerFailCore", name := "compute", desc := "(II)V" } : Jvm.MethodName) prog_1_method_23_code (6 : Nat) (Option.none : Option Jvm.ClassFile.FieldType)) ∈ lw_all := lw_g (lw_at lw_m1 155 rfl) rfl
theorem q178 : (Jvm.Cond.instanceMethod ({ cls := "PowerFailCore", name := "cell", desc := "(I)I" } : Jvm.MethodName)) ∈ lw_all := lw_g (lw_at lw_m1 157 rfl) rfl
theorem q179 : (Jvm.Cond.selects "PowerFailCore" ({ cls := "PowerFailCore", name := "cell", desc := "(I)I" } : Jvm.MethodName) ({ cls := "PowerFailCore", name := "cell", desc := "(I)I" } : Jvm.MethodName)) ∈ lw_all := lw_g (lw_at lw_m1 158 rfl) rfl
theorem q180 : (Jvm.Cond.code ({ cls := "PowerFailCore", name := "cell", desc := "(I)I" } : Jvm.MethodName) prog_1_method_9_code (2 : Nat) (Option.some Jvm.ClassFile.FieldType.int)) ∈ lw_all := lw_g (lw_at lw_m1 159 rfl) rfl
theorem q182 : (Jvm.Cond.instanceMethod ({ cls := "PowerFailCore", name := "register", desc := "(I)I" } : Jvm.MethodName)) ∈ lw_all := lw_g (lw_at lw_m1 161 rfl) rfl
theorem q183 : (Jvm.Cond.selects "PowerFailCore" ({ cls := "PowerFailCore", name := "register", desc := "(I)I" } : Jvm.MethodName) ({ cls := "PowerFailCore", name := "register", desc := "(I)I" } : Jvm.MethodName)) ∈ lw_all := lw_g (lw_at lw_m1 162 rfl) rfl
theorem q184 : (Jvm.Cond.code ({ cls := "PowerFailCore", name := "register", desc := "(I)I" } : Jvm.MethodName) prog_1_method_10_code (2 : Nat) (Option.some Jvm.ClassFile.FieldType.int)) ∈ lw_all := lw_g (lw_at lw_m1 163 rfl) rfl
theorem q186 : (Jvm.Cond.instanceMethod ({ cls := "PowerFailCore", name := "clear", desc := "()V" } : Jvm.MethodName)) ∈ lw_all := lw_g (lw_at lw_m1 165 rfl) rfl
theorem q187 : (Jvm.Cond.selects "PowerFailCore" ({ cls := "PowerFailCore", name := "clear", desc := "()V" } : Jvm.MethodName) ({ cls := "PowerFailCore", name := "clear", desc := "()V" } : Jvm.MethodName)) ∈ lw_all := lw_g (lw_at lw_m1 166 rfl) rfl
theorem q188 : (Jvm.Cond.code ({ cls := "PowerFailCore", name := "clear", desc := "()V" } : Jvm.MethodName) prog_1_method_11_code (2 : Nat) (Option.none : Option Jvm.ClassFile.FieldType)) ∈ lw_all := lw_g (lw_at lw_m1 167 rfl) rfl
theorem in_X0 : ∀ w ∈ wsX00, w ∈ lw_all := lw_in wsX00 [51, 53, 55, 57, 59, 61, 63, 65, 67, 69, 71, 73, 75, 77, 79, 81, 83, 85, 87] (by decide +kernel) (by decide +kernel)
end
section
/-! PowerFailCoreModel -/
set_option maxRecDepth 100000
def RX1 : String := "PowerFailCoreModel"
def TX1 : u_T := fun k => match k with
  | 0 => ("PowerFailCoreModel", "n", "I", false)
  | 1 => ("PowerFailCoreModel", "op", "[I", false)
  | 2 => ("PowerFailCoreModel", "ax", "[I", false)
  | 3 => ("PowerFailCoreModel", "ay", "[I", false)
  | 4 => ("PowerFailCoreModel", "az", "[I", false)
  | 5 => ("PowerFailCoreModel", "cells", "[I", false)
  | 6 => ("PowerFailCoreModel", "regs", "[I", false)
  | _ => ("PowerFailCoreModel", "left", "[I", false)
def tyX1 : Nat → FieldType := fun k => match k with
  | 0 => .int
  | 1 => .array .int
  | 2 => .array .int
  | 3 => .array .int
  | 4 => .array .int
  | 5 => .array .int
  | 6 => .array .int
  | _ => .array .int
abbrev wsX10 : List Cond := u_ws RX1 TX1 8
theorem nmX1 : ∀ a, a < 8 → ∀ b, b < 8 → a ≠ b → (TX1 a).2.1 ≠ (TX1 b).2.1 := by decide +kernel
theorem tyX1_ok : ∀ k, k < 8 → parseFieldDescriptor (TX1 k).2.2.1 = some (tyX1 k) := by decide +kernel
abbrev cX1_init : ByteArray := prog_3_method_1_code
def yX1_init : MethodName := ⟨RX1, "<init>", "()V"⟩
theorem dX1_init_0 : decode cX1_init 0 = .ok (.aload_n 0, 1) := by decide +kernel
theorem dX1_init_1 : decode cX1_init 1 = .ok (.invokespecial 1, 3) := by decide +kernel
theorem dX1_init_4 : decode cX1_init 4 = .ok (.aload_n 0, 1) := by decide +kernel
theorem dX1_init_5 : decode cX1_init 5 = .ok (.iconst 0, 1) := by decide +kernel
theorem dX1_init_6 : decode cX1_init 6 = .ok (.putfield 7, 3) := by decide +kernel
theorem dX1_init_9 : decode cX1_init 9 = .ok (.aload_n 0, 1) := by decide +kernel
theorem dX1_init_10 : decode cX1_init 10 = .ok (.bipush 30, 2) := by decide +kernel
theorem dX1_init_12 : decode cX1_init 12 = .ok (.newarray .int, 2) := by decide +kernel
theorem dX1_init_14 : decode cX1_init 14 = .ok (.putfield 13, 3) := by decide +kernel
theorem dX1_init_17 : decode cX1_init 17 = .ok (.aload_n 0, 1) := by decide +kernel
theorem dX1_init_18 : decode cX1_init 18 = .ok (.bipush 30, 2) := by decide +kernel
theorem dX1_init_20 : decode cX1_init 20 = .ok (.newarray .int, 2) := by decide +kernel
theorem dX1_init_22 : decode cX1_init 22 = .ok (.putfield 17, 3) := by decide +kernel
theorem dX1_init_25 : decode cX1_init 25 = .ok (.aload_n 0, 1) := by decide +kernel
theorem dX1_init_26 : decode cX1_init 26 = .ok (.bipush 30, 2) := by decide +kernel
theorem dX1_init_28 : decode cX1_init 28 = .ok (.newarray .int, 2) := by decide +kernel
theorem dX1_init_30 : decode cX1_init 30 = .ok (.putfield 20, 3) := by decide +kernel
theorem dX1_init_33 : decode cX1_init 33 = .ok (.aload_n 0, 1) := by decide +kernel
theorem dX1_init_34 : decode cX1_init 34 = .ok (.bipush 30, 2) := by decide +kernel
theorem dX1_init_36 : decode cX1_init 36 = .ok (.newarray .int, 2) := by decide +kernel
theorem dX1_init_38 : decode cX1_init 38 = .ok (.putfield 23, 3) := by decide +kernel
theorem dX1_init_41 : decode cX1_init 41 = .ok (.aload_n 0, 1) := by decide +kernel
theorem dX1_init_42 : decode cX1_init 42 = .ok (.bipush 12, 2) := by decide +kernel
theorem dX1_init_44 : decode cX1_init 44 = .ok (.newarray .int, 2) := by decide +kernel
theorem dX1_init_46 : decode cX1_init 46 = .ok (.putfield 26, 3) := by decide +kernel
theorem dX1_init_49 : decode cX1_init 49 = .ok (.aload_n 0, 1) := by decide +kernel
theorem dX1_init_50 : decode cX1_init 50 = .ok (.iconst 4, 1) := by decide +kernel
theorem dX1_init_51 : decode cX1_init 51 = .ok (.newarray .int, 2) := by decide +kernel
theorem dX1_init_53 : decode cX1_init 53 = .ok (.putfield 29, 3) := by decide +kernel
theorem dX1_init_56 : decode cX1_init 56 = .ok (.aload_n 0, 1) := by decide +kernel
theorem dX1_init_57 : decode cX1_init 57 = .ok (.bipush 30, 2) := by decide +kernel
theorem dX1_init_59 : decode cX1_init 59 = .ok (.newarray .int, 2) := by decide +kernel
theorem dX1_init_61 : decode cX1_init 61 = .ok (.putfield 32, 3) := by decide +kernel
theorem dX1_init_64 : decode cX1_init 64 = .ok (.return_, 1) := by decide +kernel
abbrev cX1_emit : ByteArray := prog_3_method_4_code
def yX1_emit : MethodName := ⟨RX1, "emit", "(IIII)I"⟩
theorem dX1_emit_0 : decode cX1_emit 0 = .ok (.aload_n 0, 1) := by decide +kernel
theorem dX1_emit_1 : decode cX1_emit 1 = .ok (.getfield 7, 3) := by decide +kernel
theorem dX1_emit_4 : decode cX1_emit 4 = .ok (.bipush 30, 2) := by decide +kernel
theorem dX1_emit_6 : decode cX1_emit 6 = .ok (.if_icmp .ne 6, 3) := by decide +kernel
theorem dX1_emit_9 : decode cX1_emit 9 = .ok (.bipush (-2), 2) := by decide +kernel
theorem dX1_emit_11 : decode cX1_emit 11 = .ok (.ireturn, 1) := by decide +kernel
theorem dX1_emit_12 : decode cX1_emit 12 = .ok (.aload_n 0, 1) := by decide +kernel
theorem dX1_emit_13 : decode cX1_emit 13 = .ok (.iload_n 1, 1) := by decide +kernel
theorem dX1_emit_14 : decode cX1_emit 14 = .ok (.iload_n 2, 1) := by decide +kernel
theorem dX1_emit_15 : decode cX1_emit 15 = .ok (.iload_n 3, 1) := by decide +kernel
theorem dX1_emit_16 : decode cX1_emit 16 = .ok (.iload 4, 2) := by decide +kernel
theorem dX1_emit_18 : decode cX1_emit 18 = .ok (.invokevirtual 39, 3) := by decide +kernel
theorem dX1_emit_21 : decode cX1_emit 21 = .ok (.ifCond .ne 5, 3) := by decide +kernel
theorem dX1_emit_24 : decode cX1_emit 24 = .ok (.iconst (-1), 1) := by decide +kernel
theorem dX1_emit_25 : decode cX1_emit 25 = .ok (.ireturn, 1) := by decide +kernel
theorem dX1_emit_26 : decode cX1_emit 26 = .ok (.aload_n 0, 1) := by decide +kernel
theorem dX1_emit_27 : decode cX1_emit 27 = .ok (.getfield 13, 3) := by decide +kernel
theorem dX1_emit_30 : decode cX1_emit 30 = .ok (.aload_n 0, 1) := by decide +kernel
theorem dX1_emit_31 : decode cX1_emit 31 = .ok (.getfield 7, 3) := by decide +kernel
theorem dX1_emit_34 : decode cX1_emit 34 = .ok (.iload_n 1, 1) := by decide +kernel
theorem dX1_emit_35 : decode cX1_emit 35 = .ok (.iastore, 1) := by decide +kernel
theorem dX1_emit_36 : decode cX1_emit 36 = .ok (.aload_n 0, 1) := by decide +kernel
theorem dX1_emit_37 : decode cX1_emit 37 = .ok (.getfield 17, 3) := by decide +kernel
theorem dX1_emit_40 : decode cX1_emit 40 = .ok (.aload_n 0, 1) := by decide +kernel
theorem dX1_emit_41 : decode cX1_emit 41 = .ok (.getfield 7, 3) := by decide +kernel
theorem dX1_emit_44 : decode cX1_emit 44 = .ok (.iload_n 2, 1) := by decide +kernel
theorem dX1_emit_45 : decode cX1_emit 45 = .ok (.iastore, 1) := by decide +kernel
theorem dX1_emit_46 : decode cX1_emit 46 = .ok (.aload_n 0, 1) := by decide +kernel
theorem dX1_emit_47 : decode cX1_emit 47 = .ok (.getfield 20, 3) := by decide +kernel
theorem dX1_emit_50 : decode cX1_emit 50 = .ok (.aload_n 0, 1) := by decide +kernel
theorem dX1_emit_51 : decode cX1_emit 51 = .ok (.getfield 7, 3) := by decide +kernel
theorem dX1_emit_54 : decode cX1_emit 54 = .ok (.iload_n 3, 1) := by decide +kernel
theorem dX1_emit_55 : decode cX1_emit 55 = .ok (.iastore, 1) := by decide +kernel
theorem dX1_emit_56 : decode cX1_emit 56 = .ok (.aload_n 0, 1) := by decide +kernel
theorem dX1_emit_57 : decode cX1_emit 57 = .ok (.getfield 23, 3) := by decide +kernel
theorem dX1_emit_60 : decode cX1_emit 60 = .ok (.aload_n 0, 1) := by decide +kernel
theorem dX1_emit_61 : decode cX1_emit 61 = .ok (.getfield 7, 3) := by decide +kernel
theorem dX1_emit_64 : decode cX1_emit 64 = .ok (.iload 4, 2) := by decide +kernel
theorem dX1_emit_66 : decode cX1_emit 66 = .ok (.iastore, 1) := by decide +kernel
theorem dX1_emit_67 : decode cX1_emit 67 = .ok (.aload_n 0, 1) := by decide +kernel
theorem dX1_emit_68 : decode cX1_emit 68 = .ok (.dup, 1) := by decide +kernel
theorem dX1_emit_69 : decode cX1_emit 69 = .ok (.getfield 7, 3) := by decide +kernel
theorem dX1_emit_72 : decode cX1_emit 72 = .ok (.iconst 1, 1) := by decide +kernel
theorem dX1_emit_73 : decode cX1_emit 73 = .ok (.iadd, 1) := by decide +kernel
theorem dX1_emit_74 : decode cX1_emit 74 = .ok (.putfield 7, 3) := by decide +kernel
theorem dX1_emit_77 : decode cX1_emit 77 = .ok (.aload_n 0, 1) := by decide +kernel
theorem dX1_emit_78 : decode cX1_emit 78 = .ok (.getfield 7, 3) := by decide +kernel
theorem dX1_emit_81 : decode cX1_emit 81 = .ok (.ireturn, 1) := by decide +kernel
abbrev cX1_fits : ByteArray := prog_3_method_3_code
def yX1_fits : MethodName := ⟨RX1, "fits", "(IIII)Z"⟩
theorem dX1_fits_0 : decode cX1_fits 0 = .ok (.iload_n 1, 1) := by decide +kernel
theorem dX1_fits_1 : decode cX1_fits 1 = .ok (.ifCond .lt 9, 3) := by decide +kernel
theorem dX1_fits_4 : decode cX1_fits 4 = .ok (.iload_n 1, 1) := by decide +kernel
theorem dX1_fits_5 : decode cX1_fits 5 = .ok (.bipush 10, 2) := by decide +kernel
theorem dX1_fits_7 : decode cX1_fits 7 = .ok (.if_icmp .le 5, 3) := by decide +kernel
theorem dX1_fits_10 : decode cX1_fits 10 = .ok (.iconst 0, 1) := by decide +kernel
theorem dX1_fits_11 : decode cX1_fits 11 = .ok (.ireturn, 1) := by decide +kernel
theorem dX1_fits_12 : decode cX1_fits 12 = .ok (.iload_n 1, 1) := by decide +kernel
theorem dX1_fits_13 : decode cX1_fits 13 = .ok (.bipush 10, 2) := by decide +kernel
theorem dX1_fits_15 : decode cX1_fits 15 = .ok (.if_icmp .ne 5, 3) := by decide +kernel
theorem dX1_fits_18 : decode cX1_fits 18 = .ok (.iconst 1, 1) := by decide +kernel
theorem dX1_fits_19 : decode cX1_fits 19 = .ok (.ireturn, 1) := by decide +kernel
theorem dX1_fits_20 : decode cX1_fits 20 = .ok (.iload_n 1, 1) := by decide +kernel
theorem dX1_fits_21 : decode cX1_fits 21 = .ok (.bipush 9, 2) := by decide +kernel
theorem dX1_fits_23 : decode cX1_fits 23 = .ok (.if_icmp .ne 20, 3) := by decide +kernel
theorem dX1_fits_26 : decode cX1_fits 26 = .ok (.iload_n 2, 1) := by decide +kernel
theorem dX1_fits_27 : decode cX1_fits 27 = .ok (.iconst 1, 1) := by decide +kernel
theorem dX1_fits_28 : decode cX1_fits 28 = .ok (.if_icmp .lt 13, 3) := by decide +kernel
theorem dX1_fits_31 : decode cX1_fits 31 = .ok (.iload_n 2, 1) := by decide +kernel
theorem dX1_fits_32 : decode cX1_fits 32 = .ok (.bipush 6, 2) := by decide +kernel
theorem dX1_fits_34 : decode cX1_fits 34 = .ok (.if_icmp .gt 7, 3) := by decide +kernel
theorem dX1_fits_37 : decode cX1_fits 37 = .ok (.iconst 1, 1) := by decide +kernel
theorem dX1_fits_38 : decode cX1_fits 38 = .ok (.goto 4, 3) := by decide +kernel
theorem dX1_fits_41 : decode cX1_fits 41 = .ok (.iconst 0, 1) := by decide +kernel
theorem dX1_fits_42 : decode cX1_fits 42 = .ok (.ireturn, 1) := by decide +kernel
theorem dX1_fits_43 : decode cX1_fits 43 = .ok (.aload_n 0, 1) := by decide +kernel
theorem dX1_fits_44 : decode cX1_fits 44 = .ok (.iload_n 2, 1) := by decide +kernel
theorem dX1_fits_45 : decode cX1_fits 45 = .ok (.iconst 3, 1) := by decide +kernel
theorem dX1_fits_46 : decode cX1_fits 46 = .ok (.invokevirtual 35, 3) := by decide +kernel
theorem dX1_fits_49 : decode cX1_fits 49 = .ok (.ifCond .ne 5, 3) := by decide +kernel
theorem dX1_fits_52 : decode cX1_fits 52 = .ok (.iconst 0, 1) := by decide +kernel
theorem dX1_fits_53 : decode cX1_fits 53 = .ok (.ireturn, 1) := by decide +kernel
theorem dX1_fits_54 : decode cX1_fits 54 = .ok (.iload_n 1, 1) := by decide +kernel
theorem dX1_fits_55 : decode cX1_fits 55 = .ok (.iconst 1, 1) := by decide +kernel
theorem dX1_fits_56 : decode cX1_fits 56 = .ok (.if_icmp .lt 33, 3) := by decide +kernel
theorem dX1_fits_59 : decode cX1_fits 59 = .ok (.iload_n 1, 1) := by decide +kernel
theorem dX1_fits_60 : decode cX1_fits 60 = .ok (.iconst 3, 1) := by decide +kernel
theorem dX1_fits_61 : decode cX1_fits 61 = .ok (.if_icmp .gt 28, 3) := by decide +kernel
theorem dX1_fits_64 : decode cX1_fits 64 = .ok (.aload_n 0, 1) := by decide +kernel
theorem dX1_fits_65 : decode cX1_fits 65 = .ok (.iload_n 3, 1) := by decide +kernel
theorem dX1_fits_66 : decode cX1_fits 66 = .ok (.iconst 3, 1) := by decide +kernel
theorem dX1_fits_67 : decode cX1_fits 67 = .ok (.invokevirtual 35, 3) := by decide +kernel
theorem dX1_fits_70 : decode cX1_fits 70 = .ok (.ifCond .eq 17, 3) := by decide +kernel
theorem dX1_fits_73 : decode cX1_fits 73 = .ok (.aload_n 0, 1) := by decide +kernel
theorem dX1_fits_74 : decode cX1_fits 74 = .ok (.iload 4, 2) := by decide +kernel
theorem dX1_fits_76 : decode cX1_fits 76 = .ok (.iconst 3, 1) := by decide +kernel
theorem dX1_fits_77 : decode cX1_fits 77 = .ok (.invokevirtual 35, 3) := by decide +kernel
theorem dX1_fits_80 : decode cX1_fits 80 = .ok (.ifCond .eq 7, 3) := by decide +kernel
theorem dX1_fits_83 : decode cX1_fits 83 = .ok (.iconst 1, 1) := by decide +kernel
theorem dX1_fits_84 : decode cX1_fits 84 = .ok (.goto 4, 3) := by decide +kernel
theorem dX1_fits_87 : decode cX1_fits 87 = .ok (.iconst 0, 1) := by decide +kernel
theorem dX1_fits_88 : decode cX1_fits 88 = .ok (.ireturn, 1) := by decide +kernel
theorem dX1_fits_89 : decode cX1_fits 89 = .ok (.iload_n 1, 1) := by decide +kernel
theorem dX1_fits_90 : decode cX1_fits 90 = .ok (.iconst 4, 1) := by decide +kernel
theorem dX1_fits_91 : decode cX1_fits 91 = .ok (.if_icmp .eq 8, 3) := by decide +kernel
theorem dX1_fits_94 : decode cX1_fits 94 = .ok (.iload_n 1, 1) := by decide +kernel
theorem dX1_fits_95 : decode cX1_fits 95 = .ok (.iconst 5, 1) := by decide +kernel
theorem dX1_fits_96 : decode cX1_fits 96 = .ok (.if_icmp .ne 11, 3) := by decide +kernel
theorem dX1_fits_99 : decode cX1_fits 99 = .ok (.aload_n 0, 1) := by decide +kernel
theorem dX1_fits_100 : decode cX1_fits 100 = .ok (.iload_n 3, 1) := by decide +kernel
theorem dX1_fits_101 : decode cX1_fits 101 = .ok (.bipush 11, 2) := by decide +kernel
theorem dX1_fits_103 : decode cX1_fits 103 = .ok (.invokevirtual 35, 3) := by decide +kernel
theorem dX1_fits_106 : decode cX1_fits 106 = .ok (.ireturn, 1) := by decide +kernel
theorem dX1_fits_107 : decode cX1_fits 107 = .ok (.iload_n 1, 1) := by decide +kernel
theorem dX1_fits_108 : decode cX1_fits 108 = .ok (.bipush 6, 2) := by decide +kernel
theorem dX1_fits_110 : decode cX1_fits 110 = .ok (.if_icmp .eq 9, 3) := by decide +kernel
theorem dX1_fits_113 : decode cX1_fits 113 = .ok (.iload_n 1, 1) := by decide +kernel
theorem dX1_fits_114 : decode cX1_fits 114 = .ok (.bipush 7, 2) := by decide +kernel
theorem dX1_fits_116 : decode cX1_fits 116 = .ok (.if_icmp .ne 10, 3) := by decide +kernel
theorem dX1_fits_119 : decode cX1_fits 119 = .ok (.aload_n 0, 1) := by decide +kernel
theorem dX1_fits_120 : decode cX1_fits 120 = .ok (.iload_n 3, 1) := by decide +kernel
theorem dX1_fits_121 : decode cX1_fits 121 = .ok (.iconst 3, 1) := by decide +kernel
theorem dX1_fits_122 : decode cX1_fits 122 = .ok (.invokevirtual 35, 3) := by decide +kernel
theorem dX1_fits_125 : decode cX1_fits 125 = .ok (.ireturn, 1) := by decide +kernel
theorem dX1_fits_126 : decode cX1_fits 126 = .ok (.iload_n 1, 1) := by decide +kernel
theorem dX1_fits_127 : decode cX1_fits 127 = .ok (.bipush 8, 2) := by decide +kernel
theorem dX1_fits_129 : decode cX1_fits 129 = .ok (.if_icmp .ne 14, 3) := by decide +kernel
theorem dX1_fits_132 : decode cX1_fits 132 = .ok (.iload_n 3, 1) := by decide +kernel
theorem dX1_fits_133 : decode cX1_fits 133 = .ok (.iconst 1, 1) := by decide +kernel
theorem dX1_fits_134 : decode cX1_fits 134 = .ok (.if_icmp .lt 13, 3) := by decide +kernel
theorem dX1_fits_137 : decode cX1_fits 137 = .ok (.iload_n 3, 1) := by decide +kernel
theorem dX1_fits_138 : decode cX1_fits 138 = .ok (.bipush 6, 2) := by decide +kernel
theorem dX1_fits_140 : decode cX1_fits 140 = .ok (.if_icmp .gt 7, 3) := by decide +kernel
theorem dX1_fits_143 : decode cX1_fits 143 = .ok (.iconst 1, 1) := by decide +kernel
theorem dX1_fits_144 : decode cX1_fits 144 = .ok (.goto 4, 3) := by decide +kernel
theorem dX1_fits_147 : decode cX1_fits 147 = .ok (.iconst 0, 1) := by decide +kernel
theorem dX1_fits_148 : decode cX1_fits 148 = .ok (.ireturn, 1) := by decide +kernel
abbrev cX1_in : ByteArray := prog_3_method_2_code
def yX1_in : MethodName := ⟨RX1, "in", "(II)Z"⟩
theorem dX1_in_0 : decode cX1_in 0 = .ok (.iload_n 1, 1) := by decide +kernel
theorem dX1_in_1 : decode cX1_in 1 = .ok (.ifCond .lt 12, 3) := by decide +kernel
theorem dX1_in_4 : decode cX1_in 4 = .ok (.iload_n 1, 1) := by decide +kernel
theorem dX1_in_5 : decode cX1_in 5 = .ok (.iload_n 2, 1) := by decide +kernel
theorem dX1_in_6 : decode cX1_in 6 = .ok (.if_icmp .gt 7, 3) := by decide +kernel
theorem dX1_in_9 : decode cX1_in 9 = .ok (.iconst 1, 1) := by decide +kernel
theorem dX1_in_10 : decode cX1_in 10 = .ok (.goto 4, 3) := by decide +kernel
theorem dX1_in_13 : decode cX1_in 13 = .ok (.iconst 0, 1) := by decide +kernel
theorem dX1_in_14 : decode cX1_in 14 = .ok (.ireturn, 1) := by decide +kernel
abbrev cX1_retract : ByteArray := prog_3_method_5_code
def yX1_retract : MethodName := ⟨RX1, "retract", "()I"⟩
theorem dX1_retract_0 : decode cX1_retract 0 = .ok (.aload_n 0, 1) := by decide +kernel
theorem dX1_retract_1 : decode cX1_retract 1 = .ok (.getfield 7, 3) := by decide +kernel
theorem dX1_retract_4 : decode cX1_retract 4 = .ok (.ifCond .ne 5, 3) := by decide +kernel
theorem dX1_retract_7 : decode cX1_retract 7 = .ok (.iconst (-1), 1) := by decide +kernel
theorem dX1_retract_8 : decode cX1_retract 8 = .ok (.ireturn, 1) := by decide +kernel
theorem dX1_retract_9 : decode cX1_retract 9 = .ok (.aload_n 0, 1) := by decide +kernel
theorem dX1_retract_10 : decode cX1_retract 10 = .ok (.dup, 1) := by decide +kernel
theorem dX1_retract_11 : decode cX1_retract 11 = .ok (.getfield 7, 3) := by decide +kernel
theorem dX1_retract_14 : decode cX1_retract 14 = .ok (.iconst 1, 1) := by decide +kernel
theorem dX1_retract_15 : decode cX1_retract 15 = .ok (.isub, 1) := by decide +kernel
theorem dX1_retract_16 : decode cX1_retract 16 = .ok (.putfield 7, 3) := by decide +kernel
theorem dX1_retract_19 : decode cX1_retract 19 = .ok (.aload_n 0, 1) := by decide +kernel
theorem dX1_retract_20 : decode cX1_retract 20 = .ok (.getfield 7, 3) := by decide +kernel
theorem dX1_retract_23 : decode cX1_retract 23 = .ok (.ireturn, 1) := by decide +kernel
abbrev cX1_sound : ByteArray := prog_3_method_7_code
def yX1_sound : MethodName := ⟨RX1, "sound", "()Z"⟩
theorem dX1_sound_0 : decode cX1_sound 0 = .ok (.iconst 0, 1) := by decide +kernel
theorem dX1_sound_1 : decode cX1_sound 1 = .ok (.istore_n 1, 1) := by decide +kernel
theorem dX1_sound_2 : decode cX1_sound 2 = .ok (.iconst 0, 1) := by decide +kernel
theorem dX1_sound_3 : decode cX1_sound 3 = .ok (.istore_n 2, 1) := by decide +kernel
theorem dX1_sound_4 : decode cX1_sound 4 = .ok (.iload_n 2, 1) := by decide +kernel
theorem dX1_sound_5 : decode cX1_sound 5 = .ok (.aload_n 0, 1) := by decide +kernel
theorem dX1_sound_6 : decode cX1_sound 6 = .ok (.getfield 7, 3) := by decide +kernel
theorem dX1_sound_9 : decode cX1_sound 9 = .ok (.if_icmp .ge 69, 3) := by decide +kernel
theorem dX1_sound_12 : decode cX1_sound 12 = .ok (.aload_n 0, 1) := by decide +kernel
theorem dX1_sound_13 : decode cX1_sound 13 = .ok (.getfield 13, 3) := by decide +kernel
theorem dX1_sound_16 : decode cX1_sound 16 = .ok (.iload_n 2, 1) := by decide +kernel
theorem dX1_sound_17 : decode cX1_sound 17 = .ok (.iaload, 1) := by decide +kernel
theorem dX1_sound_18 : decode cX1_sound 18 = .ok (.bipush 9, 2) := by decide +kernel
theorem dX1_sound_20 : decode cX1_sound 20 = .ok (.if_icmp .ne 6, 3) := by decide +kernel
theorem dX1_sound_23 : decode cX1_sound 23 = .ok (.iinc 1 1, 3) := by decide +kernel
theorem dX1_sound_26 : decode cX1_sound 26 = .ok (.aload_n 0, 1) := by decide +kernel
theorem dX1_sound_27 : decode cX1_sound 27 = .ok (.getfield 13, 3) := by decide +kernel
theorem dX1_sound_30 : decode cX1_sound 30 = .ok (.iload_n 2, 1) := by decide +kernel
theorem dX1_sound_31 : decode cX1_sound 31 = .ok (.iaload, 1) := by decide +kernel
theorem dX1_sound_32 : decode cX1_sound 32 = .ok (.bipush 10, 2) := by decide +kernel
theorem dX1_sound_34 : decode cX1_sound 34 = .ok (.if_icmp .ne 6, 3) := by decide +kernel
theorem dX1_sound_37 : decode cX1_sound 37 = .ok (.iinc 1 (-1), 3) := by decide +kernel
theorem dX1_sound_40 : decode cX1_sound 40 = .ok (.iload_n 1, 1) := by decide +kernel
theorem dX1_sound_41 : decode cX1_sound 41 = .ok (.ifCond .lt 8, 3) := by decide +kernel
theorem dX1_sound_44 : decode cX1_sound 44 = .ok (.iload_n 1, 1) := by decide +kernel
theorem dX1_sound_45 : decode cX1_sound 45 = .ok (.iconst 2, 1) := by decide +kernel
theorem dX1_sound_46 : decode cX1_sound 46 = .ok (.if_icmp .le 5, 3) := by decide +kernel
theorem dX1_sound_49 : decode cX1_sound 49 = .ok (.iconst 0, 1) := by decide +kernel
theorem dX1_sound_50 : decode cX1_sound 50 = .ok (.ireturn, 1) := by decide +kernel
theorem dX1_sound_51 : decode cX1_sound 51 = .ok (.aload_n 0, 1) := by decide +kernel
theorem dX1_sound_52 : decode cX1_sound 52 = .ok (.getfield 13, 3) := by decide +kernel
theorem dX1_sound_55 : decode cX1_sound 55 = .ok (.iload_n 2, 1) := by decide +kernel
theorem dX1_sound_56 : decode cX1_sound 56 = .ok (.iaload, 1) := by decide +kernel
theorem dX1_sound_57 : decode cX1_sound 57 = .ok (.bipush 8, 2) := by decide +kernel
theorem dX1_sound_59 : decode cX1_sound 59 = .ok (.if_icmp .ne 13, 3) := by decide +kernel
theorem dX1_sound_62 : decode cX1_sound 62 = .ok (.aload_n 0, 1) := by decide +kernel
theorem dX1_sound_63 : decode cX1_sound 63 = .ok (.iload_n 2, 1) := by decide +kernel
theorem dX1_sound_64 : decode cX1_sound 64 = .ok (.invokevirtual 43, 3) := by decide +kernel
theorem dX1_sound_67 : decode cX1_sound 67 = .ok (.ifCond .ne 5, 3) := by decide +kernel
theorem dX1_sound_70 : decode cX1_sound 70 = .ok (.iconst 0, 1) := by decide +kernel
theorem dX1_sound_71 : decode cX1_sound 71 = .ok (.ireturn, 1) := by decide +kernel
theorem dX1_sound_72 : decode cX1_sound 72 = .ok (.iinc 2 1, 3) := by decide +kernel
theorem dX1_sound_75 : decode cX1_sound 75 = .ok (.goto (-71), 3) := by decide +kernel
theorem dX1_sound_78 : decode cX1_sound 78 = .ok (.iload_n 1, 1) := by decide +kernel
theorem dX1_sound_79 : decode cX1_sound 79 = .ok (.ifCond .ne 7, 3) := by decide +kernel
theorem dX1_sound_82 : decode cX1_sound 82 = .ok (.iconst 1, 1) := by decide +kernel
theorem dX1_sound_83 : decode cX1_sound 83 = .ok (.goto 4, 3) := by decide +kernel
theorem dX1_sound_86 : decode cX1_sound 86 = .ok (.iconst 0, 1) := by decide +kernel
theorem dX1_sound_87 : decode cX1_sound 87 = .ok (.ireturn, 1) := by decide +kernel
abbrev cX1_skipFits : ByteArray := prog_3_method_6_code
def yX1_skipFits : MethodName := ⟨RX1, "skipFits", "(I)Z"⟩
theorem dX1_skipFits_0 : decode cX1_skipFits 0 = .ok (.iload_n 1, 1) := by decide +kernel
theorem dX1_skipFits_1 : decode cX1_skipFits 1 = .ok (.aload_n 0, 1) := by decide +kernel
theorem dX1_skipFits_2 : decode cX1_skipFits 2 = .ok (.getfield 20, 3) := by decide +kernel
theorem dX1_skipFits_5 : decode cX1_skipFits 5 = .ok (.iload_n 1, 1) := by decide +kernel
theorem dX1_skipFits_6 : decode cX1_skipFits 6 = .ok (.iaload, 1) := by decide +kernel
theorem dX1_skipFits_7 : decode cX1_skipFits 7 = .ok (.iadd, 1) := by decide +kernel
theorem dX1_skipFits_8 : decode cX1_skipFits 8 = .ok (.aload_n 0, 1) := by decide +kernel
theorem dX1_skipFits_9 : decode cX1_skipFits 9 = .ok (.getfield 7, 3) := by decide +kernel
theorem dX1_skipFits_12 : decode cX1_skipFits 12 = .ok (.if_icmp .lt 5, 3) := by decide +kernel
theorem dX1_skipFits_15 : decode cX1_skipFits 15 = .ok (.iconst 0, 1) := by decide +kernel
theorem dX1_skipFits_16 : decode cX1_skipFits 16 = .ok (.ireturn, 1) := by decide +kernel
theorem dX1_skipFits_17 : decode cX1_skipFits 17 = .ok (.iload_n 1, 1) := by decide +kernel
theorem dX1_skipFits_18 : decode cX1_skipFits 18 = .ok (.iconst 1, 1) := by decide +kernel
theorem dX1_skipFits_19 : decode cX1_skipFits 19 = .ok (.iadd, 1) := by decide +kernel
theorem dX1_skipFits_20 : decode cX1_skipFits 20 = .ok (.istore_n 2, 1) := by decide +kernel
theorem dX1_skipFits_21 : decode cX1_skipFits 21 = .ok (.iload_n 2, 1) := by decide +kernel
theorem dX1_skipFits_22 : decode cX1_skipFits 22 = .ok (.iload_n 1, 1) := by decide +kernel
theorem dX1_skipFits_23 : decode cX1_skipFits 23 = .ok (.aload_n 0, 1) := by decide +kernel
theorem dX1_skipFits_24 : decode cX1_skipFits 24 = .ok (.getfield 20, 3) := by decide +kernel
theorem dX1_skipFits_27 : decode cX1_skipFits 27 = .ok (.iload_n 1, 1) := by decide +kernel
theorem dX1_skipFits_28 : decode cX1_skipFits 28 = .ok (.iaload, 1) := by decide +kernel
theorem dX1_skipFits_29 : decode cX1_skipFits 29 = .ok (.iadd, 1) := by decide +kernel
theorem dX1_skipFits_30 : decode cX1_skipFits 30 = .ok (.if_icmp .gt 22, 3) := by decide +kernel
theorem dX1_skipFits_33 : decode cX1_skipFits 33 = .ok (.aload_n 0, 1) := by decide +kernel
theorem dX1_skipFits_34 : decode cX1_skipFits 34 = .ok (.getfield 13, 3) := by decide +kernel
theorem dX1_skipFits_37 : decode cX1_skipFits 37 = .ok (.iload_n 2, 1) := by decide +kernel
theorem dX1_skipFits_38 : decode cX1_skipFits 38 = .ok (.iaload, 1) := by decide +kernel
theorem dX1_skipFits_39 : decode cX1_skipFits 39 = .ok (.bipush 9, 2) := by decide +kernel
theorem dX1_skipFits_41 : decode cX1_skipFits 41 = .ok (.if_icmp .lt 5, 3) := by decide +kernel
theorem dX1_skipFits_44 : decode cX1_skipFits 44 = .ok (.iconst 0, 1) := by decide +kernel
theorem dX1_skipFits_45 : decode cX1_skipFits 45 = .ok (.ireturn, 1) := by decide +kernel
theorem dX1_skipFits_46 : decode cX1_skipFits 46 = .ok (.iinc 2 1, 3) := by decide +kernel
theorem dX1_skipFits_49 : decode cX1_skipFits 49 = .ok (.goto (-28), 3) := by decide +kernel
theorem dX1_skipFits_52 : decode cX1_skipFits 52 = .ok (.iconst 1, 1) := by decide +kernel
theorem dX1_skipFits_53 : decode cX1_skipFits 53 = .ok (.ireturn, 1) := by decide +kernel
abbrev cX1_setCell : ByteArray := prog_3_method_8_code
def yX1_setCell : MethodName := ⟨RX1, "setCell", "(II)Z"⟩
theorem dX1_setCell_0 : decode cX1_setCell 0 = .ok (.aload_n 0, 1) := by decide +kernel
theorem dX1_setCell_1 : decode cX1_setCell 1 = .ok (.iload_n 1, 1) := by decide +kernel
theorem dX1_setCell_2 : decode cX1_setCell 2 = .ok (.bipush 11, 2) := by decide +kernel
theorem dX1_setCell_4 : decode cX1_setCell 4 = .ok (.invokevirtual 35, 3) := by decide +kernel
theorem dX1_setCell_7 : decode cX1_setCell 7 = .ok (.ifCond .ne 5, 3) := by decide +kernel
theorem dX1_setCell_10 : decode cX1_setCell 10 = .ok (.iconst 0, 1) := by decide +kernel
theorem dX1_setCell_11 : decode cX1_setCell 11 = .ok (.ireturn, 1) := by decide +kernel
theorem dX1_setCell_12 : decode cX1_setCell 12 = .ok (.aload_n 0, 1) := by decide +kernel
theorem dX1_setCell_13 : decode cX1_setCell 13 = .ok (.getfield 26, 3) := by decide +kernel
theorem dX1_setCell_16 : decode cX1_setCell 16 = .ok (.iload_n 1, 1) := by decide +kernel
theorem dX1_setCell_17 : decode cX1_setCell 17 = .ok (.iload_n 2, 1) := by decide +kernel
theorem dX1_setCell_18 : decode cX1_setCell 18 = .ok (.iastore, 1) := by decide +kernel
theorem dX1_setCell_19 : decode cX1_setCell 19 = .ok (.iconst 1, 1) := by decide +kernel
theorem dX1_setCell_20 : decode cX1_setCell 20 = .ok (.ireturn, 1) := by decide +kernel
abbrev cX1_run : ByteArray := prog_3_method_11_code
def yX1_run : MethodName := ⟨RX1, "run", "(I)I"⟩
theorem dX1_run_0 : decode cX1_run 0 = .ok (.aload_n 0, 1) := by decide +kernel
theorem dX1_run_1 : decode cX1_run 1 = .ok (.invokevirtual 51, 3) := by decide +kernel
theorem dX1_run_4 : decode cX1_run 4 = .ok (.ifCond .ne 6, 3) := by decide +kernel
theorem dX1_run_7 : decode cX1_run 7 = .ok (.bipush (-3), 2) := by decide +kernel
theorem dX1_run_9 : decode cX1_run 9 = .ok (.ireturn, 1) := by decide +kernel
theorem dX1_run_10 : decode cX1_run 10 = .ok (.iconst 0, 1) := by decide +kernel
theorem dX1_run_11 : decode cX1_run 11 = .ok (.istore_n 2, 1) := by decide +kernel
theorem dX1_run_12 : decode cX1_run 12 = .ok (.iload_n 2, 1) := by decide +kernel
theorem dX1_run_13 : decode cX1_run 13 = .ok (.iconst 4, 1) := by decide +kernel
theorem dX1_run_14 : decode cX1_run 14 = .ok (.if_icmp .ge 16, 3) := by decide +kernel
theorem dX1_run_17 : decode cX1_run 17 = .ok (.aload_n 0, 1) := by decide +kernel
theorem dX1_run_18 : decode cX1_run 18 = .ok (.getfield 29, 3) := by decide +kernel
theorem dX1_run_21 : decode cX1_run 21 = .ok (.iload_n 2, 1) := by decide +kernel
theorem dX1_run_22 : decode cX1_run 22 = .ok (.iconst 0, 1) := by decide +kernel
theorem dX1_run_23 : decode cX1_run 23 = .ok (.iastore, 1) := by decide +kernel
theorem dX1_run_24 : decode cX1_run 24 = .ok (.iinc 2 1, 3) := by decide +kernel
theorem dX1_run_27 : decode cX1_run 27 = .ok (.goto (-15), 3) := by decide +kernel
theorem dX1_run_30 : decode cX1_run 30 = .ok (.iconst 0, 1) := by decide +kernel
theorem dX1_run_31 : decode cX1_run 31 = .ok (.istore_n 2, 1) := by decide +kernel
theorem dX1_run_32 : decode cX1_run 32 = .ok (.iconst 0, 1) := by decide +kernel
theorem dX1_run_33 : decode cX1_run 33 = .ok (.istore_n 3, 1) := by decide +kernel
theorem dX1_run_34 : decode cX1_run 34 = .ok (.iconst 0, 1) := by decide +kernel
theorem dX1_run_35 : decode cX1_run 35 = .ok (.istore 4, 2) := by decide +kernel
theorem dX1_run_37 : decode cX1_run 37 = .ok (.iload 4, 2) := by decide +kernel
theorem dX1_run_39 : decode cX1_run 39 = .ok (.sipush 1080, 3) := by decide +kernel
theorem dX1_run_42 : decode cX1_run 42 = .ok (.if_icmp .ge 26, 3) := by decide +kernel
theorem dX1_run_45 : decode cX1_run 45 = .ok (.iload_n 2, 1) := by decide +kernel
theorem dX1_run_46 : decode cX1_run 46 = .ok (.aload_n 0, 1) := by decide +kernel
theorem dX1_run_47 : decode cX1_run 47 = .ok (.getfield 7, 3) := by decide +kernel
theorem dX1_run_50 : decode cX1_run 50 = .ok (.if_icmp .ge 18, 3) := by decide +kernel
theorem dX1_run_53 : decode cX1_run 53 = .ok (.aload_n 0, 1) := by decide +kernel
theorem dX1_run_54 : decode cX1_run 54 = .ok (.iload_n 2, 1) := by decide +kernel
theorem dX1_run_55 : decode cX1_run 55 = .ok (.invokevirtual 55, 3) := by decide +kernel
theorem dX1_run_58 : decode cX1_run 58 = .ok (.istore_n 2, 1) := by decide +kernel
theorem dX1_run_59 : decode cX1_run 59 = .ok (.iinc 3 1, 3) := by decide +kernel
theorem dX1_run_62 : decode cX1_run 62 = .ok (.iinc 4 1, 3) := by decide +kernel
theorem dX1_run_65 : decode cX1_run 65 = .ok (.goto (-28), 3) := by decide +kernel
theorem dX1_run_68 : decode cX1_run 68 = .ok (.iload_n 3, 1) := by decide +kernel
theorem dX1_run_69 : decode cX1_run 69 = .ok (.ireturn, 1) := by decide +kernel
abbrev cX1_step : ByteArray := prog_3_method_10_code
def yX1_step : MethodName := ⟨RX1, "step", "(I)I"⟩
theorem dX1_step_0 : decode cX1_step 0 = .ok (.aload_n 0, 1) := by decide +kernel
theorem dX1_step_1 : decode cX1_step 1 = .ok (.getfield 17, 3) := by decide +kernel
theorem dX1_step_4 : decode cX1_step 4 = .ok (.iload_n 1, 1) := by decide +kernel
theorem dX1_step_5 : decode cX1_step 5 = .ok (.iaload, 1) := by decide +kernel
theorem dX1_step_6 : decode cX1_step 6 = .ok (.istore_n 2, 1) := by decide +kernel
theorem dX1_step_7 : decode cX1_step 7 = .ok (.aload_n 0, 1) := by decide +kernel
theorem dX1_step_8 : decode cX1_step 8 = .ok (.getfield 20, 3) := by decide +kernel
theorem dX1_step_11 : decode cX1_step 11 = .ok (.iload_n 1, 1) := by decide +kernel
theorem dX1_step_12 : decode cX1_step 12 = .ok (.iaload, 1) := by decide +kernel
theorem dX1_step_13 : decode cX1_step 13 = .ok (.istore_n 3, 1) := by decide +kernel
theorem dX1_step_14 : decode cX1_step 14 = .ok (.aload_n 0, 1) := by decide +kernel
theorem dX1_step_15 : decode cX1_step 15 = .ok (.getfield 13, 3) := by decide +kernel
theorem dX1_step_18 : decode cX1_step 18 = .ok (.iload_n 1, 1) := by decide +kernel
theorem dX1_step_19 : decode cX1_step 19 = .ok (.iaload, 1) := by decide +kernel
theorem dX1_step_20 : decode cX1_step 20 = .ok (.ifCond .ne 10, 3) := by decide +kernel
theorem dX1_step_23 : decode cX1_step 23 = .ok (.aload_n 0, 1) := by decide +kernel
theorem dX1_step_24 : decode cX1_step 24 = .ok (.getfield 29, 3) := by decide +kernel
theorem dX1_step_27 : decode cX1_step 27 = .ok (.iload_n 2, 1) := by decide +kernel
theorem dX1_step_28 : decode cX1_step 28 = .ok (.iload_n 3, 1) := by decide +kernel
theorem dX1_step_29 : decode cX1_step 29 = .ok (.iastore, 1) := by decide +kernel
theorem dX1_step_30 : decode cX1_step 30 = .ok (.aload_n 0, 1) := by decide +kernel
theorem dX1_step_31 : decode cX1_step 31 = .ok (.getfield 13, 3) := by decide +kernel
theorem dX1_step_34 : decode cX1_step 34 = .ok (.iload_n 1, 1) := by decide +kernel
theorem dX1_step_35 : decode cX1_step 35 = .ok (.iaload, 1) := by decide +kernel
theorem dX1_step_36 : decode cX1_step 36 = .ok (.iconst 1, 1) := by decide +kernel
theorem dX1_step_37 : decode cX1_step 37 = .ok (.if_icmp .ne 27, 3) := by decide +kernel
theorem dX1_step_40 : decode cX1_step 40 = .ok (.aload_n 0, 1) := by decide +kernel
theorem dX1_step_41 : decode cX1_step 41 = .ok (.getfield 29, 3) := by decide +kernel
theorem dX1_step_44 : decode cX1_step 44 = .ok (.iload_n 2, 1) := by decide +kernel
theorem dX1_step_45 : decode cX1_step 45 = .ok (.aload_n 0, 1) := by decide +kernel
theorem dX1_step_46 : decode cX1_step 46 = .ok (.getfield 29, 3) := by decide +kernel
theorem dX1_step_49 : decode cX1_step 49 = .ok (.iload_n 3, 1) := by decide +kernel
theorem dX1_step_50 : decode cX1_step 50 = .ok (.iaload, 1) := by decide +kernel
theorem dX1_step_51 : decode cX1_step 51 = .ok (.aload_n 0, 1) := by decide +kernel
theorem dX1_step_52 : decode cX1_step 52 = .ok (.getfield 29, 3) := by decide +kernel
theorem dX1_step_55 : decode cX1_step 55 = .ok (.aload_n 0, 1) := by decide +kernel
theorem dX1_step_56 : decode cX1_step 56 = .ok (.getfield 23, 3) := by decide +kernel
theorem dX1_step_59 : decode cX1_step 59 = .ok (.iload_n 1, 1) := by decide +kernel
theorem dX1_step_60 : decode cX1_step 60 = .ok (.iaload, 1) := by decide +kernel
theorem dX1_step_61 : decode cX1_step 61 = .ok (.iaload, 1) := by decide +kernel
theorem dX1_step_62 : decode cX1_step 62 = .ok (.iadd, 1) := by decide +kernel
theorem dX1_step_63 : decode cX1_step 63 = .ok (.iastore, 1) := by decide +kernel
theorem dX1_step_64 : decode cX1_step 64 = .ok (.aload_n 0, 1) := by decide +kernel
theorem dX1_step_65 : decode cX1_step 65 = .ok (.getfield 13, 3) := by decide +kernel
theorem dX1_step_68 : decode cX1_step 68 = .ok (.iload_n 1, 1) := by decide +kernel
theorem dX1_step_69 : decode cX1_step 69 = .ok (.iaload, 1) := by decide +kernel
theorem dX1_step_70 : decode cX1_step 70 = .ok (.iconst 2, 1) := by decide +kernel
theorem dX1_step_71 : decode cX1_step 71 = .ok (.if_icmp .ne 27, 3) := by decide +kernel
theorem dX1_step_74 : decode cX1_step 74 = .ok (.aload_n 0, 1) := by decide +kernel
theorem dX1_step_75 : decode cX1_step 75 = .ok (.getfield 29, 3) := by decide +kernel
theorem dX1_step_78 : decode cX1_step 78 = .ok (.iload_n 2, 1) := by decide +kernel
theorem dX1_step_79 : decode cX1_step 79 = .ok (.aload_n 0, 1) := by decide +kernel
theorem dX1_step_80 : decode cX1_step 80 = .ok (.getfield 29, 3) := by decide +kernel
theorem dX1_step_83 : decode cX1_step 83 = .ok (.iload_n 3, 1) := by decide +kernel
theorem dX1_step_84 : decode cX1_step 84 = .ok (.iaload, 1) := by decide +kernel
theorem dX1_step_85 : decode cX1_step 85 = .ok (.aload_n 0, 1) := by decide +kernel
theorem dX1_step_86 : decode cX1_step 86 = .ok (.getfield 29, 3) := by decide +kernel
theorem dX1_step_89 : decode cX1_step 89 = .ok (.aload_n 0, 1) := by decide +kernel
theorem dX1_step_90 : decode cX1_step 90 = .ok (.getfield 23, 3) := by decide +kernel
theorem dX1_step_93 : decode cX1_step 93 = .ok (.iload_n 1, 1) := by decide +kernel
theorem dX1_step_94 : decode cX1_step 94 = .ok (.iaload, 1) := by decide +kernel
theorem dX1_step_95 : decode cX1_step 95 = .ok (.iaload, 1) := by decide +kernel
theorem dX1_step_96 : decode cX1_step 96 = .ok (.isub, 1) := by decide +kernel
theorem dX1_step_97 : decode cX1_step 97 = .ok (.iastore, 1) := by decide +kernel
theorem dX1_step_98 : decode cX1_step 98 = .ok (.aload_n 0, 1) := by decide +kernel
theorem dX1_step_99 : decode cX1_step 99 = .ok (.getfield 13, 3) := by decide +kernel
theorem dX1_step_102 : decode cX1_step 102 = .ok (.iload_n 1, 1) := by decide +kernel
theorem dX1_step_103 : decode cX1_step 103 = .ok (.iaload, 1) := by decide +kernel
theorem dX1_step_104 : decode cX1_step 104 = .ok (.iconst 3, 1) := by decide +kernel
theorem dX1_step_105 : decode cX1_step 105 = .ok (.if_icmp .ne 27, 3) := by decide +kernel
theorem dX1_step_108 : decode cX1_step 108 = .ok (.aload_n 0, 1) := by decide +kernel
theorem dX1_step_109 : decode cX1_step 109 = .ok (.getfield 29, 3) := by decide +kernel
theorem dX1_step_112 : decode cX1_step 112 = .ok (.iload_n 2, 1) := by decide +kernel
theorem dX1_step_113 : decode cX1_step 113 = .ok (.aload_n 0, 1) := by decide +kernel
theorem dX1_step_114 : decode cX1_step 114 = .ok (.getfield 29, 3) := by decide +kernel
theorem dX1_step_117 : decode cX1_step 117 = .ok (.iload_n 3, 1) := by decide +kernel
theorem dX1_step_118 : decode cX1_step 118 = .ok (.iaload, 1) := by decide +kernel
theorem dX1_step_119 : decode cX1_step 119 = .ok (.aload_n 0, 1) := by decide +kernel
theorem dX1_step_120 : decode cX1_step 120 = .ok (.getfield 29, 3) := by decide +kernel
theorem dX1_step_123 : decode cX1_step 123 = .ok (.aload_n 0, 1) := by decide +kernel
theorem dX1_step_124 : decode cX1_step 124 = .ok (.getfield 23, 3) := by decide +kernel
theorem dX1_step_127 : decode cX1_step 127 = .ok (.iload_n 1, 1) := by decide +kernel
theorem dX1_step_128 : decode cX1_step 128 = .ok (.iaload, 1) := by decide +kernel
theorem dX1_step_129 : decode cX1_step 129 = .ok (.iaload, 1) := by decide +kernel
theorem dX1_step_130 : decode cX1_step 130 = .ok (.imul, 1) := by decide +kernel
theorem dX1_step_131 : decode cX1_step 131 = .ok (.iastore, 1) := by decide +kernel
theorem dX1_step_132 : decode cX1_step 132 = .ok (.aload_n 0, 1) := by decide +kernel
theorem dX1_step_133 : decode cX1_step 133 = .ok (.getfield 13, 3) := by decide +kernel
theorem dX1_step_136 : decode cX1_step 136 = .ok (.iload_n 1, 1) := by decide +kernel
theorem dX1_step_137 : decode cX1_step 137 = .ok (.iaload, 1) := by decide +kernel
theorem dX1_step_138 : decode cX1_step 138 = .ok (.iconst 4, 1) := by decide +kernel
theorem dX1_step_139 : decode cX1_step 139 = .ok (.if_icmp .ne 15, 3) := by decide +kernel
theorem dX1_step_142 : decode cX1_step 142 = .ok (.aload_n 0, 1) := by decide +kernel
theorem dX1_step_143 : decode cX1_step 143 = .ok (.getfield 29, 3) := by decide +kernel
theorem dX1_step_146 : decode cX1_step 146 = .ok (.iload_n 2, 1) := by decide +kernel
theorem dX1_step_147 : decode cX1_step 147 = .ok (.aload_n 0, 1) := by decide +kernel
theorem dX1_step_148 : decode cX1_step 148 = .ok (.getfield 26, 3) := by decide +kernel
theorem dX1_step_151 : decode cX1_step 151 = .ok (.iload_n 3, 1) := by decide +kernel
theorem dX1_step_152 : decode cX1_step 152 = .ok (.iaload, 1) := by decide +kernel
theorem dX1_step_153 : decode cX1_step 153 = .ok (.iastore, 1) := by decide +kernel
theorem dX1_step_154 : decode cX1_step 154 = .ok (.aload_n 0, 1) := by decide +kernel
theorem dX1_step_155 : decode cX1_step 155 = .ok (.getfield 13, 3) := by decide +kernel
theorem dX1_step_158 : decode cX1_step 158 = .ok (.iload_n 1, 1) := by decide +kernel
theorem dX1_step_159 : decode cX1_step 159 = .ok (.iaload, 1) := by decide +kernel
theorem dX1_step_160 : decode cX1_step 160 = .ok (.iconst 5, 1) := by decide +kernel
theorem dX1_step_161 : decode cX1_step 161 = .ok (.if_icmp .ne 15, 3) := by decide +kernel
theorem dX1_step_164 : decode cX1_step 164 = .ok (.aload_n 0, 1) := by decide +kernel
theorem dX1_step_165 : decode cX1_step 165 = .ok (.getfield 26, 3) := by decide +kernel
theorem dX1_step_168 : decode cX1_step 168 = .ok (.iload_n 3, 1) := by decide +kernel
theorem dX1_step_169 : decode cX1_step 169 = .ok (.aload_n 0, 1) := by decide +kernel
theorem dX1_step_170 : decode cX1_step 170 = .ok (.getfield 29, 3) := by decide +kernel
theorem dX1_step_173 : decode cX1_step 173 = .ok (.iload_n 2, 1) := by decide +kernel
theorem dX1_step_174 : decode cX1_step 174 = .ok (.iaload, 1) := by decide +kernel
theorem dX1_step_175 : decode cX1_step 175 = .ok (.iastore, 1) := by decide +kernel
theorem dX1_step_176 : decode cX1_step 176 = .ok (.aload_n 0, 1) := by decide +kernel
theorem dX1_step_177 : decode cX1_step 177 = .ok (.getfield 13, 3) := by decide +kernel
theorem dX1_step_180 : decode cX1_step 180 = .ok (.iload_n 1, 1) := by decide +kernel
theorem dX1_step_181 : decode cX1_step 181 = .ok (.iaload, 1) := by decide +kernel
theorem dX1_step_182 : decode cX1_step 182 = .ok (.bipush 6, 2) := by decide +kernel
theorem dX1_step_184 : decode cX1_step 184 = .ok (.if_icmp .ne 23, 3) := by decide +kernel
theorem dX1_step_187 : decode cX1_step 187 = .ok (.aload_n 0, 1) := by decide +kernel
theorem dX1_step_188 : decode cX1_step 188 = .ok (.getfield 29, 3) := by decide +kernel
theorem dX1_step_191 : decode cX1_step 191 = .ok (.iload_n 2, 1) := by decide +kernel
theorem dX1_step_192 : decode cX1_step 192 = .ok (.aload_n 0, 1) := by decide +kernel
theorem dX1_step_193 : decode cX1_step 193 = .ok (.getfield 26, 3) := by decide +kernel
theorem dX1_step_196 : decode cX1_step 196 = .ok (.aload_n 0, 1) := by decide +kernel
theorem dX1_step_197 : decode cX1_step 197 = .ok (.getfield 29, 3) := by decide +kernel
theorem dX1_step_200 : decode cX1_step 200 = .ok (.iload_n 3, 1) := by decide +kernel
theorem dX1_step_201 : decode cX1_step 201 = .ok (.iaload, 1) := by decide +kernel
theorem dX1_step_202 : decode cX1_step 202 = .ok (.bipush 7, 2) := by decide +kernel
theorem dX1_step_204 : decode cX1_step 204 = .ok (.iand, 1) := by decide +kernel
theorem dX1_step_205 : decode cX1_step 205 = .ok (.iaload, 1) := by decide +kernel
theorem dX1_step_206 : decode cX1_step 206 = .ok (.iastore, 1) := by decide +kernel
theorem dX1_step_207 : decode cX1_step 207 = .ok (.aload_n 0, 1) := by decide +kernel
theorem dX1_step_208 : decode cX1_step 208 = .ok (.getfield 13, 3) := by decide +kernel
theorem dX1_step_211 : decode cX1_step 211 = .ok (.iload_n 1, 1) := by decide +kernel
theorem dX1_step_212 : decode cX1_step 212 = .ok (.iaload, 1) := by decide +kernel
theorem dX1_step_213 : decode cX1_step 213 = .ok (.bipush 7, 2) := by decide +kernel
theorem dX1_step_215 : decode cX1_step 215 = .ok (.if_icmp .ne 23, 3) := by decide +kernel
theorem dX1_step_218 : decode cX1_step 218 = .ok (.aload_n 0, 1) := by decide +kernel
theorem dX1_step_219 : decode cX1_step 219 = .ok (.getfield 26, 3) := by decide +kernel
theorem dX1_step_222 : decode cX1_step 222 = .ok (.aload_n 0, 1) := by decide +kernel
theorem dX1_step_223 : decode cX1_step 223 = .ok (.getfield 29, 3) := by decide +kernel
theorem dX1_step_226 : decode cX1_step 226 = .ok (.iload_n 3, 1) := by decide +kernel
theorem dX1_step_227 : decode cX1_step 227 = .ok (.iaload, 1) := by decide +kernel
theorem dX1_step_228 : decode cX1_step 228 = .ok (.bipush 7, 2) := by decide +kernel
theorem dX1_step_230 : decode cX1_step 230 = .ok (.iand, 1) := by decide +kernel
theorem dX1_step_231 : decode cX1_step 231 = .ok (.aload_n 0, 1) := by decide +kernel
theorem dX1_step_232 : decode cX1_step 232 = .ok (.getfield 29, 3) := by decide +kernel
theorem dX1_step_235 : decode cX1_step 235 = .ok (.iload_n 2, 1) := by decide +kernel
theorem dX1_step_236 : decode cX1_step 236 = .ok (.iaload, 1) := by decide +kernel
theorem dX1_step_237 : decode cX1_step 237 = .ok (.iastore, 1) := by decide +kernel
theorem dX1_step_238 : decode cX1_step 238 = .ok (.aload_n 0, 1) := by decide +kernel
theorem dX1_step_239 : decode cX1_step 239 = .ok (.getfield 13, 3) := by decide +kernel
theorem dX1_step_242 : decode cX1_step 242 = .ok (.iload_n 1, 1) := by decide +kernel
theorem dX1_step_243 : decode cX1_step 243 = .ok (.iaload, 1) := by decide +kernel
theorem dX1_step_244 : decode cX1_step 244 = .ok (.bipush 8, 2) := by decide +kernel
theorem dX1_step_246 : decode cX1_step 246 = .ok (.if_icmp .ne 18, 3) := by decide +kernel
theorem dX1_step_249 : decode cX1_step 249 = .ok (.aload_n 0, 1) := by decide +kernel
theorem dX1_step_250 : decode cX1_step 250 = .ok (.getfield 29, 3) := by decide +kernel
theorem dX1_step_253 : decode cX1_step 253 = .ok (.iload_n 2, 1) := by decide +kernel
theorem dX1_step_254 : decode cX1_step 254 = .ok (.iaload, 1) := by decide +kernel
theorem dX1_step_255 : decode cX1_step 255 = .ok (.ifCond .gt 9, 3) := by decide +kernel
theorem dX1_step_258 : decode cX1_step 258 = .ok (.iload_n 1, 1) := by decide +kernel
theorem dX1_step_259 : decode cX1_step 259 = .ok (.iload_n 3, 1) := by decide +kernel
theorem dX1_step_260 : decode cX1_step 260 = .ok (.iadd, 1) := by decide +kernel
theorem dX1_step_261 : decode cX1_step 261 = .ok (.iconst 1, 1) := by decide +kernel
theorem dX1_step_262 : decode cX1_step 262 = .ok (.iadd, 1) := by decide +kernel
theorem dX1_step_263 : decode cX1_step 263 = .ok (.ireturn, 1) := by decide +kernel
theorem dX1_step_264 : decode cX1_step 264 = .ok (.aload_n 0, 1) := by decide +kernel
theorem dX1_step_265 : decode cX1_step 265 = .ok (.getfield 13, 3) := by decide +kernel
theorem dX1_step_268 : decode cX1_step 268 = .ok (.iload_n 1, 1) := by decide +kernel
theorem dX1_step_269 : decode cX1_step 269 = .ok (.iaload, 1) := by decide +kernel
theorem dX1_step_270 : decode cX1_step 270 = .ok (.bipush 9, 2) := by decide +kernel
theorem dX1_step_272 : decode cX1_step 272 = .ok (.if_icmp .ne 10, 3) := by decide +kernel
theorem dX1_step_275 : decode cX1_step 275 = .ok (.aload_n 0, 1) := by decide +kernel
theorem dX1_step_276 : decode cX1_step 276 = .ok (.getfield 32, 3) := by decide +kernel
theorem dX1_step_279 : decode cX1_step 279 = .ok (.iload_n 1, 1) := by decide +kernel
theorem dX1_step_280 : decode cX1_step 280 = .ok (.iload_n 2, 1) := by decide +kernel
theorem dX1_step_281 : decode cX1_step 281 = .ok (.iastore, 1) := by decide +kernel
theorem dX1_step_282 : decode cX1_step 282 = .ok (.aload_n 0, 1) := by decide +kernel
theorem dX1_step_283 : decode cX1_step 283 = .ok (.getfield 13, 3) := by decide +kernel
theorem dX1_step_286 : decode cX1_step 286 = .ok (.iload_n 1, 1) := by decide +kernel
theorem dX1_step_287 : decode cX1_step 287 = .ok (.iaload, 1) := by decide +kernel
theorem dX1_step_288 : decode cX1_step 288 = .ok (.bipush 10, 2) := by decide +kernel
theorem dX1_step_290 : decode cX1_step 290 = .ok (.if_icmp .ne 36, 3) := by decide +kernel
theorem dX1_step_293 : decode cX1_step 293 = .ok (.aload_n 0, 1) := by decide +kernel
theorem dX1_step_294 : decode cX1_step 294 = .ok (.iload_n 1, 1) := by decide +kernel
theorem dX1_step_295 : decode cX1_step 295 = .ok (.invokevirtual 47, 3) := by decide +kernel
theorem dX1_step_298 : decode cX1_step 298 = .ok (.istore 4, 2) := by decide +kernel
theorem dX1_step_300 : decode cX1_step 300 = .ok (.aload_n 0, 1) := by decide +kernel
theorem dX1_step_301 : decode cX1_step 301 = .ok (.getfield 32, 3) := by decide +kernel
theorem dX1_step_304 : decode cX1_step 304 = .ok (.iload 4, 2) := by decide +kernel
theorem dX1_step_306 : decode cX1_step 306 = .ok (.dup2, 1) := by decide +kernel
theorem dX1_step_307 : decode cX1_step 307 = .ok (.iaload, 1) := by decide +kernel
theorem dX1_step_308 : decode cX1_step 308 = .ok (.iconst 1, 1) := by decide +kernel
theorem dX1_step_309 : decode cX1_step 309 = .ok (.isub, 1) := by decide +kernel
theorem dX1_step_310 : decode cX1_step 310 = .ok (.iastore, 1) := by decide +kernel
theorem dX1_step_311 : decode cX1_step 311 = .ok (.aload_n 0, 1) := by decide +kernel
theorem dX1_step_312 : decode cX1_step 312 = .ok (.getfield 32, 3) := by decide +kernel
theorem dX1_step_315 : decode cX1_step 315 = .ok (.iload 4, 2) := by decide +kernel
theorem dX1_step_317 : decode cX1_step 317 = .ok (.iaload, 1) := by decide +kernel
theorem dX1_step_318 : decode cX1_step 318 = .ok (.ifCond .le 8, 3) := by decide +kernel
theorem dX1_step_321 : decode cX1_step 321 = .ok (.iload 4, 2) := by decide +kernel
theorem dX1_step_323 : decode cX1_step 323 = .ok (.iconst 1, 1) := by decide +kernel
theorem dX1_step_324 : decode cX1_step 324 = .ok (.iadd, 1) := by decide +kernel
theorem dX1_step_325 : decode cX1_step 325 = .ok (.ireturn, 1) := by decide +kernel
theorem dX1_step_326 : decode cX1_step 326 = .ok (.iload_n 1, 1) := by decide +kernel
theorem dX1_step_327 : decode cX1_step 327 = .ok (.iconst 1, 1) := by decide +kernel
theorem dX1_step_328 : decode cX1_step 328 = .ok (.iadd, 1) := by decide +kernel
theorem dX1_step_329 : decode cX1_step 329 = .ok (.ireturn, 1) := by decide +kernel
abbrev cX1_openerOf : ByteArray := prog_3_method_9_code
def yX1_openerOf : MethodName := ⟨RX1, "openerOf", "(I)I"⟩
theorem dX1_openerOf_0 : decode cX1_openerOf 0 = .ok (.iconst 0, 1) := by decide +kernel
theorem dX1_openerOf_1 : decode cX1_openerOf 1 = .ok (.istore_n 2, 1) := by decide +kernel
theorem dX1_openerOf_2 : decode cX1_openerOf 2 = .ok (.iload_n 1, 1) := by decide +kernel
theorem dX1_openerOf_3 : decode cX1_openerOf 3 = .ok (.istore_n 3, 1) := by decide +kernel
theorem dX1_openerOf_4 : decode cX1_openerOf 4 = .ok (.iload_n 3, 1) := by decide +kernel
theorem dX1_openerOf_5 : decode cX1_openerOf 5 = .ok (.ifCond .lt 43, 3) := by decide +kernel
theorem dX1_openerOf_8 : decode cX1_openerOf 8 = .ok (.aload_n 0, 1) := by decide +kernel
theorem dX1_openerOf_9 : decode cX1_openerOf 9 = .ok (.getfield 13, 3) := by decide +kernel
theorem dX1_openerOf_12 : decode cX1_openerOf 12 = .ok (.iload_n 3, 1) := by decide +kernel
theorem dX1_openerOf_13 : decode cX1_openerOf 13 = .ok (.iaload, 1) := by decide +kernel
theorem dX1_openerOf_14 : decode cX1_openerOf 14 = .ok (.bipush 10, 2) := by decide +kernel
theorem dX1_openerOf_16 : decode cX1_openerOf 16 = .ok (.if_icmp .ne 6, 3) := by decide +kernel
theorem dX1_openerOf_19 : decode cX1_openerOf 19 = .ok (.iinc 2 1, 3) := by decide +kernel
theorem dX1_openerOf_22 : decode cX1_openerOf 22 = .ok (.aload_n 0, 1) := by decide +kernel
theorem dX1_openerOf_23 : decode cX1_openerOf 23 = .ok (.getfield 13, 3) := by decide +kernel
theorem dX1_openerOf_26 : decode cX1_openerOf 26 = .ok (.iload_n 3, 1) := by decide +kernel
theorem dX1_openerOf_27 : decode cX1_openerOf 27 = .ok (.iaload, 1) := by decide +kernel
theorem dX1_openerOf_28 : decode cX1_openerOf 28 = .ok (.bipush 9, 2) := by decide +kernel
theorem dX1_openerOf_30 : decode cX1_openerOf 30 = .ok (.if_icmp .ne 6, 3) := by decide +kernel
theorem dX1_openerOf_33 : decode cX1_openerOf 33 = .ok (.iinc 2 (-1), 3) := by decide +kernel
theorem dX1_openerOf_36 : decode cX1_openerOf 36 = .ok (.iload_n 2, 1) := by decide +kernel
theorem dX1_openerOf_37 : decode cX1_openerOf 37 = .ok (.ifCond .ne 5, 3) := by decide +kernel
theorem dX1_openerOf_40 : decode cX1_openerOf 40 = .ok (.iload_n 3, 1) := by decide +kernel
theorem dX1_openerOf_41 : decode cX1_openerOf 41 = .ok (.ireturn, 1) := by decide +kernel
theorem dX1_openerOf_42 : decode cX1_openerOf 42 = .ok (.iinc 3 (-1), 3) := by decide +kernel
theorem dX1_openerOf_45 : decode cX1_openerOf 45 = .ok (.goto (-41), 3) := by decide +kernel
theorem dX1_openerOf_48 : decode cX1_openerOf 48 = .ok (.iconst 0, 1) := by decide +kernel
theorem dX1_openerOf_49 : decode cX1_openerOf 49 = .ok (.ireturn, 1) := by decide +kernel
abbrev cX1_cell : ByteArray := prog_3_method_12_code
def yX1_cell : MethodName := ⟨RX1, "cell", "(I)I"⟩
theorem dX1_cell_0 : decode cX1_cell 0 = .ok (.aload_n 0, 1) := by decide +kernel
theorem dX1_cell_1 : decode cX1_cell 1 = .ok (.iload_n 1, 1) := by decide +kernel
theorem dX1_cell_2 : decode cX1_cell 2 = .ok (.bipush 11, 2) := by decide +kernel
theorem dX1_cell_4 : decode cX1_cell 4 = .ok (.invokevirtual 35, 3) := by decide +kernel
theorem dX1_cell_7 : decode cX1_cell 7 = .ok (.ifCond .eq 12, 3) := by decide +kernel
theorem dX1_cell_10 : decode cX1_cell 10 = .ok (.aload_n 0, 1) := by decide +kernel
theorem dX1_cell_11 : decode cX1_cell 11 = .ok (.getfield 26, 3) := by decide +kernel
theorem dX1_cell_14 : decode cX1_cell 14 = .ok (.iload_n 1, 1) := by decide +kernel
theorem dX1_cell_15 : decode cX1_cell 15 = .ok (.iaload, 1) := by decide +kernel
theorem dX1_cell_16 : decode cX1_cell 16 = .ok (.goto 4, 3) := by decide +kernel
theorem dX1_cell_19 : decode cX1_cell 19 = .ok (.iconst 0, 1) := by decide +kernel
theorem dX1_cell_20 : decode cX1_cell 20 = .ok (.ireturn, 1) := by decide +kernel
abbrev cX1_register : ByteArray := prog_3_method_13_code
def yX1_register : MethodName := ⟨RX1, "register", "(I)I"⟩
theorem dX1_register_0 : decode cX1_register 0 = .ok (.aload_n 0, 1) := by decide +kernel
theorem dX1_register_1 : decode cX1_register 1 = .ok (.iload_n 1, 1) := by decide +kernel
theorem dX1_register_2 : decode cX1_register 2 = .ok (.iconst 3, 1) := by decide +kernel
theorem dX1_register_3 : decode cX1_register 3 = .ok (.invokevirtual 35, 3) := by decide +kernel
theorem dX1_register_6 : decode cX1_register 6 = .ok (.ifCond .eq 12, 3) := by decide +kernel
theorem dX1_register_9 : decode cX1_register 9 = .ok (.aload_n 0, 1) := by decide +kernel
theorem dX1_register_10 : decode cX1_register 10 = .ok (.getfield 29, 3) := by decide +kernel
theorem dX1_register_13 : decode cX1_register 13 = .ok (.iload_n 1, 1) := by decide +kernel
theorem dX1_register_14 : decode cX1_register 14 = .ok (.iaload, 1) := by decide +kernel
theorem dX1_register_15 : decode cX1_register 15 = .ok (.goto 4, 3) := by decide +kernel
theorem dX1_register_18 : decode cX1_register 18 = .ok (.iconst 0, 1) := by decide +kernel
theorem dX1_register_19 : decode cX1_register 19 = .ok (.ireturn, 1) := by decide +kernel
abbrev cX1_clear : ByteArray := prog_3_method_14_code
def yX1_clear : MethodName := ⟨RX1, "clear", "()V"⟩
theorem dX1_clear_0 : decode cX1_clear 0 = .ok (.aload_n 0, 1) := by decide +kernel
theorem dX1_clear_1 : decode cX1_clear 1 = .ok (.iconst 0, 1) := by decide +kernel
theorem dX1_clear_2 : decode cX1_clear 2 = .ok (.putfield 7, 3) := by decide +kernel
theorem dX1_clear_5 : decode cX1_clear 5 = .ok (.iconst 0, 1) := by decide +kernel
theorem dX1_clear_6 : decode cX1_clear 6 = .ok (.istore_n 1, 1) := by decide +kernel
theorem dX1_clear_7 : decode cX1_clear 7 = .ok (.iload_n 1, 1) := by decide +kernel
theorem dX1_clear_8 : decode cX1_clear 8 = .ok (.bipush 12, 2) := by decide +kernel
theorem dX1_clear_10 : decode cX1_clear 10 = .ok (.if_icmp .ge 16, 3) := by decide +kernel
theorem dX1_clear_13 : decode cX1_clear 13 = .ok (.aload_n 0, 1) := by decide +kernel
theorem dX1_clear_14 : decode cX1_clear 14 = .ok (.getfield 26, 3) := by decide +kernel
theorem dX1_clear_17 : decode cX1_clear 17 = .ok (.iload_n 1, 1) := by decide +kernel
theorem dX1_clear_18 : decode cX1_clear 18 = .ok (.iconst 0, 1) := by decide +kernel
theorem dX1_clear_19 : decode cX1_clear 19 = .ok (.iastore, 1) := by decide +kernel
theorem dX1_clear_20 : decode cX1_clear 20 = .ok (.iinc 1 1, 3) := by decide +kernel
theorem dX1_clear_23 : decode cX1_clear 23 = .ok (.goto (-16), 3) := by decide +kernel
theorem dX1_clear_26 : decode cX1_clear 26 = .ok (.iconst 0, 1) := by decide +kernel
theorem dX1_clear_27 : decode cX1_clear 27 = .ok (.istore_n 1, 1) := by decide +kernel
theorem dX1_clear_28 : decode cX1_clear 28 = .ok (.iload_n 1, 1) := by decide +kernel
theorem dX1_clear_29 : decode cX1_clear 29 = .ok (.iconst 4, 1) := by decide +kernel
theorem dX1_clear_30 : decode cX1_clear 30 = .ok (.if_icmp .ge 16, 3) := by decide +kernel
theorem dX1_clear_33 : decode cX1_clear 33 = .ok (.aload_n 0, 1) := by decide +kernel
theorem dX1_clear_34 : decode cX1_clear 34 = .ok (.getfield 29, 3) := by decide +kernel
theorem dX1_clear_37 : decode cX1_clear 37 = .ok (.iload_n 1, 1) := by decide +kernel
theorem dX1_clear_38 : decode cX1_clear 38 = .ok (.iconst 0, 1) := by decide +kernel
theorem dX1_clear_39 : decode cX1_clear 39 = .ok (.iastore, 1) := by decide +kernel
theorem dX1_clear_40 : decode cX1_clear 40 = .ok (.iinc 1 1, 3) := by decide +kernel
theorem dX1_clear_43 : decode cX1_clear 43 = .ok (.goto (-15), 3) := by decide +kernel
theorem dX1_clear_46 : decode cX1_clear 46 = .ok (.return_, 1) := by decide +kernel
end
section
set_option maxRecDepth 100000
theorem q23 : (Jvm.Cond.initialized "PowerFailCoreModel") ∈ lw_all := lw_g (lw_at lw_m1 2 rfl) rfl
theorem q190 : (Jvm.Cond.instantiable "PowerFailCoreModel" (8 : Nat)) ∈ lw_all := lw_g (lw_at lw_m1 169 rfl) rfl
theorem q192 : (Jvm.Cond.instanceMethod ({ cls := "PowerFailCoreModel", name := "<init>", desc := "()V" } : Jvm.MethodName)) ∈ lw_all := lw_g (lw_at lw_m1 171 rfl) rfl
theorem q193 : (Jvm.Cond.code ({ cls := "PowerFailCoreModel", name := "<init>", desc := "()V" } : Jvm.MethodName) prog_3_method_1_code (1 : Nat) (Option.none : Option Jvm.ClassFile.FieldType)) ∈ lw_all := lw_g (lw_at lw_m1 172 rfl) rfl
theorem q194 : (Jvm.Cond.methodLink "PowerFailCoreModel" (1 : Nat) ({ cls := "java/lang/Object", name := "<init>", desc := "()V" } : Jvm.MethodName)) ∈ lw_all := lw_g (lw_at lw_m1 173 rfl) rfl
theorem q195 : (Jvm.Cond.fieldLink "PowerFailCoreModel" (7 : Nat) "PowerFailCoreModel" "n" "I") ∈ lw_all := lw_g (lw_at lw_m1 174 rfl) rfl
theorem q196 : (Jvm.Cond.fieldLink "PowerFailCoreModel" (13 : Nat) "PowerFailCoreModel" "op" "[I") ∈ lw_all := lw_g (lw_at lw_m1 175 rfl) rfl
theorem q197 : (Jvm.Cond.fieldLink "PowerFailCoreModel" (17 : Nat) "PowerFailCoreModel" "ax" "[I") ∈ lw_all := lw_g (lw_at lw_m1 176 rfl) rfl
theorem q198 : (Jvm.Cond.fieldLink "PowerFailCoreModel" (20 : Nat) "PowerFailCoreModel" "ay" "[I") ∈ lw_all := lw_g (lw_at lw_m1 177 rfl) rfl
theorem q199 : (Jvm.Cond.fieldLink "PowerFailCoreModel" (23 : Nat) "PowerFailCoreModel" "az" "[I") ∈ lw_all := lw_g (lw_at lw_m1 178 rfl) rfl
theorem q200 : (Jvm.Cond.fieldLink "PowerFailCoreModel" (26 : Nat) "PowerFailCoreModel" "cells" "[I") ∈ lw_all := lw_g (lw_at lw_m1 179 rfl) rfl
theorem q201 : (Jvm.Cond.fieldLink "PowerFailCoreModel" (29 : Nat) "PowerFailCoreModel" "regs" "[I") ∈ lw_all := lw_g (lw_at lw_m1 180 rfl) rfl
theorem q202 : (Jvm.Cond.fieldLink "PowerFailCoreModel" (32 : Nat) "PowerFailCoreModel" "left" "[I") ∈ lw_all := lw_g (lw_at lw_m1 181 rfl) rfl
theorem q203 : (Jvm.Cond.lays "PowerFailCoreModel" "PowerFailCoreModel" "n" "I") ∈ lw_all := lw_g (lw_at lw_m1 182 rfl) rfl
theorem q204 : (Jvm.Cond.soleField "PowerFailCoreModel" "n") ∈ lw_all := lw_g (lw_at lw_m1 183 rfl) rfl
theorem q205 : (Jvm.Cond.lays "PowerFailCoreModel" "PowerFailCoreModel" "op" "[I") ∈ lw_all := lw_g (lw_at lw_m1 184 rfl) rfl
theorem q206 : (Jvm.Cond.soleField "PowerFailCoreModel" "op") ∈ lw_all := lw_g (lw_at lw_m1 185 rfl) rfl
theorem q207 : (Jvm.Cond.lays "PowerFailCoreModel" "PowerFailCoreModel" "ax" "[I") ∈ lw_all := lw_g (lw_at lw_m1 186 rfl) rfl
theorem q208 : (Jvm.Cond.soleField "PowerFailCoreModel" "ax") ∈ lw_all := lw_g (lw_at lw_m1 187 rfl) rfl
theorem q209 : (Jvm.Cond.lays "PowerFailCoreModel" "PowerFailCoreModel" "ay" "[I") ∈ lw_all := lw_g (lw_at lw_m1 188 rfl) rfl
theorem q210 : (Jvm.Cond.soleField "PowerFailCoreModel" "ay") ∈ lw_all := lw_g (lw_at lw_m1 189 rfl) rfl
theorem q211 : (Jvm.Cond.lays "PowerFailCoreModel" "PowerFailCoreModel" "az" "[I") ∈ lw_all := lw_g (lw_at lw_m1 190 rfl) rfl
theorem q212 : (Jvm.Cond.soleField "PowerFailCoreModel" "az") ∈ lw_all := lw_g (lw_at lw_m1 191 rfl) rfl
theorem q213 : (Jvm.Cond.lays "PowerFailCoreModel" "PowerFailCoreModel" "cells" "[I") ∈ lw_all := lw_g (lw_at lw_m1 192 rfl) rfl
theorem q214 : (Jvm.Cond.soleField "PowerFailCoreModel" "cells") ∈ lw_all := lw_g (lw_at lw_m1 193 rfl) rfl
theorem q215 : (Jvm.Cond.lays "PowerFailCoreModel" "PowerFailCoreModel" "regs" "[I") ∈ lw_all := lw_g (lw_at lw_m1 194 rfl) rfl
theorem q216 : (Jvm.Cond.soleField "PowerFailCoreModel" "regs") ∈ lw_all := lw_g (lw_at lw_m1 195 rfl) rfl
theorem q217 : (Jvm.Cond.lays "PowerFailCoreModel" "PowerFailCoreModel" "left" "[I") ∈ lw_all := lw_g (lw_at lw_m1 196 rfl) rfl
theorem q218 : (Jvm.Cond.soleField "PowerFailCoreModel" "left") ∈ lw_all := lw_g (lw_at lw_m1 197 rfl) rfl
theorem q219 : (Jvm.Cond.superclass "PowerFailCoreModel" "java/lang/Object") ∈ lw_all := lw_g (lw_at lw_m1 198 rfl) rfl
theorem q221 : (Jvm.Cond.instanceMethod ({ cls := "PowerFailCoreModel", name := "emit", desc := "(IIII)I" } : Jvm.MethodName)) ∈ lw_all := lw_g (lw_at lw_m1 200 rfl) rfl
theorem q222 : (Jvm.Cond.selects "PowerFailCoreModel" ({ cls := "PowerFailCoreModel", name := "emit", desc := "(IIII)I" } : Jvm.MethodName) ({ cls := "PowerFailCoreModel", name := "emit", desc := "(IIII)I" } : Jvm.MethodName)) ∈ lw_all := lw_g (lw_at lw_m1 201 rfl) rfl
theorem q223 : (Jvm.Cond.code ({ cls := "PowerFailCoreModel", name := "emit", desc := "(IIII)I" } : Jvm.MethodName) prog_3_method_4_code (5 : Nat) (Option.some Jvm.ClassFile.FieldType.int)) ∈ lw_all := lw_g (lw_at lw_m1 202 rfl) rfl
theorem q224 : (Jvm.Cond.methodLink "PowerFailCoreModel" (39 : Nat) ({ cls := "PowerFailCoreModel", name := "fits", desc := "(IIII)Z" } : Jvm.MethodName)) ∈ lw_all := lw_g (lw_at lw_m1 203 rfl) rfl
theorem q225 : (Jvm.Cond.privateMethod ({ cls := "PowerFailCoreModel", name := "fits", desc := "(IIII)Z" } : Jvm.MethodName)) ∈ lw_tbl := lw_at lw_m1 204 rfl
theorem q226 : (Jvm.Cond.instanceMethod ({ cls := "PowerFailCoreModel", name := "fits", desc := "(IIII)Z" } : Jvm.MethodName)) ∈ lw_all := lw_g (lw_at lw_m1 205 rfl) rfl
theorem q227 : (Jvm.Cond.code ({ cls := "PowerFailCoreModel", name := "fits", desc := "(IIII)Z" } : Jvm.MethodName) prog_3_method_3_code (5 : Nat) (Option.some Jvm.ClassFile.FieldType.boolean)) ∈ lw_all := lw_g (lw_at lw_m1 206 rfl) rfl
theorem q228 : (Jvm.Cond.methodLink "PowerFailCoreModel" (35 : Nat) ({ cls := "PowerFailCoreModel", name := "in", desc := "(II)Z" } : Jvm.MethodName)) ∈ lw_all := lw_g (lw_at lw_m1 207 rfl) rfl
theorem q229 : (Jvm.Cond.privateMethod ({ cls := "PowerFailCoreModel", name := "in", desc := "(II)Z" } : Jvm.MethodName)) ∈ lw_tbl := lw_at lw_m1 208 rfl
theorem q230 : (Jvm.Cond.instanceMethod ({ cls := "PowerFailCoreModel", name := "in", desc := "(II)Z" } : Jvm.MethodName)) ∈ lw_all := lw_g (lw_at lw_m1 209 rfl) rfl
theorem q231 : (Jvm.Cond.code ({ cls := "PowerFailCoreModel", name := "in", desc := "(II)Z" } : Jvm.MethodName) prog_3_method_2_code (3 : Nat) (Option.some Jvm.ClassFile.FieldType.boolean)) ∈ lw_all := lw_g (lw_at lw_m1 210 rfl) rfl
theorem q233 : (Jvm.Cond.instanceMethod ({ cls := "PowerFailCoreModel", name := "retract", desc := "()I" } : Jvm.MethodName)) ∈ lw_all := lw_g (lw_at lw_m1 212 rfl) rfl
theorem q234 : (Jvm.Cond.selects "PowerFailCoreModel" ({ cls := "PowerFailCoreModel", name := "retract", desc := "()I" } : Jvm.MethodName) ({ cls := "PowerFailCoreModel", name := "retract", desc := "()I" } : Jvm.MethodName)) ∈ lw_all := lw_g (lw_at lw_m1 213 rfl) rfl
theorem q235 : (Jvm.Cond.code ({ cls := "PowerFailCoreModel", name := "retract", desc := "()I" } : Jvm.MethodName) prog_3_method_5_code (1 : Nat) (Option.some Jvm.ClassFile.FieldType.int)) ∈ lw_all := lw_g (lw_at lw_m1 214 rfl) rfl
theorem q237 : (Jvm.Cond.instanceMethod ({ cls := "PowerFailCoreModel", name := "sound", desc := "()Z" } : Jvm.MethodName)) ∈ lw_all := lw_g (lw_at lw_m1 216 rfl) rfl
theorem q238 : (Jvm.Cond.selects "PowerFailCoreModel" ({ cls := "PowerFailCoreModel", name := "sound", desc := "()Z" } : Jvm.MethodName) ({ cls := "PowerFailCoreModel", name := "sound", desc := "()Z" } : Jvm.MethodName)) ∈ lw_all := lw_g (lw_at lw_m1 217 rfl) rfl
theorem q239 : (Jvm.Cond.code ({ cls := "PowerFailCoreModel", name := "sound", desc := "()Z" } : Jvm.MethodName) prog_3_method_7_code (3 : Nat) (Option.some Jvm.ClassFile.FieldType.boolean)) ∈ lw_all := lw_g (lw_at lw_m1 218 rfl) rfl
theorem q240 : (Jvm.Cond.methodLink "PowerFailCoreModel" (43 : Nat) ({ cls := "PowerFailCoreModel", name := "skipFits", desc := "(I)Z" } : Jvm.MethodName)) ∈ lw_all := lw_g (lw_at lw_m1 219 rfl) rfl
theorem q241 : (Jvm.Cond.privateMethod ({ cls := "PowerFailCoreModel", name := "skipFits", desc := "(I)Z" } : Jvm.MethodName)) ∈ lw_tbl := lw_at lw_m1 220 rfl
theorem q242 : (Jvm.Cond.instanceMethod ({ cls := "PowerFailCoreModel", name := "skipFits", desc := "(I)Z" } : Jvm.MethodName)) ∈ lw_all := lw_g (lw_at lw_m1 221 rfl) rfl
theorem q243 : (Jvm.Cond.code ({ cls := "PowerFailCoreModel", name := "skipFits", desc := "(I)Z" } : Jvm.MethodName) prog_3_method_6_code (3 : Nat) (Option.some Jvm.ClassFile.FieldType.boolean)) ∈ lw_all := lw_g (lw_at lw_m1 222 rfl) rfl
theorem q245 : (Jvm.Cond.instanceMethod ({ cls := "PowerFailCoreModel", name := "setCell", desc := "(II)Z" } : Jvm.MethodName)) ∈ lw_all := lw_g (lw_at lw_m1 224 rfl) rfl
theorem q246 : (Jvm.Cond.selects "PowerFailCoreModel" ({ cls := "PowerFailCoreModel", name := "setCell", desc := "(II)Z" } : Jvm.MethodName) ({ cls := "PowerFailCoreModel", name := "setCell", desc := "(II)Z" } : Jvm.MethodName)) ∈ lw_all := lw_g (lw_at lw_m1 225 rfl) rfl
theorem q247 : (Jvm.Cond.code ({ cls := "PowerFailCoreModel", name := "setCell", desc := "(II)Z" } : Jvm.MethodName) prog_3_method_8_code (3 : Nat) (Option.some Jvm.ClassFile.FieldType.boolean)) ∈ lw_all := lw_g (lw_at lw_m1 226 rfl) rfl
theorem q249 : (Jvm.Cond.instanceMethod ({ cls := "PowerFailCoreModel", name := "run", desc := "(I)I" } : Jvm.MethodName)) ∈ lw_all := lw_g (lw_at lw_m1 228 rfl) rfl
theorem q250 : (Jvm.Cond.selects "PowerFailCoreModel" ({ cls := "PowerFailCoreModel", name := "run", desc := "(I)I" } : Jvm.MethodName) ({ cls := "PowerFailCoreModel", name := "run", desc := "(I)I" } : Jvm.MethodName)) ∈ lw_all := lw_g (lw_at lw_m1 229 rfl) rfl
theorem q251 : (Jvm.Cond.code ({ cls := "PowerFailCoreModel", name := "run", desc := "(I)I" } : Jvm.MethodName) prog_3_method_11_code (5 : Nat) (Option.some Jvm.ClassFile.FieldType.int)) ∈ lw_all := lw_g (lw_at lw_m1 230 rfl) rfl
theorem q252 : (Jvm.Cond.methodLink "PowerFailCoreModel" (51 : Nat) ({ cls := "PowerFailCoreModel", name := "sound", desc := "()Z" } : Jvm.MethodName)) ∈ lw_all := lw_g (lw_at lw_m1 231 rfl) rfl
theorem q253 : (Jvm.Cond.methodLink "PowerFailCoreModel" (55 : Nat) ({ cls := "PowerFailCoreModel", name := "step", desc := "(I)I" } : Jvm.MethodName)) ∈ lw_all := lw_g (lw_at lw_m1 232 rfl) rfl
theorem q254 : (Jvm.Cond.privateMethod ({ cls := "PowerFailCoreModel", name := "step", desc := "(I)I" } : Jvm.MethodName)) ∈ lw_tbl := lw_at lw_m1 233 rfl
theorem q255 : (Jvm.Cond.instanceMethod ({ cls := "PowerFailCoreModel", name := "step", desc := "(I)I" } : Jvm.MethodName)) ∈ lw_all := lw_g (lw_at lw_m1 234 rfl) rfl
theorem q256 : (Jvm.Cond.code ({ cls := "PowerFailCoreModel", name := "step", desc := "(I)I" } : Jvm.MethodName) prog_3_method_10_code (5 : Nat) (Option.some Jvm.ClassFile.FieldType.int)) ∈ lw_all := lw_g (lw_at lw_m1 235 rfl) rfl
theorem q257 : (Jvm.Cond.methodLink "PowerFailCoreModel" (47 : Nat) ({ cls := "PowerFailCoreModel", name := "openerOf", desc := "(I)I" } : Jvm.MethodName)) ∈ lw_all := lw_g (lw_at lw_m1 236 rfl) rfl
theorem q258 : (Jvm.Cond.privateMethod ({ cls := "PowerFailCoreModel", name := "openerOf", desc := "(I)I" } : Jvm.MethodName)) ∈ lw_tbl := lw_at lw_m1 237 rfl
theorem q259 : (Jvm.Cond.instanceMethod ({ cls := "PowerFailCoreModel", name := "openerOf", desc := "(I)I" } : Jvm.MethodName)) ∈ lw_all := lw_g (lw_at lw_m1 238 rfl) rfl
theorem q260 : (Jvm.Cond.code ({ cls := "PowerFailCoreModel", name := "openerOf", desc := "(I)I" } : Jvm.MethodName) prog_3_method_9_code (4 : Nat) (Option.some Jvm.ClassFile.FieldType.int)) ∈ lw_all := lw_g (lw_at lw_m1 239 rfl) rfl
theorem q262 : (Jvm.Cond.instanceMethod ({ cls := "PowerFailCoreModel", name := "cell", desc := "(I)I" } : Jvm.MethodName)) ∈ lw_all := lw_g (lw_at lw_m2 1 rfl) rfl
theorem q263 : (Jvm.Cond.selects "PowerFailCoreModel" ({ cls := "PowerFailCoreModel", name := "cell", desc := "(I)I" } : Jvm.MethodName) ({ cls := "PowerFailCoreModel", name := "cell", desc := "(I)I" } : Jvm.MethodName)) ∈ lw_all := lw_g (lw_at lw_m2 2 rfl) rfl
theorem q264 : (Jvm.Cond.code ({ cls := "PowerFailCoreModel", name := "cell", desc := "(I)I" } : Jvm.MethodName) prog_3_method_12_code (2 : Nat) (Option.some Jvm.ClassFile.FieldType.int)) ∈ lw_all := lw_g (lw_at lw_m2 3 rfl) rfl
theorem q266 : (Jvm.Cond.instanceMethod ({ cls := "PowerFailCoreModel", name := "register", desc := "(I)I" } : Jvm.MethodName)) ∈ lw_all := lw_g (lw_at lw_m2 5 rfl) rfl
theorem q267 : (Jvm.Cond.selects "PowerFailCoreModel" ({ cls := "PowerFailCoreModel", name := "register", desc := "(I)I" } : Jvm.MethodName) ({ cls := "PowerFailCoreModel", name := "register", desc := "(I)I" } : Jvm.MethodName)) ∈ lw_all := lw_g (lw_at lw_m2 6 rfl) rfl
theorem q268 : (Jvm.Cond.code ({ cls := "PowerFailCoreModel", name := "register", desc := "(I)I" } : Jvm.MethodName) prog_3_method_13_code (2 : Nat) (Option.some Jvm.ClassFile.FieldType.int)) ∈ lw_all := lw_g (lw_at lw_m2 7 rfl) rfl
theorem q270 : (Jvm.Cond.instanceMethod ({ cls := "PowerFailCoreModel", name := "clear", desc := "()V" } : Jvm.MethodName)) ∈ lw_all := lw_g (lw_at lw_m2 9 rfl) rfl
theorem q271 : (Jvm.Cond.selects "PowerFailCoreModel" ({ cls := "PowerFailCoreModel", name := "clear", desc := "()V" } : Jvm.MethodName) ({ cls := "PowerFailCoreModel", name := "clear", desc := "()V" } : Jvm.MethodName)) ∈ lw_all := lw_g (lw_at lw_m2 10 rfl) rfl
theorem q272 : (Jvm.Cond.code ({ cls := "PowerFailCoreModel", name := "clear", desc := "()V" } : Jvm.MethodName) prog_3_method_14_code (2 : Nat) (Option.none : Option Jvm.ClassFile.FieldType)) ∈ lw_all := lw_g (lw_at lw_m2 11 rfl) rfl
theorem in_X1 : ∀ w ∈ wsX10, w ∈ lw_all := lw_in wsX10 [203, 205, 207, 209, 211, 213, 215, 217] (by decide +kernel) (by decide +kernel)
end
section
set_option maxRecDepth 100000
/-! java/lang/Object -/
set_option maxRecDepth 100000
def RJ0 : String := "java/lang/Object"
abbrev cJ0_init : ByteArray := object_method_1_code
def yJ0_init : MethodName := ⟨RJ0, "<init>", "()V"⟩
theorem dJ0_init_0 : decode cJ0_init 0 = .ok (.return_, 1) := by decide +kernel
theorem q30 : (Jvm.Cond.instanceMethod ({ cls := "java/lang/Object", name := "<init>", desc := "()V" } : Jvm.MethodName)) ∈ lw_all := lw_g (lw_at lw_m1 9 rfl) rfl
theorem q31 : (Jvm.Cond.code ({ cls := "java/lang/Object", name := "<init>", desc := "()V" } : Jvm.MethodName) object_method_1_code (1 : Nat) (Option.none : Option Jvm.ClassFile.FieldType)) ∈ lw_all := lw_g (lw_at lw_m1 10 rfl) rfl
theorem q90 : (Jvm.Cond.arrayClass Jvm.ClassFile.FieldType.byte) ∈ lw_all := lw_g (lw_at lw_m1 69 rfl) rfl
set_option maxRecDepth 100000
theorem q91 : (Jvm.Cond.arrayClass Jvm.ClassFile.FieldType.int) ∈ lw_all := lw_g (lw_at lw_m1 70 rfl) rfl
theorem q21 : (Jvm.Cond.initialized "PowerFailCoreLaw") ∈ lw_all := lw_g (lw_at lw_m1 0 rfl) rfl
set_option maxRecDepth 100000
theorem q24 : (Jvm.Cond.classLink "PowerFailCoreLaw" (7 : Nat) "PowerFailCore") ∈ lw_all := lw_g (lw_at lw_m1 3 rfl) rfl
theorem q26 : (Jvm.Cond.methodLink "PowerFailCoreLaw" (9 : Nat) ({ cls := "PowerFailCore", name := "<init>", desc := "()V" } : Jvm.MethodName)) ∈ lw_all := lw_g (lw_at lw_m1 5 rfl) rfl
theorem q92 : (Jvm.Cond.methodLink "PowerFailCoreLaw" (13 : Nat) ({ cls := "PowerFailCore", name := "emit", desc := "(IIII)I" } : Jvm.MethodName)) ∈ lw_all := lw_g (lw_at lw_m1 71 rfl) rfl
theorem q104 : (Jvm.Cond.methodLink "PowerFailCoreLaw" (18 : Nat) ({ cls := "PowerFailCore", name := "retract", desc := "()I" } : Jvm.MethodName)) ∈ lw_all := lw_g (lw_at lw_m1 83 rfl) rfl
theorem q108 : (Jvm.Cond.methodLink "PowerFailCoreLaw" (23 : Nat) ({ cls := "PowerFailCore", name := "sound", desc := "()Z" } : Jvm.MethodName)) ∈ lw_all := lw_g (lw_at lw_m1 87 rfl) rfl
theorem q116 : (Jvm.Cond.methodLink "PowerFailCoreLaw" (28 : Nat) ({ cls := "PowerFailCore", name := "setCell", desc := "(II)Z" } : Jvm.MethodName)) ∈ lw_all := lw_g (lw_at lw_m1 95 rfl) rfl
theorem q120 : (Jvm.Cond.methodLink "PowerFailCoreLaw" (33 : Nat) ({ cls := "PowerFailCore", name := "run", desc := "(I)I" } : Jvm.MethodName)) ∈ lw_all := lw_g (lw_at lw_m1 99 rfl) rfl
theorem q177 : (Jvm.Cond.methodLink "PowerFailCoreLaw" (38 : Nat) ({ cls := "PowerFailCore", name := "cell", desc := "(I)I" } : Jvm.MethodName)) ∈ lw_all := lw_g (lw_at lw_m1 156 rfl) rfl
theorem q181 : (Jvm.Cond.methodLink "PowerFailCoreLaw" (42 : Nat) ({ cls := "PowerFailCore", name := "register", desc := "(I)I" } : Jvm.MethodName)) ∈ lw_all := lw_g (lw_at lw_m1 160 rfl) rfl
theorem q185 : (Jvm.Cond.methodLink "PowerFailCoreLaw" (46 : Nat) ({ cls := "PowerFailCore", name := "clear", desc := "()V" } : Jvm.MethodName)) ∈ lw_all := lw_g (lw_at lw_m1 164 rfl) rfl
theorem q189 : (Jvm.Cond.classLink "PowerFailCoreLaw" (10 : Nat) "PowerFailCoreModel") ∈ lw_all := lw_g (lw_at lw_m1 168 rfl) rfl
theorem q191 : (Jvm.Cond.methodLink "PowerFailCoreLaw" (12 : Nat) ({ cls := "PowerFailCoreModel", name := "<init>", desc := "()V" } : Jvm.MethodName)) ∈ lw_all := lw_g (lw_at lw_m1 170 rfl) rfl
theorem q220 : (Jvm.Cond.methodLink "PowerFailCoreLaw" (17 : Nat) ({ cls := "PowerFailCoreModel", name := "emit", desc := "(IIII)I" } : Jvm.MethodName)) ∈ lw_all := lw_g (lw_at lw_m1 199 rfl) rfl
theorem q232 : (Jvm.Cond.methodLink "PowerFailCoreLaw" (22 : Nat) ({ cls := "PowerFailCoreModel", name := "retract", desc := "()I" } : Jvm.MethodName)) ∈ lw_all := lw_g (lw_at lw_m1 211 rfl) rfl
theorem q236 : (Jvm.Cond.methodLink "PowerFailCoreLaw" (27 : Nat) ({ cls := "PowerFailCoreModel", name := "sound", desc := "()Z" } : Jvm.MethodName)) ∈ lw_all := lw_g (lw_at lw_m1 215 rfl) rfl
theorem q244 : (Jvm.Cond.methodLink "PowerFailCoreLaw" (32 : Nat) ({ cls := "PowerFailCoreModel", name := "setCell", desc := "(II)Z" } : Jvm.MethodName)) ∈ lw_all := lw_g (lw_at lw_m1 223 rfl) rfl
theorem q248 : (Jvm.Cond.methodLink "PowerFailCoreLaw" (37 : Nat) ({ cls := "PowerFailCoreModel", name := "run", desc := "(I)I" } : Jvm.MethodName)) ∈ lw_all := lw_g (lw_at lw_m1 227 rfl) rfl
theorem q261 : (Jvm.Cond.methodLink "PowerFailCoreLaw" (41 : Nat) ({ cls := "PowerFailCoreModel", name := "cell", desc := "(I)I" } : Jvm.MethodName)) ∈ lw_all := lw_g (lw_at lw_m2 0 rfl) rfl
theorem q265 : (Jvm.Cond.methodLink "PowerFailCoreLaw" (45 : Nat) ({ cls := "PowerFailCoreModel", name := "register", desc := "(I)I" } : Jvm.MethodName)) ∈ lw_all := lw_g (lw_at lw_m2 4 rfl) rfl
theorem q269 : (Jvm.Cond.methodLink "PowerFailCoreLaw" (49 : Nat) ({ cls := "PowerFailCoreModel", name := "clear", desc := "()V" } : Jvm.MethodName)) ∈ lw_all := lw_g (lw_at lw_m2 8 rfl) rfl
end
section
/-! the law's own entry -/
set_option maxRecDepth 100000
abbrev cL_law : ByteArray := code
theorem dL_law_0 : decode cL_law 0 = .ok (.new 7, 3) := by decide +kernel
theorem dL_law_3 : decode cL_law 3 = .ok (.dup, 1) := by decide +kernel
theorem dL_law_4 : decode cL_law 4 = .ok (.invokespecial 9, 3) := by decide +kernel
theorem dL_law_7 : decode cL_law 7 = .ok (.astore_n 1, 1) := by decide +kernel
theorem dL_law_8 : decode cL_law 8 = .ok (.new 10, 3) := by decide +kernel
theorem dL_law_11 : decode cL_law 11 = .ok (.dup, 1) := by decide +kernel
theorem dL_law_12 : decode cL_law 12 = .ok (.invokespecial 12, 3) := by decide +kernel
theorem dL_law_15 : decode cL_law 15 = .ok (.astore_n 2, 1) := by decide +kernel
theorem dL_law_16 : decode cL_law 16 = .ok (.iconst 0, 1) := by decide +kernel
theorem dL_law_17 : decode cL_law 17 = .ok (.istore_n 3, 1) := by decide +kernel
theorem dL_law_18 : decode cL_law 18 = .ok (.iload_n 3, 1) := by decide +kernel
theorem dL_law_19 : decode cL_law 19 = .ok (.aload_n 0, 1) := by decide +kernel
theorem dL_law_20 : decode cL_law 20 = .ok (.arraylength, 1) := by decide +kernel
theorem dL_law_21 : decode cL_law 21 = .ok (.iconst 5, 1) := by decide +kernel
theorem dL_law_22 : decode cL_law 22 = .ok (.isub, 1) := by decide +kernel
theorem dL_law_23 : decode cL_law 23 = .ok (.if_icmp .gt 255, 3) := by decide +kernel
theorem dL_law_26 : decode cL_law 26 = .ok (.aload_n 0, 1) := by decide +kernel
theorem dL_law_27 : decode cL_law 27 = .ok (.iload_n 3, 1) := by decide +kernel
theorem dL_law_28 : decode cL_law 28 = .ok (.iaload, 1) := by decide +kernel
theorem dL_law_29 : decode cL_law 29 = .ok (.bipush 7, 2) := by decide +kernel
theorem dL_law_31 : decode cL_law 31 = .ok (.iand, 1) := by decide +kernel
theorem dL_law_32 : decode cL_law 32 = .ok (.tableswitch 240 0 7 #[48, 101, 114, 127, 160, 183, 206, 229], 48) := by decide +kernel
theorem dL_law_80 : decode cL_law 80 = .ok (.aload_n 1, 1) := by decide +kernel
theorem dL_law_81 : decode cL_law 81 = .ok (.aload_n 0, 1) := by decide +kernel
theorem dL_law_82 : decode cL_law 82 = .ok (.iload_n 3, 1) := by decide +kernel
theorem dL_law_83 : decode cL_law 83 = .ok (.iconst 1, 1) := by decide +kernel
theorem dL_law_84 : decode cL_law 84 = .ok (.iadd, 1) := by decide +kernel
theorem dL_law_85 : decode cL_law 85 = .ok (.iaload, 1) := by decide +kernel
theorem dL_law_86 : decode cL_law 86 = .ok (.aload_n 0, 1) := by decide +kernel
theorem dL_law_87 : decode cL_law 87 = .ok (.iload_n 3, 1) := by decide +kernel
theorem dL_law_88 : decode cL_law 88 = .ok (.iconst 2, 1) := by decide +kernel
theorem dL_law_89 : decode cL_law 89 = .ok (.iadd, 1) := by decide +kernel
theorem dL_law_90 : decode cL_law 90 = .ok (.iaload, 1) := by decide +kernel
theorem dL_law_91 : decode cL_law 91 = .ok (.aload_n 0, 1) := by decide +kernel
theorem dL_law_92 : decode cL_law 92 = .ok (.iload_n 3, 1) := by decide +kernel
theorem dL_law_93 : decode cL_law 93 = .ok (.iconst 3, 1) := by decide +kernel
theorem dL_law_94 : decode cL_law 94 = .ok (.iadd, 1) := by decide +kernel
theorem dL_law_95 : decode cL_law 95 = .ok (.iaload, 1) := by decide +kernel
theorem dL_law_96 : decode cL_law 96 = .ok (.aload_n 0, 1) := by decide +kernel
theorem dL_law_97 : decode cL_law 97 = .ok (.iload_n 3, 1) := by decide +kernel
theorem dL_law_98 : decode cL_law 98 = .ok (.iconst 4, 1) := by decide +kernel
theorem dL_law_99 : decode cL_law 99 = .ok (.iadd, 1) := by decide +kernel
theorem dL_law_100 : decode cL_law 100 = .ok (.iaload, 1) := by decide +kernel
theorem dL_law_101 : decode cL_law 101 = .ok (.invokevirtual 13, 3) := by decide +kernel
theorem dL_law_104 : decode cL_law 104 = .ok (.aload_n 2, 1) := by decide +kernel
theorem dL_law_105 : decode cL_law 105 = .ok (.aload_n 0, 1) := by decide +kernel
theorem dL_law_106 : decode cL_law 106 = .ok (.iload_n 3, 1) := by decide +kernel
theorem dL_law_107 : decode cL_law 107 = .ok (.iconst 1, 1) := by decide +kernel
theorem dL_law_108 : decode cL_law 108 = .ok (.iadd, 1) := by decide +kernel
theorem dL_law_109 : decode cL_law 109 = .ok (.iaload, 1) := by decide +kernel
theorem dL_law_110 : decode cL_law 110 = .ok (.aload_n 0, 1) := by decide +kernel
theorem dL_law_111 : decode cL_law 111 = .ok (.iload_n 3, 1) := by decide +kernel
theorem dL_law_112 : decode cL_law 112 = .ok (.iconst 2, 1) := by decide +kernel
theorem dL_law_113 : decode cL_law 113 = .ok (.iadd, 1) := by decide +kernel
theorem dL_law_114 : decode cL_law 114 = .ok (.iaload, 1) := by decide +kernel
theorem dL_law_115 : decode cL_law 115 = .ok (.aload_n 0, 1) := by decide +kernel
theorem dL_law_116 : decode cL_law 116 = .ok (.iload_n 3, 1) := by decide +kernel
theorem dL_law_117 : decode cL_law 117 = .ok (.iconst 3, 1) := by decide +kernel
theorem dL_law_118 : decode cL_law 118 = .ok (.iadd, 1) := by decide +kernel
theorem dL_law_119 : decode cL_law 119 = .ok (.iaload, 1) := by decide +kernel
theorem dL_law_120 : decode cL_law 120 = .ok (.aload_n 0, 1) := by decide +kernel
theorem dL_law_121 : decode cL_law 121 = .ok (.iload_n 3, 1) := by decide +kernel
theorem dL_law_122 : decode cL_law 122 = .ok (.iconst 4, 1) := by decide +kernel
theorem dL_law_123 : decode cL_law 123 = .ok (.iadd, 1) := by decide +kernel
theorem dL_law_124 : decode cL_law 124 = .ok (.iaload, 1) := by decide +kernel
theorem dL_law_125 : decode cL_law 125 = .ok (.invokevirtual 17, 3) := by decide +kernel
theorem dL_law_128 : decode cL_law 128 = .ok (.if_icmp .eq 144, 3) := by decide +kernel
theorem dL_law_131 : decode cL_law 131 = .ok (.iconst 0, 1) := by decide +kernel
theorem dL_law_132 : decode cL_law 132 = .ok (.ireturn, 1) := by decide +kernel
theorem dL_law_133 : decode cL_law 133 = .ok (.aload_n 1, 1) := by decide +kernel
theorem dL_law_134 : decode cL_law 134 = .ok (.invokevirtual 18, 3) := by decide +kernel
theorem dL_law_137 : decode cL_law 137 = .ok (.aload_n 2, 1) := by decide +kernel
theorem dL_law_138 : decode cL_law 138 = .ok (.invokevirtual 22, 3) := by decide +kernel
theorem dL_law_141 : decode cL_law 141 = .ok (.if_icmp .eq 131, 3) := by decide +kernel
theorem dL_law_144 : decode cL_law 144 = .ok (.iconst 0, 1) := by decide +kernel
theorem dL_law_145 : decode cL_law 145 = .ok (.ireturn, 1) := by decide +kernel
theorem dL_law_146 : decode cL_law 146 = .ok (.aload_n 1, 1) := by decide +kernel
theorem dL_law_147 : decode cL_law 147 = .ok (.invokevirtual 23, 3) := by decide +kernel
theorem dL_law_150 : decode cL_law 150 = .ok (.aload_n 2, 1) := by decide +kernel
theorem dL_law_151 : decode cL_law 151 = .ok (.invokevirtual 27, 3) := by decide +kernel
theorem dL_law_154 : decode cL_law 154 = .ok (.if_icmp .eq 118, 3) := by decide +kernel
theorem dL_law_157 : decode cL_law 157 = .ok (.iconst 0, 1) := by decide +kernel
theorem dL_law_158 : decode cL_law 158 = .ok (.ireturn, 1) := by decide +kernel
theorem dL_law_159 : decode cL_law 159 = .ok (.aload_n 1, 1) := by decide +kernel
theorem dL_law_160 : decode cL_law 160 = .ok (.aload_n 0, 1) := by decide +kernel
theorem dL_law_161 : decode cL_law 161 = .ok (.iload_n 3, 1) := by decide +kernel
theorem dL_law_162 : decode cL_law 162 = .ok (.iconst 1, 1) := by decide +kernel
theorem dL_law_163 : decode cL_law 163 = .ok (.iadd, 1) := by decide +kernel
theorem dL_law_164 : decode cL_law 164 = .ok (.iaload, 1) := by decide +kernel
theorem dL_law_165 : decode cL_law 165 = .ok (.aload_n 0, 1) := by decide +kernel
theorem dL_law_166 : decode cL_law 166 = .ok (.iload_n 3, 1) := by decide +kernel
theorem dL_law_167 : decode cL_law 167 = .ok (.iconst 2, 1) := by decide +kernel
theorem dL_law_168 : decode cL_law 168 = .ok (.iadd, 1) := by decide +kernel
theorem dL_law_169 : decode cL_law 169 = .ok (.iaload, 1) := by decide +kernel
theorem dL_law_170 : decode cL_law 170 = .ok (.invokevirtual 28, 3) := by decide +kernel
theorem dL_law_173 : decode cL_law 173 = .ok (.aload_n 2, 1) := by decide +kernel
theorem dL_law_174 : decode cL_law 174 = .ok (.aload_n 0, 1) := by decide +kernel
theorem dL_law_175 : decode cL_law 175 = .ok (.iload_n 3, 1) := by decide +kernel
theorem dL_law_176 : decode cL_law 176 = .ok (.iconst 1, 1) := by decide +kernel
theorem dL_law_177 : decode cL_law 177 = .ok (.iadd, 1) := by decide +kernel
theorem dL_law_178 : decode cL_law 178 = .ok (.iaload, 1) := by decide +kernel
theorem dL_law_179 : decode cL_law 179 = .ok (.aload_n 0, 1) := by decide +kernel
theorem dL_law_180 : decode cL_law 180 = .ok (.iload_n 3, 1) := by decide +kernel
theorem dL_law_181 : decode cL_law 181 = .ok (.iconst 2, 1) := by decide +kernel
theorem dL_law_182 : decode cL_law 182 = .ok (.iadd, 1) := by decide +kernel
theorem dL_law_183 : decode cL_law 183 = .ok (.iaload, 1) := by decide +kernel
theorem dL_law_184 : decode cL_law 184 = .ok (.invokevirtual 32, 3) := by decide +kernel
theorem dL_law_187 : decode cL_law 187 = .ok (.if_icmp .eq 85, 3) := by decide +kernel
theorem dL_law_190 : decode cL_law 190 = .ok (.iconst 0, 1) := by decide +kernel
theorem dL_law_191 : decode cL_law 191 = .ok (.ireturn, 1) := by decide +kernel
theorem dL_law_192 : decode cL_law 192 = .ok (.aload_n 1, 1) := by decide +kernel
theorem dL_law_193 : decode cL_law 193 = .ok (.aload_n 0, 1) := by decide +kernel
theorem dL_law_194 : decode cL_law 194 = .ok (.iload_n 3, 1) := by decide +kernel
theorem dL_law_195 : decode cL_law 195 = .ok (.iconst 1, 1) := by decide +kernel
theorem dL_law_196 : decode cL_law 196 = .ok (.iadd, 1) := by decide +kernel
theorem dL_law_197 : decode cL_law 197 = .ok (.iaload, 1) := by decide +kernel
theorem dL_law_198 : decode cL_law 198 = .ok (.invokevirtual 33, 3) := by decide +kernel
theorem dL_law_201 : decode cL_law 201 = .ok (.aload_n 2, 1) := by decide +kernel
theorem dL_law_202 : decode cL_law 202 = .ok (.aload_n 0, 1) := by decide +kernel
theorem dL_law_203 : decode cL_law 203 = .ok (.iload_n 3, 1) := by decide +kernel
theorem dL_law_204 : decode cL_law 204 = .ok (.iconst 1, 1) := by decide +kernel
theorem dL_law_205 : decode cL_law 205 = .ok (.iadd, 1) := by decide +kernel
theorem dL_law_206 : decode cL_law 206 = .ok (.iaload, 1) := by decide +kernel
theorem dL_law_207 : decode cL_law 207 = .ok (.invokevirtual 37, 3) := by decide +kernel
theorem dL_law_210 : decode cL_law 210 = .ok (.if_icmp .eq 62, 3) := by decide +kernel
theorem dL_law_213 : decode cL_law 213 = .ok (.iconst 0, 1) := by decide +kernel
theorem dL_law_214 : decode cL_law 214 = .ok (.ireturn, 1) := by decide +kernel
theorem dL_law_215 : decode cL_law 215 = .ok (.aload_n 1, 1) := by decide +kernel
theorem dL_law_216 : decode cL_law 216 = .ok (.aload_n 0, 1) := by decide +kernel
theorem dL_law_217 : decode cL_law 217 = .ok (.iload_n 3, 1) := by decide +kernel
theorem dL_law_218 : decode cL_law 218 = .ok (.iconst 1, 1) := by decide +kernel
theorem dL_law_219 : decode cL_law 219 = .ok (.iadd, 1) := by decide +kernel
theorem dL_law_220 : decode cL_law 220 = .ok (.iaload, 1) := by decide +kernel
theorem dL_law_221 : decode cL_law 221 = .ok (.invokevirtual 38, 3) := by decide +kernel
theorem dL_law_224 : decode cL_law 224 = .ok (.aload_n 2, 1) := by decide +kernel
theorem dL_law_225 : decode cL_law 225 = .ok (.aload_n 0, 1) := by decide +kernel
theorem dL_law_226 : decode cL_law 226 = .ok (.iload_n 3, 1) := by decide +kernel
theorem dL_law_227 : decode cL_law 227 = .ok (.iconst 1, 1) := by decide +kernel
theorem dL_law_228 : decode cL_law 228 = .ok (.iadd, 1) := by decide +kernel
theorem dL_law_229 : decode cL_law 229 = .ok (.iaload, 1) := by decide +kernel
theorem dL_law_230 : decode cL_law 230 = .ok (.invokevirtual 41, 3) := by decide +kernel
theorem dL_law_233 : decode cL_law 233 = .ok (.if_icmp .eq 39, 3) := by decide +kernel
theorem dL_law_236 : decode cL_law 236 = .ok (.iconst 0, 1) := by decide +kernel
theorem dL_law_237 : decode cL_law 237 = .ok (.ireturn, 1) := by decide +kernel
theorem dL_law_238 : decode cL_law 238 = .ok (.aload_n 1, 1) := by decide +kernel
theorem dL_law_239 : decode cL_law 239 = .ok (.aload_n 0, 1) := by decide +kernel
theorem dL_law_240 : decode cL_law 240 = .ok (.iload_n 3, 1) := by decide +kernel
theorem dL_law_241 : decode cL_law 241 = .ok (.iconst 1, 1) := by decide +kernel
theorem dL_law_242 : decode cL_law 242 = .ok (.iadd, 1) := by decide +kernel
theorem dL_law_243 : decode cL_law 243 = .ok (.iaload, 1) := by decide +kernel
theorem dL_law_244 : decode cL_law 244 = .ok (.invokevirtual 42, 3) := by decide +kernel
theorem dL_law_247 : decode cL_law 247 = .ok (.aload_n 2, 1) := by decide +kernel
theorem dL_law_248 : decode cL_law 248 = .ok (.aload_n 0, 1) := by decide +kernel
theorem dL_law_249 : decode cL_law 249 = .ok (.iload_n 3, 1) := by decide +kernel
theorem dL_law_250 : decode cL_law 250 = .ok (.iconst 1, 1) := by decide +kernel
theorem dL_law_251 : decode cL_law 251 = .ok (.iadd, 1) := by decide +kernel
theorem dL_law_252 : decode cL_law 252 = .ok (.iaload, 1) := by decide +kernel
theorem dL_law_253 : decode cL_law 253 = .ok (.invokevirtual 45, 3) := by decide +kernel
theorem dL_law_256 : decode cL_law 256 = .ok (.if_icmp .eq 16, 3) := by decide +kernel
theorem dL_law_259 : decode cL_law 259 = .ok (.iconst 0, 1) := by decide +kernel
theorem dL_law_260 : decode cL_law 260 = .ok (.ireturn, 1) := by decide +kernel
theorem dL_law_261 : decode cL_law 261 = .ok (.aload_n 1, 1) := by decide +kernel
theorem dL_law_262 : decode cL_law 262 = .ok (.invokevirtual 46, 3) := by decide +kernel
theorem dL_law_265 : decode cL_law 265 = .ok (.aload_n 2, 1) := by decide +kernel
theorem dL_law_266 : decode cL_law 266 = .ok (.invokevirtual 49, 3) := by decide +kernel
theorem dL_law_269 : decode cL_law 269 = .ok (.goto 3, 3) := by decide +kernel
theorem dL_law_272 : decode cL_law 272 = .ok (.iinc 3 5, 3) := by decide +kernel
theorem dL_law_275 : decode cL_law 275 = .ok (.goto (-257), 3) := by decide +kernel
theorem dL_law_278 : decode cL_law 278 = .ok (.iconst 1, 1) := by decide +kernel
theorem dL_law_279 : decode cL_law 279 = .ok (.ireturn, 1) := by decide +kernel
end
section
/-! base: worlds, entry, return, call, a row a field and an array -/
set_option maxRecDepth 100000
abbrev vwCl : List vw_C := [(RX0, TX0, 19), (RX1, TX1, 8)]
abbrev wC (a : Nat → Nat) (d : Nat → ClassId) (ln : Int32) (oc : Nat → Int32) (fx : Nat → Int32) (fy : Nat → Int32) (fz : Nat → Int32) (ce : Nat → Int32) (sv : Nat → Int32) (fi : Nat → Int32) (rg : Nat → Int32) (pl : Int32) (ct : Int32) (ol : Int32) (lS : Nat → Int32) (lL : Nat → Int32) (rd : Int32) (wr : Int32) (sr : Int32) (tl : Int32) (fl : Int32) : va_W := [(a 0, .inr (0, [.int ln, .ref (a 1), .ref (a 2), .ref (a 3), .ref (a 4), .ref (a 5), .ref (a 6), .ref (a 7), .ref (a 8), .int pl, .int ct, .int ol, .ref (a 9), .ref (a 10), .int rd, .int wr, .int sr, .int tl, .int fl])), (a 1, .inl (d 1, 30, .inl oc)), (a 2, .inl (d 2, 30, .inl fx)), (a 3, .inl (d 3, 30, .inl fy)), (a 4, .inl (d 4, 30, .inl fz)), (a 5, .inl (d 5, 12, .inl ce)), (a 6, .inl (d 6, 24, .inl sv)), (a 7, .inl (d 7, 4, .inl fi)), (a 8, .inl (d 8, 4, .inl rg)), (a 9, .inl (d 9, 2, .inl lS)), (a 10, .inl (d 10, 2, .inl lL))]
abbrev tyC (d : Nat → ClassId) : List (ClassId × FieldType) := [(d 1, .byte), (d 2, .byte), (d 3, .int), (d 4, .byte), (d 5, .int), (d 6, .int), (d 7, .int), (d 8, .int), (d 9, .int), (d 10, .int)]
abbrev wM (a : Nat → Nat) (d : Nat → ClassId) (nn : Int32) (mo : Nat → Int32) (mx : Nat → Int32) (my : Nat → Int32) (mz : Nat → Int32) (mc : Nat → Int32) (mr : Nat → Int32) (ml : Nat → Int32) : va_W := [(a 0, .inr (1, [.int nn, .ref (a 1), .ref (a 2), .ref (a 3), .ref (a 4), .ref (a 5), .ref (a 6), .ref (a 7)])), (a 1, .inl (d 1, 30, .inl mo)), (a 2, .inl (d 2, 30, .inl mx)), (a 3, .inl (d 3, 30, .inl my)), (a 4, .inl (d 4, 30, .inl mz)), (a 5, .inl (d 5, 12, .inl mc)), (a 6, .inl (d 6, 4, .inl mr)), (a 7, .inl (d 7, 30, .inl ml))]
abbrev tyM (d : Nat → ClassId) : List (ClassId × FieldType) := [(d 1, .int), (d 2, .int), (d 3, .int), (d 4, .int), (d 5, .int), (d 6, .int), (d 7, .int)]
/-- what stays all through a walk -/
def pf_C (p : Program) (s : State) (m : MethodId) (c : Code) (cc : ByteArray) (nL : Nat) (args : Array Value) (own : String) (D : va_G) (tys : List (ClassId × FieldType)) : Prop := CallFix p m c cc nL s args lw_all own ∧ va_K D vwCl tys s
/-- the heap holds the world ws; outside A nothing has changed -/
def pf_H (D : va_G) (A : Nat → Prop) (s : State) (ws : va_W) (H : Heap) (locs : List Loc) : Prop := va_P D vwCl ws H ∧ va_D A ws ∧ va_S A s.heap H locs
def pf_pre (D : va_G) (tys : List (ClassId × FieldType)) (sz : Nat) (ws : va_W) (U : State) : Prop := U.heap.size = sz ∧ va_P D vwCl ws U.heap ∧ va_K D vwCl tys U ∧ va_D (fun _ => True) ws
def pf_at (D : va_G) (tys : List (ClassId × FieldType)) (A : Nat → Prop) (ws : va_W) (t : State) : Prop := va_P D vwCl ws t.heap ∧ va_K D vwCl tys t ∧ va_D A ws
/-- a contract with an int as answer: in the world ws, the answer r and the new world Wf u with post r u -/
def pf_KI (l : Launch) (D : va_G) (tys : List (ClassId × FieldType)) (y : MethodName) (cc : ByteArray) (nL : Nat) (ret : Option FieldType) (fr lo : Nat) (av : List Value) (ws : va_W) {S : Type} (post : Int32 → S → Prop) (Wf : S → va_W) : Prop :=
  ∀ sz, Met l y (ws_ y cc nL ret) { frames := fr, cells := 0, slots := 0, locals := lo } (va_Pc av (pf_pre D tys sz ws)) (va_Qi post (fun u t => pf_at D tys (va_A ws sz) (Wf u) t) (va_A ws sz)) 0 0 (va_A ws sz)
/-- a contract without an answer -/
def pf_KV (l : Launch) (D : va_G) (tys : List (ClassId × FieldType)) (y : MethodName) (cc : ByteArray) (nL : Nat) (fr lo : Nat) (av : List Value) (ws : va_W) {S : Type} (post : S → Prop) (Wf : S → va_W) : Prop :=
  ∀ sz, Met l y (ws_ y cc nL none) { frames := fr, cells := 0, slots := 0, locals := lo } (va_Pc av (pf_pre D tys sz ws)) (va_Qv post (fun u t => pf_at D tys (va_A ws sz) (Wf u) t) (va_A ws sz)) 0 0 (va_A ws sz)
section PFE
variable {l : Launch} {D : va_G} {tys : List (ClassId × FieldType)} {y : MethodName} {cc : ByteArray} {nL : Nat} {ret : Option FieldType} {fr lo : Nat} {av : List Value} {ws : va_W} {S : Type} {Wf : S → va_W}
theorem pf_ent {Pq : (Nat → Prop) → Array Value → State → Outcome → State → Prop} {sz : Nat} (own : String) (hy : plainName y.cls = true) (ho : y.cls = own) (hlen : (lg_sl av).length ≤ nL)
    (body : ∀ (p : Program) (e : Env) (s : State) (m : MethodId) (below : List Frame) (meth : Method) (c : Code) (A : Nat → Prop) (ls : Array Slot), pf_C p s m c cc nL av.toArray own D tys → pf_H D A s ws s.heap [] → (∀ q, s.heap.size ≤ q → A q) → meth.sig.returnType = ret → meth.locks = false → lv_has ls nL (lv_args 0 av) → W p l e { frames := fr, cells := 0, slots := 0, locals := lo } s m av.toArray below meth c s.heap [] 0 0 (MQ below (Pq A) av.toArray s 0 0 A) (F0 m 0 ls [])) :
    Met l y (ws_ y cc nL ret) { frames := fr, cells := 0, slots := 0, locals := lo } (va_Pc av (pf_pre D tys sz ws)) (Pq (va_A ws sz)) 0 0 (va_A ws sz) := by
  refine Met.ofW (cc := cc) (maxL := nL) (ret := ret) hy rfl ?_
  intro p e s m args below meth c s₁ B hml hv
  obtain ⟨rfl, hsz, hP, hK, hD0⟩ := hv
  have hts := atoms_spec (ws := ws_ y cc nL ret) B.pre
  have hts : ∀ w ∈ lw_all, w.before _ s = true := fun w h => hts w (List.mem_cons_of_mem _ h)
  have hown : s.vm.findClass own = some m.cls := by rw [← ho]; exact findClass_of_methodNamed B.named
  subst hsz
  have hD := hD0.self (sz := s.heap.size)
  generalize hAe : va_A ws s.heap.size = A at hD ⊢
  have hA : ∀ q : Nat, s.heap.size ≤ q → A q := fun q h => by rw [← hAe]; exact Or.inr h
  have hl := lv_entry av (n := nL) hlen
  rw [lg_entry_eq]
  generalize (lg_sl av ++ List.replicate (nL - (lg_sl av).length) Slot.unset).toArray = ls at hl ⊢
  exact body p e s m below meth c A ls ⟨⟨B.exec, B.bytes, hml, hown, hts⟩, hK⟩ ⟨hP, hD, va_S.rf⟩ hA B.returns B.notSynchronized hl
theorem pf_entI {post : Int32 → S → Prop} (own : String) (hy : plainName y.cls = true) (ho : y.cls = own) (hlen : (lg_sl av).length ≤ nL)
    (body : ∀ (p : Program) (e : Env) (s : State) (m : MethodId) (below : List Frame) (meth : Method) (c : Code) (A : Nat → Prop) (ls : Array Slot), pf_C p s m c cc nL av.toArray own D tys → pf_H D A s ws s.heap [] → (∀ q, s.heap.size ≤ q → A q) → meth.sig.returnType = ret → meth.locks = false → lv_has ls nL (lv_args 0 av) → W p l e { frames := fr, cells := 0, slots := 0, locals := lo } s m av.toArray below meth c s.heap [] 0 0 (MQ below (va_Qi post (fun u t => pf_at D tys A (Wf u) t) A) av.toArray s 0 0 A) (F0 m 0 ls [])) : pf_KI l D tys y cc nL ret fr lo av ws post Wf := fun sz =>
  pf_ent (Pq := fun A => va_Qi post (fun u t => pf_at D tys A (Wf u) t) A) (sz := sz) own hy ho hlen body
theorem pf_entV {post : S → Prop} (own : String) (hy : plainName y.cls = true) (ho : y.cls = own) (hlen : (lg_sl av).length ≤ nL)
    (body : ∀ (p : Program) (e : Env) (s : State) (m : MethodId) (below : List Frame) (meth : Method) (c : Code) (A : Nat → Prop) (ls : Array Slot), pf_C p s m c cc nL av.toArray own D tys → pf_H D A s ws s.heap [] → (∀ q, s.heap.size ≤ q → A q) → meth.sig.returnType = none → meth.locks = false → lv_has ls nL (lv_args 0 av) → W p l e { frames := fr, cells := 0, slots := 0, locals := lo } s m av.toArray below meth c s.heap [] 0 0 (MQ below (va_Qv post (fun u t => pf_at D tys A (Wf u) t) A) av.toArray s 0 0 A) (F0 m 0 ls [])) : pf_KV l D tys y cc nL fr lo av ws post Wf := fun sz =>
  pf_ent (Pq := fun A => va_Qv post (fun u t => pf_at D tys A (Wf u) t) A) (sz := sz) own hy ho hlen body
end PFE
section PFR
variable {p : Program} {l : Launch} {e : Env} {R : Room} {s : State} {m : MethodId} {args : Array Value} {below : List Frame} {meth : Method} {c : Code} {H : Heap} {locs : List Loc} {cells slots : Nat} {Q : State → Prop}
variable {cc : ByteArray} {nL pc : Nat} {ls : Array Slot} {rest st0 : List Value} {own : String} {D : va_G} {tys : List (ClassId × FieldType)} {A : Nat → Prop} {ws : va_W} {S : Type} {Wf : S → va_W}
theorem pf_top {x : Int32} (y : Int32) (h : x = y) (k : W p l e R s m args below meth c H locs cells slots Q (F0 m pc ls (.int y :: rest))) : W p l e R s m args below meth c H locs cells slots Q (F0 m pc ls (.int x :: rest)) := h ▸ k
theorem pf_retI {post : Int32 → S → Prop} {v : Int32} (hc : pf_C p s m c cc nL args own D tys) (u : S) (hw : pf_H D A s (Wf u) H locs) (hr : meth.sig.returnType = some .int) (hlk : meth.locks = false) (hp : post v u) (hdg : decode cc pc = .ok (.ireturn, 1)) :
    W p l e R s m args below meth c H locs 0 0 (MQ below (va_Qi post (fun u t => pf_at D tys A (Wf u) t) A) args s 0 0 A) (F0 m pc ls [.int v]) :=
  W.iret hc.1.1 hc.1.2.1 hr (fun t ht hW => ⟨⟨v, u, rfl, hp, by rw [ht]; exact hw.1, va_K.moved hW.alike hc.2, hw.2.1⟩, hw.2.2.F ht⟩) hw.2.2.2.2 hdg hlk
theorem pf_retZ {post : Int32 → S → Prop} {v : Int32} (hc : pf_C p s m c cc nL args own D tys) (u : S) (hw : pf_H D A s (Wf u) H locs) (hr : meth.sig.returnType = some .boolean) (hlk : meth.locks = false) (hn : v = 0 ∨ v = 1) (hp : post v u) (hdg : decode cc pc = .ok (.ireturn, 1)) :
    W p l e R s m args below meth c H locs 0 0 (MQ below (va_Qi post (fun u t => pf_at D tys A (Wf u) t) A) args s 0 0 A) (F0 m pc ls [.int v]) :=
  W.zret hc.1.1 hc.1.2.1 hr (by rcases hn with rfl | rfl <;> rfl) (fun t ht hW => ⟨⟨v, u, rfl, hp, by rw [ht]; exact hw.1, va_K.moved hW.alike hc.2, hw.2.1⟩, hw.2.2.F ht⟩) hw.2.2.2.2 hdg hlk
theorem pf_retV {post : S → Prop} (hc : pf_C p s m c cc nL args own D tys) (u : S) (hw : pf_H D A s (Wf u) H locs) (hr : meth.sig.returnType = none) (hlk : meth.locks = false) (hp : post u) (hdg : decode cc pc = .ok (.return_, 1)) :
    W p l e R s m args below meth c H locs 0 0 (MQ below (va_Qv post (fun u t => pf_at D tys A (Wf u) t) A) args s 0 0 A) (F0 m pc ls []) :=
  W.vret hc.1.1 hc.1.2.1 hr (fun t ht hW => ⟨⟨u, rfl, hp, by rw [ht]; exact hw.1, va_K.moved hW.alike hc.2, hw.2.1⟩, hw.2.2.F ht⟩) hw.2.2.2.2 hdg hlk
variable {y : MethodName} {bytes : ByteArray} {maxL fr lo n index ci N : Nat} {T : u_T} {fs : List Value} {ret : Option FieldType} {b : Nat} {C : String}
theorem pf_fr (hw : pf_H D A s ws H locs) (hA : ∀ q, s.heap.size ≤ q → A q) : ∀ q, va_A ws H.size q → A q := by
  intro q h
  rcases h with ⟨k, e, h⟩ | h
  · exact hw.2.1.2 k _ h
  · exact hA q (Nat.le_trans hw.2.2.1 h)
theorem pf_callI {post : Int32 → S → Prop} (As : List Value) (hc : pf_C p s m c cc nL args own D tys) (hw : pf_H D A s ws H locs) (hA : ∀ q, s.heap.size ≤ q → A q) (hM : pf_KI l D tys y bytes maxL ret fr lo (.ref b :: As) ws post Wf)
    (cw : CallW R s args own C index y bytes maxL ret (ws_ y bytes maxL ret) { frames := fr, cells := 0, slots := 0, locals := lo } 0 0 n) (hcl : vwCl[ci]? = some (C, T, N)) (he : ws[0]? = some (b, .inr (ci, fs)))
    (hn : As.length = n) (hsz : ls.size = nL) (hst : st0 = As.reverse ++ .ref b :: rest) (hroom : (rest.map fun v => v.category).sum ≤ 8) (hdg : decode cc pc = .ok (.invokevirtual index, 3)) (hcs : cells ≤ R.cells ∧ slots ≤ R.slots)
    (kk : ∀ (r : Int32) (u : S) (H1 : Heap) (locs1 : List Loc), post r u → pf_H D A s (Wf u) H1 locs1 → W p l e R s m args below meth c H1 locs1 cells slots Q (F0 m (pc + 3) ls (.int r :: rest))) : W p l e R s m args below meth c H locs cells slots Q (F0 m pc ls st0) := by
  have hFc := pf_fr hw hA
  refine va_calli (va_runV (As := As) (rest := rest) hc.1 (hM H.size) cw ⟨fun a U g mk q => by obtain ⟨q0, q1, qP, qK, qD⟩ := q; exact ⟨q0, q1, qP, va_K.moved (u := U) (U := U.calling g mk a) (Vm.Alike.refl U.vm) qK, qD⟩, va_recv hc.2 hw.1 hcl he, fun U hU hW => ⟨rfl, by rw [hU], by rw [hU]; exact hw.1, va_K.moved hW.alike hc.2, hw.2.1.weaken (fun _ _ _ _ => trivial)⟩⟩ rfl hn hsz hst (lv_room hroom) hdg hcs) hw.2.2 (fun q _ h => hFc q h) hFc (fun r u t H1 locs1 ht hvm hp hB hz1 hk1 hS => ?_)
  exact kk r u H1 locs1 hp ⟨by rw [← ht]; exact hB.1, hB.2.2.weaken (fun _ _ _ h => hFc _ h), hS⟩
theorem pf_callV {post : S → Prop} (As : List Value) (hc : pf_C p s m c cc nL args own D tys) (hw : pf_H D A s ws H locs) (hA : ∀ q, s.heap.size ≤ q → A q) (hM : pf_KV l D tys y bytes maxL fr lo (.ref b :: As) ws post Wf)
    (cw : CallW R s args own C index y bytes maxL none (ws_ y bytes maxL none) { frames := fr, cells := 0, slots := 0, locals := lo } 0 0 n) (hcl : vwCl[ci]? = some (C, T, N)) (he : ws[0]? = some (b, .inr (ci, fs)))
    (hn : As.length = n) (hsz : ls.size = nL) (hst : st0 = As.reverse ++ .ref b :: rest) (hroom : (rest.map fun v => v.category).sum ≤ 8) (hdg : decode cc pc = .ok (.invokevirtual index, 3)) (hcs : cells ≤ R.cells ∧ slots ≤ R.slots)
    (kk : ∀ (u : S) (H1 : Heap) (locs1 : List Loc), post u → pf_H D A s (Wf u) H1 locs1 → W p l e R s m args below meth c H1 locs1 cells slots Q (F0 m (pc + 3) ls rest)) : W p l e R s m args below meth c H locs cells slots Q (F0 m pc ls st0) := by
  have hFc := pf_fr hw hA
  refine va_callv (va_runV (As := As) (rest := rest) hc.1 (hM H.size) cw ⟨fun a U g mk q => by obtain ⟨q0, q1, qP, qK, qD⟩ := q; exact ⟨q0, q1, qP, va_K.moved (u := U) (U := U.calling g mk a) (Vm.Alike.refl U.vm) qK, qD⟩, va_recv hc.2 hw.1 hcl he, fun U hU hW => ⟨rfl, by rw [hU], by rw [hU]; exact hw.1, va_K.moved hW.alike hc.2, hw.2.1.weaken (fun _ _ _ _ => trivial)⟩⟩ rfl hn hsz hst (lv_room hroom) hdg hcs) hw.2.2 (fun q _ h => hFc q h) hFc (fun u t H1 locs1 ht hvm hp hB hz1 hk1 hS => ?_)
  exact kk u H1 locs1 hp ⟨by rw [← ht]; exact hB.1, hB.2.2.weaken (fun _ _ _ h => hFc _ h), hS⟩
end PFR
/-- an index: in range, and its number -/
def pf_ix (i : Int32) (j n : Nat) : Prop := vp_in i n ∧ i.toNatClampNeg = j
theorem pf_ixn {j n : Nat} (h : j < n) (hn : n < 2 ^ 31) : pf_ix (nI j) j n := ⟨vp_in_nI h hn, nI_clamp (Nat.lt_trans h hn)⟩
theorem pf_ixe {i : Int32} {j n : Nat} (e : i = nI j) (h : j < n) (hn : n < 2 ^ 31) : pf_ix i j n := by rw [e]; exact pf_ixn h hn
theorem pf_ixs {i : Int32} {n : Nat} (h : vp_in i n) : pf_ix i i.toNatClampNeg n := ⟨h, rfl⟩
/-- a truth value as an int -/
def pf_tf (r : Int32) (P : Prop) : Prop := (r = 1 ∧ P) ∨ (r = 0 ∧ ¬ P)
theorem pf_tf1 {P : Prop} (h : P) : pf_tf 1 P := Or.inl ⟨rfl, h⟩
theorem pf_tf0 {P : Prop} (h : ¬ P) : pf_tf 0 P := Or.inr ⟨rfl, h⟩
theorem pf_tf01 {r : Int32} {P : Prop} (h : pf_tf r P) : r = 0 ∨ r = 1 := by
  rcases h with ⟨e, -⟩ | ⟨e, -⟩
  · exact Or.inr e
  · exact Or.inl e
theorem pf_tf_yes {r : Int32} {P : Prop} (h : pf_tf r P) (n : ¬ r = 0) : P := by
  rcases h with ⟨-, e⟩ | ⟨e, -⟩
  · exact e
  · exact absurd e n
theorem pf_tf_no {r : Int32} {P : Prop} (h : pf_tf r P) (n : r = 0) : ¬ P := by
  rcases h with ⟨e, -⟩ | ⟨-, e⟩
  · rw [e] at n; exact absurd n (by decide)
  · exact e
theorem pf_tf_eq {r q : Int32} {P P' : Prop} (h : pf_tf r P) (h' : pf_tf q P') (e : P ↔ P') : r = q := by
  rcases h with ⟨e1, h1⟩ | ⟨e1, h1⟩ <;> rcases h' with ⟨e2, h2⟩ | ⟨e2, h2⟩
  · rw [e1, e2]
  · exact absurd (e.mp h1) h2
  · exact absurd (e.mpr h2) h1
  · rw [e1, e2]
section PFF0
variable {p : Program} {l : Launch} {e : Env} {R : Room} {s : State} {m : MethodId} {args : Array Value} {below : List Frame} {meth : Method} {c : Code} {H : Heap} {locs : List Loc} {cells slots : Nat} {Q : State → Prop}
variable {cc : ByteArray} {nL pc : Nat} {ls : Array Slot} {rest : List Value} {D : va_G} {A : Nat → Prop} {a : Nat → Nat} {d : Nat → ClassId}
variable {oc fx fy fz ce sv fi rg lS lL : Nat → Int32} {ln pl ct ol rd wr sr tl fl : Int32}
theorem g0_ln (hc : pf_C p s m c cc nL args RX0 D (tyC d)) (hw : pf_H D A s (wC a d ln oc fx fy fz ce sv fi rg pl ct ol lS lL rd wr sr tl fl) H locs) (hdg : decode cc pc = .ok (.getfield 41, 3)) (kk : W p l e R s m args below meth c H locs cells slots Q (F0 m (pc + 3) ls (.int ln :: rest))) : W p l e R s m args below meth c H locs cells slots Q (F0 m pc ls (.ref (a 0) :: rest)) :=
  va_get (D := D) (ci := 0) (v := .int ln) (C := RX0) (T := TX0) (N := 19) hc.1.1 hc.1.2.1 hc.1.2.2.2.2 in_X0 hc.1.2.2.2.1 hc.2 hw.1 0 rfl rfl 0 (by decide) (hc.1.2.2.2.2 _ q32) (fun _ h9 => h9) rfl hdg kk
theorem p0_ln {x : Int32} (hc : pf_C p s m c cc nL args RX0 D (tyC d)) (hw : pf_H D A s (wC a d ln oc fx fy fz ce sv fi rg pl ct ol lS lL rd wr sr tl fl) H locs) (hdg : decode cc pc = .ok (.putfield 41, 3)) (kk : ∀ (H1 : Heap) (locs1 : List Loc), pf_H D A s (wC a d x oc fx fy fz ce sv fi rg pl ct ol lS lL rd wr sr tl fl) H1 locs1 → W p l e R s m args below meth c H1 locs1 cells slots Q (F0 m (pc + 3) ls rest)) : W p l e R s m args below meth c H locs cells slots Q (F0 m pc ls (.int x :: .ref (a 0) :: rest)) :=
  va_put (D := D) (ci := 0) (v := .int x) (ty := .int) (C := RX0) (T := TX0) (N := 19) hc.1.1 hc.1.2.1 hc.1.2.2.2.2 in_X0 tyX0 tyX0_ok nmX0 hc.1.2.2.2.1 hc.2 hw.1 hw.2.1 hw.2.2 0 rfl rfl 0 (by decide) (hc.1.2.2.2.2 _ q32) (fun _ h9 => h9) rfl (by decide +kernel) rfl rfl (Nat.le_of_ble_eq_true rfl) hdg (fun H1 locs1 h1 h2 h3 => kk H1 locs1 ⟨h1, h2, h3⟩)
theorem g0_oc (hc : pf_C p s m c cc nL args RX0 D (tyC d)) (hw : pf_H D A s (wC a d ln oc fx fy fz ce sv fi rg pl ct ol lS lL rd wr sr tl fl) H locs) (hdg : decode cc pc = .ok (.getfield 7, 3)) (kk : W p l e R s m args below meth c H locs cells slots Q (F0 m (pc + 3) ls (.ref (a 1) :: rest))) : W p l e R s m args below meth c H locs cells slots Q (F0 m pc ls (.ref (a 0) :: rest)) :=
  va_get (D := D) (ci := 0) (v := .ref (a 1)) (C := RX0) (T := TX0) (N := 19) hc.1.1 hc.1.2.1 hc.1.2.2.2.2 in_X0 hc.1.2.2.2.1 hc.2 hw.1 0 rfl rfl 1 (by decide) (hc.1.2.2.2.2 _ q33) (fun _ h9 => h9) rfl hdg kk
theorem l0_oc {i : Int32} {j : Nat} (hc : pf_C p s m c cc nL args RX0 D (tyC d)) (hw : pf_H D A s (wC a d ln oc fx fy fz ce sv fi rg pl ct ol lS lL rd wr sr tl fl) H locs) (hi : pf_ix i j 30) (hdg : decode cc pc = .ok (.baload, 1)) (kk : W p l e R s m args below meth c H locs cells slots Q (F0 m (pc + 1) ls (.int (oc j) :: rest))) : W p l e R s m args below meth c H locs cells slots Q (F0 m pc ls (.int i :: .ref (a 1) :: rest)) := by
  obtain ⟨h1, rfl⟩ := hi
  exact va_bald hc.1.1 hc.1.2.1 hc.2 hw.1 1 0 rfl rfl h1 hdg kk
theorem s0_oc {i x : Int32} {j : Nat} (hc : pf_C p s m c cc nL args RX0 D (tyC d)) (hw : pf_H D A s (wC a d ln oc fx fy fz ce sv fi rg pl ct ol lS lL rd wr sr tl fl) H locs) (hi : pf_ix i j 30) (hdg : decode cc pc = .ok (.bastore, 1)) (kk : ∀ (H1 : Heap) (locs1 : List Loc), pf_H D A s (wC a d ln (upd oc j (x.toInt8.toInt32)) fx fy fz ce sv fi rg pl ct ol lS lL rd wr sr tl fl) H1 locs1 → W p l e R s m args below meth c H1 locs1 cells slots Q (F0 m (pc + 1) ls rest)) : W p l e R s m args below meth c H locs cells slots Q (F0 m pc ls (.int (x.toInt8.toInt32) :: .int i :: .ref (a 1) :: rest)) := by
  obtain ⟨h1, rfl⟩ := hi
  refine va_bast hc.1.1 hc.1.2.1 hc.2 hw.1 hw.2.1 hw.2.2 1 0 rfl rfl h1 hdg (fun H1 locs1 h1 h2 h3 => kk H1 locs1 ?_)
  rw [pk_vb] at h1 h2
  exact ⟨h1, h2, h3⟩
theorem g0_fx (hc : pf_C p s m c cc nL args RX0 D (tyC d)) (hw : pf_H D A s (wC a d ln oc fx fy fz ce sv fi rg pl ct ol lS lL rd wr sr tl fl) H locs) (hdg : decode cc pc = .ok (.getfield 13, 3)) (kk : W p l e R s m args below meth c H locs cells slots Q (F0 m (pc + 3) ls (.ref (a 2) :: rest))) : W p l e R s m args below meth c H locs cells slots Q (F0 m pc ls (.ref (a 0) :: rest)) :=
  va_get (D := D) (ci := 0) (v := .ref (a 2)) (C := RX0) (T := TX0) (N := 19) hc.1.1 hc.1.2.1 hc.1.2.2.2.2 in_X0 hc.1.2.2.2.1 hc.2 hw.1 0 rfl rfl 2 (by decide) (hc.1.2.2.2.2 _ q34) (fun _ h9 => h9) rfl hdg kk
theorem l0_fx {i : Int32} {j : Nat} (hc : pf_C p s m c cc nL args RX0 D (tyC d)) (hw : pf_H D A s (wC a d ln oc fx fy fz ce sv fi rg pl ct ol lS lL rd wr sr tl fl) H locs) (hi : pf_ix i j 30) (hdg : decode cc pc = .ok (.baload, 1)) (kk : W p l e R s m args below meth c H locs cells slots Q (F0 m (pc + 1) ls (.int (fx j) :: rest))) : W p l e R s m args below meth c H locs cells slots Q (F0 m pc ls (.int i :: .ref (a 2) :: rest)) := by
  obtain ⟨h1, rfl⟩ := hi
  exact va_bald hc.1.1 hc.1.2.1 hc.2 hw.1 2 1 rfl rfl h1 hdg kk
theorem s0_fx {i x : Int32} {j : Nat} (hc : pf_C p s m c cc nL args RX0 D (tyC d)) (hw : pf_H D A s (wC a d ln oc fx fy fz ce sv fi rg pl ct ol lS lL rd wr sr tl fl) H locs) (hi : pf_ix i j 30) (hdg : decode cc pc = .ok (.bastore, 1)) (kk : ∀ (H1 : Heap) (locs1 : List Loc), pf_H D A s (wC a d ln oc (upd fx j (x.toInt8.toInt32)) fy fz ce sv fi rg pl ct ol lS lL rd wr sr tl fl) H1 locs1 → W p l e R s m args below meth c H1 locs1 cells slots Q (F0 m (pc + 1) ls rest)) : W p l e R s m args below meth c H locs cells slots Q (F0 m pc ls (.int (x.toInt8.toInt32) :: .int i :: .ref (a 2) :: rest)) := by
  obtain ⟨h1, rfl⟩ := hi
  refine va_bast hc.1.1 hc.1.2.1 hc.2 hw.1 hw.2.1 hw.2.2 2 1 rfl rfl h1 hdg (fun H1 locs1 h1 h2 h3 => kk H1 locs1 ?_)
  rw [pk_vb] at h1 h2
  exact ⟨h1, h2, h3⟩
theorem g0_fy (hc : pf_C p s m c cc nL args RX0 D (tyC d)) (hw : pf_H D A s (wC a d ln oc fx fy fz ce sv fi rg pl ct ol lS lL rd wr sr tl fl) H locs) (hdg : decode cc pc = .ok (.getfield 16, 3)) (kk : W p l e R s m args below meth c H locs cells slots Q (F0 m (pc + 3) ls (.ref (a 3) :: rest))) : W p l e R s m args below meth c H locs cells slots Q (F0 m pc ls (.ref (a 0) :: rest)) :=
  va_get (D := D) (ci := 0) (v := .ref (a 3)) (C := RX0) (T := TX0) (N := 19) hc.1.1 hc.1.2.1 hc.1.2.2.2.2 in_X0 hc.1.2.2.2.1 hc.2 hw.1 0 rfl rfl 3 (by decide) (hc.1.2.2.2.2 _ q35) (fun _ h9 => h9) rfl hdg kk
theorem l0_fy {i : Int32} {j : Nat} (hc : pf_C p s m c cc nL args RX0 D (tyC d)) (hw : pf_H D A s (wC a d ln oc fx fy fz ce sv fi rg pl ct ol lS lL rd wr sr tl fl) H locs) (hi : pf_ix i j 30) (hdg : decode cc pc = .ok (.iaload, 1)) (kk : W p l e R s m args below meth c H locs cells slots Q (F0 m (pc + 1) ls (.int (fy j) :: rest))) : W p l e R s m args below meth c H locs cells slots Q (F0 m pc ls (.int i :: .ref (a 3) :: rest)) := by
  obtain ⟨h1, rfl⟩ := hi
  exact va_iald hc.1.1 hc.1.2.1 hc.2 hw.1 3 2 rfl rfl h1 hdg kk
theorem s0_fy {i x : Int32} {j : Nat} (hc : pf_C p s m c cc nL args RX0 D (tyC d)) (hw : pf_H D A s (wC a d ln oc fx fy fz ce sv fi rg pl ct ol lS lL rd wr sr tl fl) H locs) (hi : pf_ix i j 30) (hdg : decode cc pc = .ok (.iastore, 1)) (kk : ∀ (H1 : Heap) (locs1 : List Loc), pf_H D A s (wC a d ln oc fx (upd fy j x) fz ce sv fi rg pl ct ol lS lL rd wr sr tl fl) H1 locs1 → W p l e R s m args below meth c H1 locs1 cells slots Q (F0 m (pc + 1) ls rest)) : W p l e R s m args below meth c H locs cells slots Q (F0 m pc ls (.int x :: .int i :: .ref (a 3) :: rest)) := by
  obtain ⟨h1, rfl⟩ := hi
  exact va_iast hc.1.1 hc.1.2.1 hc.2 hw.1 hw.2.1 hw.2.2 3 2 rfl rfl h1 hdg (fun H1 locs1 h1 h2 h3 => kk H1 locs1 ⟨h1, h2, h3⟩)
theorem g0_fz (hc : pf_C p s m c cc nL args RX0 D (tyC d)) (hw : pf_H D A s (wC a d ln oc fx fy fz ce sv fi rg pl ct ol lS lL rd wr sr tl fl) H locs) (hdg : decode cc pc = .ok (.getfield 20, 3)) (kk : W p l e R s m args below meth c H locs cells slots Q (F0 m (pc + 3) ls (.ref (a 4) :: rest))) : W p l e R s m args below meth c H locs cells slots Q (F0 m pc ls (.ref (a 0) :: rest)) :=
  va_get (D := D) (ci := 0) (v := .ref (a 4)) (C := RX0) (T := TX0) (N := 19) hc.1.1 hc.1.2.1 hc.1.2.2.2.2 in_X0 hc.1.2.2.2.1 hc.2 hw.1 0 rfl rfl 4 (by decide) (hc.1.2.2.2.2 _ q36) (fun _ h9 => h9) rfl hdg kk
theorem l0_fz {i : Int32} {j : Nat} (hc : pf_C p s m c cc nL args RX0 D (tyC d)) (hw : pf_H D A s (wC a d ln oc fx fy fz ce sv fi rg pl ct ol lS lL rd wr sr tl fl) H locs) (hi : pf_ix i j 30) (hdg : decode cc pc = .ok (.baload, 1)) (kk : W p l e R s m args below meth c H locs cells slots Q (F0 m (pc + 1) ls (.int (fz j) :: rest))) : W p l e R s m args below meth c H locs cells slots Q (F0 m pc ls (.int i :: .ref (a 4) :: rest)) := by
  obtain ⟨h1, rfl⟩ := hi
  exact va_bald hc.1.1 hc.1.2.1 hc.2 hw.1 4 3 rfl rfl h1 hdg kk
theorem s0_fz {i x : Int32} {j : Nat} (hc : pf_C p s m c cc nL args RX0 D (tyC d)) (hw : pf_H D A s (wC a d ln oc fx fy fz ce sv fi rg pl ct ol lS lL rd wr sr tl fl) H locs) (hi : pf_ix i j 30) (hdg : decode cc pc = .ok (.bastore, 1)) (kk : ∀ (H1 : Heap) (locs1 : List Loc), pf_H D A s (wC a d ln oc fx fy (upd fz j (x.toInt8.toInt32)) ce sv fi rg pl ct ol lS lL rd wr sr tl fl) H1 locs1 → W p l e R s m args below meth c H1 locs1 cells slots Q (F0 m (pc + 1) ls rest)) : W p l e R s m args below meth c H locs cells slots Q (F0 m pc ls (.int (x.toInt8.toInt32) :: .int i :: .ref (a 4) :: rest)) := by
  obtain ⟨h1, rfl⟩ := hi
  refine va_bast hc.1.1 hc.1.2.1 hc.2 hw.1 hw.2.1 hw.2.2 4 3 rfl rfl h1 hdg (fun H1 locs1 h1 h2 h3 => kk H1 locs1 ?_)
  rw [pk_vb] at h1 h2
  exact ⟨h1, h2, h3⟩
theorem g0_ce (hc : pf_C p s m c cc nL args RX0 D (tyC d)) (hw : pf_H D A s (wC a d ln oc fx fy fz ce sv fi rg pl ct ol lS lL rd wr sr tl fl) H locs) (hdg : decode cc pc = .ok (.getfield 23, 3)) (kk : W p l e R s m args below meth c H locs cells slots Q (F0 m (pc + 3) ls (.ref (a 5) :: rest))) : W p l e R s m args below meth c H locs cells slots Q (F0 m pc ls (.ref (a 0) :: rest)) :=
  va_get (D := D) (ci := 0) (v := .ref (a 5)) (C := RX0) (T := TX0) (N := 19) hc.1.1 hc.1.2.1 hc.1.2.2.2.2 in_X0 hc.1.2.2.2.1 hc.2 hw.1 0 rfl rfl 5 (by decide) (hc.1.2.2.2.2 _ q37) (fun _ h9 => h9) rfl hdg kk
theorem l0_ce {i : Int32} {j : Nat} (hc : pf_C p s m c cc nL args RX0 D (tyC d)) (hw : pf_H D A s (wC a d ln oc fx fy fz ce sv fi rg pl ct ol lS lL rd wr sr tl fl) H locs) (hi : pf_ix i j 12) (hdg : decode cc pc = .ok (.iaload, 1)) (kk : W p l e R s m args below meth c H locs cells slots Q (F0 m (pc + 1) ls (.int (ce j) :: rest))) : W p l e R s m args below meth c H locs cells slots Q (F0 m pc ls (.int i :: .ref (a 5) :: rest)) := by
  obtain ⟨h1, rfl⟩ := hi
  exact va_iald hc.1.1 hc.1.2.1 hc.2 hw.1 5 4 rfl rfl h1 hdg kk
theorem s0_ce {i x : Int32} {j : Nat} (hc : pf_C p s m c cc nL args RX0 D (tyC d)) (hw : pf_H D A s (wC a d ln oc fx fy fz ce sv fi rg pl ct ol lS lL rd wr sr tl fl) H locs) (hi : pf_ix i j 12) (hdg : decode cc pc = .ok (.iastore, 1)) (kk : ∀ (H1 : Heap) (locs1 : List Loc), pf_H D A s (wC a d ln oc fx fy fz (upd ce j x) sv fi rg pl ct ol lS lL rd wr sr tl fl) H1 locs1 → W p l e R s m args below meth c H1 locs1 cells slots Q (F0 m (pc + 1) ls rest)) : W p l e R s m args below meth c H locs cells slots Q (F0 m pc ls (.int x :: .int i :: .ref (a 5) :: rest)) := by
  obtain ⟨h1, rfl⟩ := hi
  exact va_iast hc.1.1 hc.1.2.1 hc.2 hw.1 hw.2.1 hw.2.2 5 4 rfl rfl h1 hdg (fun H1 locs1 h1 h2 h3 => kk H1 locs1 ⟨h1, h2, h3⟩)
theorem g0_sv (hc : pf_C p s m c cc nL args RX0 D (tyC d)) (hw : pf_H D A s (wC a d ln oc fx fy fz ce sv fi rg pl ct ol lS lL rd wr sr tl fl) H locs) (hdg : decode cc pc = .ok (.getfield 26, 3)) (kk : W p l e R s m args below meth c H locs cells slots Q (F0 m (pc + 3) ls (.ref (a 6) :: rest))) : W p l e R s m args below meth c H locs cells slots Q (F0 m pc ls (.ref (a 0) :: rest)) :=
  va_get (D := D) (ci := 0) (v := .ref (a 6)) (C := RX0) (T := TX0) (N := 19) hc.1.1 hc.1.2.1 hc.1.2.2.2.2 in_X0 hc.1.2.2.2.1 hc.2 hw.1 0 rfl rfl 6 (by decide) (hc.1.2.2.2.2 _ q38) (fun _ h9 => h9) rfl hdg kk
theorem l0_sv {i : Int32} {j : Nat} (hc : pf_C p s m c cc nL args RX0 D (tyC d)) (hw : pf_H D A s (wC a d ln oc fx fy fz ce sv fi rg pl ct ol lS lL rd wr sr tl fl) H locs) (hi : pf_ix i j 24) (hdg : decode cc pc = .ok (.iaload, 1)) (kk : W p l e R s m args below meth c H locs cells slots Q (F0 m (pc + 1) ls (.int (sv j) :: rest))) : W p l e R s m args below meth c H locs cells slots Q (F0 m pc ls (.int i :: .ref (a 6) :: rest)) := by
  obtain ⟨h1, rfl⟩ := hi
  exact va_iald hc.1.1 hc.1.2.1 hc.2 hw.1 6 5 rfl rfl h1 hdg kk
theorem s0_sv {i x : Int32} {j : Nat} (hc : pf_C p s m c cc nL args RX0 D (tyC d)) (hw : pf_H D A s (wC a d ln oc fx fy fz ce sv fi rg pl ct ol lS lL rd wr sr tl fl) H locs) (hi : pf_ix i j 24) (hdg : decode cc pc = .ok (.iastore, 1)) (kk : ∀ (H1 : Heap) (locs1 : List Loc), pf_H D A s (wC a d ln oc fx fy fz ce (upd sv j x) fi rg pl ct ol lS lL rd wr sr tl fl) H1 locs1 → W p l e R s m args below meth c H1 locs1 cells slots Q (F0 m (pc + 1) ls rest)) : W p l e R s m args below meth c H locs cells slots Q (F0 m pc ls (.int x :: .int i :: .ref (a 6) :: rest)) := by
  obtain ⟨h1, rfl⟩ := hi
  exact va_iast hc.1.1 hc.1.2.1 hc.2 hw.1 hw.2.1 hw.2.2 6 5 rfl rfl h1 hdg (fun H1 locs1 h1 h2 h3 => kk H1 locs1 ⟨h1, h2, h3⟩)
theorem g0_fi (hc : pf_C p s m c cc nL args RX0 D (tyC d)) (hw : pf_H D A s (wC a d ln oc fx fy fz ce sv fi rg pl ct ol lS lL rd wr sr tl fl) H locs) (hdg : decode cc pc = .ok (.getfield 29, 3)) (kk : W p l e R s m args below meth c H locs cells slots Q (F0 m (pc + 3) ls (.ref (a 7) :: rest))) : W p l e R s m args below meth c H locs cells slots Q (F0 m pc ls (.ref (a 0) :: rest)) :=
  va_get (D := D) (ci := 0) (v := .ref (a 7)) (C := RX0) (T := TX0) (N := 19) hc.1.1 hc.1.2.1 hc.1.2.2.2.2 in_X0 hc.1.2.2.2.1 hc.2 hw.1 0 rfl rfl 7 (by decide) (hc.1.2.2.2.2 _ q39) (fun _ h9 => h9) rfl hdg kk
theorem l0_fi {i : Int32} {j : Nat} (hc : pf_C p s m c cc nL args RX0 D (tyC d)) (hw : pf_H D A s (wC a d ln oc fx fy fz ce sv fi rg pl ct ol lS lL rd wr sr tl fl) H locs) (hi : pf_ix i j 4) (hdg : decode cc pc = .ok (.iaload, 1)) (kk : W p l e R s m args below meth c H locs cells slots Q (F0 m (pc + 1) ls (.int (fi j) :: rest))) : W p l e R s m args below meth c H locs cells slots Q (F0 m pc ls (.int i :: .ref (a 7) :: rest)) := by
  obtain ⟨h1, rfl⟩ := hi
  exact va_iald hc.1.1 hc.1.2.1 hc.2 hw.1 7 6 rfl rfl h1 hdg kk
theorem s0_fi {i x : Int32} {j : Nat} (hc : pf_C p s m c cc nL args RX0 D (tyC d)) (hw : pf_H D A s (wC a d ln oc fx fy fz ce sv fi rg pl ct ol lS lL rd wr sr tl fl) H locs) (hi : pf_ix i j 4) (hdg : decode cc pc = .ok (.iastore, 1)) (kk : ∀ (H1 : Heap) (locs1 : List Loc), pf_H D A s (wC a d ln oc fx fy fz ce sv (upd fi j x) rg pl ct ol lS lL rd wr sr tl fl) H1 locs1 → W p l e R s m args below meth c H1 locs1 cells slots Q (F0 m (pc + 1) ls rest)) : W p l e R s m args below meth c H locs cells slots Q (F0 m pc ls (.int x :: .int i :: .ref (a 7) :: rest)) := by
  obtain ⟨h1, rfl⟩ := hi
  exact va_iast hc.1.1 hc.1.2.1 hc.2 hw.1 hw.2.1 hw.2.2 7 6 rfl rfl h1 hdg (fun H1 locs1 h1 h2 h3 => kk H1 locs1 ⟨h1, h2, h3⟩)
theorem g0_rg (hc : pf_C p s m c cc nL args RX0 D (tyC d)) (hw : pf_H D A s (wC a d ln oc fx fy fz ce sv fi rg pl ct ol lS lL rd wr sr tl fl) H locs) (hdg : decode cc pc = .ok (.getfield 32, 3)) (kk : W p l e R s m args below meth c H locs cells slots Q (F0 m (pc + 3) ls (.ref (a 8) :: rest))) : W p l e R s m args below meth c H locs cells slots Q (F0 m pc ls (.ref (a 0) :: rest)) :=
  va_get (D := D) (ci := 0) (v := .ref (a 8)) (C := RX0) (T := TX0) (N := 19) hc.1.1 hc.1.2.1 hc.1.2.2.2.2 in_X0 hc.1.2.2.2.1 hc.2 hw.1 0 rfl rfl 8 (by decide) (hc.1.2.2.2.2 _ q40) (fun _ h9 => h9) rfl hdg kk
theorem l0_rg {i : Int32} {j : Nat} (hc : pf_C p s m c cc nL args RX0 D (tyC d)) (hw : pf_H D A s (wC a d ln oc fx fy fz ce sv fi rg pl ct ol lS lL rd wr sr tl fl) H locs) (hi : pf_ix i j 4) (hdg : decode cc pc = .ok (.iaload, 1)) (kk : W p l e R s m args below meth c H locs cells slots Q (F0 m (pc + 1) ls (.int (rg j) :: rest))) : W p l e R s m args below meth c H locs cells slots Q (F0 m pc ls (.int i :: .ref (a 8) :: rest)) := by
  obtain ⟨h1, rfl⟩ := hi
  exact va_iald hc.1.1 hc.1.2.1 hc.2 hw.1 8 7 rfl rfl h1 hdg kk
theorem s0_rg {i x : Int32} {j : Nat} (hc : pf_C p s m c cc nL args RX0 D (tyC d)) (hw : pf_H D A s (wC a d ln oc fx fy fz ce sv fi rg pl ct ol lS lL rd wr sr tl fl) H locs) (hi : pf_ix i j 4) (hdg : decode cc pc = .ok (.iastore, 1)) (kk : ∀ (H1 : Heap) (locs1 : List Loc), pf_H D A s (wC a d ln oc fx fy fz ce sv fi (upd rg j x) pl ct ol lS lL rd wr sr tl fl) H1 locs1 → W p l e R s m args below meth c H1 locs1 cells slots Q (F0 m (pc + 1) ls rest)) : W p l e R s m args below meth c H locs cells slots Q (F0 m pc ls (.int x :: .int i :: .ref (a 8) :: rest)) := by
  obtain ⟨h1, rfl⟩ := hi
  exact va_iast hc.1.1 hc.1.2.1 hc.2 hw.1 hw.2.1 hw.2.2 8 7 rfl rfl h1 hdg (fun H1 locs1 h1 h2 h3 => kk H1 locs1 ⟨h1, h2, h3⟩)
theorem g0_pl (hc : pf_C p s m c cc nL args RX0 D (tyC d)) (hw : pf_H D A s (wC a d ln oc fx fy fz ce sv fi rg pl ct ol lS lL rd wr sr tl fl) H locs) (hdg : decode cc pc = .ok (.getfield 73, 3)) (kk : W p l e R s m args below meth c H locs cells slots Q (F0 m (pc + 3) ls (.int pl :: rest))) : W p l e R s m args below meth c H locs cells slots Q (F0 m pc ls (.ref (a 0) :: rest)) :=
  va_get (D := D) (ci := 0) (v := .int pl) (C := RX0) (T := TX0) (N := 19) hc.1.1 hc.1.2.1 hc.1.2.2.2.2 in_X0 hc.1.2.2.2.1 hc.2 hw.1 0 rfl rfl 9 (by decide) (hc.1.2.2.2.2 _ q41) (fun _ h9 => h9) rfl hdg kk
theorem p0_pl {x : Int32} (hc : pf_C p s m c cc nL args RX0 D (tyC d)) (hw : pf_H D A s (wC a d ln oc fx fy fz ce sv fi rg pl ct ol lS lL rd wr sr tl fl) H locs) (hdg : decode cc pc = .ok (.putfield 73, 3)) (kk : ∀ (H1 : Heap) (locs1 : List Loc), pf_H D A s (wC a d ln oc fx fy fz ce sv fi rg x ct ol lS lL rd wr sr tl fl) H1 locs1 → W p l e R s m args below meth c H1 locs1 cells slots Q (F0 m (pc + 3) ls rest)) : W p l e R s m args below meth c H locs cells slots Q (F0 m pc ls (.int x :: .ref (a 0) :: rest)) :=
  va_put (D := D) (ci := 0) (v := .int x) (ty := .int) (C := RX0) (T := TX0) (N := 19) hc.1.1 hc.1.2.1 hc.1.2.2.2.2 in_X0 tyX0 tyX0_ok nmX0 hc.1.2.2.2.1 hc.2 hw.1 hw.2.1 hw.2.2 0 rfl rfl 9 (by decide) (hc.1.2.2.2.2 _ q41) (fun _ h9 => h9) rfl (by decide +kernel) rfl rfl (Nat.le_of_ble_eq_true rfl) hdg (fun H1 locs1 h1 h2 h3 => kk H1 locs1 ⟨h1, h2, h3⟩)
theorem g0_ct (hc : pf_C p s m c cc nL args RX0 D (tyC d)) (hw : pf_H D A s (wC a d ln oc fx fy fz ce sv fi rg pl ct ol lS lL rd wr sr tl fl) H locs) (hdg : decode cc pc = .ok (.getfield 82, 3)) (kk : W p l e R s m args below meth c H locs cells slots Q (F0 m (pc + 3) ls (.int ct :: rest))) : W p l e R s m args below meth c H locs cells slots Q (F0 m pc ls (.ref (a 0) :: rest)) :=
  va_get (D := D) (ci := 0) (v := .int ct) (C := RX0) (T := TX0) (N := 19) hc.1.1 hc.1.2.1 hc.1.2.2.2.2 in_X0 hc.1.2.2.2.1 hc.2 hw.1 0 rfl rfl 10 (by decide) (hc.1.2.2.2.2 _ q42) (fun _ h9 => h9) rfl hdg kk
theorem p0_ct {x : Int32} (hc : pf_C p s m c cc nL args RX0 D (tyC d)) (hw : pf_H D A s (wC a d ln oc fx fy fz ce sv fi rg pl ct ol lS lL rd wr sr tl fl) H locs) (hdg : decode cc pc = .ok (.putfield 82, 3)) (kk : ∀ (H1 : Heap) (locs1 : List Loc), pf_H D A s (wC a d ln oc fx fy fz ce sv fi rg pl x ol lS lL rd wr sr tl fl) H1 locs1 → W p l e R s m args below meth c H1 locs1 cells slots Q (F0 m (pc + 3) ls rest)) : W p l e R s m args below meth c H locs cells slots Q (F0 m pc ls (.int x :: .ref (a 0) :: rest)) :=
  va_put (D := D) (ci := 0) (v := .int x) (ty := .int) (C := RX0) (T := TX0) (N := 19) hc.1.1 hc.1.2.1 hc.1.2.2.2.2 in_X0 tyX0 tyX0_ok nmX0 hc.1.2.2.2.1 hc.2 hw.1 hw.2.1 hw.2.2 0 rfl rfl 10 (by decide) (hc.1.2.2.2.2 _ q42) (fun _ h9 => h9) rfl (by decide +kernel) rfl rfl (Nat.le_of_ble_eq_true rfl) hdg (fun H1 locs1 h1 h2 h3 => kk H1 locs1 ⟨h1, h2, h3⟩)
theorem g0_ol (hc : pf_C p s m c cc nL args RX0 D (tyC d)) (hw : pf_H D A s (wC a d ln oc fx fy fz ce sv fi rg pl ct ol lS lL rd wr sr tl fl) H locs) (hdg : decode cc pc = .ok (.getfield 88, 3)) (kk : W p l e R s m args below meth c H locs cells slots Q (F0 m (pc + 3) ls (.int ol :: rest))) : W p l e R s m args below meth c H locs cells slots Q (F0 m pc ls (.ref (a 0) :: rest)) :=
  va_get (D := D) (ci := 0) (v := .int ol) (C := RX0) (T := TX0) (N := 19) hc.1.1 hc.1.2.1 hc.1.2.2.2.2 in_X0 hc.1.2.2.2.1 hc.2 hw.1 0 rfl rfl 11 (by decide) (hc.1.2.2.2.2 _ q43) (fun _ h9 => h9) rfl hdg kk
theorem p0_ol {x : Int32} (hc : pf_C p s m c cc nL args RX0 D (tyC d)) (hw : pf_H D A s (wC a d ln oc fx fy fz ce sv fi rg pl ct ol lS lL rd wr sr tl fl) H locs) (hdg : decode cc pc = .ok (.putfield 88, 3)) (kk : ∀ (H1 : Heap) (locs1 : List Loc), pf_H D A s (wC a d ln oc fx fy fz ce sv fi rg pl ct x lS lL rd wr sr tl fl) H1 locs1 → W p l e R s m args below meth c H1 locs1 cells slots Q (F0 m (pc + 3) ls rest)) : W p l e R s m args below meth c H locs cells slots Q (F0 m pc ls (.int x :: .ref (a 0) :: rest)) :=
  va_put (D := D) (ci := 0) (v := .int x) (ty := .int) (C := RX0) (T := TX0) (N := 19) hc.1.1 hc.1.2.1 hc.1.2.2.2.2 in_X0 tyX0 tyX0_ok nmX0 hc.1.2.2.2.1 hc.2 hw.1 hw.2.1 hw.2.2 0 rfl rfl 11 (by decide) (hc.1.2.2.2.2 _ q43) (fun _ h9 => h9) rfl (by decide +kernel) rfl rfl (Nat.le_of_ble_eq_true rfl) hdg (fun H1 locs1 h1 h2 h3 => kk H1 locs1 ⟨h1, h2, h3⟩)
theorem g0_lS (hc : pf_C p s m c cc nL args RX0 D (tyC d)) (hw : pf_H D A s (wC a d ln oc fx fy fz ce sv fi rg pl ct ol lS lL rd wr sr tl fl) H locs) (hdg : decode cc pc = .ok (.getfield 35, 3)) (kk : W p l e R s m args below meth c H locs cells slots Q (F0 m (pc + 3) ls (.ref (a 9) :: rest))) : W p l e R s m args below meth c H locs cells slots Q (F0 m pc ls (.ref (a 0) :: rest)) :=
  va_get (D := D) (ci := 0) (v := .ref (a 9)) (C := RX0) (T := TX0) (N := 19) hc.1.1 hc.1.2.1 hc.1.2.2.2.2 in_X0 hc.1.2.2.2.1 hc.2 hw.1 0 rfl rfl 12 (by decide) (hc.1.2.2.2.2 _ q44) (fun _ h9 => h9) rfl hdg kk
theorem l0_lS {i : Int32} {j : Nat} (hc : pf_C p s m c cc nL args RX0 D (tyC d)) (hw : pf_H D A s (wC a d ln oc fx fy fz ce sv fi rg pl ct ol lS lL rd wr sr tl fl) H locs) (hi : pf_ix i j 2) (hdg : decode cc pc = .ok (.iaload, 1)) (kk : W p l e R s m args below meth c H locs cells slots Q (F0 m (pc + 1) ls (.int (lS j) :: rest))) : W p l e R s m args below meth c H locs cells slots Q (F0 m pc ls (.int i :: .ref (a 9) :: rest)) := by
  obtain ⟨h1, rfl⟩ := hi
  exact va_iald hc.1.1 hc.1.2.1 hc.2 hw.1 9 8 rfl rfl h1 hdg kk
theorem s0_lS {i x : Int32} {j : Nat} (hc : pf_C p s m c cc nL args RX0 D (tyC d)) (hw : pf_H D A s (wC a d ln oc fx fy fz ce sv fi rg pl ct ol lS lL rd wr sr tl fl) H locs) (hi : pf_ix i j 2) (hdg : decode cc pc = .ok (.iastore, 1)) (kk : ∀ (H1 : Heap) (locs1 : List Loc), pf_H D A s (wC a d ln oc fx fy fz ce sv fi rg pl ct ol (upd lS j x) lL rd wr sr tl fl) H1 locs1 → W p l e R s m args below meth c H1 locs1 cells slots Q (F0 m (pc + 1) ls rest)) : W p l e R s m args below meth c H locs cells slots Q (F0 m pc ls (.int x :: .int i :: .ref (a 9) :: rest)) := by
  obtain ⟨h1, rfl⟩ := hi
  exact va_iast hc.1.1 hc.1.2.1 hc.2 hw.1 hw.2.1 hw.2.2 9 8 rfl rfl h1 hdg (fun H1 locs1 h1 h2 h3 => kk H1 locs1 ⟨h1, h2, h3⟩)
theorem g0_lL (hc : pf_C p s m c cc nL args RX0 D (tyC d)) (hw : pf_H D A s (wC a d ln oc fx fy fz ce sv fi rg pl ct ol lS lL rd wr sr tl fl) H locs) (hdg : decode cc pc = .ok (.getfield 38, 3)) (kk : W p l e R s m args below meth c H locs cells slots Q (F0 m (pc + 3) ls (.ref (a 10) :: rest))) : W p l e R s m args below meth c H locs cells slots Q (F0 m pc ls (.ref (a 0) :: rest)) :=
  va_get (D := D) (ci := 0) (v := .ref (a 10)) (C := RX0) (T := TX0) (N := 19) hc.1.1 hc.1.2.1 hc.1.2.2.2.2 in_X0 hc.1.2.2.2.1 hc.2 hw.1 0 rfl rfl 13 (by decide) (hc.1.2.2.2.2 _ q45) (fun _ h9 => h9) rfl hdg kk
theorem l0_lL {i : Int32} {j : Nat} (hc : pf_C p s m c cc nL args RX0 D (tyC d)) (hw : pf_H D A s (wC a d ln oc fx fy fz ce sv fi rg pl ct ol lS lL rd wr sr tl fl) H locs) (hi : pf_ix i j 2) (hdg : decode cc pc = .ok (.iaload, 1)) (kk : W p l e R s m args below meth c H locs cells slots Q (F0 m (pc + 1) ls (.int (lL j) :: rest))) : W p l e R s m args below meth c H locs cells slots Q (F0 m pc ls (.int i :: .ref (a 10) :: rest)) := by
  obtain ⟨h1, rfl⟩ := hi
  exact va_iald hc.1.1 hc.1.2.1 hc.2 hw.1 10 9 rfl rfl h1 hdg kk
theorem s0_lL {i x : Int32} {j : Nat} (hc : pf_C p s m c cc nL args RX0 D (tyC d)) (hw : pf_H D A s (wC a d ln oc fx fy fz ce sv fi rg pl ct ol lS lL rd wr sr tl fl) H locs) (hi : pf_ix i j 2) (hdg : decode cc pc = .ok (.iastore, 1)) (kk : ∀ (H1 : Heap) (locs1 : List Loc), pf_H D A s (wC a d ln oc fx fy fz ce sv fi rg pl ct ol lS (upd lL j x) rd wr sr tl fl) H1 locs1 → W p l e R s m args below meth c H1 locs1 cells slots Q (F0 m (pc + 1) ls rest)) : W p l e R s m args below meth c H locs cells slots Q (F0 m pc ls (.int x :: .int i :: .ref (a 10) :: rest)) := by
  obtain ⟨h1, rfl⟩ := hi
  exact va_iast hc.1.1 hc.1.2.1 hc.2 hw.1 hw.2.1 hw.2.2 10 9 rfl rfl h1 hdg (fun H1 locs1 h1 h2 h3 => kk H1 locs1 ⟨h1, h2, h3⟩)
theorem g0_rd (hc : pf_C p s m c cc nL args RX0 D (tyC d)) (hw : pf_H D A s (wC a d ln oc fx fy fz ce sv fi rg pl ct ol lS lL rd wr sr tl fl) H locs) (hdg : decode cc pc = .ok (.getfield 105, 3)) (kk : W p l e R s m args below meth c H locs cells slots Q (F0 m (pc + 3) ls (.int rd :: rest))) : W p l e R s m args below meth c H locs cells slots Q (F0 m pc ls (.ref (a 0) :: rest)) :=
  va_get (D := D) (ci := 0) (v := .int rd) (C := RX0) (T := TX0) (N := 19) hc.1.1 hc.1.2.1 hc.1.2.2.2.2 in_X0 hc.1.2.2.2.1 hc.2 hw.1 0 rfl rfl 14 (by decide) (hc.1.2.2.2.2 _ q46) (fun _ h9 => h9) rfl hdg kk
theorem p0_rd {x : Int32} (hc : pf_C p s m c cc nL args RX0 D (tyC d)) (hw : pf_H D A s (wC a d ln oc fx fy fz ce sv fi rg pl ct ol lS lL rd wr sr tl fl) H locs) (hdg : decode cc pc = .ok (.putfield 105, 3)) (kk : ∀ (H1 : Heap) (locs1 : List Loc), pf_H D A s (wC a d ln oc fx fy fz ce sv fi rg pl ct ol lS lL x wr sr tl fl) H1 locs1 → W p l e R s m args below meth c H1 locs1 cells slots Q (F0 m (pc + 3) ls rest)) : W p l e R s m args below meth c H locs cells slots Q (F0 m pc ls (.int x :: .ref (a 0) :: rest)) :=
  va_put (D := D) (ci := 0) (v := .int x) (ty := .int) (C := RX0) (T := TX0) (N := 19) hc.1.1 hc.1.2.1 hc.1.2.2.2.2 in_X0 tyX0 tyX0_ok nmX0 hc.1.2.2.2.1 hc.2 hw.1 hw.2.1 hw.2.2 0 rfl rfl 14 (by decide) (hc.1.2.2.2.2 _ q46) (fun _ h9 => h9) rfl (by decide +kernel) rfl rfl (Nat.le_of_ble_eq_true rfl) hdg (fun H1 locs1 h1 h2 h3 => kk H1 locs1 ⟨h1, h2, h3⟩)
theorem g0_wr (hc : pf_C p s m c cc nL args RX0 D (tyC d)) (hw : pf_H D A s (wC a d ln oc fx fy fz ce sv fi rg pl ct ol lS lL rd wr sr tl fl) H locs) (hdg : decode cc pc = .ok (.getfield 108, 3)) (kk : W p l e R s m args below meth c H locs cells slots Q (F0 m (pc + 3) ls (.int wr :: rest))) : W p l e R s m args below meth c H locs cells slots Q (F0 m pc ls (.ref (a 0) :: rest)) :=
  va_get (D := D) (ci := 0) (v := .int wr) (C := RX0) (T := TX0) (N := 19) hc.1.1 hc.1.2.1 hc.1.2.2.2.2 in_X0 hc.1.2.2.2.1 hc.2 hw.1 0 rfl rfl 15 (by decide) (hc.1.2.2.2.2 _ q47) (fun _ h9 => h9) rfl hdg kk
theorem p0_wr {x : Int32} (hc : pf_C p s m c cc nL args RX0 D (tyC d)) (hw : pf_H D A s (wC a d ln oc fx fy fz ce sv fi rg pl ct ol lS lL rd wr sr tl fl) H locs) (hdg : decode cc pc = .ok (.putfield 108, 3)) (kk : ∀ (H1 : Heap) (locs1 : List Loc), pf_H D A s (wC a d ln oc fx fy fz ce sv fi rg pl ct ol lS lL rd x sr tl fl) H1 locs1 → W p l e R s m args below meth c H1 locs1 cells slots Q (F0 m (pc + 3) ls rest)) : W p l e R s m args below meth c H locs cells slots Q (F0 m pc ls (.int x :: .ref (a 0) :: rest)) :=
  va_put (D := D) (ci := 0) (v := .int x) (ty := .int) (C := RX0) (T := TX0) (N := 19) hc.1.1 hc.1.2.1 hc.1.2.2.2.2 in_X0 tyX0 tyX0_ok nmX0 hc.1.2.2.2.1 hc.2 hw.1 hw.2.1 hw.2.2 0 rfl rfl 15 (by decide) (hc.1.2.2.2.2 _ q47) (fun _ h9 => h9) rfl (by decide +kernel) rfl rfl (Nat.le_of_ble_eq_true rfl) hdg (fun H1 locs1 h1 h2 h3 => kk H1 locs1 ⟨h1, h2, h3⟩)
theorem g0_sr (hc : pf_C p s m c cc nL args RX0 D (tyC d)) (hw : pf_H D A s (wC a d ln oc fx fy fz ce sv fi rg pl ct ol lS lL rd wr sr tl fl) H locs) (hdg : decode cc pc = .ok (.getfield 111, 3)) (kk : W p l e R s m args below meth c H locs cells slots Q (F0 m (pc + 3) ls (.int sr :: rest))) : W p l e R s m args below meth c H locs cells slots Q (F0 m pc ls (.ref (a 0) :: rest)) :=
  va_get (D := D) (ci := 0) (v := .int sr) (C := RX0) (T := TX0) (N := 19) hc.1.1 hc.1.2.1 hc.1.2.2.2.2 in_X0 hc.1.2.2.2.1 hc.2 hw.1 0 rfl rfl 16 (by decide) (hc.1.2.2.2.2 _ q48) (fun _ h9 => h9) rfl hdg kk
theorem p0_sr {x : Int32} (hc : pf_C p s m c cc nL args RX0 D (tyC d)) (hw : pf_H D A s (wC a d ln oc fx fy fz ce sv fi rg pl ct ol lS lL rd wr sr tl fl) H locs) (hdg : decode cc pc = .ok (.putfield 111, 3)) (kk : ∀ (H1 : Heap) (locs1 : List Loc), pf_H D A s (wC a d ln oc fx fy fz ce sv fi rg pl ct ol lS lL rd wr x tl fl) H1 locs1 → W p l e R s m args below meth c H1 locs1 cells slots Q (F0 m (pc + 3) ls rest)) : W p l e R s m args below meth c H locs cells slots Q (F0 m pc ls (.int x :: .ref (a 0) :: rest)) :=
  va_put (D := D) (ci := 0) (v := .int x) (ty := .int) (C := RX0) (T := TX0) (N := 19) hc.1.1 hc.1.2.1 hc.1.2.2.2.2 in_X0 tyX0 tyX0_ok nmX0 hc.1.2.2.2.1 hc.2 hw.1 hw.2.1 hw.2.2 0 rfl rfl 16 (by decide) (hc.1.2.2.2.2 _ q48) (fun _ h9 => h9) rfl (by decide +kernel) rfl rfl (Nat.le_of_ble_eq_true rfl) hdg (fun H1 locs1 h1 h2 h3 => kk H1 locs1 ⟨h1, h2, h3⟩)
theorem g0_tl (hc : pf_C p s m c cc nL args RX0 D (tyC d)) (hw : pf_H D A s (wC a d ln oc fx fy fz ce sv fi rg pl ct ol lS lL rd wr sr tl fl) H locs) (hdg : decode cc pc = .ok (.getfield 63, 3)) (kk : W p l e R s m args below meth c H locs cells slots Q (F0 m (pc + 3) ls (.int tl :: rest))) : W p l e R s m args below meth c H locs cells slots Q (F0 m pc ls (.ref (a 0) :: rest)) :=
  va_get (D := D) (ci := 0) (v := .int tl) (C := RX0) (T := TX0) (N := 19) hc.1.1 hc.1.2.1 hc.1.2.2.2.2 in_X0 hc.1.2.2.2.1 hc.2 hw.1 0 rfl rfl 17 (by decide) (hc.1.2.2.2.2 _ q49) (fun _ h9 => h9) rfl hdg kk
theorem p0_tl {x : Int32} (hc : pf_C p s m c cc nL args RX0 D (tyC d)) (hw : pf_H D A s (wC a d ln oc fx fy fz ce sv fi rg pl ct ol lS lL rd wr sr tl fl) H locs) (hdg : decode cc pc = .ok (.putfield 63, 3)) (kk : ∀ (H1 : Heap) (locs1 : List Loc), pf_H D A s (wC a d ln oc fx fy fz ce sv fi rg pl ct ol lS lL rd wr sr x fl) H1 locs1 → W p l e R s m args below meth c H1 locs1 cells slots Q (F0 m (pc + 3) ls rest)) : W p l e R s m args below meth c H locs cells slots Q (F0 m pc ls (.int x :: .ref (a 0) :: rest)) :=
  va_put (D := D) (ci := 0) (v := .int x) (ty := .int) (C := RX0) (T := TX0) (N := 19) hc.1.1 hc.1.2.1 hc.1.2.2.2.2 in_X0 tyX0 tyX0_ok nmX0 hc.1.2.2.2.1 hc.2 hw.1 hw.2.1 hw.2.2 0 rfl rfl 17 (by decide) (hc.1.2.2.2.2 _ q49) (fun _ h9 => h9) rfl (by decide +kernel) rfl rfl (Nat.le_of_ble_eq_true rfl) hdg (fun H1 locs1 h1 h2 h3 => kk H1 locs1 ⟨h1, h2, h3⟩)
theorem g0_fl (hc : pf_C p s m c cc nL args RX0 D (tyC d)) (hw : pf_H D A s (wC a d ln oc fx fy fz ce sv fi rg pl ct ol lS lL rd wr sr tl fl) H locs) (hdg : decode cc pc = .ok (.getfield 66, 3)) (kk : W p l e R s m args below meth c H locs cells slots Q (F0 m (pc + 3) ls (.int fl :: rest))) : W p l e R s m args below meth c H locs cells slots Q (F0 m pc ls (.ref (a 0) :: rest)) :=
  va_get (D := D) (ci := 0) (v := .int fl) (C := RX0) (T := TX0) (N := 19) hc.1.1 hc.1.2.1 hc.1.2.2.2.2 in_X0 hc.1.2.2.2.1 hc.2 hw.1 0 rfl rfl 18 (by decide) (hc.1.2.2.2.2 _ q50) (fun _ h9 => h9) rfl hdg kk
theorem p0_fl {x : Int32} (hz : x = 0 ∨ x = 1) (hc : pf_C p s m c cc nL args RX0 D (tyC d)) (hw : pf_H D A s (wC a d ln oc fx fy fz ce sv fi rg pl ct ol lS lL rd wr sr tl fl) H locs) (hdg : decode cc pc = .ok (.putfield 66, 3)) (kk : ∀ (H1 : Heap) (locs1 : List Loc), pf_H D A s (wC a d ln oc fx fy fz ce sv fi rg pl ct ol lS lL rd wr sr tl x) H1 locs1 → W p l e R s m args below meth c H1 locs1 cells slots Q (F0 m (pc + 3) ls rest)) : W p l e R s m args below meth c H locs cells slots Q (F0 m pc ls (.int x :: .ref (a 0) :: rest)) :=
  va_put (D := D) (ci := 0) (v := .int x) (ty := .boolean) (C := RX0) (T := TX0) (N := 19) hc.1.1 hc.1.2.1 hc.1.2.2.2.2 in_X0 tyX0 tyX0_ok nmX0 hc.1.2.2.2.1 hc.2 hw.1 hw.2.1 hw.2.2 0 rfl rfl 18 (by decide) (hc.1.2.2.2.2 _ q50) (fun _ h9 => h9) rfl (by decide +kernel) (by rcases hz with rfl | rfl <;> rfl) (by rcases hz with rfl | rfl <;> rfl) (Nat.le_of_ble_eq_true rfl) hdg (fun H1 locs1 h1 h2 h3 => kk H1 locs1 ⟨h1, h2, h3⟩)
end PFF0
section PFF1
variable {p : Program} {l : Launch} {e : Env} {R : Room} {s : State} {m : MethodId} {args : Array Value} {below : List Frame} {meth : Method} {c : Code} {H : Heap} {locs : List Loc} {cells slots : Nat} {Q : State → Prop}
variable {cc : ByteArray} {nL pc : Nat} {ls : Array Slot} {rest : List Value} {D : va_G} {A : Nat → Prop} {a : Nat → Nat} {d : Nat → ClassId}
variable {mo mx my mz mc mr ml : Nat → Int32} {nn : Int32}
theorem g1_nn (hc : pf_C p s m c cc nL args RX1 D (tyM d)) (hw : pf_H D A s (wM a d nn mo mx my mz mc mr ml) H locs) (hdg : decode cc pc = .ok (.getfield 7, 3)) (kk : W p l e R s m args below meth c H locs cells slots Q (F0 m (pc + 3) ls (.int nn :: rest))) : W p l e R s m args below meth c H locs cells slots Q (F0 m pc ls (.ref (a 0) :: rest)) :=
  va_get (D := D) (ci := 1) (v := .int nn) (C := RX1) (T := TX1) (N := 8) hc.1.1 hc.1.2.1 hc.1.2.2.2.2 in_X1 hc.1.2.2.2.1 hc.2 hw.1 0 rfl rfl 0 (by decide) (hc.1.2.2.2.2 _ q195) (fun _ h9 => h9) rfl hdg kk
theorem p1_nn {x : Int32} (hc : pf_C p s m c cc nL args RX1 D (tyM d)) (hw : pf_H D A s (wM a d nn mo mx my mz mc mr ml) H locs) (hdg : decode cc pc = .ok (.putfield 7, 3)) (kk : ∀ (H1 : Heap) (locs1 : List Loc), pf_H D A s (wM a d x mo mx my mz mc mr ml) H1 locs1 → W p l e R s m args below meth c H1 locs1 cells slots Q (F0 m (pc + 3) ls rest)) : W p l e R s m args below meth c H locs cells slots Q (F0 m pc ls (.int x :: .ref (a 0) :: rest)) :=
  va_put (D := D) (ci := 1) (v := .int x) (ty := .int) (C := RX1) (T := TX1) (N := 8) hc.1.1 hc.1.2.1 hc.1.2.2.2.2 in_X1 tyX1 tyX1_ok nmX1 hc.1.2.2.2.1 hc.2 hw.1 hw.2.1 hw.2.2 0 rfl rfl 0 (by decide) (hc.1.2.2.2.2 _ q195) (fun _ h9 => h9) rfl (by decide +kernel) rfl rfl (Nat.le_of_ble_eq_true rfl) hdg (fun H1 locs1 h1 h2 h3 => kk H1 locs1 ⟨h1, h2, h3⟩)
theorem g1_mo (hc : pf_C p s m c cc nL args RX1 D (tyM d)) (hw : pf_H D A s (wM a d nn mo mx my mz mc mr ml) H locs) (hdg : decode cc pc = .ok (.getfield 13, 3)) (kk : W p l e R s m args below meth c H locs cells slots Q (F0 m (pc + 3) ls (.ref (a 1) :: rest))) : W p l e R s m args below meth c H locs cells slots Q (F0 m pc ls (.ref (a 0) :: rest)) :=
  va_get (D := D) (ci := 1) (v := .ref (a 1)) (C := RX1) (T := TX1) (N := 8) hc.1.1 hc.1.2.1 hc.1.2.2.2.2 in_X1 hc.1.2.2.2.1 hc.2 hw.1 0 rfl rfl 1 (by decide) (hc.1.2.2.2.2 _ q196) (fun _ h9 => h9) rfl hdg kk
theorem l1_mo {i : Int32} {j : Nat} (hc : pf_C p s m c cc nL args RX1 D (tyM d)) (hw : pf_H D A s (wM a d nn mo mx my mz mc mr ml) H locs) (hi : pf_ix i j 30) (hdg : decode cc pc = .ok (.iaload, 1)) (kk : W p l e R s m args below meth c H locs cells slots Q (F0 m (pc + 1) ls (.int (mo j) :: rest))) : W p l e R s m args below meth c H locs cells slots Q (F0 m pc ls (.int i :: .ref (a 1) :: rest)) := by
  obtain ⟨h1, rfl⟩ := hi
  exact va_iald hc.1.1 hc.1.2.1 hc.2 hw.1 1 0 rfl rfl h1 hdg kk
theorem s1_mo {i x : Int32} {j : Nat} (hc : pf_C p s m c cc nL args RX1 D (tyM d)) (hw : pf_H D A s (wM a d nn mo mx my mz mc mr ml) H locs) (hi : pf_ix i j 30) (hdg : decode cc pc = .ok (.iastore, 1)) (kk : ∀ (H1 : Heap) (locs1 : List Loc), pf_H D A s (wM a d nn (upd mo j x) mx my mz mc mr ml) H1 locs1 → W p l e R s m args below meth c H1 locs1 cells slots Q (F0 m (pc + 1) ls rest)) : W p l e R s m args below meth c H locs cells slots Q (F0 m pc ls (.int x :: .int i :: .ref (a 1) :: rest)) := by
  obtain ⟨h1, rfl⟩ := hi
  exact va_iast hc.1.1 hc.1.2.1 hc.2 hw.1 hw.2.1 hw.2.2 1 0 rfl rfl h1 hdg (fun H1 locs1 h1 h2 h3 => kk H1 locs1 ⟨h1, h2, h3⟩)
theorem g1_mx (hc : pf_C p s m c cc nL args RX1 D (tyM d)) (hw : pf_H D A s (wM a d nn mo mx my mz mc mr ml) H locs) (hdg : decode cc pc = .ok (.getfield 17, 3)) (kk : W p l e R s m args below meth c H locs cells slots Q (F0 m (pc + 3) ls (.ref (a 2) :: rest))) : W p l e R s m args below meth c H locs cells slots Q (F0 m pc ls (.ref (a 0) :: rest)) :=
  va_get (D := D) (ci := 1) (v := .ref (a 2)) (C := RX1) (T := TX1) (N := 8) hc.1.1 hc.1.2.1 hc.1.2.2.2.2 in_X1 hc.1.2.2.2.1 hc.2 hw.1 0 rfl rfl 2 (by decide) (hc.1.2.2.2.2 _ q197) (fun _ h9 => h9) rfl hdg kk
theorem l1_mx {i : Int32} {j : Nat} (hc : pf_C p s m c cc nL args RX1 D (tyM d)) (hw : pf_H D A s (wM a d nn mo mx my mz mc mr ml) H locs) (hi : pf_ix i j 30) (hdg : decode cc pc = .ok (.iaload, 1)) (kk : W p l e R s m args below meth c H locs cells slots Q (F0 m (pc + 1) ls (.int (mx j) :: rest))) : W p l e R s m args below meth c H locs cells slots Q (F0 m pc ls (.int i :: .ref (a 2) :: rest)) := by
  obtain ⟨h1, rfl⟩ := hi
  exact va_iald hc.1.1 hc.1.2.1 hc.2 hw.1 2 1 rfl rfl h1 hdg kk
theorem s1_mx {i x : Int32} {j : Nat} (hc : pf_C p s m c cc nL args RX1 D (tyM d)) (hw : pf_H D A s (wM a d nn mo mx my mz mc mr ml) H locs) (hi : pf_ix i j 30) (hdg : decode cc pc = .ok (.iastore, 1)) (kk : ∀ (H1 : Heap) (locs1 : List Loc), pf_H D A s (wM a d nn mo (upd mx j x) my mz mc mr ml) H1 locs1 → W p l e R s m args below meth c H1 locs1 cells slots Q (F0 m (pc + 1) ls rest)) : W p l e R s m args below meth c H locs cells slots Q (F0 m pc ls (.int x :: .int i :: .ref (a 2) :: rest)) := by
  obtain ⟨h1, rfl⟩ := hi
  exact va_iast hc.1.1 hc.1.2.1 hc.2 hw.1 hw.2.1 hw.2.2 2 1 rfl rfl h1 hdg (fun H1 locs1 h1 h2 h3 => kk H1 locs1 ⟨h1, h2, h3⟩)
theorem g1_my (hc : pf_C p s m c cc nL args RX1 D (tyM d)) (hw : pf_H D A s (wM a d nn mo mx my mz mc mr ml) H locs) (hdg : decode cc pc = .ok (.getfield 20, 3)) (kk : W p l e R s m args below meth c H locs cells slots Q (F0 m (pc + 3) ls (.ref (a 3) :: rest))) : W p l e R s m args below meth c H locs cells slots Q (F0 m pc ls (.ref (a 0) :: rest)) :=
  va_get (D := D) (ci := 1) (v := .ref (a 3)) (C := RX1) (T := TX1) (N := 8) hc.1.1 hc.1.2.1 hc.1.2.2.2.2 in_X1 hc.1.2.2.2.1 hc.2 hw.1 0 rfl rfl 3 (by decide) (hc.1.2.2.2.2 _ q198) (fun _ h9 => h9) rfl hdg kk
theorem l1_my {i : Int32} {j : Nat} (hc : pf_C p s m c cc nL args RX1 D (tyM d)) (hw : pf_H D A s (wM a d nn mo mx my mz mc mr ml) H locs) (hi : pf_ix i j 30) (hdg : decode cc pc = .ok (.iaload, 1)) (kk : W p l e R s m args below meth c H locs cells slots Q (F0 m (pc + 1) ls (.int (my j) :: rest))) : W p l e R s m args below meth c H locs cells slots Q (F0 m pc ls (.int i :: .ref (a 3) :: rest)) := by
  obtain ⟨h1, rfl⟩ := hi
  exact va_iald hc.1.1 hc.1.2.1 hc.2 hw.1 3 2 rfl rfl h1 hdg kk
theorem s1_my {i x : Int32} {j : Nat} (hc : pf_C p s m c cc nL args RX1 D (tyM d)) (hw : pf_H D A s (wM a d nn mo mx my mz mc mr ml) H locs) (hi : pf_ix i j 30) (hdg : decode cc pc = .ok (.iastore, 1)) (kk : ∀ (H1 : Heap) (locs1 : List Loc), pf_H D A s (wM a d nn mo mx (upd my j x) mz mc mr ml) H1 locs1 → W p l e R s m args below meth c H1 locs1 cells slots Q (F0 m (pc + 1) ls rest)) : W p l e R s m args below meth c H locs cells slots Q (F0 m pc ls (.int x :: .int i :: .ref (a 3) :: rest)) := by
  obtain ⟨h1, rfl⟩ := hi
  exact va_iast hc.1.1 hc.1.2.1 hc.2 hw.1 hw.2.1 hw.2.2 3 2 rfl rfl h1 hdg (fun H1 locs1 h1 h2 h3 => kk H1 locs1 ⟨h1, h2, h3⟩)
theorem g1_mz (hc : pf_C p s m c cc nL args RX1 D (tyM d)) (hw : pf_H D A s (wM a d nn mo mx my mz mc mr ml) H locs) (hdg : decode cc pc = .ok (.getfield 23, 3)) (kk : W p l e R s m args below meth c H locs cells slots Q (F0 m (pc + 3) ls (.ref (a 4) :: rest))) : W p l e R s m args below meth c H locs cells slots Q (F0 m pc ls (.ref (a 0) :: rest)) :=
  va_get (D := D) (ci := 1) (v := .ref (a 4)) (C := RX1) (T := TX1) (N := 8) hc.1.1 hc.1.2.1 hc.1.2.2.2.2 in_X1 hc.1.2.2.2.1 hc.2 hw.1 0 rfl rfl 4 (by decide) (hc.1.2.2.2.2 _ q199) (fun _ h9 => h9) rfl hdg kk
theorem l1_mz {i : Int32} {j : Nat} (hc : pf_C p s m c cc nL args RX1 D (tyM d)) (hw : pf_H D A s (wM a d nn mo mx my mz mc mr ml) H locs) (hi : pf_ix i j 30) (hdg : decode cc pc = .ok (.iaload, 1)) (kk : W p l e R s m args below meth c H locs cells slots Q (F0 m (pc + 1) ls (.int (mz j) :: rest))) : W p l e R s m args below meth c H locs cells slots Q (F0 m pc ls (.int i :: .ref (a 4) :: rest)) := by
  obtain ⟨h1, rfl⟩ := hi
  exact va_iald hc.1.1 hc.1.2.1 hc.2 hw.1 4 3 rfl rfl h1 hdg kk
theorem s1_mz {i x : Int32} {j : Nat} (hc : pf_C p s m c cc nL args RX1 D (tyM d)) (hw : pf_H D A s (wM a d nn mo mx my mz mc mr ml) H locs) (hi : pf_ix i j 30) (hdg : decode cc pc = .ok (.iastore, 1)) (kk : ∀ (H1 : Heap) (locs1 : List Loc), pf_H D A s (wM a d nn mo mx my (upd mz j x) mc mr ml) H1 locs1 → W p l e R s m args below meth c H1 locs1 cells slots Q (F0 m (pc + 1) ls rest)) : W p l e R s m args below meth c H locs cells slots Q (F0 m pc ls (.int x :: .int i :: .ref (a 4) :: rest)) := by
  obtain ⟨h1, rfl⟩ := hi
  exact va_iast hc.1.1 hc.1.2.1 hc.2 hw.1 hw.2.1 hw.2.2 4 3 rfl rfl h1 hdg (fun H1 locs1 h1 h2 h3 => kk H1 locs1 ⟨h1, h2, h3⟩)
theorem g1_mc (hc : pf_C p s m c cc nL args RX1 D (tyM d)) (hw : pf_H D A s (wM a d nn mo mx my mz mc mr ml) H locs) (hdg : decode cc pc = .ok (.getfield 26, 3)) (kk : W p l e R s m args below meth c H locs cells slots Q (F0 m (pc + 3) ls (.ref (a 5) :: rest))) : W p l e R s m args below meth c H locs cells slots Q (F0 m pc ls (.ref (a 0) :: rest)) :=
  va_get (D := D) (ci := 1) (v := .ref (a 5)) (C := RX1) (T := TX1) (N := 8) hc.1.1 hc.1.2.1 hc.1.2.2.2.2 in_X1 hc.1.2.2.2.1 hc.2 hw.1 0 rfl rfl 5 (by decide) (hc.1.2.2.2.2 _ q200) (fun _ h9 => h9) rfl hdg kk
theorem l1_mc {i : Int32} {j : Nat} (hc : pf_C p s m c cc nL args RX1 D (tyM d)) (hw : pf_H D A s (wM a d nn mo mx my mz mc mr ml) H locs) (hi : pf_ix i j 12) (hdg : decode cc pc = .ok (.iaload, 1)) (kk : W p l e R s m args below meth c H locs cells slots Q (F0 m (pc + 1) ls (.int (mc j) :: rest))) : W p l e R s m args below meth c H locs cells slots Q (F0 m pc ls (.int i :: .ref (a 5) :: rest)) := by
  obtain ⟨h1, rfl⟩ := hi
  exact va_iald hc.1.1 hc.1.2.1 hc.2 hw.1 5 4 rfl rfl h1 hdg kk
theorem s1_mc {i x : Int32} {j : Nat} (hc : pf_C p s m c cc nL args RX1 D (tyM d)) (hw : pf_H D A s (wM a d nn mo mx my mz mc mr ml) H locs) (hi : pf_ix i j 12) (hdg : decode cc pc = .ok (.iastore, 1)) (kk : ∀ (H1 : Heap) (locs1 : List Loc), pf_H D A s (wM a d nn mo mx my mz (upd mc j x) mr ml) H1 locs1 → W p l e R s m args below meth c H1 locs1 cells slots Q (F0 m (pc + 1) ls rest)) : W p l e R s m args below meth c H locs cells slots Q (F0 m pc ls (.int x :: .int i :: .ref (a 5) :: rest)) := by
  obtain ⟨h1, rfl⟩ := hi
  exact va_iast hc.1.1 hc.1.2.1 hc.2 hw.1 hw.2.1 hw.2.2 5 4 rfl rfl h1 hdg (fun H1 locs1 h1 h2 h3 => kk H1 locs1 ⟨h1, h2, h3⟩)
theorem g1_mr (hc : pf_C p s m c cc nL args RX1 D (tyM d)) (hw : pf_H D A s (wM a d nn mo mx my mz mc mr ml) H locs) (hdg : decode cc pc = .ok (.getfield 29, 3)) (kk : W p l e R s m args below meth c H locs cells slots Q (F0 m (pc + 3) ls (.ref (a 6) :: rest))) : W p l e R s m args below meth c H locs cells slots Q (F0 m pc ls (.ref (a 0) :: rest)) :=
  va_get (D := D) (ci := 1) (v := .ref (a 6)) (C := RX1) (T := TX1) (N := 8) hc.1.1 hc.1.2.1 hc.1.2.2.2.2 in_X1 hc.1.2.2.2.1 hc.2 hw.1 0 rfl rfl 6 (by decide) (hc.1.2.2.2.2 _ q201) (fun _ h9 => h9) rfl hdg kk
theorem l1_mr {i : Int32} {j : Nat} (hc : pf_C p s m c cc nL args RX1 D (tyM d)) (hw : pf_H D A s (wM a d nn mo mx my mz mc mr ml) H locs) (hi : pf_ix i j 4) (hdg : decode cc pc = .ok (.iaload, 1)) (kk : W p l e R s m args below meth c H locs cells slots Q (F0 m (pc + 1) ls (.int (mr j) :: rest))) : W p l e R s m args below meth c H locs cells slots Q (F0 m pc ls (.int i :: .ref (a 6) :: rest)) := by
  obtain ⟨h1, rfl⟩ := hi
  exact va_iald hc.1.1 hc.1.2.1 hc.2 hw.1 6 5 rfl rfl h1 hdg kk
theorem s1_mr {i x : Int32} {j : Nat} (hc : pf_C p s m c cc nL args RX1 D (tyM d)) (hw : pf_H D A s (wM a d nn mo mx my mz mc mr ml) H locs) (hi : pf_ix i j 4) (hdg : decode cc pc = .ok (.iastore, 1)) (kk : ∀ (H1 : Heap) (locs1 : List Loc), pf_H D A s (wM a d nn mo mx my mz mc (upd mr j x) ml) H1 locs1 → W p l e R s m args below meth c H1 locs1 cells slots Q (F0 m (pc + 1) ls rest)) : W p l e R s m args below meth c H locs cells slots Q (F0 m pc ls (.int x :: .int i :: .ref (a 6) :: rest)) := by
  obtain ⟨h1, rfl⟩ := hi
  exact va_iast hc.1.1 hc.1.2.1 hc.2 hw.1 hw.2.1 hw.2.2 6 5 rfl rfl h1 hdg (fun H1 locs1 h1 h2 h3 => kk H1 locs1 ⟨h1, h2, h3⟩)
theorem g1_ml (hc : pf_C p s m c cc nL args RX1 D (tyM d)) (hw : pf_H D A s (wM a d nn mo mx my mz mc mr ml) H locs) (hdg : decode cc pc = .ok (.getfield 32, 3)) (kk : W p l e R s m args below meth c H locs cells slots Q (F0 m (pc + 3) ls (.ref (a 7) :: rest))) : W p l e R s m args below meth c H locs cells slots Q (F0 m pc ls (.ref (a 0) :: rest)) :=
  va_get (D := D) (ci := 1) (v := .ref (a 7)) (C := RX1) (T := TX1) (N := 8) hc.1.1 hc.1.2.1 hc.1.2.2.2.2 in_X1 hc.1.2.2.2.1 hc.2 hw.1 0 rfl rfl 7 (by decide) (hc.1.2.2.2.2 _ q202) (fun _ h9 => h9) rfl hdg kk
theorem l1_ml {i : Int32} {j : Nat} (hc : pf_C p s m c cc nL args RX1 D (tyM d)) (hw : pf_H D A s (wM a d nn mo mx my mz mc mr ml) H locs) (hi : pf_ix i j 30) (hdg : decode cc pc = .ok (.iaload, 1)) (kk : W p l e R s m args below meth c H locs cells slots Q (F0 m (pc + 1) ls (.int (ml j) :: rest))) : W p l e R s m args below meth c H locs cells slots Q (F0 m pc ls (.int i :: .ref (a 7) :: rest)) := by
  obtain ⟨h1, rfl⟩ := hi
  exact va_iald hc.1.1 hc.1.2.1 hc.2 hw.1 7 6 rfl rfl h1 hdg kk
theorem s1_ml {i x : Int32} {j : Nat} (hc : pf_C p s m c cc nL args RX1 D (tyM d)) (hw : pf_H D A s (wM a d nn mo mx my mz mc mr ml) H locs) (hi : pf_ix i j 30) (hdg : decode cc pc = .ok (.iastore, 1)) (kk : ∀ (H1 : Heap) (locs1 : List Loc), pf_H D A s (wM a d nn mo mx my mz mc mr (upd ml j x)) H1 locs1 → W p l e R s m args below meth c H1 locs1 cells slots Q (F0 m (pc + 1) ls rest)) : W p l e R s m args below meth c H locs cells slots Q (F0 m pc ls (.int x :: .int i :: .ref (a 7) :: rest)) := by
  obtain ⟨h1, rfl⟩ := hi
  exact va_iast hc.1.1 hc.1.2.1 hc.2 hw.1 hw.2.1 hw.2.2 7 6 rfl rfl h1 hdg (fun H1 locs1 h1 h2 h3 => kk H1 locs1 ⟨h1, h2, h3⟩)
end PFF1
end
section
/-! pure words of the contracts -/
set_option maxRecDepth 100000
def pf_in (v top : Int32) : Prop := ¬ v < 0 ∧ ¬ top < v
/-- the component's fits -/
def pf_fits (o x y z : Int32) : Prop :=
  if o = 10 then True else if o = 9 then (¬ x < 1 ∧ ¬ 6 < x) else if o = 0 then pf_in x 3 else if o = 4 ∨ o = 5 then (pf_in x 3 ∧ ¬ y < 0 ∧ ¬ 11 < y) else if o = 8 then (pf_in x 3 ∧ ¬ y < 1 ∧ ¬ 6 < y) else (pf_in x 3 ∧ pf_in y 3 ∧ (3 < o ∨ pf_in z 3))
def pf_ok (o x y z : Int32) : Prop := pf_in o 10 ∧ pf_fits o x y z
/-- the reference's fits -/
def pf_fitm (o x y z : Int32) : Prop :=
  if o < 0 ∨ 10 < o then False else if o = 10 then True else if o = 9 then (¬ x < 1 ∧ ¬ 6 < x) else if (¬ o < 1 ∧ ¬ 3 < o) then (pf_in x 3 ∧ pf_in y 3 ∧ pf_in z 3) else if o = 4 ∨ o = 5 then (pf_in x 3 ∧ pf_in y 11) else if o = 6 ∨ o = 7 then (pf_in x 3 ∧ pf_in y 3) else if o = 8 then (pf_in x 3 ∧ ¬ y < 1 ∧ ¬ 6 < y) else pf_in x 3
/-- loops open ahead of place p -/
def pf_dep (o : Nat → Int32) : Nat → Int
  | 0 => 0
  | p + 1 => pf_dep o p + (if o p = 9 then 1 else 0) - (if o p = 10 then 1 else 0)
/-- an IFPOS at p that leaves out y: within the program, and no LOOP or END among them -/
def pf_skip (n : Nat) (o : Nat → Int32) (p y : Nat) : Prop := p + y < n ∧ ∀ q, p < q → q ≤ p + y → ¬ o q = 9 ∧ ¬ o q = 10
/-- the program is sound up to k -/
def pf_sofar (n : Nat) (o : Nat → Int32) (y : Nat → Int32) (k : Nat) : Prop := ∀ p, p < k → 0 ≤ pf_dep o (p + 1) ∧ pf_dep o (p + 1) ≤ 2 ∧ (o p = 8 → pf_skip n o p (y p).toNatClampNeg)
def pf_sound (n : Nat) (o : Nat → Int32) (y : Nat → Int32) : Prop := pf_sofar n o y n ∧ pf_dep o n = 0
/-- the state of a run: cells, saves, registers, place, count, open loops, starts, left, read, written, stretch, ticks left, failed -/
abbrev pfV : Type := (Nat → Int32) × (Nat → Int32) × (Nat → Int32) × Int32 × Int32 × Int32 × (Nat → Int32) × (Nat → Int32) × Int32 × Int32 × Int32 × Int32 × Int32
abbrev v_ce (v : pfV) := v.1
abbrev v_sv (v : pfV) := v.2.1
abbrev v_rg (v : pfV) := v.2.2.1
abbrev v_pl (v : pfV) := v.2.2.2.1
abbrev v_ct (v : pfV) := v.2.2.2.2.1
abbrev v_ol (v : pfV) := v.2.2.2.2.2.1
abbrev v_lS (v : pfV) := v.2.2.2.2.2.2.1
abbrev v_lL (v : pfV) := v.2.2.2.2.2.2.2.1
abbrev v_rd (v : pfV) := v.2.2.2.2.2.2.2.2.1
abbrev v_wr (v : pfV) := v.2.2.2.2.2.2.2.2.2.1
abbrev v_sr (v : pfV) := v.2.2.2.2.2.2.2.2.2.2.1
abbrev v_tl (v : pfV) := v.2.2.2.2.2.2.2.2.2.2.2.1
abbrev v_fl (v : pfV) := v.2.2.2.2.2.2.2.2.2.2.2.2
abbrev wV (a : Nat → Nat) (d : Nat → ClassId) (ln : Int32) (oc fx fy fz fi : Nat → Int32) (v : pfV) : va_W := wC a d ln oc fx fy fz (v_ce v) (v_sv v) fi (v_rg v) (v_pl v) (v_ct v) (v_ol v) (v_lS v) (v_lL v) (v_rd v) (v_wr v) (v_sr v) (v_tl v) (v_fl v)
/-- the power failed: what lasts is kept -/
def pf_lost (v u : pfV) : Prop := v_fl u = 1 ∧ v_ce u = v_ce v ∧ v_sv u = v_sv v
def pf_tick (v : pfV) (r : Int32) (u : pfV) : Prop :=
  (¬ v_tl v = 0 ∧ r = 1 ∧ u = (v_ce v, v_sv v, v_rg v, v_pl v, v_ct v, v_ol v, v_lS v, v_lL v, v_rd v, v_wr v, v_sr v, v_tl v - 1, v_fl v)) ∨ (v_tl v = 0 ∧ r = 0 ∧ pf_lost v u)
def pf_va (sv : Nat → Int32) : Nat := if sv 23 < sv 11 then 0 else 12
def pf_word (v : pfV) (k : Nat) : Int32 := if k < 4 then v_rg v k else if k = 4 then v_pl v else if k = 5 then v_ct v else if k = 6 then v_ol v else if k < 9 then v_lS v (k - 7) else v_lL v (k - 9)
/-- saving with t ticks left -/
def pf_saveOk (v : pfV) (t : Nat) (u : pfV) : Prop := 12 ≤ t ∧ ∃ sv' : Nat → Int32, u = (v_ce v, sv', v_rg v, v_pl v, v_ct v, v_ol v, v_lS v, v_lL v, 0, 0, 0, nI (t - 12), v_fl v) ∧ (∀ w, w < 12 → sv' (pf_va (v_sv v) + w) = v_sv v (pf_va (v_sv v) + w)) ∧ (∀ w, w < 11 → sv' (12 - pf_va (v_sv v) + w) = pf_word v w) ∧ sv' (12 - pf_va (v_sv v) + 11) = v_sv v (pf_va (v_sv v) + 11) + 1
def pf_saveNo (v : pfV) (t : Nat) (u : pfV) : Prop := t < 12 ∧ v_fl u = 1 ∧ v_ce u = v_ce v ∧ (∀ w, w < 12 → v_sv u (pf_va (v_sv v) + w) = v_sv v (pf_va (v_sv v) + w)) ∧ v_sv u (12 - pf_va (v_sv v) + 11) = v_sv v (12 - pf_va (v_sv v) + 11)
def pf_save (v : pfV) (t : Nat) (u : pfV) : Prop := pf_saveOk v t u ∨ pf_saveNo v t u
/-- waking up with t ticks left, 12 at least -/
def pf_wake (v : pfV) (t : Nat) (u : pfV) : Prop := ∃ (rg lS lL : Nat → Int32), u = (v_ce v, v_sv v, rg, v_sv v (pf_va (v_sv v) + 4), v_sv v (pf_va (v_sv v) + 5), v_sv v (pf_va (v_sv v) + 6), lS, lL, 0, 0, 0, nI (t - 12), v_fl v) ∧ (∀ r, r < 4 → rg r = v_sv v (pf_va (v_sv v) + r)) ∧ (∀ k, k < 2 → lS k = v_sv v (pf_va (v_sv v) + 7 + k)) ∧ (∀ k, k < 2 → lL k = v_sv v (pf_va (v_sv v) + 9 + k))
/-- the cell that the instruction at p works on -/
def pf_cell (oc fy rg : Nat → Int32) (p : Nat) : Int32 := if 5 < oc p then rg (fy p).toNatClampNeg &&& 7 else fy p
/-- an index of a register, of a cell -/
abbrev pf_n (x : Int32) : Nat := x.toNatClampNeg
def pf_comp (oc fx fy fz : Nat → Int32) (p : Nat) (v : pfV) : pfV :=
  (v_ce v, v_sv v, upd (v_rg v) (pf_n (fx p)) (if oc p = 0 then fy p else if oc p = 1 then v_rg v (pf_n (fy p)) + v_rg v (pf_n (fz p)) else if oc p = 2 then v_rg v (pf_n (fy p)) - v_rg v (pf_n (fz p)) else v_rg v (pf_n (fy p)) * v_rg v (pf_n (fz p))), v_pl v, v_ct v, v_ol v, v_lS v, v_lL v, v_rd v, v_wr v, v_sr v, v_tl v, v_fl v)
def pf_bit (x c : Int32) : Int32 := (x >>> (c &&& 31)) &&& 1
def pf_with (x c : Int32) : Int32 := x ||| ((1 : Int32) <<< (c &&& 31))
def pf_move (oc fx fy : Nat → Int32) (p : Nat) (v : pfV) : pfV :=
  if oc p = 5 ∨ oc p = 7 then (upd (v_ce v) (pf_n (pf_cell oc fy (v_rg v) p)) (v_rg v (pf_n (fx p))), v_sv v, v_rg v, v_pl v, v_ct v, v_ol v, v_lS v, v_lL v, v_rd v, pf_with (v_wr v) (pf_cell oc fy (v_rg v) p), v_sr v, v_tl v, v_fl v)
  else (v_ce v, v_sv v, upd (v_rg v) (pf_n (fx p)) (v_ce v (pf_n (pf_cell oc fy (v_rg v) p))), v_pl v, v_ct v, v_ol v, v_lS v, v_lL v, if pf_bit (v_wr v) (pf_cell oc fy (v_rg v) p) = 0 then pf_with (v_rd v) (pf_cell oc fy (v_rg v) p) else v_rd v, v_wr v, v_sr v, v_tl v, v_fl v)
/-- d loops are open; v's place is already one ahead -/
def pf_ctl (oc fx fy : Nat → Int32) (p d : Nat) (v : pfV) : pfV :=
  if oc p = 8 then (v_ce v, v_sv v, v_rg v, if 0 < v_rg v (pf_n (fx p)) then v_pl v else v_pl v + fy p, v_ct v, v_ol v, v_lS v, v_lL v, v_rd v, v_wr v, v_sr v, v_tl v, v_fl v)
  else if oc p = 9 then (v_ce v, v_sv v, v_rg v, v_pl v, v_ct v, v_ol v + 1, upd (v_lS v) d (nI p), upd (v_lL v) d (fx p), v_rd v, v_wr v, v_sr v, v_tl v, v_fl v)
  else if v_lL v (d - 1) - 1 ≤ 0 then (v_ce v, v_sv v, v_rg v, v_pl v, v_ct v, nI (d - 1), v_lS v, upd (v_lL v) (d - 1) (v_lL v (d - 1) - 1), v_rd v, v_wr v, v_sr v, v_tl v, v_fl v)
  else (v_ce v, v_sv v, v_rg v, v_lS v (d - 1) + 1, v_ct v, v_ol v, v_lS v, upd (v_lL v) (d - 1) (v_lL v (d - 1) - 1), v_rd v, v_wr v, v_sr v, v_tl v, v_fl v)
def pf_next (v : pfV) : pfV := (v_ce v, v_sv v, v_rg v, v_pl v + 1, v_ct v + 1, v_ol v, v_lS v, v_lL v, v_rd v, v_wr v, v_sr v + 1, v_tl v, v_fl v)
def pf_exec (oc fx fy fz : Nat → Int32) (p d : Nat) (v : pfV) : pfV :=
  if oc p < 8 then (if oc p < 4 then pf_comp oc fx fy fz p (pf_next v) else pf_move oc fx fy p (pf_next v)) else pf_ctl oc fx fy p d (pf_next v)
/-- a step saves first -/
def pf_need (oc fy : Nat → Int32) (p : Nat) (v : pfV) : Prop := v_sr v = 10 ∨ ((oc p = 5 ∨ oc p = 7) ∧ ¬ pf_bit (v_rd v) (pf_cell oc fy (v_rg v) p) = 0)
def pf_step (oc fx fy fz : Nat → Int32) (p d t : Nat) (v u : pfV) : Prop :=
  ∃ v1, ((¬ pf_need oc fy p v ∧ v1 = v) ∨ (pf_need oc fy p v ∧ pf_save v t v1)) ∧ ((v_fl v1 = 1 ∧ u = v1) ∨ (v_fl v1 = 0 ∧ ∃ r v2, pf_tick v1 r v2 ∧ ((r = 0 ∧ u = v2) ∨ (r = 1 ∧ u = pf_exec oc fx fy fz p d v2))))
end
section
set_option maxRecDepth 100000
theorem pf_nlt_le {x y : Int32} (h : x ≤ y) : ¬ y < x := by rw [Int32.lt_iff_toInt_lt]; rw [Int32.le_iff_toInt_le] at h; omega
theorem pf_nle_lt {x y : Int32} (h : ¬ x ≤ y) : y < x := by rw [Int32.lt_iff_toInt_lt]; rw [Int32.le_iff_toInt_le] at h; omega
theorem pf_in_vp {x t : Int32} {n : Nat} (ht : t.toInt + 1 = (n : Int)) (h : pf_in x t) : vp_in x n := by
  have h1 := h.1
  have h2 := h.2
  rw [Int32.lt_iff_toInt_lt] at h1 h2
  rw [vp_in_iff]
  have h0 : (0 : Int32).toInt = 0 := by decide
  omega
set_option maxHeartbeats 4000000 in
/-- isRegister(x): is it 0..3 -/
theorem k0_isRegister (l : Launch) (D : va_G) (a : Nat → Nat) (d : Nat → ClassId) (oc fx fy fz ce sv fi rg lS lL : Nat → Int32) (ln pl ct ol rd wr sr tl fl : Int32) (x : Int32) : pf_KI l D (tyC d) yX0_isRegister cX0_isRegister 2 (some .boolean) 0 0 [.ref (a 0), .int x] (wC a d ln oc fx fy fz ce sv fi rg pl ct ol lS lL rd wr sr tl fl) (S := Unit) (fun r _ => pf_tf r (pf_in x 3)) (fun _ => wC a d ln oc fx fy fz ce sv fi rg pl ct ol lS lL rd wr sr tl fl) := by
  refine pf_entI RX0 (by decide) rfl (Nat.le_of_ble_eq_true rfl) ?_
  intro p e s m below meth c A ls hc hw hA hr hlk hl
  have hx := hc.1.1
  have hb := hc.1.2.1
  have hl : lv_has ls 2 [(0, .ref (a 0)), (1, .int x)] := hl
  refine lv_iload_n hx hb dX0_isRegister_0 rfl (lv_at hl 1 rfl) ?_
  refine lv_if_lt (tgt := 13) hx hb dX0_isRegister_1 (by decide) (fun c1 => ?_) (fun c1 => ?_)
  · refine lv_iconst (v := 0) hx hb dX0_isRegister_13 (by decide) ?_
    exact pf_retZ hc () hw hr hlk (by decide) (by simp [pf_tf, pf_in, c1]) dX0_isRegister_14
  · refine lv_iload_n hx hb dX0_isRegister_4 rfl (lv_at hl 1 rfl) ?_
    refine lv_iconst (v := 3) hx hb dX0_isRegister_5 (by decide) ?_
    refine lv_icmp_gt (tgt := 13) hx hb dX0_isRegister_6 (by decide) (fun c6 => ?_) (fun c6 => ?_)
    · refine lv_iconst (v := 0) hx hb dX0_isRegister_13 (by decide) ?_
      exact pf_retZ hc () hw hr hlk (by decide) (by simp [pf_tf, pf_in, c1, c6]) dX0_isRegister_14
    · refine lv_iconst (v := 1) hx hb dX0_isRegister_9 (by decide) ?_
      refine lv_goto (tgt := 14) hx hb dX0_isRegister_10 (by decide) ?_
      exact pf_retZ hc () hw hr hlk (by decide) (by simp [pf_tf, pf_in, c1, c6]) dX0_isRegister_14
set_option maxHeartbeats 4000000 in
/-- fits(op, x, y, z) -/
theorem k0_fits (l : Launch) (D : va_G) (a : Nat → Nat) (d : Nat → ClassId) (oc fx fy fz ce sv fi rg lS lL : Nat → Int32) (ln pl ct ol rd wr sr tl fl : Int32) (x y z q : Int32) : pf_KI l D (tyC d) yX0_fits cX0_fits 5 (some .boolean) 1 21 [.ref (a 0), .int x, .int y, .int z, .int q] (wC a d ln oc fx fy fz ce sv fi rg pl ct ol lS lL rd wr sr tl fl) (S := Unit) (fun r _ => pf_tf r (pf_fits x y z q)) (fun _ => wC a d ln oc fx fy fz ce sv fi rg pl ct ol lS lL rd wr sr tl fl) := by
  refine pf_entI RX0 (by decide) rfl (Nat.le_of_ble_eq_true rfl) ?_
  intro p e s m below meth c A ls hc hw hA hr hlk hl
  have hx := hc.1.1
  have hb := hc.1.2.1
  have hl : lv_has ls 5 [(0, .ref (a 0)), (1, .int x), (2, .int y), (3, .int z), (4, .int q)] := hl
  refine lv_iload_n hx hb dX0_fits_0 rfl (lv_at hl 1 rfl) ?_
  refine lv_bipush (v := 10) hx hb dX0_fits_1 (by decide) ?_
  refine lv_icmp_ne (tgt := 8) hx hb dX0_fits_3 (by decide) (fun c3 => ?_) (fun c3 => ?_)
  · refine lv_iload_n hx hb dX0_fits_8 rfl (lv_at hl 1 rfl) ?_
    refine lv_bipush (v := 9) hx hb dX0_fits_9 (by decide) ?_
    refine lv_icmp_ne (tgt := 31) hx hb dX0_fits_11 (by decide) (fun c11 => ?_) (fun c11 => ?_)
    · refine lv_aload_n hx hb dX0_fits_31 rfl (lv_at hl 0 rfl) ?_
      refine lv_iload_n hx hb dX0_fits_32 rfl (lv_at hl 2 rfl) ?_
      refine pf_callI [.int y] hc hw hA (k0_isRegister l D a d oc fx fy fz ce sv fi rg lS lL ln pl ct ol rd wr sr tl fl y) (cwV 1 hc.1.2.2.2.2 (lw_V q100 q102 qs1 q22 q103) rfl rfl rfl (by decide +kernel) ⟨Nat.le_of_ble_eq_true rfl, Nat.le_of_ble_eq_true rfl⟩) (ci := 0) (T := TX0) (N := 19) rfl rfl rfl hl.1 rfl (Nat.le_of_ble_eq_true rfl) dX0_fits_33 ⟨Nat.zero_le _, Nat.zero_le _⟩ (fun r33 _ H locs hp33 hw => ?_)
      refine lv_if_ne (tgt := 41) hx hb dX0_fits_36 (by decide) (fun c36 => ?_) (fun c36 => ?_)
      · have c36 := pf_tf_yes hp33 c36
        refine lv_iload_n hx hb dX0_fits_41 rfl (lv_at hl 1 rfl) ?_
        refine lv_if_ne (tgt := 47) hx hb dX0_fits_42 (by decide) (fun c42 => ?_) (fun c42 => ?_)
        · refine lv_iload_n hx hb dX0_fits_47 rfl (lv_at hl 1 rfl) ?_
          refine lv_iconst (v := 4) hx hb dX0_fits_48 (by decide) ?_
          refine lv_icmp_eq (tgt := 57) hx hb dX0_fits_49 (by decide) (fun c49 => ?_) (fun c49 => ?_)
          · refine lv_iload_n hx hb dX0_fits_57 rfl (lv_at hl 3 rfl) ?_
            refine lv_if_lt (tgt := 71) hx hb dX0_fits_58 (by decide) (fun c58 => ?_) (fun c58 => ?_)
            · refine lv_iconst (v := 0) hx hb dX0_fits_71 (by decide) ?_
              exact pf_retZ hc () hw hr hlk (by decide) (by simp [pf_tf, pf_fits, c3, c11, c36, c42, c49, c58]) dX0_fits_72
            · refine lv_iload_n hx hb dX0_fits_61 rfl (lv_at hl 3 rfl) ?_
              refine lv_bipush (v := 11) hx hb dX0_fits_62 (by decide) ?_
              refine lv_icmp_gt (tgt := 71) hx hb dX0_fits_64 (by decide) (fun c64 => ?_) (fun c64 => ?_)
              · refine lv_iconst (v := 0) hx hb dX0_fits_71 (by decide) ?_
                exact pf_retZ hc () hw hr hlk (by decide) (by simp [pf_tf, pf_fits, c3, c11, c36, c42, c49, c58, c64]) dX0_fits_72
              · refine lv_iconst (v := 1) hx hb dX0_fits_67 (by decide) ?_
                refine lv_goto (tgt := 72) hx hb dX0_fits_68 (by decide) ?_
                exact pf_retZ hc () hw hr hlk (by decide) (by simp [pf_tf, pf_fits, c3, c11, c36, c42, c49, c58, c64]) dX0_fits_72
          · refine lv_iload_n hx hb dX0_fits_52 rfl (lv_at hl 1 rfl) ?_
            refine lv_iconst (v := 5) hx hb dX0_fits_53 (by decide) ?_
            refine lv_icmp_ne (tgt := 73) hx hb dX0_fits_54 (by decide) (fun c54 => ?_) (fun c54 => ?_)
            · refine lv_iload_n hx hb dX0_fits_73 rfl (lv_at hl 1 rfl) ?_
              refine lv_bipush (v := 8) hx hb dX0_fits_74 (by decide) ?_
              refine lv_icmp_ne (tgt := 96) hx hb dX0_fits_76 (by decide) (fun c76 => ?_) (fun c76 => ?_)
              · refine lv_aload_n hx hb dX0_fits_96 rfl (lv_at hl 0 rfl) ?_
                refine lv_iload_n hx hb dX0_fits_97 rfl (lv_at hl 3 rfl) ?_
                refine pf_callI [.int z] hc hw hA (k0_isRegister l D a d oc fx fy fz ce sv fi rg lS lL ln pl ct ol rd wr sr tl fl z) (cwV 1 hc.1.2.2.2.2 (lw_V q100 q102 qs1 q22 q103) rfl rfl rfl (by decide +kernel) ⟨Nat.le_of_ble_eq_true rfl, Nat.le_of_ble_eq_true rfl⟩) (ci := 0) (T := TX0) (N := 19) rfl rfl rfl hl.1 rfl (Nat.le_of_ble_eq_true rfl) dX0_fits_98 ⟨Nat.zero_le _, Nat.zero_le _⟩ (fun r98 _ H locs hp98 hw => ?_)
                refine lv_if_ne (tgt := 106) hx hb dX0_fits_101 (by decide) (fun c101 => ?_) (fun c101 => ?_)
                · have c101 := pf_tf_yes hp98 c101
                  refine lv_iload_n hx hb dX0_fits_106 rfl (lv_at hl 1 rfl) ?_
                  refine lv_iconst (v := 3) hx hb dX0_fits_107 (by decide) ?_
                  refine lv_icmp_gt (tgt := 120) hx hb dX0_fits_108 (by decide) (fun c108 => ?_) (fun c108 => ?_)
                  · refine lv_iconst (v := 1) hx hb dX0_fits_120 (by decide) ?_
                    refine lv_goto (tgt := 125) hx hb dX0_fits_121 (by decide) ?_
                    exact pf_retZ hc () hw hr hlk (by decide) (by simp [pf_tf, pf_fits, c3, c11, c36, c42, c49, c54, c76, c101, c108]) dX0_fits_125
                  · refine lv_aload_n hx hb dX0_fits_111 rfl (lv_at hl 0 rfl) ?_
                    refine lv_iload hx hb dX0_fits_112 (lv_at hl 4 rfl) ?_
                    refine pf_callI [.int q] hc hw hA (k0_isRegister l D a d oc fx fy fz ce sv fi rg lS lL ln pl ct ol rd wr sr tl fl q) (cwV 1 hc.1.2.2.2.2 (lw_V q100 q102 qs1 q22 q103) rfl rfl rfl (by decide +kernel) ⟨Nat.le_of_ble_eq_true rfl, Nat.le_of_ble_eq_true rfl⟩) (ci := 0) (T := TX0) (N := 19) rfl rfl rfl hl.1 rfl (Nat.le_of_ble_eq_true rfl) dX0_fits_114 ⟨Nat.zero_le _, Nat.zero_le _⟩ (fun r114 _ H locs hp114 hw => ?_)
                    refine lv_if_eq (tgt := 124) hx hb dX0_fits_117 (by decide) (fun c117 => ?_) (fun c117 => ?_)
                    · have c117 := pf_tf_no hp114 c117
                      refine lv_iconst (v := 0) hx hb dX0_fits_124 (by decide) ?_
                      exact pf_retZ hc () hw hr hlk (by decide) (by simp [pf_tf, pf_fits, c3, c11, c36, c42, c49, c54, c76, c101, c108, c117]) dX0_fits_125
                    · have c117 := pf_tf_yes hp114 c117
                      refine lv_iconst (v := 1) hx hb dX0_fits_120 (by decide) ?_
                      refine lv_goto (tgt := 125) hx hb dX0_fits_121 (by decide) ?_
                      exact pf_retZ hc () hw hr hlk (by decide) (by simp [pf_tf, pf_fits, c3, c11, c36, c42, c49, c54, c76, c101, c108, c117]) dX0_fits_125
                · have c101 := pf_tf_no hp98 c101
                  refine lv_iconst (v := 0) hx hb dX0_fits_104 (by decide) ?_
                  exact pf_retZ hc () hw hr hlk (by decide) (by simp [pf_tf, pf_fits, c3, c11, c36, c42, c49, c54, c76, c101]) dX0_fits_105
              · refine lv_iload_n hx hb dX0_fits_79 rfl (lv_at hl 3 rfl) ?_
                refine lv_iconst (v := 1) hx hb dX0_fits_80 (by decide) ?_
                refine lv_icmp_lt (tgt := 94) hx hb dX0_fits_81 (by decide) (fun c81 => ?_) (fun c81 => ?_)
                · refine lv_iconst (v := 0) hx hb dX0_fits_94 (by decide) ?_
                  exact pf_retZ hc () hw hr hlk (by decide) (by simp [pf_tf, pf_fits, c3, c11, c36, c42, c49, c54, c76, c81]) dX0_fits_95
                · refine lv_iload_n hx hb dX0_fits_84 rfl (lv_at hl 3 rfl) ?_
                  refine lv_bipush (v := 6) hx hb dX0_fits_85 (by decide) ?_
                  refine lv_icmp_gt (tgt := 94) hx hb dX0_fits_87 (by decide) (fun c87 => ?_) (fun c87 => ?_)
                  · refine lv_iconst (v := 0) hx hb dX0_fits_94 (by decide) ?_
                    exact pf_retZ hc () hw hr hlk (by decide) (by simp [pf_tf, pf_fits, c3, c11, c36, c42, c49, c54, c76, c81, c87]) dX0_fits_95
                  · refine lv_iconst (v := 1) hx hb dX0_fits_90 (by decide) ?_
                    refine lv_goto (tgt := 95) hx hb dX0_fits_91 (by decide) ?_
                    exact pf_retZ hc () hw hr hlk (by decide) (by simp [pf_tf, pf_fits, c3, c11, c36, c42, c49, c54, c76, c81, c87]) dX0_fits_95
            · refine lv_iload_n hx hb dX0_fits_57 rfl (lv_at hl 3 rfl) ?_
              refine lv_if_lt (tgt := 71) hx hb dX0_fits_58 (by decide) (fun c58 => ?_) (fun c58 => ?_)
              · refine lv_iconst (v := 0) hx hb dX0_fits_71 (by decide) ?_
                exact pf_retZ hc () hw hr hlk (by decide) (by simp [pf_tf, pf_fits, c3, c11, c36, c42, c49, c54, c58]) dX0_fits_72
              · refine lv_iload_n hx hb dX0_fits_61 rfl (lv_at hl 3 rfl) ?_
                refine lv_bipush (v := 11) hx hb dX0_fits_62 (by decide) ?_
                refine lv_icmp_gt (tgt := 71) hx hb dX0_fits_64 (by decide) (fun c64 => ?_) (fun c64 => ?_)
                · refine lv_iconst (v := 0) hx hb dX0_fits_71 (by decide) ?_
                  exact pf_retZ hc () hw hr hlk (by decide) (by simp [pf_tf, pf_fits, c3, c11, c36, c42, c49, c54, c58, c64]) dX0_fits_72
                · refine lv_iconst (v := 1) hx hb dX0_fits_67 (by decide) ?_
                  refine lv_goto (tgt := 72) hx hb dX0_fits_68 (by decide) ?_
                  exact pf_retZ hc () hw hr hlk (by decide) (by simp [pf_tf, pf_fits, c3, c11, c36, c42, c49, c54, c58, c64]) dX0_fits_72
        · refine lv_iconst (v := 1) hx hb dX0_fits_45 (by decide) ?_
          exact pf_retZ hc () hw hr hlk (by decide) (by simp [pf_tf, pf_fits, c3, c11, c36, c42]) dX0_fits_46
      · have c36 := pf_tf_no hp33 c36
        refine lv_iconst (v := 0) hx hb dX0_fits_39 (by decide) ?_
        exact pf_retZ hc () hw hr hlk (by decide) (by simp [pf_tf, pf_fits, c3, c11, c36]) dX0_fits_40
    · refine lv_iload_n hx hb dX0_fits_14 rfl (lv_at hl 2 rfl) ?_
      refine lv_iconst (v := 1) hx hb dX0_fits_15 (by decide) ?_
      refine lv_icmp_lt (tgt := 29) hx hb dX0_fits_16 (by decide) (fun c16 => ?_) (fun c16 => ?_)
      · refine lv_iconst (v := 0) hx hb dX0_fits_29 (by decide) ?_
        exact pf_retZ hc () hw hr hlk (by decide) (by simp [pf_tf, pf_fits, c3, c11, c16]) dX0_fits_30
      · refine lv_iload_n hx hb dX0_fits_19 rfl (lv_at hl 2 rfl) ?_
        refine lv_bipush (v := 6) hx hb dX0_fits_20 (by decide) ?_
        refine lv_icmp_gt (tgt := 29) hx hb dX0_fits_22 (by decide) (fun c22 => ?_) (fun c22 => ?_)
        · refine lv_iconst (v := 0) hx hb dX0_fits_29 (by decide) ?_
          exact pf_retZ hc () hw hr hlk (by decide) (by simp [pf_tf, pf_fits, c3, c11, c16, c22]) dX0_fits_30
        · refine lv_iconst (v := 1) hx hb dX0_fits_25 (by decide) ?_
          refine lv_goto (tgt := 30) hx hb dX0_fits_26 (by decide) ?_
          exact pf_retZ hc () hw hr hlk (by decide) (by simp [pf_tf, pf_fits, c3, c11, c16, c22]) dX0_fits_30
  · refine lv_iconst (v := 1) hx hb dX0_fits_6 (by decide) ?_
    exact pf_retZ hc () hw hr hlk (by decide) (by simp [pf_tf, pf_fits, c3]) dX0_fits_7
set_option maxHeartbeats 4000000 in
/-- emit: n instructions stand -/
theorem k0_emit (l : Launch) (D : va_G) (a : Nat → Nat) (d : Nat → ClassId) (oc fx fy fz ce sv fi rg lS lL : Nat → Int32) (ln pl ct ol rd wr sr tl fl : Int32) (x y z q : Int32) (n : Nat) (hn : n ≤ 30) (hln : ln = nI n) : pf_KI l D (tyC d) yX0_emit cX0_emit 5 (some .int) 2 45 [.ref (a 0), .int x, .int y, .int z, .int q] (wC a d ln oc fx fy fz ce sv fi rg pl ct ol lS lL rd wr sr tl fl) (S := Int32 × (Nat → Int32) × (Nat → Int32) × (Nat → Int32) × (Nat → Int32)) (fun r u => (n = 30 ∧ r = -2 ∧ u = (nI n, oc, fx, fy, fz)) ∨ (n < 30 ∧ ¬ pf_ok x y z q ∧ r = -1 ∧ u = (nI n, oc, fx, fy, fz)) ∨ (n < 30 ∧ pf_ok x y z q ∧ r = nI (n + 1) ∧ u = (nI (n + 1), upd oc n x.toInt8.toInt32, upd fx n y.toInt8.toInt32, upd fy n z, upd fz n q.toInt8.toInt32))) (fun u => wC a d u.1 u.2.1 u.2.2.1 u.2.2.2.1 u.2.2.2.2 ce sv fi rg pl ct ol lS lL rd wr sr tl fl) := by
  subst hln
  refine pf_entI RX0 (by decide) rfl (Nat.le_of_ble_eq_true rfl) ?_
  intro p e s m below meth c A ls hc hw hA hr hlk hl
  have hx := hc.1.1
  have hb := hc.1.2.1
  have hl : lv_has ls 5 [(0, .ref (a 0)), (1, .int x), (2, .int y), (3, .int z), (4, .int q)] := hl
  refine lv_aload_n hx hb dX0_emit_0 rfl (lv_at hl 0 rfl) ?_
  refine g0_ln hc hw dX0_emit_1 ?_
  refine lv_bipush (v := 30) hx hb dX0_emit_4 (by decide) ?_
  refine lv_icmp_lt (tgt := 12) hx hb dX0_emit_6 (by decide) (fun c6 => ?_) (fun c6 => ?_)
  · have c6 := (nI_ltI (a := n) (b := 30) (by omega) (by decide)).mp c6
    refine lv_iload_n hx hb dX0_emit_12 rfl (lv_at hl 1 rfl) ?_
    refine lv_if_lt (tgt := 34) hx hb dX0_emit_13 (by decide) (fun c13 => ?_) (fun c13 => ?_)
    · refine lv_iconst (v := (-1)) hx hb dX0_emit_34 (by decide) ?_
      exact pf_retI hc (nI n, oc, fx, fy, fz) hw hr hlk (Or.inr (Or.inl ⟨c6, (fun h => h.1.1 c13), rfl, rfl⟩)) dX0_emit_35
    · refine lv_iload_n hx hb dX0_emit_16 rfl (lv_at hl 1 rfl) ?_
      refine lv_bipush (v := 10) hx hb dX0_emit_17 (by decide) ?_
      refine lv_icmp_gt (tgt := 34) hx hb dX0_emit_19 (by decide) (fun c19 => ?_) (fun c19 => ?_)
      · refine lv_iconst (v := (-1)) hx hb dX0_emit_34 (by decide) ?_
        exact pf_retI hc (nI n, oc, fx, fy, fz) hw hr hlk (Or.inr (Or.inl ⟨c6, (fun h => h.1.2 c19), rfl, rfl⟩)) dX0_emit_35
      · refine lv_aload_n hx hb dX0_emit_22 rfl (lv_at hl 0 rfl) ?_
        refine lv_iload_n hx hb dX0_emit_23 rfl (lv_at hl 1 rfl) ?_
        refine lv_iload_n hx hb dX0_emit_24 rfl (lv_at hl 2 rfl) ?_
        refine lv_iload_n hx hb dX0_emit_25 rfl (lv_at hl 3 rfl) ?_
        refine lv_iload hx hb dX0_emit_26 (lv_at hl 4 rfl) ?_
        refine pf_callI [.int x, .int y, .int z, .int q] hc hw hA (k0_fits l D a d oc fx fy fz ce sv fi rg lS lL (nI n) pl ct ol rd wr sr tl fl x y z q) (cwV 4 hc.1.2.2.2.2 (lw_V q96 q98 qs0 q22 q99) rfl rfl rfl (by decide +kernel) ⟨Nat.le_of_ble_eq_true rfl, Nat.le_of_ble_eq_true rfl⟩) (ci := 0) (T := TX0) (N := 19) rfl rfl rfl hl.1 rfl (Nat.le_of_ble_eq_true rfl) dX0_emit_28 ⟨Nat.zero_le _, Nat.zero_le _⟩ (fun r28 _ H locs hp28 hw => ?_)
        refine lv_if_ne (tgt := 36) hx hb dX0_emit_31 (by decide) (fun c31 => ?_) (fun c31 => ?_)
        · have c31 := pf_tf_yes hp28 c31
          refine lv_aload_n hx hb dX0_emit_36 rfl (lv_at hl 0 rfl) ?_
          refine g0_oc hc hw dX0_emit_37 ?_
          refine lv_aload_n hx hb dX0_emit_40 rfl (lv_at hl 0 rfl) ?_
          refine g0_ln hc hw dX0_emit_41 ?_
          refine lv_iload_n hx hb dX0_emit_44 rfl (lv_at hl 1 rfl) ?_
          refine lv_i2b (v := x.toInt8.toInt32) hx hb dX0_emit_45 rfl ?_
          refine s0_oc (j := n) hc hw (pf_ixn c6 (by decide)) dX0_emit_46 (fun H locs hw => ?_)
          refine lv_aload_n hx hb dX0_emit_47 rfl (lv_at hl 0 rfl) ?_
          refine g0_fx hc hw dX0_emit_48 ?_
          refine lv_aload_n hx hb dX0_emit_51 rfl (lv_at hl 0 rfl) ?_
          refine g0_ln hc hw dX0_emit_52 ?_
          refine lv_iload_n hx hb dX0_emit_55 rfl (lv_at hl 2 rfl) ?_
          refine lv_i2b (v := y.toInt8.toInt32) hx hb dX0_emit_56 rfl ?_
          refine s0_fx (j := n) hc hw (pf_ixn c6 (by decide)) dX0_emit_57 (fun H locs hw => ?_)
          refine lv_aload_n hx hb dX0_emit_58 rfl (lv_at hl 0 rfl) ?_
          refine g0_fy hc hw dX0_emit_59 ?_
          refine lv_aload_n hx hb dX0_emit_62 rfl (lv_at hl 0 rfl) ?_
          refine g0_ln hc hw dX0_emit_63 ?_
          refine lv_iload_n hx hb dX0_emit_66 rfl (lv_at hl 3 rfl) ?_
          refine s0_fy (j := n) hc hw (pf_ixn c6 (by decide)) dX0_emit_67 (fun H locs hw => ?_)
          refine lv_aload_n hx hb dX0_emit_68 rfl (lv_at hl 0 rfl) ?_
          refine g0_fz hc hw dX0_emit_69 ?_
          refine lv_aload_n hx hb dX0_emit_72 rfl (lv_at hl 0 rfl) ?_
          refine g0_ln hc hw dX0_emit_73 ?_
          refine lv_iload hx hb dX0_emit_76 (lv_at hl 4 rfl) ?_
          refine lv_i2b (v := q.toInt8.toInt32) hx hb dX0_emit_78 rfl ?_
          refine s0_fz (j := n) hc hw (pf_ixn c6 (by decide)) dX0_emit_79 (fun H locs hw => ?_)
          refine lv_aload_n hx hb dX0_emit_80 rfl (lv_at hl 0 rfl) ?_
          refine lv_dup hx hb dX0_emit_81 rfl ?_
          refine g0_ln hc hw dX0_emit_82 ?_
          refine lv_iconst (v := 1) hx hb dX0_emit_85 (by decide) ?_
          refine lv_iadd hx hb dX0_emit_86 ?_
          refine pf_top (nI (n + 1)) (nI_1 n) ?_
          refine p0_ln hc hw dX0_emit_87 (fun H locs hw => ?_)
          refine lv_aload_n hx hb dX0_emit_90 rfl (lv_at hl 0 rfl) ?_
          refine g0_ln hc hw dX0_emit_91 ?_
          exact pf_retI hc (nI (n + 1), upd oc n x.toInt8.toInt32, upd fx n y.toInt8.toInt32, upd fy n z, upd fz n q.toInt8.toInt32) hw hr hlk (Or.inr (Or.inr ⟨c6, ⟨⟨c13, c19⟩, c31⟩, rfl, rfl⟩)) dX0_emit_94
        · have c31 := pf_tf_no hp28 c31
          refine lv_iconst (v := (-1)) hx hb dX0_emit_34 (by decide) ?_
          exact pf_retI hc (nI n, oc, fx, fy, fz) hw hr hlk (Or.inr (Or.inl ⟨c6, (fun h => c31 h.2), rfl, rfl⟩)) dX0_emit_35
  · have c6 : n = 30 := by have := mt (nI_ltI (a := n) (b := 30) (by omega) (by decide)).mpr c6; omega
    refine lv_bipush (v := (-2)) hx hb dX0_emit_9 (by decide) ?_
    exact pf_retI hc (nI n, oc, fx, fy, fz) hw hr hlk (Or.inl ⟨c6, rfl, rfl⟩) dX0_emit_11
set_option maxHeartbeats 4000000 in
/-- retract -/
theorem k0_retract (l : Launch) (D : va_G) (a : Nat → Nat) (d : Nat → ClassId) (oc fx fy fz ce sv fi rg lS lL : Nat → Int32) (ln pl ct ol rd wr sr tl fl : Int32) (n : Nat) (hn : n ≤ 30) (hln : ln = nI n) : pf_KI l D (tyC d) yX0_retract cX0_retract 1 (some .int) 0 0 [.ref (a 0)] (wC a d ln oc fx fy fz ce sv fi rg pl ct ol lS lL rd wr sr tl fl) (S := Int32) (fun r u => (n = 0 ∧ r = -1 ∧ u = nI n) ∨ (0 < n ∧ r = nI (n - 1) ∧ u = nI (n - 1))) (fun u => wC a d u oc fx fy fz ce sv fi rg pl ct ol lS lL rd wr sr tl fl) := by
  subst hln
  refine pf_entI RX0 (by decide) rfl (Nat.le_of_ble_eq_true rfl) ?_
  intro p e s m below meth c A ls hc hw hA hr hlk hl
  have hx := hc.1.1
  have hb := hc.1.2.1
  have hl : lv_has ls 1 [(0, .ref (a 0))] := hl
  refine lv_aload_n hx hb dX0_retract_0 rfl (lv_at hl 0 rfl) ?_
  refine g0_ln hc hw dX0_retract_1 ?_
  refine lv_if_ne (tgt := 9) hx hb dX0_retract_4 (by decide) (fun c4 => ?_) (fun c4 => ?_)
  · have c4 : 0 < n := by rcases Nat.eq_zero_or_pos n with h | h; (exact absurd (by rw [h]; rfl) c4); exact h
    refine lv_aload_n hx hb dX0_retract_9 rfl (lv_at hl 0 rfl) ?_
    refine lv_dup hx hb dX0_retract_10 rfl ?_
    refine g0_ln hc hw dX0_retract_11 ?_
    refine lv_iconst (v := 1) hx hb dX0_retract_14 (by decide) ?_
    refine lv_isub hx hb dX0_retract_15 ?_
    refine pf_top (nI (n - 1)) (pk_sub (a := n) (b := 1) c4) ?_
    refine p0_ln hc hw dX0_retract_16 (fun H locs hw => ?_)
    refine lv_aload_n hx hb dX0_retract_19 rfl (lv_at hl 0 rfl) ?_
    refine g0_ln hc hw dX0_retract_20 ?_
    exact pf_retI hc (nI (n - 1)) hw hr hlk (Or.inr ⟨c4, rfl, rfl⟩) dX0_retract_23
  · have c4 := (nI_eq (a := n) (b := 0) (by omega) (by decide)).mp c4
    refine lv_iconst (v := (-1)) hx hb dX0_retract_7 (by decide) ?_
    exact pf_retI hc (nI n) hw hr hlk (Or.inl ⟨c4, rfl, rfl⟩) dX0_retract_8
set_option maxHeartbeats 4000000 in
/-- setCell -/
theorem k0_setCell (l : Launch) (D : va_G) (a : Nat → Nat) (d : Nat → ClassId) (oc fx fy fz ce sv fi rg lS lL : Nat → Int32) (ln pl ct ol rd wr sr tl fl : Int32) (x y : Int32) : pf_KI l D (tyC d) yX0_setCell cX0_setCell 3 (some .boolean) 0 0 [.ref (a 0), .int x, .int y] (wC a d ln oc fx fy fz ce sv fi rg pl ct ol lS lL rd wr sr tl fl) (S := Nat → Int32) (fun r u => (pf_in x 11 ∧ r = 1 ∧ u = upd ce (pf_n x) y) ∨ (¬ pf_in x 11 ∧ r = 0 ∧ u = ce)) (fun u => wC a d ln oc fx fy fz u sv fi rg pl ct ol lS lL rd wr sr tl fl) := by
  refine pf_entI RX0 (by decide) rfl (Nat.le_of_ble_eq_true rfl) ?_
  intro p e s m below meth c A ls hc hw hA hr hlk hl
  have hx := hc.1.1
  have hb := hc.1.2.1
  have hl : lv_has ls 3 [(0, .ref (a 0)), (1, .int x), (2, .int y)] := hl
  refine lv_iload_n hx hb dX0_setCell_0 rfl (lv_at hl 1 rfl) ?_
  refine lv_if_lt (tgt := 10) hx hb dX0_setCell_1 (by decide) (fun c1 => ?_) (fun c1 => ?_)
  · refine lv_iconst (v := 0) hx hb dX0_setCell_10 (by decide) ?_
    exact pf_retZ hc ce hw hr hlk (by decide) (Or.inr ⟨(fun h => h.1 c1), rfl, rfl⟩) dX0_setCell_11
  · refine lv_iload_n hx hb dX0_setCell_4 rfl (lv_at hl 1 rfl) ?_
    refine lv_bipush (v := 11) hx hb dX0_setCell_5 (by decide) ?_
    refine lv_icmp_le (tgt := 12) hx hb dX0_setCell_7 (by decide) (fun c7 => ?_) (fun c7 => ?_)
    · refine lv_aload_n hx hb dX0_setCell_12 rfl (lv_at hl 0 rfl) ?_
      refine g0_ce hc hw dX0_setCell_13 ?_
      refine lv_iload_n hx hb dX0_setCell_16 rfl (lv_at hl 1 rfl) ?_
      refine lv_iload_n hx hb dX0_setCell_17 rfl (lv_at hl 2 rfl) ?_
      refine s0_ce (j := (pf_n x)) hc hw (pf_ixs (pf_in_vp (by decide) ⟨c1, pf_nlt_le c7⟩)) dX0_setCell_18 (fun H locs hw => ?_)
      refine lv_iconst (v := 1) hx hb dX0_setCell_19 (by decide) ?_
      exact pf_retZ hc (upd ce (pf_n x) y) hw hr hlk (by decide) (Or.inl ⟨⟨c1, pf_nlt_le c7⟩, rfl, rfl⟩) dX0_setCell_20
    · refine lv_iconst (v := 0) hx hb dX0_setCell_10 (by decide) ?_
      exact pf_retZ hc ce hw hr hlk (by decide) (Or.inr ⟨(fun h => h.2 (pf_nle_lt c7)), rfl, rfl⟩) dX0_setCell_11
set_option maxHeartbeats 4000000 in
/-- cell -/
theorem k0_cell (l : Launch) (D : va_G) (a : Nat → Nat) (d : Nat → ClassId) (oc fx fy fz ce sv fi rg lS lL : Nat → Int32) (ln pl ct ol rd wr sr tl fl : Int32) (x : Int32) : pf_KI l D (tyC d) yX0_cell cX0_cell 2 (some .int) 0 0 [.ref (a 0), .int x] (wC a d ln oc fx fy fz ce sv fi rg pl ct ol lS lL rd wr sr tl fl) (S := Unit) (fun r _ => (pf_in x 11 ∧ r = ce (pf_n x)) ∨ (¬ pf_in x 11 ∧ r = 0)) (fun _ => wC a d ln oc fx fy fz ce sv fi rg pl ct ol lS lL rd wr sr tl fl) := by
  refine pf_entI RX0 (by decide) rfl (Nat.le_of_ble_eq_true rfl) ?_
  intro p e s m below meth c A ls hc hw hA hr hlk hl
  have hx := hc.1.1
  have hb := hc.1.2.1
  have hl : lv_has ls 2 [(0, .ref (a 0)), (1, .int x)] := hl
  refine lv_iload_n hx hb dX0_cell_0 rfl (lv_at hl 1 rfl) ?_
  refine lv_if_lt (tgt := 10) hx hb dX0_cell_1 (by decide) (fun c1 => ?_) (fun c1 => ?_)
  · refine lv_iconst (v := 0) hx hb dX0_cell_10 (by decide) ?_
    refine lv_goto (tgt := 20) hx hb dX0_cell_11 (by decide) ?_
    exact pf_retI hc () hw hr hlk (Or.inr ⟨(fun h => h.1 c1), rfl⟩) dX0_cell_20
  · refine lv_iload_n hx hb dX0_cell_4 rfl (lv_at hl 1 rfl) ?_
    refine lv_bipush (v := 11) hx hb dX0_cell_5 (by decide) ?_
    refine lv_icmp_le (tgt := 14) hx hb dX0_cell_7 (by decide) (fun c7 => ?_) (fun c7 => ?_)
    · refine lv_aload_n hx hb dX0_cell_14 rfl (lv_at hl 0 rfl) ?_
      refine g0_ce hc hw dX0_cell_15 ?_
      refine lv_iload_n hx hb dX0_cell_18 rfl (lv_at hl 1 rfl) ?_
      refine l0_ce (j := (pf_n x)) hc hw (pf_ixs (pf_in_vp (by decide) ⟨c1, pf_nlt_le c7⟩)) dX0_cell_19 ?_
      exact pf_retI hc () hw hr hlk (Or.inl ⟨⟨c1, pf_nlt_le c7⟩, rfl⟩) dX0_cell_20
    · refine lv_iconst (v := 0) hx hb dX0_cell_10 (by decide) ?_
      refine lv_goto (tgt := 20) hx hb dX0_cell_11 (by decide) ?_
      exact pf_retI hc () hw hr hlk (Or.inr ⟨(fun h => h.2 (pf_nle_lt c7)), rfl⟩) dX0_cell_20
set_option maxHeartbeats 4000000 in
/-- register -/
theorem k0_register (l : Launch) (D : va_G) (a : Nat → Nat) (d : Nat → ClassId) (oc fx fy fz ce sv fi rg lS lL : Nat → Int32) (ln pl ct ol rd wr sr tl fl : Int32) (x : Int32) : pf_KI l D (tyC d) yX0_register cX0_register 2 (some .int) 1 21 [.ref (a 0), .int x] (wC a d ln oc fx fy fz ce sv fi rg pl ct ol lS lL rd wr sr tl fl) (S := Unit) (fun r _ => (pf_in x 3 ∧ r = fi (pf_n x)) ∨ (¬ pf_in x 3 ∧ r = 0)) (fun _ => wC a d ln oc fx fy fz ce sv fi rg pl ct ol lS lL rd wr sr tl fl) := by
  refine pf_entI RX0 (by decide) rfl (Nat.le_of_ble_eq_true rfl) ?_
  intro p e s m below meth c A ls hc hw hA hr hlk hl
  have hx := hc.1.1
  have hb := hc.1.2.1
  have hl : lv_has ls 2 [(0, .ref (a 0)), (1, .int x)] := hl
  refine lv_aload_n hx hb dX0_register_0 rfl (lv_at hl 0 rfl) ?_
  refine lv_iload_n hx hb dX0_register_1 rfl (lv_at hl 1 rfl) ?_
  refine pf_callI [.int x] hc hw hA (k0_isRegister l D a d oc fx fy fz ce sv fi rg lS lL ln pl ct ol rd wr sr tl fl x) (cwV 1 hc.1.2.2.2.2 (lw_V q100 q102 qs1 q22 q103) rfl rfl rfl (by decide +kernel) ⟨Nat.le_of_ble_eq_true rfl, Nat.le_of_ble_eq_true rfl⟩) (ci := 0) (T := TX0) (N := 19) rfl rfl rfl hl.1 rfl (Nat.le_of_ble_eq_true rfl) dX0_register_2 ⟨Nat.zero_le _, Nat.zero_le _⟩ (fun r2 _ H locs hp2 hw => ?_)
  refine lv_if_eq (tgt := 17) hx hb dX0_register_5 (by decide) (fun c5 => ?_) (fun c5 => ?_)
  · have c5 := pf_tf_no hp2 c5
    refine lv_iconst (v := 0) hx hb dX0_register_17 (by decide) ?_
    exact pf_retI hc () hw hr hlk (Or.inr ⟨c5, rfl⟩) dX0_register_18
  · have c5 := pf_tf_yes hp2 c5
    refine lv_aload_n hx hb dX0_register_8 rfl (lv_at hl 0 rfl) ?_
    refine g0_fi hc hw dX0_register_9 ?_
    refine lv_iload_n hx hb dX0_register_12 rfl (lv_at hl 1 rfl) ?_
    refine l0_fi (j := (pf_n x)) hc hw (pf_ixs (pf_in_vp (by decide) c5)) dX0_register_13 ?_
    refine lv_goto (tgt := 18) hx hb dX0_register_14 (by decide) ?_
    exact pf_retI hc () hw hr hlk (Or.inl ⟨c5, rfl⟩) dX0_register_18
end
section
set_option maxRecDepth 100000
set_option maxHeartbeats 4000000 in
/-- clear -/
theorem k0_clear (l : Launch) (D : va_G) (a : Nat → Nat) (d : Nat → ClassId) (oc fx fy fz ce sv fi rg lS lL : Nat → Int32) (ln pl ct ol rd wr sr tl fl : Int32)  : pf_KV l D (tyC d) yX0_clear cX0_clear 2 0 0 [.ref (a 0)] (wC a d ln oc fx fy fz ce sv fi rg pl ct ol lS lL rd wr sr tl fl) (S := (Nat → Int32) × (Nat → Int32)) (fun u => (∀ j, j < 12 → u.1 j = 0) ∧ (∀ j, j < 4 → u.2 j = 0)) (fun u => wC a d 0 oc fx fy fz u.1 sv u.2 rg pl ct ol lS lL rd wr sr tl fl) := by
  refine pf_entV RX0 (by decide) rfl (Nat.le_of_ble_eq_true rfl) ?_
  intro p e s m below meth c A ls hc hw hA hr hlk hl
  have hx := hc.1.1
  have hb := hc.1.2.1
  have hl : lv_has ls 2 [(0, .ref (a 0))] := hl
  refine lv_aload_n hx hb dX0_clear_0 rfl (lv_at hl 0 rfl) ?_
  refine lv_iconst (v := 0) hx hb dX0_clear_1 (by decide) ?_
  refine p0_ln hc hw dX0_clear_2 (fun H locs hw => ?_)
  refine lv_iconst (v := 0) hx hb dX0_clear_5 (by decide) ?_
  refine lv_istore_n (lv' := [(1, .int 0), (0, .ref (a 0))]) hx hb dX0_clear_6 rfl hl (by decide) rfl (fun ls hl => ?_)
  have lp1 : ∀ (n k : Nat) (g : Nat → Int32) (H : Heap) (locs : List Loc) (ls : Array Slot), k + n = 12 → (∀ j, j < k → g j = 0) → pf_H D A s (wC a d 0 oc fx fy fz g sv fi rg pl ct ol lS lL rd wr sr tl fl) H locs → lv_has ls 2 [(1, .int (nI k)), (0, .ref (a 0))] → W p l e { frames := 0, cells := 0, slots := 0, locals := 0 } s m ([.ref (a 0)] : List Value).toArray below meth c H locs 0 0 (MQ below (va_Qv (S := (Nat → Int32) × (Nat → Int32)) (fun u => (∀ j, j < 12 → u.1 j = 0) ∧ (∀ j, j < 4 → u.2 j = 0)) (fun u t => pf_at D (tyC d) A ((fun u => wC a d 0 oc fx fy fz u.1 sv u.2 rg pl ct ol lS lL rd wr sr tl fl) u) t) A) ([.ref (a 0)] : List Value).toArray s 0 0 A) (F0 m 7 ls []) := by
    intro n
    induction n with
    | zero =>
      intro k g H locs ls hk hg hw hl
      have hk : k = 12 := by omega
      subst hk
      obtain ⟨g0, hg0, hw⟩ : ∃ z : Nat → Int32, (∀ j, j < 12 → z j = 0) ∧ pf_H D A s (wC a d 0 oc fx fy fz z sv fi rg pl ct ol lS lL rd wr sr tl fl) H locs := ⟨g, hg, hw⟩
      refine lv_iload_n hx hb dX0_clear_7 rfl (lv_at hl 0 rfl) ?_
      refine lv_bipush (v := 12) hx hb dX0_clear_8 (by decide) ?_
      refine lv_icmp_ge (tgt := 26) hx hb dX0_clear_10 (by decide) (fun c10 => ?_) (fun c10 => absurd (Int32.le_refl _) c10)
      refine lv_iconst (v := 0) hx hb dX0_clear_26 (by decide) ?_
      refine lv_istore_n (lv' := [(1, .int 0), (0, .ref (a 0))]) hx hb dX0_clear_27 rfl hl (by decide) rfl (fun ls hl => ?_)
      have lp2 : ∀ (n k : Nat) (g : Nat → Int32) (H : Heap) (locs : List Loc) (ls : Array Slot), k + n = 4 → (∀ j, j < k → g j = 0) → pf_H D A s (wC a d 0 oc fx fy fz g0 sv g rg pl ct ol lS lL rd wr sr tl fl) H locs → lv_has ls 2 [(1, .int (nI k)), (0, .ref (a 0))] → W p l e { frames := 0, cells := 0, slots := 0, locals := 0 } s m ([.ref (a 0)] : List Value).toArray below meth c H locs 0 0 (MQ below (va_Qv (S := (Nat → Int32) × (Nat → Int32)) (fun u => (∀ j, j < 12 → u.1 j = 0) ∧ (∀ j, j < 4 → u.2 j = 0)) (fun u t => pf_at D (tyC d) A ((fun u => wC a d 0 oc fx fy fz u.1 sv u.2 rg pl ct ol lS lL rd wr sr tl fl) u) t) A) ([.ref (a 0)] : List Value).toArray s 0 0 A) (F0 m 28 ls []) := by
        intro n
        induction n with
        | zero =>
          intro k g H locs ls hk hg hw hl
          have hk : k = 4 := by omega
          subst hk
          refine lv_iload_n hx hb dX0_clear_28 rfl (lv_at hl 0 rfl) ?_
          refine lv_iconst (v := 4) hx hb dX0_clear_29 (by decide) ?_
          refine lv_icmp_ge (tgt := 46) hx hb dX0_clear_30 (by decide) (fun c30 => ?_) (fun c30 => absurd (Int32.le_refl _) c30)
          exact pf_retV hc (g0, g) hw hr hlk ⟨hg0, hg⟩ dX0_clear_46
        | succ n ih =>
          intro k g H locs ls hk hg hw hl
          refine lv_iload_n hx hb dX0_clear_28 rfl (lv_at hl 0 rfl) ?_
          refine lv_iconst (v := 4) hx hb dX0_clear_29 (by decide) ?_
          refine lv_icmp_ge (tgt := 46) hx hb dX0_clear_30 (by decide) (fun c30 => absurd ((nI_leI (a := 4) (b := k) (by decide) (by omega)).mp c30) (by omega)) (fun c30 => ?_)
          refine lv_aload_n hx hb dX0_clear_33 rfl (lv_at hl 1 rfl) ?_
          refine g0_fi hc hw dX0_clear_34 ?_
          refine lv_iload_n hx hb dX0_clear_37 rfl (lv_at hl 0 rfl) ?_
          refine lv_iconst (v := 0) hx hb dX0_clear_38 (by decide) ?_
          refine s0_fi (j := k) hc hw (pf_ixn (by omega) (by decide)) dX0_clear_39 (fun H locs hw => ?_)
          refine lv_iinc (v := nI (k + 1)) (lv' := [(1, .int (nI (k + 1))), (0, .ref (a 0))]) hx hb dX0_clear_40 hl (k := 0) rfl (nI_1 _) (by decide) rfl (fun ls hl => ?_)
          refine lv_goto (tgt := 28) hx hb dX0_clear_43 (by decide) ?_
          exact ih (k + 1) _ _ _ ls (by omega) (lt_s (fun j hj => (pk_un (Nat.ne_of_lt hj)).trans (hg j hj)) pk_us) hw (lv_sub hl [0, 1] rfl)
      exact lp2 4 0 _ _ _ ls rfl lt_0 hw (lv_sub hl [0, 1] rfl)
    | succ n ih =>
      intro k g H locs ls hk hg hw hl
      refine lv_iload_n hx hb dX0_clear_7 rfl (lv_at hl 0 rfl) ?_
      refine lv_bipush (v := 12) hx hb dX0_clear_8 (by decide) ?_
      refine lv_icmp_ge (tgt := 26) hx hb dX0_clear_10 (by decide) (fun c10 => absurd ((nI_leI (a := 12) (b := k) (by decide) (by omega)).mp c10) (by omega)) (fun c10 => ?_)
      refine lv_aload_n hx hb dX0_clear_13 rfl (lv_at hl 1 rfl) ?_
      refine g0_ce hc hw dX0_clear_14 ?_
      refine lv_iload_n hx hb dX0_clear_17 rfl (lv_at hl 0 rfl) ?_
      refine lv_iconst (v := 0) hx hb dX0_clear_18 (by decide) ?_
      refine s0_ce (j := k) hc hw (pf_ixn (by omega) (by decide)) dX0_clear_19 (fun H locs hw => ?_)
      refine lv_iinc (v := nI (k + 1)) (lv' := [(1, .int (nI (k + 1))), (0, .ref (a 0))]) hx hb dX0_clear_20 hl (k := 0) rfl (nI_1 _) (by decide) rfl (fun ls hl => ?_)
      refine lv_goto (tgt := 7) hx hb dX0_clear_23 (by decide) ?_
      exact ih (k + 1) _ _ _ ls (by omega) (lt_s (fun j hj => (pk_un (Nat.ne_of_lt hj)).trans (hg j hj)) pk_us) hw (lv_sub hl [0, 1] rfl)
  exact lp1 12 0 _ _ _ ls rfl lt_0 hw (lv_sub hl [0, 1] rfl)
set_option maxHeartbeats 4000000 in
/-- startFromNothing -/
theorem k0_startFromNothing (l : Launch) (D : va_G) (a : Nat → Nat) (d : Nat → ClassId) (oc fx fy fz ce sv fi rg lS lL : Nat → Int32) (ln pl ct ol rd wr sr tl fl : Int32)  : pf_KV l D (tyC d) yX0_startFromNothing cX0_startFromNothing 2 0 0 [.ref (a 0)] (wC a d ln oc fx fy fz ce sv fi rg pl ct ol lS lL rd wr sr tl fl) (S := Nat → Int32) (fun u => ∀ j, j < 24 → u j = if j = 11 then 1 else 0) (fun u => wC a d ln oc fx fy fz ce u fi rg pl ct ol lS lL rd wr sr tl fl) := by
  refine pf_entV RX0 (by decide) rfl (Nat.le_of_ble_eq_true rfl) ?_
  intro p e s m below meth c A ls hc hw hA hr hlk hl
  have hx := hc.1.1
  have hb := hc.1.2.1
  have hl : lv_has ls 2 [(0, .ref (a 0))] := hl
  refine lv_iconst (v := 0) hx hb dX0_startFromNothing_0 (by decide) ?_
  refine lv_istore_n (lv' := [(1, .int 0), (0, .ref (a 0))]) hx hb dX0_startFromNothing_1 rfl hl (by decide) rfl (fun ls hl => ?_)
  have lp1 : ∀ (n k : Nat) (g : Nat → Int32) (H : Heap) (locs : List Loc) (ls : Array Slot), k + n = 24 → (∀ j, j < k → g j = 0) → pf_H D A s (wC a d ln oc fx fy fz ce g fi rg pl ct ol lS lL rd wr sr tl fl) H locs → lv_has ls 2 [(1, .int (nI k)), (0, .ref (a 0))] → W p l e { frames := 0, cells := 0, slots := 0, locals := 0 } s m ([.ref (a 0)] : List Value).toArray below meth c H locs 0 0 (MQ below (va_Qv (S := Nat → Int32) (fun u => ∀ j, j < 24 → u j = if j = 11 then 1 else 0) (fun u t => pf_at D (tyC d) A ((fun u => wC a d ln oc fx fy fz ce u fi rg pl ct ol lS lL rd wr sr tl fl) u) t) A) ([.ref (a 0)] : List Value).toArray s 0 0 A) (F0 m 2 ls []) := by
    intro n
    induction n with
    | zero =>
      intro k g H locs ls hk hg hw hl
      have hk : k = 24 := by omega
      subst hk
      refine lv_iload_n hx hb dX0_startFromNothing_2 rfl (lv_at hl 0 rfl) ?_
      refine lv_bipush (v := 24) hx hb dX0_startFromNothing_3 (by decide) ?_
      refine lv_icmp_ge (tgt := 21) hx hb dX0_startFromNothing_5 (by decide) (fun c5 => ?_) (fun c5 => absurd (Int32.le_refl _) c5)
      refine lv_aload_n hx hb dX0_startFromNothing_21 rfl (lv_at hl 1 rfl) ?_
      refine g0_sv hc hw dX0_startFromNothing_22 ?_
      refine lv_bipush (v := 11) hx hb dX0_startFromNothing_25 (by decide) ?_
      refine lv_iconst (v := 1) hx hb dX0_startFromNothing_27 (by decide) ?_
      refine s0_sv (j := 11) hc hw (pf_ixn (j := 11) (by decide) (by decide)) dX0_startFromNothing_28 (fun H locs hw => ?_)
      exact pf_retV hc (upd g 11 1) hw hr hlk (fun j hj => by by_cases h : j = 11; (subst h; rw [pk_us]; rfl); rw [pk_un h, hg j hj, if_neg h]) dX0_startFromNothing_29
    | succ n ih =>
      intro k g H locs ls hk hg hw hl
      refine lv_iload_n hx hb dX0_startFromNothing_2 rfl (lv_at hl 0 rfl) ?_
      refine lv_bipush (v := 24) hx hb dX0_startFromNothing_3 (by decide) ?_
      refine lv_icmp_ge (tgt := 21) hx hb dX0_startFromNothing_5 (by decide) (fun c5 => absurd ((nI_leI (a := 24) (b := k) (by decide) (by omega)).mp c5) (by omega)) (fun c5 => ?_)
      refine lv_aload_n hx hb dX0_startFromNothing_8 rfl (lv_at hl 1 rfl) ?_
      refine g0_sv hc hw dX0_startFromNothing_9 ?_
      refine lv_iload_n hx hb dX0_startFromNothing_12 rfl (lv_at hl 0 rfl) ?_
      refine lv_iconst (v := 0) hx hb dX0_startFromNothing_13 (by decide) ?_
      refine s0_sv (j := k) hc hw (pf_ixn (by omega) (by decide)) dX0_startFromNothing_14 (fun H locs hw => ?_)
      refine lv_iinc (v := nI (k + 1)) (lv' := [(1, .int (nI (k + 1))), (0, .ref (a 0))]) hx hb dX0_startFromNothing_15 hl (k := 0) rfl (nI_1 _) (by decide) rfl (fun ls hl => ?_)
      refine lv_goto (tgt := 2) hx hb dX0_startFromNothing_18 (by decide) ?_
      exact ih (k + 1) _ _ _ ls (by omega) (lt_s (fun j hj => (pk_un (Nat.ne_of_lt hj)).trans (hg j hj)) pk_us) hw (lv_sub hl [0, 1] rfl)
  exact lp1 24 0 _ _ _ ls rfl lt_0 hw (lv_sub hl [0, 1] rfl)
set_option maxHeartbeats 4000000 in
/-- loseAll -/
theorem k0_loseAll (l : Launch) (D : va_G) (a : Nat → Nat) (d : Nat → ClassId) (oc fx fy fz fi : Nat → Int32) (ln : Int32) (v : pfV)  : pf_KV l D (tyC d) yX0_loseAll cX0_loseAll 2 0 0 [.ref (a 0)] (wV a d ln oc fx fy fz fi v) (S := pfV) (fun u => pf_lost v u) (fun u => wV a d ln oc fx fy fz fi u) := by
  obtain ⟨ce, sv, rg, pl, ct, ol, lS, lL, rd, wr, sr, tl, fl⟩ := v
  refine pf_entV RX0 (by decide) rfl (Nat.le_of_ble_eq_true rfl) ?_
  intro p e s m below meth c A ls hc hw hA hr hlk hl
  have hx := hc.1.1
  have hb := hc.1.2.1
  have hl : lv_has ls 2 [(0, .ref (a 0))] := hl
  have hw : pf_H D A s (wC a d ln oc fx fy fz ce sv fi rg pl ct ol lS lL rd wr sr tl fl) s.heap [] := hw
  refine lv_aload_n hx hb dX0_loseAll_0 rfl (lv_at hl 0 rfl) ?_
  refine lv_iconst (v := 1) hx hb dX0_loseAll_1 (by decide) ?_
  refine p0_fl (by decide) hc hw dX0_loseAll_2 (fun H locs hw => ?_)
  refine lv_iconst (v := 0) hx hb dX0_loseAll_5 (by decide) ?_
  refine lv_istore_n (lv' := [(1, .int 0), (0, .ref (a 0))]) hx hb dX0_loseAll_6 rfl hl (by decide) rfl (fun ls hl => ?_)
  have lp1 : ∀ (n k : Nat) (g : Nat → Int32) (H : Heap) (locs : List Loc) (ls : Array Slot), k + n = 4 → (True) → pf_H D A s (wC a d ln oc fx fy fz ce sv fi g pl ct ol lS lL rd wr sr tl 1) H locs → lv_has ls 2 [(1, .int (nI k)), (0, .ref (a 0))] → W p l e { frames := 0, cells := 0, slots := 0, locals := 0 } s m ([.ref (a 0)] : List Value).toArray below meth c H locs 0 0 (MQ below (va_Qv (S := pfV) (fun u => pf_lost (ce, sv, rg, pl, ct, ol, lS, lL, rd, wr, sr, tl, fl) u) (fun u t => pf_at D (tyC d) A ((fun u => wV a d ln oc fx fy fz fi u) u) t) A) ([.ref (a 0)] : List Value).toArray s 0 0 A) (F0 m 7 ls []) := by
    intro n
    induction n with
    | zero =>
      intro k g H locs ls hk hg hw hl
      have hk : k = 4 := by omega
      subst hk
      refine lv_iload_n hx hb dX0_loseAll_7 rfl (lv_at hl 0 rfl) ?_
      refine lv_iconst (v := 4) hx hb dX0_loseAll_8 (by decide) ?_
      refine lv_icmp_ge (tgt := 26) hx hb dX0_loseAll_9 (by decide) (fun c9 => ?_) (fun c9 => absurd (Int32.le_refl _) c9)
      refine lv_aload_n hx hb dX0_loseAll_26 rfl (lv_at hl 1 rfl) ?_
      refine lv_aload_n hx hb dX0_loseAll_27 rfl (lv_at hl 1 rfl) ?_
      refine g0_ln hc hw dX0_loseAll_28 ?_
      refine p0_pl hc hw dX0_loseAll_31 (fun H locs hw => ?_)
      refine lv_aload_n hx hb dX0_loseAll_34 rfl (lv_at hl 1 rfl) ?_
      refine lv_iconst (v := (-1)) hx hb dX0_loseAll_35 (by decide) ?_
      refine p0_ct hc hw dX0_loseAll_36 (fun H locs hw => ?_)
      refine lv_aload_n hx hb dX0_loseAll_39 rfl (lv_at hl 1 rfl) ?_
      refine lv_iconst (v := 0) hx hb dX0_loseAll_40 (by decide) ?_
      refine p0_ol hc hw dX0_loseAll_41 (fun H locs hw => ?_)
      exact pf_retV hc (ce, sv, g, ln, (-1), 0, lS, lL, rd, wr, sr, tl, 1) hw hr hlk ⟨rfl, rfl, rfl⟩ dX0_loseAll_44
    | succ n ih =>
      intro k g H locs ls hk hg hw hl
      refine lv_iload_n hx hb dX0_loseAll_7 rfl (lv_at hl 0 rfl) ?_
      refine lv_iconst (v := 4) hx hb dX0_loseAll_8 (by decide) ?_
      refine lv_icmp_ge (tgt := 26) hx hb dX0_loseAll_9 (by decide) (fun c9 => absurd ((nI_leI (a := 4) (b := k) (by decide) (by omega)).mp c9) (by omega)) (fun c9 => ?_)
      refine lv_aload_n hx hb dX0_loseAll_12 rfl (lv_at hl 1 rfl) ?_
      refine g0_rg hc hw dX0_loseAll_13 ?_
      refine lv_iload_n hx hb dX0_loseAll_16 rfl (lv_at hl 0 rfl) ?_
      refine lv_bipush (v := (-77)) hx hb dX0_loseAll_17 (by decide) ?_
      refine s0_rg (j := k) hc hw (pf_ixn (by omega) (by decide)) dX0_loseAll_19 (fun H locs hw => ?_)
      refine lv_iinc (v := nI (k + 1)) (lv' := [(1, .int (nI (k + 1))), (0, .ref (a 0))]) hx hb dX0_loseAll_20 hl (k := 0) rfl (nI_1 _) (by decide) rfl (fun ls hl => ?_)
      refine lv_goto (tgt := 7) hx hb dX0_loseAll_23 (by decide) ?_
      exact ih (k + 1) _ _ _ ls (by omega) trivial hw (lv_sub hl [0, 1] rfl)
  exact lp1 4 0 _ _ _ ls rfl trivial hw (lv_sub hl [0, 1] rfl)
end
section
set_option maxRecDepth 100000
set_option maxHeartbeats 4000000 in
/-- startStretch -/
theorem k0_startStretch (l : Launch) (D : va_G) (a : Nat → Nat) (d : Nat → ClassId) (oc fx fy fz ce sv fi rg lS lL : Nat → Int32) (ln pl ct ol rd wr sr tl fl : Int32)  : pf_KV l D (tyC d) yX0_startStretch cX0_startStretch 1 0 0 [.ref (a 0)] (wC a d ln oc fx fy fz ce sv fi rg pl ct ol lS lL rd wr sr tl fl) (S := Unit) (fun _ => True) (fun _ => wC a d ln oc fx fy fz ce sv fi rg pl ct ol lS lL 0 0 0 tl fl) := by
  refine pf_entV RX0 (by decide) rfl (Nat.le_of_ble_eq_true rfl) ?_
  intro p e s m below meth c A ls hc hw hA hr hlk hl
  have hx := hc.1.1
  have hb := hc.1.2.1
  have hl : lv_has ls 1 [(0, .ref (a 0))] := hl
  refine lv_aload_n hx hb dX0_startStretch_0 rfl (lv_at hl 0 rfl) ?_
  refine lv_iconst (v := 0) hx hb dX0_startStretch_1 (by decide) ?_
  refine p0_rd hc hw dX0_startStretch_2 (fun H locs hw => ?_)
  refine lv_aload_n hx hb dX0_startStretch_5 rfl (lv_at hl 0 rfl) ?_
  refine lv_iconst (v := 0) hx hb dX0_startStretch_6 (by decide) ?_
  refine p0_wr hc hw dX0_startStretch_7 (fun H locs hw => ?_)
  refine lv_aload_n hx hb dX0_startStretch_10 rfl (lv_at hl 0 rfl) ?_
  refine lv_iconst (v := 0) hx hb dX0_startStretch_11 (by decide) ?_
  refine p0_sr hc hw dX0_startStretch_12 (fun H locs hw => ?_)
  exact pf_retV hc () hw hr hlk trivial dX0_startStretch_15
set_option maxHeartbeats 4000000 in
/-- validArea -/
theorem k0_validArea (l : Launch) (D : va_G) (a : Nat → Nat) (d : Nat → ClassId) (oc fx fy fz ce sv fi rg lS lL : Nat → Int32) (ln pl ct ol rd wr sr tl fl : Int32)  : pf_KI l D (tyC d) yX0_validArea cX0_validArea 1 (some .int) 0 0 [.ref (a 0)] (wC a d ln oc fx fy fz ce sv fi rg pl ct ol lS lL rd wr sr tl fl) (S := Unit) (fun r _ => r = nI (pf_va sv)) (fun _ => wC a d ln oc fx fy fz ce sv fi rg pl ct ol lS lL rd wr sr tl fl) := by
  refine pf_entI RX0 (by decide) rfl (Nat.le_of_ble_eq_true rfl) ?_
  intro p e s m below meth c A ls hc hw hA hr hlk hl
  have hx := hc.1.1
  have hb := hc.1.2.1
  have hl : lv_has ls 1 [(0, .ref (a 0))] := hl
  refine lv_aload_n hx hb dX0_validArea_0 rfl (lv_at hl 0 rfl) ?_
  refine g0_sv hc hw dX0_validArea_1 ?_
  refine lv_bipush (v := 11) hx hb dX0_validArea_4 (by decide) ?_
  refine l0_sv (j := 11) hc hw (pf_ixn (j := 11) (by decide) (by decide)) dX0_validArea_6 ?_
  refine lv_aload_n hx hb dX0_validArea_7 rfl (lv_at hl 0 rfl) ?_
  refine g0_sv hc hw dX0_validArea_8 ?_
  refine lv_bipush (v := 23) hx hb dX0_validArea_11 (by decide) ?_
  refine l0_sv (j := 23) hc hw (pf_ixn (j := 23) (by decide) (by decide)) dX0_validArea_13 ?_
  refine lv_icmp_le (tgt := 21) hx hb dX0_validArea_14 (by decide) (fun c14 => ?_) (fun c14 => ?_)
  · refine lv_bipush (v := 12) hx hb dX0_validArea_21 (by decide) ?_
    exact pf_retI hc () hw hr hlk (by unfold pf_va; rw [if_neg (pf_nlt_le c14)]; rfl) dX0_validArea_23
  · refine lv_iconst (v := 0) hx hb dX0_validArea_17 (by decide) ?_
    refine lv_goto (tgt := 23) hx hb dX0_validArea_18 (by decide) ?_
    exact pf_retI hc () hw hr hlk (by unfold pf_va; rw [if_pos (pf_nle_lt c14)]; rfl) dX0_validArea_23
set_option maxHeartbeats 4000000 in
/-- wordToSave -/
theorem k0_wordToSave (l : Launch) (D : va_G) (a : Nat → Nat) (d : Nat → ClassId) (oc fx fy fz fi : Nat → Int32) (ln : Int32) (v : pfV) (k : Nat) (hk : k < 11) : pf_KI l D (tyC d) yX0_wordToSave cX0_wordToSave 2 (some .int) 0 0 [.ref (a 0), .int (nI k)] (wV a d ln oc fx fy fz fi v) (S := Unit) (fun r _ => r = pf_word v k) (fun _ => wV a d ln oc fx fy fz fi v) := by
  obtain ⟨ce, sv, rg, pl, ct, ol, lS, lL, rd, wr, sr, tl, fl⟩ := v
  refine pf_entI RX0 (by decide) rfl (Nat.le_of_ble_eq_true rfl) ?_
  intro p e s m below meth c A ls hc hw hA hr hlk hl
  have hx := hc.1.1
  have hb := hc.1.2.1
  have hl : lv_has ls 2 [(0, .ref (a 0)), (1, .int (nI k))] := hl
  have hw : pf_H D A s (wC a d ln oc fx fy fz ce sv fi rg pl ct ol lS lL rd wr sr tl fl) s.heap [] := hw
  refine lv_iload_n hx hb dX0_wordToSave_0 rfl (lv_at hl 1 rfl) ?_
  refine lv_iconst (v := 4) hx hb dX0_wordToSave_1 (by decide) ?_
  refine lv_icmp_ge (tgt := 12) hx hb dX0_wordToSave_2 (by decide) (fun c2 => ?_) (fun c2 => ?_)
  · have c2 := (nI_leI (a := 4) (b := k) (by decide) (by omega)).mp c2
    refine lv_iload_n hx hb dX0_wordToSave_12 rfl (lv_at hl 1 rfl) ?_
    refine lv_iconst (v := 4) hx hb dX0_wordToSave_13 (by decide) ?_
    refine lv_icmp_ne (tgt := 22) hx hb dX0_wordToSave_14 (by decide) (fun c14 => ?_) (fun c14 => ?_)
    · have c14 : ¬ k = 4 := mt (nI_eq (a := k) (b := 4) (by omega) (by decide)).mpr c14
      refine lv_iload_n hx hb dX0_wordToSave_22 rfl (lv_at hl 1 rfl) ?_
      refine lv_iconst (v := 5) hx hb dX0_wordToSave_23 (by decide) ?_
      refine lv_icmp_ne (tgt := 32) hx hb dX0_wordToSave_24 (by decide) (fun c24 => ?_) (fun c24 => ?_)
      · have c24 : ¬ k = 5 := mt (nI_eq (a := k) (b := 5) (by omega) (by decide)).mpr c24
        refine lv_iload_n hx hb dX0_wordToSave_32 rfl (lv_at hl 1 rfl) ?_
        refine lv_bipush (v := 6) hx hb dX0_wordToSave_33 (by decide) ?_
        refine lv_icmp_ne (tgt := 43) hx hb dX0_wordToSave_35 (by decide) (fun c35 => ?_) (fun c35 => ?_)
        · have c35 : ¬ k = 6 := mt (nI_eq (a := k) (b := 6) (by omega) (by decide)).mpr c35
          refine lv_iload_n hx hb dX0_wordToSave_43 rfl (lv_at hl 1 rfl) ?_
          refine lv_bipush (v := 9) hx hb dX0_wordToSave_44 (by decide) ?_
          refine lv_icmp_ge (tgt := 61) hx hb dX0_wordToSave_46 (by decide) (fun c46 => ?_) (fun c46 => ?_)
          · have c46 := (nI_leI (a := 9) (b := k) (by decide) (by omega)).mp c46
            refine lv_aload_n hx hb dX0_wordToSave_61 rfl (lv_at hl 0 rfl) ?_
            refine g0_lL hc hw dX0_wordToSave_62 ?_
            refine lv_iload_n hx hb dX0_wordToSave_65 rfl (lv_at hl 1 rfl) ?_
            refine lv_bipush (v := 9) hx hb dX0_wordToSave_66 (by decide) ?_
            refine lv_isub hx hb dX0_wordToSave_68 ?_
            refine pf_top (nI (k - 9)) (pk_sub (a := k) (b := 9) (by omega)) ?_
            refine l0_lL (j := (k - 9)) hc hw (pf_ixn (by omega) (by decide)) dX0_wordToSave_69 ?_
            exact pf_retI hc () hw hr hlk (by show _ = pf_word _ _; unfold pf_word; rw [if_neg (by omega), if_neg c14, if_neg c24, if_neg c35, if_neg (by omega)]) dX0_wordToSave_70
          · have c46 : k < 9 := by have := mt (nI_leI (a := 9) (b := k) (by decide) (by omega)).mpr c46; omega
            refine lv_aload_n hx hb dX0_wordToSave_49 rfl (lv_at hl 0 rfl) ?_
            refine g0_lS hc hw dX0_wordToSave_50 ?_
            refine lv_iload_n hx hb dX0_wordToSave_53 rfl (lv_at hl 1 rfl) ?_
            refine lv_bipush (v := 7) hx hb dX0_wordToSave_54 (by decide) ?_
            refine lv_isub hx hb dX0_wordToSave_56 ?_
            refine pf_top (nI (k - 7)) (pk_sub (a := k) (b := 7) (by omega)) ?_
            refine l0_lS (j := (k - 7)) hc hw (pf_ixn (by omega) (by decide)) dX0_wordToSave_57 ?_
            refine lv_goto (tgt := 70) hx hb dX0_wordToSave_58 (by decide) ?_
            exact pf_retI hc () hw hr hlk (by show _ = pf_word _ _; unfold pf_word; rw [if_neg (by omega), if_neg c14, if_neg c24, if_neg c35, if_pos c46]) dX0_wordToSave_70
        · have c35 := (nI_eq (a := k) (b := 6) (by omega) (by decide)).mp c35
          subst c35
          refine lv_aload_n hx hb dX0_wordToSave_38 rfl (lv_at hl 0 rfl) ?_
          refine g0_ol hc hw dX0_wordToSave_39 ?_
          exact pf_retI hc () hw hr hlk rfl dX0_wordToSave_42
      · have c24 := (nI_eq (a := k) (b := 5) (by omega) (by decide)).mp c24
        subst c24
        refine lv_aload_n hx hb dX0_wordToSave_27 rfl (lv_at hl 0 rfl) ?_
        refine g0_ct hc hw dX0_wordToSave_28 ?_
        exact pf_retI hc () hw hr hlk rfl dX0_wordToSave_31
    · have c14 := (nI_eq (a := k) (b := 4) (by omega) (by decide)).mp c14
      subst c14
      refine lv_aload_n hx hb dX0_wordToSave_17 rfl (lv_at hl 0 rfl) ?_
      refine g0_pl hc hw dX0_wordToSave_18 ?_
      exact pf_retI hc () hw hr hlk rfl dX0_wordToSave_21
  · have c2 : k < 4 := by have := mt (nI_leI (a := 4) (b := k) (by decide) (by omega)).mpr c2; omega
    refine lv_aload_n hx hb dX0_wordToSave_5 rfl (lv_at hl 0 rfl) ?_
    refine g0_rg hc hw dX0_wordToSave_6 ?_
    refine lv_iload_n hx hb dX0_wordToSave_9 rfl (lv_at hl 1 rfl) ?_
    refine l0_rg (j := k) hc hw (pf_ixn c2 (by decide)) dX0_wordToSave_10 ?_
    exact pf_retI hc () hw hr hlk (by show _ = pf_word _ _; unfold pf_word; rw [if_pos c2]) dX0_wordToSave_11
set_option maxHeartbeats 4000000 in
/-- tick -/
theorem k0_tick (l : Launch) (D : va_G) (a : Nat → Nat) (d : Nat → ClassId) (oc fx fy fz fi : Nat → Int32) (ln : Int32) (v : pfV)  : pf_KI l D (tyC d) yX0_tick cX0_tick 1 (some .boolean) 1 21 [.ref (a 0)] (wV a d ln oc fx fy fz fi v) (S := pfV) (fun r u => pf_tick v r u) (fun u => wV a d ln oc fx fy fz fi u) := by
  obtain ⟨ce, sv, rg, pl, ct, ol, lS, lL, rd, wr, sr, tl, fl⟩ := v
  refine pf_entI RX0 (by decide) rfl (Nat.le_of_ble_eq_true rfl) ?_
  intro p e s m below meth c A ls hc hw hA hr hlk hl
  have hx := hc.1.1
  have hb := hc.1.2.1
  have hl : lv_has ls 1 [(0, .ref (a 0))] := hl
  have hw : pf_H D A s (wC a d ln oc fx fy fz ce sv fi rg pl ct ol lS lL rd wr sr tl fl) s.heap [] := hw
  refine lv_aload_n hx hb dX0_tick_0 rfl (lv_at hl 0 rfl) ?_
  refine g0_tl hc hw dX0_tick_1 ?_
  refine lv_if_ne (tgt := 13) hx hb dX0_tick_4 (by decide) (fun c4 => ?_) (fun c4 => ?_)
  · refine lv_aload_n hx hb dX0_tick_13 rfl (lv_at hl 0 rfl) ?_
    refine lv_dup hx hb dX0_tick_14 rfl ?_
    refine g0_tl hc hw dX0_tick_15 ?_
    refine lv_iconst (v := 1) hx hb dX0_tick_18 (by decide) ?_
    refine lv_isub hx hb dX0_tick_19 ?_
    refine p0_tl hc hw dX0_tick_20 (fun H locs hw => ?_)
    refine lv_iconst (v := 1) hx hb dX0_tick_23 (by decide) ?_
    exact pf_retZ hc (ce, sv, rg, pl, ct, ol, lS, lL, rd, wr, sr, tl - 1, fl) hw hr hlk (by decide) (Or.inl ⟨c4, rfl, rfl⟩) dX0_tick_24
  · refine lv_aload_n hx hb dX0_tick_7 rfl (lv_at hl 0 rfl) ?_
    refine pf_callV [] hc hw hA (k0_loseAll l D a d oc fx fy fz fi ln (ce, sv, rg, pl, ct, ol, lS, lL, rd, wr, sr, tl, fl)) (cwV 0 hc.1.2.2.2.2 (lw_V q141 q143 qs7 q22 q144) rfl rfl rfl (by decide +kernel) ⟨Nat.le_of_ble_eq_true rfl, Nat.le_of_ble_eq_true rfl⟩) (ci := 0) (T := TX0) (N := 19) rfl rfl rfl hl.1 rfl (Nat.le_of_ble_eq_true rfl) dX0_tick_8 ⟨Nat.zero_le _, Nat.zero_le _⟩ (fun u H locs hp8 hw => ?_)
    refine lv_iconst (v := 0) hx hb dX0_tick_11 (by decide) ?_
    exact pf_retZ hc u hw hr hlk (by decide) (Or.inr ⟨c4, rfl, hp8⟩) dX0_tick_12
set_option maxHeartbeats 4000000 in
/-- cellOf -/
theorem k0_cellOf (l : Launch) (D : va_G) (a : Nat → Nat) (d : Nat → ClassId) (oc fx fy fz ce sv fi rg lS lL : Nat → Int32) (ln pl ct ol rd wr sr tl fl : Int32) (q : Nat) (hq : q < 30) (h5 : 5 < oc q → vp_in (fy q) 4) : pf_KI l D (tyC d) yX0_cellOf cX0_cellOf 2 (some .int) 0 0 [.ref (a 0), .int (nI q)] (wC a d ln oc fx fy fz ce sv fi rg pl ct ol lS lL rd wr sr tl fl) (S := Unit) (fun r _ => r = pf_cell oc fy rg q) (fun _ => wC a d ln oc fx fy fz ce sv fi rg pl ct ol lS lL rd wr sr tl fl) := by
  refine pf_entI RX0 (by decide) rfl (Nat.le_of_ble_eq_true rfl) ?_
  intro p e s m below meth c A ls hc hw hA hr hlk hl
  have hx := hc.1.1
  have hb := hc.1.2.1
  have hl : lv_has ls 2 [(0, .ref (a 0)), (1, .int (nI q))] := hl
  refine lv_aload_n hx hb dX0_cellOf_0 rfl (lv_at hl 0 rfl) ?_
  refine g0_oc hc hw dX0_cellOf_1 ?_
  refine lv_iload_n hx hb dX0_cellOf_4 rfl (lv_at hl 1 rfl) ?_
  refine l0_oc (j := q) hc hw (pf_ixn hq (by decide)) dX0_cellOf_5 ?_
  refine lv_iconst (v := 5) hx hb dX0_cellOf_6 (by decide) ?_
  refine lv_icmp_gt (tgt := 19) hx hb dX0_cellOf_7 (by decide) (fun c7 => ?_) (fun c7 => ?_)
  · refine lv_aload_n hx hb dX0_cellOf_19 rfl (lv_at hl 0 rfl) ?_
    refine g0_rg hc hw dX0_cellOf_20 ?_
    refine lv_aload_n hx hb dX0_cellOf_23 rfl (lv_at hl 0 rfl) ?_
    refine g0_fy hc hw dX0_cellOf_24 ?_
    refine lv_iload_n hx hb dX0_cellOf_27 rfl (lv_at hl 1 rfl) ?_
    refine l0_fy (j := q) hc hw (pf_ixn hq (by decide)) dX0_cellOf_28 ?_
    refine l0_rg (j := (pf_n (fy q))) hc hw (pf_ixs (h5 c7)) dX0_cellOf_29 ?_
    refine lv_bipush (v := 7) hx hb dX0_cellOf_30 (by decide) ?_
    refine lv_iand hx hb dX0_cellOf_32 ?_
    exact pf_retI hc () hw hr hlk (by unfold pf_cell; rw [if_pos c7]) dX0_cellOf_33
  · refine lv_aload_n hx hb dX0_cellOf_10 rfl (lv_at hl 0 rfl) ?_
    refine g0_fy hc hw dX0_cellOf_11 ?_
    refine lv_iload_n hx hb dX0_cellOf_14 rfl (lv_at hl 1 rfl) ?_
    refine l0_fy (j := q) hc hw (pf_ixn hq (by decide)) dX0_cellOf_15 ?_
    refine lv_goto (tgt := 33) hx hb dX0_cellOf_16 (by decide) ?_
    exact pf_retI hc () hw hr hlk (by unfold pf_cell; rw [if_neg c7]) dX0_cellOf_33
set_option maxHeartbeats 4000000 in
/-- compute(op, q) -/
theorem k0_compute (l : Launch) (D : va_G) (a : Nat → Nat) (d : Nat → ClassId) (oc fx fy fz fi : Nat → Int32) (ln : Int32) (v : pfV) (q : Nat) (hq : q < 30) (hx1 : vp_in (fx q) 4) (hy1 : ¬ oc q = 0 → vp_in (fy q) 4 ∧ vp_in (fz q) 4) : pf_KV l D (tyC d) yX0_compute cX0_compute 6 0 0 [.ref (a 0), .int (oc q), .int (nI q)] (wV a d ln oc fx fy fz fi v) (S := pfV) (fun u => u = pf_comp oc fx fy fz q v) (fun u => wV a d ln oc fx fy fz fi u) := by
  obtain ⟨ce, sv, rg, pl, ct, ol, lS, lL, rd, wr, sr, tl, fl⟩ := v
  refine pf_entV RX0 (by decide) rfl (Nat.le_of_ble_eq_true rfl) ?_
  intro p e s m below meth c A ls hc hw hA hr hlk hl
  have hx := hc.1.1
  have hb := hc.1.2.1
  have hl : lv_has ls 6 [(0, .ref (a 0)), (1, .int (oc q)), (2, .int (nI q))] := hl
  have hw : pf_H D A s (wC a d ln oc fx fy fz ce sv fi rg pl ct ol lS lL rd wr sr tl fl) s.heap [] := hw
  refine lv_aload_n hx hb dX0_compute_0 rfl (lv_at hl 0 rfl) ?_
  refine g0_fx hc hw dX0_compute_1 ?_
  refine lv_iload_n hx hb dX0_compute_4 rfl (lv_at hl 2 rfl) ?_
  refine l0_fx (j := q) hc hw (pf_ixn hq (by decide)) dX0_compute_5 ?_
  refine lv_istore_n (lv' := [(3, .int (fx q)), (0, .ref (a 0)), (1, .int (oc q)), (2, .int (nI q))]) hx hb dX0_compute_6 rfl hl (by decide) rfl (fun ls hl => ?_)
  refine lv_iload_n hx hb dX0_compute_7 rfl (lv_at hl 2 rfl) ?_
  refine lv_if_ne (tgt := 24) hx hb dX0_compute_8 (by decide) (fun c8 => ?_) (fun c8 => ?_)
  · refine lv_aload_n hx hb dX0_compute_24 rfl (lv_at hl 1 rfl) ?_
    refine g0_rg hc hw dX0_compute_25 ?_
    refine lv_aload_n hx hb dX0_compute_28 rfl (lv_at hl 1 rfl) ?_
    refine g0_fy hc hw dX0_compute_29 ?_
    refine lv_iload_n hx hb dX0_compute_32 rfl (lv_at hl 3 rfl) ?_
    refine l0_fy (j := q) hc hw (pf_ixn hq (by decide)) dX0_compute_33 ?_
    refine l0_rg (j := (pf_n (fy q))) hc hw (pf_ixs (hy1 c8).1) dX0_compute_34 ?_
    refine lv_istore (lv' := [(4, .int (rg (pf_n (fy q)))), (3, .int (fx q)), (0, .ref (a 0)), (1, .int (oc q)), (2, .int (nI q))]) hx hb dX0_compute_35 hl (by decide) rfl (fun ls hl => ?_)
    refine lv_aload_n hx hb dX0_compute_37 rfl (lv_at hl 2 rfl) ?_
    refine g0_rg hc hw dX0_compute_38 ?_
    refine lv_aload_n hx hb dX0_compute_41 rfl (lv_at hl 2 rfl) ?_
    refine g0_fz hc hw dX0_compute_42 ?_
    refine lv_iload_n hx hb dX0_compute_45 rfl (lv_at hl 4 rfl) ?_
    refine l0_fz (j := q) hc hw (pf_ixn hq (by decide)) dX0_compute_46 ?_
    refine l0_rg (j := (pf_n (fz q))) hc hw (pf_ixs (hy1 c8).2) dX0_compute_47 ?_
    refine lv_istore (lv' := [(5, .int (rg (pf_n (fz q)))), (4, .int (rg (pf_n (fy q)))), (3, .int (fx q)), (0, .ref (a 0)), (1, .int (oc q)), (2, .int (nI q))]) hx hb dX0_compute_48 hl (by decide) rfl (fun ls hl => ?_)
    refine lv_aload_n hx hb dX0_compute_50 rfl (lv_at hl 3 rfl) ?_
    refine g0_rg hc hw dX0_compute_51 ?_
    refine lv_iload_n hx hb dX0_compute_54 rfl (lv_at hl 2 rfl) ?_
    refine lv_iload_n hx hb dX0_compute_55 rfl (lv_at hl 4 rfl) ?_
    refine lv_iconst (v := 1) hx hb dX0_compute_56 (by decide) ?_
    refine lv_icmp_ne (tgt := 68) hx hb dX0_compute_57 (by decide) (fun c57 => ?_) (fun c57 => ?_)
    · refine lv_iload_n hx hb dX0_compute_68 rfl (lv_at hl 4 rfl) ?_
      refine lv_iconst (v := 2) hx hb dX0_compute_69 (by decide) ?_
      refine lv_icmp_ne (tgt := 81) hx hb dX0_compute_70 (by decide) (fun c70 => ?_) (fun c70 => ?_)
      · refine lv_iload hx hb dX0_compute_81 (lv_at hl 1 rfl) ?_
        refine lv_iload hx hb dX0_compute_83 (lv_at hl 0 rfl) ?_
        refine lv_imul hx hb dX0_compute_85 ?_
        refine s0_rg (j := (pf_n (fx q))) hc hw (pf_ixs hx1) dX0_compute_86 (fun H locs hw => ?_)
        exact pf_retV hc (ce, sv, (upd rg (pf_n (fx q)) ((rg (pf_n (fy q))) * (rg (pf_n (fz q))))), pl, ct, ol, lS, lL, rd, wr, sr, tl, fl) hw hr hlk (by simp [pf_comp, c8, c57, c70]) dX0_compute_87
      · refine lv_iload hx hb dX0_compute_73 (lv_at hl 1 rfl) ?_
        refine lv_iload hx hb dX0_compute_75 (lv_at hl 0 rfl) ?_
        refine lv_isub hx hb dX0_compute_77 ?_
        refine lv_goto (tgt := 86) hx hb dX0_compute_78 (by decide) ?_
        refine s0_rg (j := (pf_n (fx q))) hc hw (pf_ixs hx1) dX0_compute_86 (fun H locs hw => ?_)
        exact pf_retV hc (ce, sv, (upd rg (pf_n (fx q)) ((rg (pf_n (fy q))) - (rg (pf_n (fz q))))), pl, ct, ol, lS, lL, rd, wr, sr, tl, fl) hw hr hlk (by simp [pf_comp, c8, c57, c70]) dX0_compute_87
    · refine lv_iload hx hb dX0_compute_60 (lv_at hl 1 rfl) ?_
      refine lv_iload hx hb dX0_compute_62 (lv_at hl 0 rfl) ?_
      refine lv_iadd hx hb dX0_compute_64 ?_
      refine lv_goto (tgt := 86) hx hb dX0_compute_65 (by decide) ?_
      refine s0_rg (j := (pf_n (fx q))) hc hw (pf_ixs hx1) dX0_compute_86 (fun H locs hw => ?_)
      exact pf_retV hc (ce, sv, (upd rg (pf_n (fx q)) ((rg (pf_n (fy q))) + (rg (pf_n (fz q))))), pl, ct, ol, lS, lL, rd, wr, sr, tl, fl) hw hr hlk (by simp [pf_comp, c8, c57]) dX0_compute_87
  · refine lv_aload_n hx hb dX0_compute_11 rfl (lv_at hl 1 rfl) ?_
    refine g0_rg hc hw dX0_compute_12 ?_
    refine lv_iload_n hx hb dX0_compute_15 rfl (lv_at hl 0 rfl) ?_
    refine lv_aload_n hx hb dX0_compute_16 rfl (lv_at hl 1 rfl) ?_
    refine g0_fy hc hw dX0_compute_17 ?_
    refine lv_iload_n hx hb dX0_compute_20 rfl (lv_at hl 3 rfl) ?_
    refine l0_fy (j := q) hc hw (pf_ixn hq (by decide)) dX0_compute_21 ?_
    refine s0_rg (j := (pf_n (fx q))) hc hw (pf_ixs hx1) dX0_compute_22 (fun H locs hw => ?_)
    exact pf_retV hc (ce, sv, (upd rg (pf_n (fx q)) (fy q)), pl, ct, ol, lS, lL, rd, wr, sr, tl, fl) hw hr hlk (by simp [pf_comp, c8]) dX0_compute_23
set_option maxHeartbeats 4000000 in
/-- moveCell(op, q) -/
theorem k0_moveCell (l : Launch) (D : va_G) (a : Nat → Nat) (d : Nat → ClassId) (oc fx fy fz fi : Nat → Int32) (ln : Int32) (v : pfV) (q : Nat) (hq : q < 30) (hx1 : vp_in (fx q) 4) (h5 : 5 < oc q → vp_in (fy q) 4) (h12 : vp_in (pf_cell oc fy (v_rg v) q) 12) : pf_KV l D (tyC d) yX0_moveCell cX0_moveCell 5 1 21 [.ref (a 0), .int (oc q), .int (nI q)] (wV a d ln oc fx fy fz fi v) (S := pfV) (fun u => u = pf_move oc fx fy q v) (fun u => wV a d ln oc fx fy fz fi u) := by
  obtain ⟨ce, sv, rg, pl, ct, ol, lS, lL, rd, wr, sr, tl, fl⟩ := v
  refine pf_entV RX0 (by decide) rfl (Nat.le_of_ble_eq_true rfl) ?_
  intro p e s m below meth c A ls hc hw hA hr hlk hl
  have hx := hc.1.1
  have hb := hc.1.2.1
  have hl : lv_has ls 5 [(0, .ref (a 0)), (1, .int (oc q)), (2, .int (nI q))] := hl
  have hw : pf_H D A s (wC a d ln oc fx fy fz ce sv fi rg pl ct ol lS lL rd wr sr tl fl) s.heap [] := hw
  refine lv_aload_n hx hb dX0_moveCell_0 rfl (lv_at hl 0 rfl) ?_
  refine lv_iload_n hx hb dX0_moveCell_1 rfl (lv_at hl 2 rfl) ?_
  refine pf_callI [.int (nI q)] hc hw hA (k0_cellOf l D a d oc fx fy fz ce sv fi rg lS lL ln pl ct ol rd wr sr tl fl q hq h5) (cwV 1 hc.1.2.2.2.2 (lw_V q153 q155 qs10 q22 q156) rfl rfl rfl (by decide +kernel) ⟨Nat.le_of_ble_eq_true rfl, Nat.le_of_ble_eq_true rfl⟩) (ci := 0) (T := TX0) (N := 19) rfl rfl rfl hl.1 rfl (Nat.le_of_ble_eq_true rfl) dX0_moveCell_2 ⟨Nat.zero_le _, Nat.zero_le _⟩ (fun rc _ H locs hp2 hw => ?_)
  subst hp2
  refine lv_istore_n (lv' := [(3, .int (pf_cell oc fy rg q)), (0, .ref (a 0)), (1, .int (oc q)), (2, .int (nI q))]) hx hb dX0_moveCell_5 rfl hl (by decide) rfl (fun ls hl => ?_)
  refine lv_aload_n hx hb dX0_moveCell_6 rfl (lv_at hl 1 rfl) ?_
  refine g0_fx hc hw dX0_moveCell_7 ?_
  refine lv_iload_n hx hb dX0_moveCell_10 rfl (lv_at hl 3 rfl) ?_
  refine l0_fx (j := q) hc hw (pf_ixn hq (by decide)) dX0_moveCell_11 ?_
  refine lv_istore (lv' := [(4, .int (fx q)), (3, .int (pf_cell oc fy rg q)), (0, .ref (a 0)), (1, .int (oc q)), (2, .int (nI q))]) hx hb dX0_moveCell_12 hl (by decide) rfl (fun ls hl => ?_)
  refine lv_iload_n hx hb dX0_moveCell_14 rfl (lv_at hl 3 rfl) ?_
  refine lv_iconst (v := 5) hx hb dX0_moveCell_15 (by decide) ?_
  refine lv_icmp_eq (tgt := 25) hx hb dX0_moveCell_16 (by decide) (fun c16 => ?_) (fun c16 => ?_)
  · refine lv_aload_n hx hb dX0_moveCell_25 rfl (lv_at hl 2 rfl) ?_
    refine g0_ce hc hw dX0_moveCell_26 ?_
    refine lv_iload_n hx hb dX0_moveCell_29 rfl (lv_at hl 1 rfl) ?_
    refine lv_aload_n hx hb dX0_moveCell_30 rfl (lv_at hl 2 rfl) ?_
    refine g0_rg hc hw dX0_moveCell_31 ?_
    refine lv_iload hx hb dX0_moveCell_34 (lv_at hl 0 rfl) ?_
    refine l0_rg (j := (pf_n (fx q))) hc hw (pf_ixs hx1) dX0_moveCell_36 ?_
    refine s0_ce (j := (pf_n (pf_cell oc fy rg q))) hc hw (pf_ixs h12) dX0_moveCell_37 (fun H locs hw => ?_)
    refine lv_aload_n hx hb dX0_moveCell_38 rfl (lv_at hl 2 rfl) ?_
    refine lv_dup hx hb dX0_moveCell_39 rfl ?_
    refine g0_wr hc hw dX0_moveCell_40 ?_
    refine lv_iconst (v := 1) hx hb dX0_moveCell_43 (by decide) ?_
    refine lv_iload_n hx hb dX0_moveCell_44 rfl (lv_at hl 1 rfl) ?_
    refine lv_ishl hx hb dX0_moveCell_45 ?_
    refine lv_ior hx hb dX0_moveCell_46 ?_
    refine p0_wr hc hw dX0_moveCell_47 (fun H locs hw => ?_)
    exact pf_retV hc ((upd ce (pf_n (pf_cell oc fy rg q)) (rg (pf_n (fx q)))), sv, rg, pl, ct, ol, lS, lL, rd, wr ||| (1 <<< ((pf_cell oc fy rg q) &&& 31)), sr, tl, fl) hw hr hlk (by simp [pf_move, pf_bit, pf_with, pf_n, c16]) dX0_moveCell_50
  · refine lv_iload_n hx hb dX0_moveCell_19 rfl (lv_at hl 3 rfl) ?_
    refine lv_bipush (v := 7) hx hb dX0_moveCell_20 (by decide) ?_
    refine lv_icmp_ne (tgt := 51) hx hb dX0_moveCell_22 (by decide) (fun c22 => ?_) (fun c22 => ?_)
    · refine lv_aload_n hx hb dX0_moveCell_51 rfl (lv_at hl 2 rfl) ?_
      refine g0_wr hc hw dX0_moveCell_52 ?_
      refine lv_iload_n hx hb dX0_moveCell_55 rfl (lv_at hl 1 rfl) ?_
      refine lv_ishr hx hb dX0_moveCell_56 ?_
      refine lv_iconst (v := 1) hx hb dX0_moveCell_57 (by decide) ?_
      refine lv_iand hx hb dX0_moveCell_58 ?_
      refine lv_if_ne (tgt := 74) hx hb dX0_moveCell_59 (by decide) (fun c59 => ?_) (fun c59 => ?_)
      · refine lv_aload_n hx hb dX0_moveCell_74 rfl (lv_at hl 2 rfl) ?_
        refine g0_rg hc hw dX0_moveCell_75 ?_
        refine lv_iload hx hb dX0_moveCell_78 (lv_at hl 0 rfl) ?_
        refine lv_aload_n hx hb dX0_moveCell_80 rfl (lv_at hl 2 rfl) ?_
        refine g0_ce hc hw dX0_moveCell_81 ?_
        refine lv_iload_n hx hb dX0_moveCell_84 rfl (lv_at hl 1 rfl) ?_
        refine l0_ce (j := (pf_n (pf_cell oc fy rg q))) hc hw (pf_ixs h12) dX0_moveCell_85 ?_
        refine s0_rg (j := (pf_n (fx q))) hc hw (pf_ixs hx1) dX0_moveCell_86 (fun H locs hw => ?_)
        exact pf_retV hc (ce, sv, (upd rg (pf_n (fx q)) (ce (pf_n (pf_cell oc fy rg q)))), pl, ct, ol, lS, lL, rd, wr, sr, tl, fl) hw hr hlk (by simp [pf_move, pf_bit, pf_with, pf_n, c16, c22, c59]) dX0_moveCell_87
      · refine lv_aload_n hx hb dX0_moveCell_62 rfl (lv_at hl 2 rfl) ?_
        refine lv_dup hx hb dX0_moveCell_63 rfl ?_
        refine g0_rd hc hw dX0_moveCell_64 ?_
        refine lv_iconst (v := 1) hx hb dX0_moveCell_67 (by decide) ?_
        refine lv_iload_n hx hb dX0_moveCell_68 rfl (lv_at hl 1 rfl) ?_
        refine lv_ishl hx hb dX0_moveCell_69 ?_
        refine lv_ior hx hb dX0_moveCell_70 ?_
        refine p0_rd hc hw dX0_moveCell_71 (fun H locs hw => ?_)
        refine lv_aload_n hx hb dX0_moveCell_74 rfl (lv_at hl 2 rfl) ?_
        refine g0_rg hc hw dX0_moveCell_75 ?_
        refine lv_iload hx hb dX0_moveCell_78 (lv_at hl 0 rfl) ?_
        refine lv_aload_n hx hb dX0_moveCell_80 rfl (lv_at hl 2 rfl) ?_
        refine g0_ce hc hw dX0_moveCell_81 ?_
        refine lv_iload_n hx hb dX0_moveCell_84 rfl (lv_at hl 1 rfl) ?_
        refine l0_ce (j := (pf_n (pf_cell oc fy rg q))) hc hw (pf_ixs h12) dX0_moveCell_85 ?_
        refine s0_rg (j := (pf_n (fx q))) hc hw (pf_ixs hx1) dX0_moveCell_86 (fun H locs hw => ?_)
        exact pf_retV hc (ce, sv, (upd rg (pf_n (fx q)) (ce (pf_n (pf_cell oc fy rg q)))), pl, ct, ol, lS, lL, rd ||| (1 <<< ((pf_cell oc fy rg q) &&& 31)), wr, sr, tl, fl) hw hr hlk (by simp [pf_move, pf_bit, pf_with, pf_n, c16, c22, c59]) dX0_moveCell_87
    · refine lv_aload_n hx hb dX0_moveCell_25 rfl (lv_at hl 2 rfl) ?_
      refine g0_ce hc hw dX0_moveCell_26 ?_
      refine lv_iload_n hx hb dX0_moveCell_29 rfl (lv_at hl 1 rfl) ?_
      refine lv_aload_n hx hb dX0_moveCell_30 rfl (lv_at hl 2 rfl) ?_
      refine g0_rg hc hw dX0_moveCell_31 ?_
      refine lv_iload hx hb dX0_moveCell_34 (lv_at hl 0 rfl) ?_
      refine l0_rg (j := (pf_n (fx q))) hc hw (pf_ixs hx1) dX0_moveCell_36 ?_
      refine s0_ce (j := (pf_n (pf_cell oc fy rg q))) hc hw (pf_ixs h12) dX0_moveCell_37 (fun H locs hw => ?_)
      refine lv_aload_n hx hb dX0_moveCell_38 rfl (lv_at hl 2 rfl) ?_
      refine lv_dup hx hb dX0_moveCell_39 rfl ?_
      refine g0_wr hc hw dX0_moveCell_40 ?_
      refine lv_iconst (v := 1) hx hb dX0_moveCell_43 (by decide) ?_
      refine lv_iload_n hx hb dX0_moveCell_44 rfl (lv_at hl 1 rfl) ?_
      refine lv_ishl hx hb dX0_moveCell_45 ?_
      refine lv_ior hx hb dX0_moveCell_46 ?_
      refine p0_wr hc hw dX0_moveCell_47 (fun H locs hw => ?_)
      exact pf_retV hc ((upd ce (pf_n (pf_cell oc fy rg q)) (rg (pf_n (fx q)))), sv, rg, pl, ct, ol, lS, lL, rd, wr ||| (1 <<< ((pf_cell oc fy rg q) &&& 31)), sr, tl, fl) hw hr hlk (by simp [pf_move, pf_bit, pf_with, pf_n, c16, c22]) dX0_moveCell_50
set_option maxHeartbeats 4000000 in
/-- control(op, q), k loops are open -/
theorem k0_control (l : Launch) (D : va_G) (a : Nat → Nat) (d : Nat → ClassId) (oc fx fy fz fi : Nat → Int32) (ln : Int32) (v : pfV) (q k : Nat) (hq : q < 30) (hx1 : oc q = 8 → vp_in (fx q) 4) (hol : v_ol v = nI k) (h9 : oc q = 9 → k < 2) (h10 : ¬ oc q = 8 → ¬ oc q = 9 → 0 < k ∧ k ≤ 2) : pf_KV l D (tyC d) yX0_control cX0_control 4 0 0 [.ref (a 0), .int (oc q), .int (nI q)] (wV a d ln oc fx fy fz fi v) (S := pfV) (fun u => u = pf_ctl oc fx fy q k v) (fun u => wV a d ln oc fx fy fz fi u) := by
  obtain ⟨ce, sv, rg, pl, ct, ol, lS, lL, rd, wr, sr, tl, fl⟩ := v
  obtain rfl : ol = nI k := hol
  refine pf_entV RX0 (by decide) rfl (Nat.le_of_ble_eq_true rfl) ?_
  intro p e s m below meth c A ls hc hw hA hr hlk hl
  have hx := hc.1.1
  have hb := hc.1.2.1
  have hl : lv_has ls 4 [(0, .ref (a 0)), (1, .int (oc q)), (2, .int (nI q))] := hl
  have hw : pf_H D A s (wC a d ln oc fx fy fz ce sv fi rg pl ct (nI k) lS lL rd wr sr tl fl) s.heap [] := hw
  refine lv_iload_n hx hb dX0_control_0 rfl (lv_at hl 1 rfl) ?_
  refine lv_bipush (v := 8) hx hb dX0_control_1 (by decide) ?_
  refine lv_icmp_ne (tgt := 38) hx hb dX0_control_3 (by decide) (fun c3 => ?_) (fun c3 => ?_)
  · refine lv_iload_n hx hb dX0_control_38 rfl (lv_at hl 1 rfl) ?_
    refine lv_bipush (v := 9) hx hb dX0_control_39 (by decide) ?_
    refine lv_icmp_ne (tgt := 82) hx hb dX0_control_41 (by decide) (fun c41 => ?_) (fun c41 => ?_)
    · refine lv_aload_n hx hb dX0_control_82 rfl (lv_at hl 0 rfl) ?_
      refine g0_ol hc hw dX0_control_83 ?_
      refine lv_iconst (v := 1) hx hb dX0_control_86 (by decide) ?_
      refine lv_isub hx hb dX0_control_87 ?_
      refine pf_top (nI (k - 1)) (pk_sub (a := k) (b := 1) (h10 c3 c41).1) ?_
      refine lv_istore_n (lv' := [(3, .int (nI (k - 1))), (0, .ref (a 0)), (1, .int (oc q)), (2, .int (nI q))]) hx hb dX0_control_88 rfl hl (by decide) rfl (fun ls hl => ?_)
      refine lv_aload_n hx hb dX0_control_89 rfl (lv_at hl 1 rfl) ?_
      refine g0_lL hc hw dX0_control_90 ?_
      refine lv_iload_n hx hb dX0_control_93 rfl (lv_at hl 0 rfl) ?_
      refine lv_dup2_11 hx hb dX0_control_94 rfl rfl ?_
      refine l0_lL (j := (k - 1)) hc hw (pf_ixn (by have := h10 c3 c41; omega) (by decide)) dX0_control_95 ?_
      refine lv_iconst (v := 1) hx hb dX0_control_96 (by decide) ?_
      refine lv_isub hx hb dX0_control_97 ?_
      refine s0_lL (j := (k - 1)) hc hw (pf_ixn (by have := h10 c3 c41; omega) (by decide)) dX0_control_98 (fun H locs hw => ?_)
      refine lv_aload_n hx hb dX0_control_99 rfl (lv_at hl 1 rfl) ?_
      refine g0_lL hc hw dX0_control_100 ?_
      refine lv_iload_n hx hb dX0_control_103 rfl (lv_at hl 0 rfl) ?_
      refine l0_lL (j := (k - 1)) hc hw (pf_ixn (by have := h10 c3 c41; omega) (by decide)) dX0_control_104 ?_
      refine pf_top (lL (k - 1) - 1) pk_us ?_
      refine lv_if_le (tgt := 123) hx hb dX0_control_105 (by decide) (fun c105 => ?_) (fun c105 => ?_)
      · refine lv_aload_n hx hb dX0_control_123 rfl (lv_at hl 1 rfl) ?_
        refine lv_iload_n hx hb dX0_control_124 rfl (lv_at hl 0 rfl) ?_
        refine p0_ol hc hw dX0_control_125 (fun H locs hw => ?_)
        exact pf_retV hc (ce, sv, rg, pl, ct, nI (k - 1), lS, (upd lL (k - 1) ((lL (k - 1)) - 1)), rd, wr, sr, tl, fl) hw hr hlk (by simp [pf_ctl, c3, c41, c105]) dX0_control_128
      · refine lv_aload_n hx hb dX0_control_108 rfl (lv_at hl 1 rfl) ?_
        refine lv_aload_n hx hb dX0_control_109 rfl (lv_at hl 1 rfl) ?_
        refine g0_lS hc hw dX0_control_110 ?_
        refine lv_iload_n hx hb dX0_control_113 rfl (lv_at hl 0 rfl) ?_
        refine l0_lS (j := (k - 1)) hc hw (pf_ixn (by have := h10 c3 c41; omega) (by decide)) dX0_control_114 ?_
        refine lv_iconst (v := 1) hx hb dX0_control_115 (by decide) ?_
        refine lv_iadd hx hb dX0_control_116 ?_
        refine p0_pl hc hw dX0_control_117 (fun H locs hw => ?_)
        refine lv_goto (tgt := 128) hx hb dX0_control_120 (by decide) ?_
        exact pf_retV hc (ce, sv, rg, (lS (k - 1)) + 1, ct, nI k, lS, (upd lL (k - 1) ((lL (k - 1)) - 1)), rd, wr, sr, tl, fl) hw hr hlk (by simp [pf_ctl, c3, c41, c105]) dX0_control_128
    · refine lv_aload_n hx hb dX0_control_44 rfl (lv_at hl 0 rfl) ?_
      refine g0_lS hc hw dX0_control_45 ?_
      refine lv_aload_n hx hb dX0_control_48 rfl (lv_at hl 0 rfl) ?_
      refine g0_ol hc hw dX0_control_49 ?_
      refine lv_iload_n hx hb dX0_control_52 rfl (lv_at hl 2 rfl) ?_
      refine s0_lS (j := k) hc hw (pf_ixn (h9 c41) (by decide)) dX0_control_53 (fun H locs hw => ?_)
      refine lv_aload_n hx hb dX0_control_54 rfl (lv_at hl 0 rfl) ?_
      refine g0_lL hc hw dX0_control_55 ?_
      refine lv_aload_n hx hb dX0_control_58 rfl (lv_at hl 0 rfl) ?_
      refine g0_ol hc hw dX0_control_59 ?_
      refine lv_aload_n hx hb dX0_control_62 rfl (lv_at hl 0 rfl) ?_
      refine g0_fx hc hw dX0_control_63 ?_
      refine lv_iload_n hx hb dX0_control_66 rfl (lv_at hl 2 rfl) ?_
      refine l0_fx (j := q) hc hw (pf_ixn hq (by decide)) dX0_control_67 ?_
      refine s0_lL (j := k) hc hw (pf_ixn (h9 c41) (by decide)) dX0_control_68 (fun H locs hw => ?_)
      refine lv_aload_n hx hb dX0_control_69 rfl (lv_at hl 0 rfl) ?_
      refine lv_dup hx hb dX0_control_70 rfl ?_
      refine g0_ol hc hw dX0_control_71 ?_
      refine lv_iconst (v := 1) hx hb dX0_control_74 (by decide) ?_
      refine lv_iadd hx hb dX0_control_75 ?_
      refine p0_ol hc hw dX0_control_76 (fun H locs hw => ?_)
      refine lv_goto (tgt := 128) hx hb dX0_control_79 (by decide) ?_
      exact pf_retV hc (ce, sv, rg, pl, ct, (nI k) + 1, (upd lS k (nI q)), (upd lL k (fx q)), rd, wr, sr, tl, fl) hw hr hlk (by simp [pf_ctl, c3, c41]) dX0_control_128
  · refine lv_aload_n hx hb dX0_control_6 rfl (lv_at hl 0 rfl) ?_
    refine g0_rg hc hw dX0_control_7 ?_
    refine lv_aload_n hx hb dX0_control_10 rfl (lv_at hl 0 rfl) ?_
    refine g0_fx hc hw dX0_control_11 ?_
    refine lv_iload_n hx hb dX0_control_14 rfl (lv_at hl 2 rfl) ?_
    refine l0_fx (j := q) hc hw (pf_ixn hq (by decide)) dX0_control_15 ?_
    refine l0_rg (j := (pf_n (fx q))) hc hw (pf_ixs (hx1 c3)) dX0_control_16 ?_
    refine lv_if_gt (tgt := 128) hx hb dX0_control_17 (by decide) (fun c17 => ?_) (fun c17 => ?_)
    · exact pf_retV hc (ce, sv, rg, pl, ct, nI k, lS, lL, rd, wr, sr, tl, fl) hw hr hlk (by simp [pf_ctl, c3, c17]) dX0_control_128
    · refine lv_aload_n hx hb dX0_control_20 rfl (lv_at hl 0 rfl) ?_
      refine lv_dup hx hb dX0_control_21 rfl ?_
      refine g0_pl hc hw dX0_control_22 ?_
      refine lv_aload_n hx hb dX0_control_25 rfl (lv_at hl 0 rfl) ?_
      refine g0_fy hc hw dX0_control_26 ?_
      refine lv_iload_n hx hb dX0_control_29 rfl (lv_at hl 2 rfl) ?_
      refine l0_fy (j := q) hc hw (pf_ixn hq (by decide)) dX0_control_30 ?_
      refine lv_iadd hx hb dX0_control_31 ?_
      refine p0_pl hc hw dX0_control_32 (fun H locs hw => ?_)
      refine lv_goto (tgt := 128) hx hb dX0_control_35 (by decide) ?_
      exact pf_retV hc (ce, sv, rg, pl + (fy q), ct, nI k, lS, lL, rd, wr, sr, tl, fl) hw hr hlk (by simp [pf_ctl, c3, c17]) dX0_control_128
end
section
set_option maxRecDepth 100000
/-- what the loop of save keeps: ar is the area that is written, k words of it stand -/
theorem pf_save_put {g sv : Nat → Int32} {vv : pfV} {ar k : Nat} (hg : ∀ w, w < 24 → g w = (if ar ≤ w ∧ w < ar + k then pf_word vv (w - ar) else sv w)) (_ : k < 11) : ∀ w, w < 24 → upd g (ar + k) (pf_word vv k) w = (if ar ≤ w ∧ w < ar + (k + 1) then pf_word vv (w - ar) else sv w) := by
  intro w hw
  by_cases h : w = ar + k
  · subst h
    rw [pk_us, if_pos (by omega)]
    congr 1
    omega
  · rw [pk_un h, hg w hw]
    by_cases h2 : ar ≤ w ∧ w < ar + k
    · rw [if_pos h2, if_pos (by omega)]
    · rw [if_neg h2, if_neg (by omega)]
theorem pf_save_end {g ce sv rg lS lL : Nat → Int32} {pl ct ol rd wr sr fl : Int32} {t : Nat} (hg : ∀ w, w < 24 → g w = (if 12 - pf_va sv ≤ w ∧ w < 12 - pf_va sv + 11 then pf_word (ce, sv, rg, pl, ct, ol, lS, lL, rd, wr, sr, nI t, fl) (w - (12 - pf_va sv)) else sv w)) (ht : 11 + 1 ≤ t) (hva : pf_va sv = 0 ∨ pf_va sv = 12) :
    pf_saveOk (ce, sv, rg, pl, ct, ol, lS, lL, rd, wr, sr, nI t, fl) t (ce, upd g (12 - pf_va sv + 11) (g (pf_va sv + 11) + 1), rg, pl, ct, ol, lS, lL, 0, 0, 0, nI (t - 12), fl) := by
  refine ⟨ht, _, rfl, ?_, ?_, ?_⟩
  · intro w hw
    show upd g _ _ (pf_va sv + w) = sv (pf_va sv + w)
    rw [pk_un (by omega), hg _ (by omega), if_neg (by omega)]
  · intro w hw
    show upd g _ _ (12 - pf_va sv + w) = _
    rw [pk_un (by omega), hg _ (by omega), if_pos (by omega)]
    congr 1
    omega
  · show upd g _ _ (12 - pf_va sv + 11) = sv (pf_va sv + 11) + 1
    rw [pk_us, hg _ (by omega), if_neg (by omega)]
theorem pf_save_no {g ce sv rg lS lL : Nat → Int32} {pl ct ol rd wr sr fl x : Int32} {t k : Nat} {u : pfV} (hg : ∀ w, w < 24 → g w = (if 12 - pf_va sv ≤ w ∧ w < 12 - pf_va sv + k then pf_word (ce, sv, rg, pl, ct, ol, lS, lL, rd, wr, sr, nI t, fl) (w - (12 - pf_va sv)) else sv w)) (ht : t < 12) (hk : k ≤ 11) (hva : pf_va sv = 0 ∨ pf_va sv = 12) (hl : pf_lost (ce, g, rg, pl, ct, ol, lS, lL, rd, wr, sr, x, fl) u) :
    pf_saveNo (ce, sv, rg, pl, ct, ol, lS, lL, rd, wr, sr, nI t, fl) t u := by
  obtain ⟨h1, h2, h3⟩ := hl
  refine ⟨ht, h1, h2, ?_, ?_⟩
  · intro w hw
    rw [h3]
    show g (pf_va sv + w) = sv (pf_va sv + w)
    rw [hg _ (by omega), if_neg (by omega)]
  · rw [h3]
    show g (12 - pf_va sv + 11) = sv (12 - pf_va sv + 11)
    rw [hg _ (by omega), if_neg (by omega)]
set_option maxHeartbeats 4000000 in
/-- save with t ticks left -/
theorem k0_save (l : Launch) (D : va_G) (a : Nat → Nat) (d : Nat → ClassId) (oc fx fy fz fi : Nat → Int32) (ln : Int32) (v : pfV) (t : Nat) (ht : t < 2 ^ 31) (htl : v_tl v = nI t) : pf_KV l D (tyC d) yX0_save cX0_save 4 2 41 [.ref (a 0)] (wV a d ln oc fx fy fz fi v) (S := pfV) (fun u => pf_save v t u) (fun u => wV a d ln oc fx fy fz fi u) := by
  obtain ⟨ce, sv, rg, pl, ct, ol, lS, lL, rd, wr, sr, tl, fl⟩ := v
  obtain rfl : tl = nI t := htl
  refine pf_entV RX0 (by decide) rfl (Nat.le_of_ble_eq_true rfl) ?_
  intro p e s m below meth c A ls hc hw hA hr hlk hl
  have hx := hc.1.1
  have hb := hc.1.2.1
  have hl : lv_has ls 4 [(0, .ref (a 0))] := hl
  have hw : pf_H D A s (wC a d ln oc fx fy fz ce sv fi rg pl ct ol lS lL rd wr sr (nI t) fl) s.heap [] := hw
  refine lv_aload_n hx hb dX0_save_0 rfl (lv_at hl 0 rfl) ?_
  refine pf_callI [] hc hw hA (k0_validArea l D a d oc fx fy fz ce sv fi rg lS lL ln pl ct ol rd wr sr (nI t) fl) (cwV 0 hc.1.2.2.2.2 (lw_V q133 q135 qs5 q22 q136) rfl rfl rfl (by decide +kernel) ⟨Nat.le_of_ble_eq_true rfl, Nat.le_of_ble_eq_true rfl⟩) (ci := 0) (T := TX0) (N := 19) rfl rfl rfl hl.1 rfl (Nat.le_of_ble_eq_true rfl) dX0_save_1 ⟨Nat.zero_le _, Nat.zero_le _⟩ (fun rv _ H locs hp1 hw => ?_)
  subst hp1
  have hva : pf_va sv = 0 ∨ pf_va sv = 12 := by unfold pf_va; split <;> simp
  refine lv_istore_n (lv' := [(1, .int (nI (pf_va sv))), (0, .ref (a 0))]) hx hb dX0_save_4 rfl hl (by decide) rfl (fun ls hl => ?_)
  refine lv_bipush (v := 12) hx hb dX0_save_5 (by decide) ?_
  refine lv_iload_n hx hb dX0_save_7 rfl (lv_at hl 0 rfl) ?_
  refine lv_isub hx hb dX0_save_8 ?_
  refine pf_top (nI (12 - pf_va sv)) (pk_sub (a := 12) (b := pf_va sv) (by omega)) ?_
  refine lv_istore_n (lv' := [(2, .int (nI (12 - pf_va sv))), (1, .int (nI (pf_va sv))), (0, .ref (a 0))]) hx hb dX0_save_9 rfl hl (by decide) rfl (fun ls hl => ?_)
  refine lv_iconst (v := 0) hx hb dX0_save_10 (by decide) ?_
  refine lv_istore_n (lv' := [(3, .int 0), (2, .int (nI (12 - pf_va sv))), (1, .int (nI (pf_va sv))), (0, .ref (a 0))]) hx hb dX0_save_11 rfl hl (by decide) rfl (fun ls hl => ?_)
  have lp : ∀ (n k : Nat) (g : Nat → Int32) (H : Heap) (locs : List Loc) (ls : Array Slot), k + n = 11 → k ≤ t → (∀ w, w < 24 → g w = (if 12 - pf_va sv ≤ w ∧ w < 12 - pf_va sv + k then pf_word (ce, sv, rg, pl, ct, ol, lS, lL, rd, wr, sr, nI t, fl) (w - (12 - pf_va sv)) else sv w)) → pf_H D A s (wC a d ln oc fx fy fz ce g fi rg pl ct ol lS lL rd wr sr (nI (t - k)) fl) H locs → lv_has ls 4 [(3, .int (nI k)), (2, .int (nI (12 - pf_va sv))), (1, .int (nI (pf_va sv))), (0, .ref (a 0))] → W p l e { frames := 2, cells := 0, slots := 0, locals := 41 } s m ([.ref (a 0)] : List Value).toArray below meth c H locs 0 0 (MQ below (va_Qv (S := pfV) (fun u => pf_save (ce, sv, rg, pl, ct, ol, lS, lL, rd, wr, sr, nI t, fl) t u) (fun u t => pf_at D (tyC d) A ((fun u => wV a d ln oc fx fy fz fi u) u) t) A) ([.ref (a 0)] : List Value).toArray s 0 0 A) (F0 m 12 ls []) := by
    intro n
    induction n with
    | zero =>
      intro k g H locs ls hk hkt hg hw hl
      obtain rfl : k = 11 := by omega
      refine lv_iload_n hx hb dX0_save_12 rfl (lv_at hl 0 rfl) ?_
      refine lv_bipush (v := 11) hx hb dX0_save_13 (by decide) ?_
      refine lv_icmp_ge (tgt := 45) hx hb dX0_save_15 (by decide) (fun c15 => ?_) (fun c15 => absurd (Int32.le_refl _) c15)
      refine lv_aload_n hx hb dX0_save_45 rfl (lv_at hl 3 rfl) ?_
      refine pf_callI [] hc hw hA (k0_tick l D a d oc fx fy fz fi ln (ce, g, rg, pl, ct, ol, lS, lL, rd, wr, sr, nI (t - 11), fl)) (cwV 0 hc.1.2.2.2.2 (lw_V q137 q139 qs6 q22 q140) rfl rfl rfl (by decide +kernel) ⟨Nat.le_of_ble_eq_true rfl, Nat.le_of_ble_eq_true rfl⟩) (ci := 0) (T := TX0) (N := 19) rfl rfl rfl hl.1 rfl (Nat.le_of_ble_eq_true rfl) dX0_save_46 ⟨Nat.zero_le _, Nat.zero_le _⟩ (fun rt46 u46 H locs hp46 hw => ?_)
      refine lv_if_ne (tgt := 53) hx hb dX0_save_49 (by decide) (fun c49 => ?_) (fun c49 => ?_)
      · have hu : u46 = (ce, g, rg, pl, ct, ol, lS, lL, rd, wr, sr, nI (t - 11) - 1, fl) := by
          rcases hp46 with ⟨-, -, h⟩ | ⟨-, h, -⟩
          · exact h
          · exact absurd h c49
        have ht1 : 11 + 1 ≤ t := by
          rcases hp46 with ⟨h, -, -⟩ | ⟨-, h, -⟩
          · have h : ¬ nI (t - 11) = 0 := h
            rcases Nat.eq_zero_or_pos (t - 11) with q | q
            · rw [q] at h; exact absurd rfl h
            · omega
          · exact absurd h c49
        subst hu
        have htt : nI (t - 11) - 1 = nI (t - (11 + 1)) := by rw [show t - 11 = (t - (11 + 1)) + 1 by omega]; exact nI_pred _
        have hw : pf_H D A s (wC a d ln oc fx fy fz ce g fi rg pl ct ol lS lL rd wr sr (nI (t - (11 + 1))) fl) H locs := by rw [← htt]; exact hw
        refine lv_aload_n hx hb dX0_save_53 rfl (lv_at hl 3 rfl) ?_
        refine g0_sv hc hw dX0_save_54 ?_
        refine lv_iload_n hx hb dX0_save_57 rfl (lv_at hl 1 rfl) ?_
        refine lv_bipush (v := 11) hx hb dX0_save_58 (by decide) ?_
        refine lv_iadd hx hb dX0_save_60 ?_
        refine pf_top (nI (12 - pf_va sv + 11)) (nI_add _ _) ?_
        refine lv_aload_n hx hb dX0_save_61 rfl (lv_at hl 3 rfl) ?_
        refine g0_sv hc hw dX0_save_62 ?_
        refine lv_iload_n hx hb dX0_save_65 rfl (lv_at hl 2 rfl) ?_
        refine lv_bipush (v := 11) hx hb dX0_save_66 (by decide) ?_
        refine lv_iadd hx hb dX0_save_68 ?_
        refine pf_top (nI (pf_va sv + 11)) (nI_add _ _) ?_
        refine l0_sv (j := (pf_va sv + 11)) hc hw (pf_ixn (by omega) (by decide)) dX0_save_69 ?_
        refine lv_iconst (v := 1) hx hb dX0_save_70 (by decide) ?_
        refine lv_iadd hx hb dX0_save_71 ?_
        refine s0_sv (j := (12 - pf_va sv + 11)) hc hw (pf_ixn (by omega) (by decide)) dX0_save_72 (fun H locs hw => ?_)
        refine lv_aload_n hx hb dX0_save_73 rfl (lv_at hl 3 rfl) ?_
        refine pf_callV [] hc hw hA (k0_startStretch l D a d oc fx fy fz ce (upd g (12 - pf_va sv + 11) ((g (pf_va sv + 11)) + 1)) fi rg lS lL ln pl ct ol rd wr sr (nI (t - (11 + 1))) fl) (cwV 0 hc.1.2.2.2.2 (lw_V q145 q147 qs8 q22 q148) rfl rfl rfl (by decide +kernel) ⟨Nat.le_of_ble_eq_true rfl, Nat.le_of_ble_eq_true rfl⟩) (ci := 0) (T := TX0) (N := 19) rfl rfl rfl hl.1 rfl (Nat.le_of_ble_eq_true rfl) dX0_save_74 ⟨Nat.zero_le _, Nat.zero_le _⟩ (fun _ H locs _ hw => ?_)
        exact pf_retV hc (ce, upd g (12 - pf_va sv + 11) (g (pf_va sv + 11) + 1), rg, pl, ct, ol, lS, lL, 0, 0, 0, nI (t - 12), fl) hw hr hlk (Or.inl (pf_save_end hg ht1 hva)) dX0_save_77
      · have hl0 : v_tl (ce, g, rg, pl, ct, ol, lS, lL, rd, wr, sr, nI (t - 11), fl) = 0 ∧ pf_lost (ce, g, rg, pl, ct, ol, lS, lL, rd, wr, sr, nI (t - 11), fl) u46 := by
          rcases hp46 with ⟨-, h, -⟩ | ⟨h1, -, h2⟩
          · rw [h] at c49; exact absurd c49 (by decide)
          · exact ⟨h1, h2⟩
        have ht1 : t = 11 := by
          have h : nI (t - 11) = nI 0 := hl0.1
          have := (nI_eq (by omega) (by decide)).mp h
          omega
        exact pf_retV hc u46 hw hr hlk (Or.inr (pf_save_no hg (by omega) (by omega) hva hl0.2)) dX0_save_52
    | succ n ih =>
      intro k g H locs ls hk hkt hg hw hl
      refine lv_iload_n hx hb dX0_save_12 rfl (lv_at hl 0 rfl) ?_
      refine lv_bipush (v := 11) hx hb dX0_save_13 (by decide) ?_
      refine lv_icmp_ge (tgt := 45) hx hb dX0_save_15 (by decide) (fun c15 => absurd ((nI_leI (a := 11) (b := k) (by decide) (by omega)).mp c15) (by omega)) (fun c15 => ?_)
      refine lv_aload_n hx hb dX0_save_18 rfl (lv_at hl 3 rfl) ?_
      refine pf_callI [] hc hw hA (k0_tick l D a d oc fx fy fz fi ln (ce, g, rg, pl, ct, ol, lS, lL, rd, wr, sr, nI (t - k), fl)) (cwV 0 hc.1.2.2.2.2 (lw_V q137 q139 qs6 q22 q140) rfl rfl rfl (by decide +kernel) ⟨Nat.le_of_ble_eq_true rfl, Nat.le_of_ble_eq_true rfl⟩) (ci := 0) (T := TX0) (N := 19) rfl rfl rfl hl.1 rfl (Nat.le_of_ble_eq_true rfl) dX0_save_19 ⟨Nat.zero_le _, Nat.zero_le _⟩ (fun rt19 u19 H locs hp19 hw => ?_)
      refine lv_if_ne (tgt := 26) hx hb dX0_save_22 (by decide) (fun c22 => ?_) (fun c22 => ?_)
      · have hu : u19 = (ce, g, rg, pl, ct, ol, lS, lL, rd, wr, sr, nI (t - k) - 1, fl) := by
          rcases hp19 with ⟨-, -, h⟩ | ⟨-, h, -⟩
          · exact h
          · exact absurd h c22
        have ht1 : k + 1 ≤ t := by
          rcases hp19 with ⟨h, -, -⟩ | ⟨-, h, -⟩
          · have h : ¬ nI (t - k) = 0 := h
            rcases Nat.eq_zero_or_pos (t - k) with q | q
            · rw [q] at h; exact absurd rfl h
            · omega
          · exact absurd h c22
        subst hu
        have htt : nI (t - k) - 1 = nI (t - (k + 1)) := by rw [show t - k = (t - (k + 1)) + 1 by omega]; exact nI_pred _
        have hw : pf_H D A s (wC a d ln oc fx fy fz ce g fi rg pl ct ol lS lL rd wr sr (nI (t - (k + 1))) fl) H locs := by rw [← htt]; exact hw
        refine lv_aload_n hx hb dX0_save_26 rfl (lv_at hl 3 rfl) ?_
        refine g0_sv hc hw dX0_save_27 ?_
        refine lv_iload_n hx hb dX0_save_30 rfl (lv_at hl 1 rfl) ?_
        refine lv_iload_n hx hb dX0_save_31 rfl (lv_at hl 0 rfl) ?_
        refine lv_iadd hx hb dX0_save_32 ?_
        refine pf_top (nI (12 - pf_va sv + k)) (nI_add _ _) ?_
        refine lv_aload_n hx hb dX0_save_33 rfl (lv_at hl 3 rfl) ?_
        refine lv_iload_n hx hb dX0_save_34 rfl (lv_at hl 0 rfl) ?_
        refine pf_callI [.int (nI k)] hc hw hA (k0_wordToSave l D a d oc fx fy fz fi ln (ce, g, rg, pl, ct, ol, lS, lL, rd, wr, sr, nI (t - (k + 1)), fl) k (by omega)) (cwV 1 hc.1.2.2.2.2 (lw_V q161 q163 qs12 q22 q164) rfl rfl rfl (by decide +kernel) ⟨Nat.le_of_ble_eq_true rfl, Nat.le_of_ble_eq_true rfl⟩) (ci := 0) (T := TX0) (N := 19) rfl rfl rfl hl.1 rfl (Nat.le_of_ble_eq_true rfl) dX0_save_35 ⟨Nat.zero_le _, Nat.zero_le _⟩ (fun rw _ H locs hp35 hw => ?_)
        have hp35 : rw = pf_word (ce, sv, rg, pl, ct, ol, lS, lL, rd, wr, sr, nI t, fl) k := hp35
        subst hp35
        refine s0_sv (j := (12 - pf_va sv + k)) hc hw (pf_ixn (by omega) (by decide)) dX0_save_38 (fun H locs hw => ?_)
        refine lv_iinc (v := nI (k + 1)) (lv' := [(3, .int (nI (k + 1))), (2, .int (nI (12 - pf_va sv))), (1, .int (nI (pf_va sv))), (0, .ref (a 0))]) hx hb dX0_save_39 hl (k := 0) rfl (nI_1 _) (by decide) rfl (fun ls hl => ?_)
        refine lv_goto (tgt := 12) hx hb dX0_save_42 (by decide) ?_
        exact ih (k + 1) _ _ _ ls (by omega) ht1 (pf_save_put hg (by omega)) hw (lv_sub hl [0, 1, 2, 3] rfl)
      · have hl0 : v_tl (ce, g, rg, pl, ct, ol, lS, lL, rd, wr, sr, nI (t - k), fl) = 0 ∧ pf_lost (ce, g, rg, pl, ct, ol, lS, lL, rd, wr, sr, nI (t - k), fl) u19 := by
          rcases hp19 with ⟨-, h, -⟩ | ⟨h1, -, h2⟩
          · rw [h] at c22; exact absurd c22 (by decide)
          · exact ⟨h1, h2⟩
        have ht1 : t = k := by
          have h : nI (t - k) = nI 0 := hl0.1
          have := (nI_eq (by omega) (by decide)).mp h
          omega
        exact pf_retV hc u19 hw hr hlk (Or.inr (pf_save_no hg (by omega) (by omega) hva hl0.2)) dX0_save_25
  exact lp 11 0 _ _ _ ls rfl (Nat.zero_le _) (fun w _ => by rw [if_neg (by omega)]) hw (lv_sub hl [0, 1, 2, 3] rfl)
end
section
set_option maxRecDepth 100000
theorem pf_ops {o : Int32} (h : pf_in o 10) : o = 0 ∨ o = 1 ∨ o = 2 ∨ o = 3 ∨ o = 4 ∨ o = 5 ∨ o = 6 ∨ o = 7 ∨ o = 8 ∨ o = 9 ∨ o = 10 := by
  obtain ⟨j, hj, rfl⟩ := nI_of2 (M := 10) (n := 10) (by decide) h.1 (by rw [Int32.le_iff_toInt_le]; have h2 := h.2; rw [Int32.lt_iff_toInt_lt] at h2; omega)
  have e : j = 0 ∨ j = 1 ∨ j = 2 ∨ j = 3 ∨ j = 4 ∨ j = 5 ∨ j = 6 ∨ j = 7 ∨ j = 8 ∨ j = 9 ∨ j = 10 := by omega
  rcases e with rfl | rfl | rfl | rfl | rfl | rfl | rfl | rfl | rfl | rfl | rfl <;> decide
theorem pf_ok8 {o x y z : Int32} (h : pf_ok o x y z) (h8 : o = 8) : ∃ j : Nat, y = nI j ∧ j ≤ 6 ∧ y.toNatClampNeg = j := by
  subst h8
  have h2 := h.2
  unfold pf_fits at h2
  rw [if_neg (by decide), if_neg (by decide), if_neg (by decide), if_neg (by decide), if_pos rfl] at h2
  have h1 := h2.2.1
  have h3 := h2.2.2
  rw [Int32.lt_iff_toInt_lt] at h1 h3
  have e1 : (1 : Int32).toInt = 1 := by decide
  have e6 : (6 : Int32).toInt = 6 := by decide
  have e0 : (0 : Int32).toInt = 0 := by decide
  obtain ⟨j, hj, rfl⟩ := nI_of2 (M := 6) (n := 6) (by decide) (x := y) (by rw [Int32.lt_iff_toInt_lt]; omega) (by rw [Int32.le_iff_toInt_le]; omega)
  exact ⟨j, rfl, hj, nI_clamp (by omega)⟩
theorem pf_sofar_s {n k : Nat} {o y : Nat → Int32} (h : pf_sofar n o y k) (h0 : 0 ≤ pf_dep o (k + 1)) (h2 : pf_dep o (k + 1) ≤ 2) (h3 : o k = 8 → pf_skip n o k (y k).toNatClampNeg) : pf_sofar n o y (k + 1) := lt_s h ⟨h0, h2, h3⟩
set_option maxHeartbeats 4000000 in
/-- wakeUp with t ticks left, 12 at least -/
theorem k0_wakeUp (l : Launch) (D : va_G) (a : Nat → Nat) (d : Nat → ClassId) (oc fx fy fz fi : Nat → Int32) (ln : Int32) (v : pfV) (t : Nat) (h12 : 12 ≤ t) (ht : t < 2 ^ 31) (htl : v_tl v = nI t) : pf_KV l D (tyC d) yX0_wakeUp cX0_wakeUp 3 2 41 [.ref (a 0)] (wV a d ln oc fx fy fz fi v) (S := pfV) (fun u => pf_wake v t u) (fun u => wV a d ln oc fx fy fz fi u) := by
  obtain ⟨ce, sv, rg, pl, ct, ol, lS, lL, rd, wr, sr, tl, fl⟩ := v
  obtain rfl : tl = nI t := htl
  refine pf_entV RX0 (by decide) rfl (Nat.le_of_ble_eq_true rfl) ?_
  intro p e s m below meth c A ls hc hw hA hr hlk hl
  have hx := hc.1.1
  have hb := hc.1.2.1
  have hl : lv_has ls 3 [(0, .ref (a 0))] := hl
  have hw : pf_H D A s (wC a d ln oc fx fy fz ce sv fi rg pl ct ol lS lL rd wr sr (nI t) fl) s.heap [] := hw
  refine lv_aload_n hx hb dX0_wakeUp_0 rfl (lv_at hl 0 rfl) ?_
  refine pf_callI [] hc hw hA (k0_validArea l D a d oc fx fy fz ce sv fi rg lS lL ln pl ct ol rd wr sr (nI t) fl) (cwV 0 hc.1.2.2.2.2 (lw_V q133 q135 qs5 q22 q136) rfl rfl rfl (by decide +kernel) ⟨Nat.le_of_ble_eq_true rfl, Nat.le_of_ble_eq_true rfl⟩) (ci := 0) (T := TX0) (N := 19) rfl rfl rfl hl.1 rfl (Nat.le_of_ble_eq_true rfl) dX0_wakeUp_1 ⟨Nat.zero_le _, Nat.zero_le _⟩ (fun rv _ H locs hp1 hw => ?_)
  subst hp1
  have hva : pf_va sv = 0 ∨ pf_va sv = 12 := by unfold pf_va; split <;> simp
  generalize hvv : pf_va sv = va at hva hl ⊢
  refine lv_istore_n (lv' := [(1, .int (nI va)), (0, .ref (a 0))]) hx hb dX0_wakeUp_4 rfl hl (by decide) rfl (fun ls hl => ?_)
  refine lv_iconst (v := 0) hx hb dX0_wakeUp_5 (by decide) ?_
  refine lv_istore_n (lv' := [(2, .int 0), (1, .int (nI va)), (0, .ref (a 0))]) hx hb dX0_wakeUp_6 rfl hl (by decide) rfl (fun ls hl => ?_)
  have lp1 : ∀ (n k : Nat)  (H : Heap) (locs : List Loc) (ls : Array Slot), k + n = 12 → pf_H D A s (wC a d ln oc fx fy fz ce sv fi rg pl ct ol lS lL rd wr sr (nI (t - k)) fl) H locs → lv_has ls 3 [(2, .int (nI k)), (1, .int (nI va)), (0, .ref (a 0))] → W p l e { frames := 2, cells := 0, slots := 0, locals := 41 } s m ([.ref (a 0)] : List Value).toArray below meth c H locs 0 0 (MQ below (va_Qv (S := pfV) (fun u => pf_wake (ce, sv, rg, pl, ct, ol, lS, lL, rd, wr, sr, nI t, fl) t u) (fun u t => pf_at D (tyC d) A ((fun u => wV a d ln oc fx fy fz fi u) u) t) A) ([.ref (a 0)] : List Value).toArray s 0 0 A) (F0 m 7 ls []) := by
    intro n
    induction n with
    | zero =>
      intro k  H locs ls hk hw hl
      obtain rfl : k = 12 := by omega
      refine lv_iload_n hx hb dX0_wakeUp_7 rfl (lv_at hl 0 rfl) ?_
      refine lv_bipush (v := 12) hx hb dX0_wakeUp_8 (by decide) ?_
      refine lv_icmp_ge (tgt := 24) hx hb dX0_wakeUp_10 (by decide) (fun c10 => ?_) (fun c10 => absurd (Int32.le_refl _) c10)
      refine lv_iconst (v := 0) hx hb dX0_wakeUp_24 (by decide) ?_
      refine lv_istore_n (lv' := [(2, .int 0), (1, .int (nI va)), (0, .ref (a 0))]) hx hb dX0_wakeUp_25 rfl hl (by decide) rfl (fun ls hl => ?_)
      have lp2 : ∀ (n k : Nat) (g : Nat → Int32) (H : Heap) (locs : List Loc) (ls : Array Slot), k + n = 4 → (∀ j, j < k → g j = sv (va + j)) → pf_H D A s (wC a d ln oc fx fy fz ce sv fi g pl ct ol lS lL rd wr sr (nI (t - 12)) fl) H locs → lv_has ls 3 [(2, .int (nI k)), (1, .int (nI va)), (0, .ref (a 0))] → W p l e { frames := 2, cells := 0, slots := 0, locals := 41 } s m ([.ref (a 0)] : List Value).toArray below meth c H locs 0 0 (MQ below (va_Qv (S := pfV) (fun u => pf_wake (ce, sv, rg, pl, ct, ol, lS, lL, rd, wr, sr, nI t, fl) t u) (fun u t => pf_at D (tyC d) A ((fun u => wV a d ln oc fx fy fz fi u) u) t) A) ([.ref (a 0)] : List Value).toArray s 0 0 A) (F0 m 26 ls []) := by
        intro n
        induction n with
        | zero =>
          intro k g H locs ls hk hg hw hl
          obtain rfl : k = 4 := by omega
          obtain ⟨g0, hg0, hw⟩ : ∃ z : Nat → Int32, (∀ j, j < 4 → z j = sv (va + j)) ∧ pf_H D A s (wC a d ln oc fx fy fz ce sv fi z pl ct ol lS lL rd wr sr (nI (t - 12)) fl) H locs := ⟨g, hg, hw⟩
          refine lv_iload_n hx hb dX0_wakeUp_26 rfl (lv_at hl 0 rfl) ?_
          refine lv_iconst (v := 4) hx hb dX0_wakeUp_27 (by decide) ?_
          refine lv_icmp_ge (tgt := 51) hx hb dX0_wakeUp_28 (by decide) (fun c28 => ?_) (fun c28 => absurd (Int32.le_refl _) c28)
          refine lv_aload_n hx hb dX0_wakeUp_51 rfl (lv_at hl 2 rfl) ?_
          refine lv_aload_n hx hb dX0_wakeUp_52 rfl (lv_at hl 2 rfl) ?_
          refine g0_sv hc hw dX0_wakeUp_53 ?_
          refine lv_iload_n hx hb dX0_wakeUp_56 rfl (lv_at hl 1 rfl) ?_
          refine lv_iconst (v := 4) hx hb dX0_wakeUp_57 (by decide) ?_
          refine lv_iadd hx hb dX0_wakeUp_58 ?_
          refine pf_top (nI (va + 4)) (nI_add _ _) ?_
          refine l0_sv (j := (va + 4)) hc hw (pf_ixn (by omega) (by decide)) dX0_wakeUp_59 ?_
          refine p0_pl hc hw dX0_wakeUp_60 (fun H locs hw => ?_)
          refine lv_aload_n hx hb dX0_wakeUp_63 rfl (lv_at hl 2 rfl) ?_
          refine lv_aload_n hx hb dX0_wakeUp_64 rfl (lv_at hl 2 rfl) ?_
          refine g0_sv hc hw dX0_wakeUp_65 ?_
          refine lv_iload_n hx hb dX0_wakeUp_68 rfl (lv_at hl 1 rfl) ?_
          refine lv_iconst (v := 5) hx hb dX0_wakeUp_69 (by decide) ?_
          refine lv_iadd hx hb dX0_wakeUp_70 ?_
          refine pf_top (nI (va + 5)) (nI_add _ _) ?_
          refine l0_sv (j := (va + 5)) hc hw (pf_ixn (by omega) (by decide)) dX0_wakeUp_71 ?_
          refine p0_ct hc hw dX0_wakeUp_72 (fun H locs hw => ?_)
          refine lv_aload_n hx hb dX0_wakeUp_75 rfl (lv_at hl 2 rfl) ?_
          refine lv_aload_n hx hb dX0_wakeUp_76 rfl (lv_at hl 2 rfl) ?_
          refine g0_sv hc hw dX0_wakeUp_77 ?_
          refine lv_iload_n hx hb dX0_wakeUp_80 rfl (lv_at hl 1 rfl) ?_
          refine lv_bipush (v := 6) hx hb dX0_wakeUp_81 (by decide) ?_
          refine lv_iadd hx hb dX0_wakeUp_83 ?_
          refine pf_top (nI (va + 6)) (nI_add _ _) ?_
          refine l0_sv (j := (va + 6)) hc hw (pf_ixn (by omega) (by decide)) dX0_wakeUp_84 ?_
          refine p0_ol hc hw dX0_wakeUp_85 (fun H locs hw => ?_)
          refine lv_iconst (v := 0) hx hb dX0_wakeUp_88 (by decide) ?_
          refine lv_istore_n (lv' := [(2, .int 0), (1, .int (nI va)), (0, .ref (a 0))]) hx hb dX0_wakeUp_89 rfl hl (by decide) rfl (fun ls hl => ?_)
          have lp3 : ∀ (n k : Nat) (g1 g2 : Nat → Int32) (H : Heap) (locs : List Loc) (ls : Array Slot), k + n = 2 → ((∀ j, j < k → g1 j = sv (va + 7 + j)) ∧ (∀ j, j < k → g2 j = sv (va + 9 + j))) → pf_H D A s (wC a d ln oc fx fy fz ce sv fi g0 (sv (va + 4)) (sv (va + 5)) (sv (va + 6)) g1 g2 rd wr sr (nI (t - 12)) fl) H locs → lv_has ls 3 [(2, .int (nI k)), (1, .int (nI va)), (0, .ref (a 0))] → W p l e { frames := 2, cells := 0, slots := 0, locals := 41 } s m ([.ref (a 0)] : List Value).toArray below meth c H locs 0 0 (MQ below (va_Qv (S := pfV) (fun u => pf_wake (ce, sv, rg, pl, ct, ol, lS, lL, rd, wr, sr, nI t, fl) t u) (fun u t => pf_at D (tyC d) A ((fun u => wV a d ln oc fx fy fz fi u) u) t) A) ([.ref (a 0)] : List Value).toArray s 0 0 A) (F0 m 90 ls []) := by
            intro n
            induction n with
            | zero =>
              intro k g1 g2 H locs ls hk hg hw hl
              obtain rfl : k = 2 := by omega
              refine lv_iload_n hx hb dX0_wakeUp_90 rfl (lv_at hl 0 rfl) ?_
              refine lv_iconst (v := 2) hx hb dX0_wakeUp_91 (by decide) ?_
              refine lv_icmp_ge (tgt := 135) hx hb dX0_wakeUp_92 (by decide) (fun c92 => ?_) (fun c92 => absurd (Int32.le_refl _) c92)
              refine lv_aload_n hx hb dX0_wakeUp_135 rfl (lv_at hl 2 rfl) ?_
              refine pf_callV [] hc hw hA (k0_startStretch l D a d oc fx fy fz ce sv fi g0 g1 g2 ln (sv (va + 4)) (sv (va + 5)) (sv (va + 6)) rd wr sr (nI (t - 12)) fl) (cwV 0 hc.1.2.2.2.2 (lw_V q145 q147 qs8 q22 q148) rfl rfl rfl (by decide +kernel) ⟨Nat.le_of_ble_eq_true rfl, Nat.le_of_ble_eq_true rfl⟩) (ci := 0) (T := TX0) (N := 19) rfl rfl rfl hl.1 rfl (Nat.le_of_ble_eq_true rfl) dX0_wakeUp_136 ⟨Nat.zero_le _, Nat.zero_le _⟩ (fun _ H locs _ hw => ?_)
              exact pf_retV hc (ce, sv, g0, sv (va + 4), sv (va + 5), sv (va + 6), g1, g2, 0, 0, 0, nI (t - 12), fl) hw hr hlk (by subst hvv; exact ⟨g0, g1, g2, rfl, hg0, hg.1, hg.2⟩) dX0_wakeUp_139
            | succ n ih =>
              intro k g1 g2 H locs ls hk hg hw hl
              refine lv_iload_n hx hb dX0_wakeUp_90 rfl (lv_at hl 0 rfl) ?_
              refine lv_iconst (v := 2) hx hb dX0_wakeUp_91 (by decide) ?_
              refine lv_icmp_ge (tgt := 135) hx hb dX0_wakeUp_92 (by decide) (fun c92 => absurd ((nI_leI (a := 2) (b := k) (by decide) (by omega)).mp c92) (by omega)) (fun c92 => ?_)
              refine lv_aload_n hx hb dX0_wakeUp_95 rfl (lv_at hl 2 rfl) ?_
              refine g0_lS hc hw dX0_wakeUp_96 ?_
              refine lv_iload_n hx hb dX0_wakeUp_99 rfl (lv_at hl 0 rfl) ?_
              refine lv_aload_n hx hb dX0_wakeUp_100 rfl (lv_at hl 2 rfl) ?_
              refine g0_sv hc hw dX0_wakeUp_101 ?_
              refine lv_iload_n hx hb dX0_wakeUp_104 rfl (lv_at hl 1 rfl) ?_
              refine lv_bipush (v := 7) hx hb dX0_wakeUp_105 (by decide) ?_
              refine lv_iadd hx hb dX0_wakeUp_107 ?_
              refine pf_top (nI (va + 7)) (nI_add _ _) ?_
              refine lv_iload_n hx hb dX0_wakeUp_108 rfl (lv_at hl 0 rfl) ?_
              refine lv_iadd hx hb dX0_wakeUp_109 ?_
              refine pf_top (nI (va + 7 + k)) (nI_add _ _) ?_
              refine l0_sv (j := (va + 7 + k)) hc hw (pf_ixn (by omega) (by decide)) dX0_wakeUp_110 ?_
              refine s0_lS (j := k) hc hw (pf_ixn (by omega) (by decide)) dX0_wakeUp_111 (fun H locs hw => ?_)
              refine lv_aload_n hx hb dX0_wakeUp_112 rfl (lv_at hl 2 rfl) ?_
              refine g0_lL hc hw dX0_wakeUp_113 ?_
              refine lv_iload_n hx hb dX0_wakeUp_116 rfl (lv_at hl 0 rfl) ?_
              refine lv_aload_n hx hb dX0_wakeUp_117 rfl (lv_at hl 2 rfl) ?_
              refine g0_sv hc hw dX0_wakeUp_118 ?_
              refine lv_iload_n hx hb dX0_wakeUp_121 rfl (lv_at hl 1 rfl) ?_
              refine lv_bipush (v := 9) hx hb dX0_wakeUp_122 (by decide) ?_
              refine lv_iadd hx hb dX0_wakeUp_124 ?_
              refine pf_top (nI (va + 9)) (nI_add _ _) ?_
              refine lv_iload_n hx hb dX0_wakeUp_125 rfl (lv_at hl 0 rfl) ?_
              refine lv_iadd hx hb dX0_wakeUp_126 ?_
              refine pf_top (nI (va + 9 + k)) (nI_add _ _) ?_
              refine l0_sv (j := (va + 9 + k)) hc hw (pf_ixn (by omega) (by decide)) dX0_wakeUp_127 ?_
              refine s0_lL (j := k) hc hw (pf_ixn (by omega) (by decide)) dX0_wakeUp_128 (fun H locs hw => ?_)
              refine lv_iinc (v := nI (k + 1)) (lv' := [(2, .int (nI (k + 1))), (1, .int (nI va)), (0, .ref (a 0))]) hx hb dX0_wakeUp_129 hl (k := 0) rfl (nI_1 _) (by decide) rfl (fun ls hl => ?_)
              refine lv_goto (tgt := 90) hx hb dX0_wakeUp_132 (by decide) ?_
              exact ih (k + 1) _ _ _ _ ls (by omega) ⟨lt_s (fun j hj => (pk_un (Nat.ne_of_lt hj)).trans (hg.1 j hj)) pk_us, lt_s (fun j hj => (pk_un (Nat.ne_of_lt hj)).trans (hg.2 j hj)) pk_us⟩ hw (lv_sub hl [0, 1, 2] rfl)
          exact lp3 2 0 _ _ _ _ ls rfl ⟨lt_0, lt_0⟩ hw (lv_sub hl [0, 1, 2] rfl)
        | succ n ih =>
          intro k g H locs ls hk hg hw hl
          refine lv_iload_n hx hb dX0_wakeUp_26 rfl (lv_at hl 0 rfl) ?_
          refine lv_iconst (v := 4) hx hb dX0_wakeUp_27 (by decide) ?_
          refine lv_icmp_ge (tgt := 51) hx hb dX0_wakeUp_28 (by decide) (fun c28 => absurd ((nI_leI (a := 4) (b := k) (by decide) (by omega)).mp c28) (by omega)) (fun c28 => ?_)
          refine lv_aload_n hx hb dX0_wakeUp_31 rfl (lv_at hl 2 rfl) ?_
          refine g0_rg hc hw dX0_wakeUp_32 ?_
          refine lv_iload_n hx hb dX0_wakeUp_35 rfl (lv_at hl 0 rfl) ?_
          refine lv_aload_n hx hb dX0_wakeUp_36 rfl (lv_at hl 2 rfl) ?_
          refine g0_sv hc hw dX0_wakeUp_37 ?_
          refine lv_iload_n hx hb dX0_wakeUp_40 rfl (lv_at hl 1 rfl) ?_
          refine lv_iload_n hx hb dX0_wakeUp_41 rfl (lv_at hl 0 rfl) ?_
          refine lv_iadd hx hb dX0_wakeUp_42 ?_
          refine pf_top (nI (va + k)) (nI_add _ _) ?_
          refine l0_sv (j := (va + k)) hc hw (pf_ixn (by omega) (by decide)) dX0_wakeUp_43 ?_
          refine s0_rg (j := k) hc hw (pf_ixn (by omega) (by decide)) dX0_wakeUp_44 (fun H locs hw => ?_)
          refine lv_iinc (v := nI (k + 1)) (lv' := [(2, .int (nI (k + 1))), (1, .int (nI va)), (0, .ref (a 0))]) hx hb dX0_wakeUp_45 hl (k := 0) rfl (nI_1 _) (by decide) rfl (fun ls hl => ?_)
          refine lv_goto (tgt := 26) hx hb dX0_wakeUp_48 (by decide) ?_
          exact ih (k + 1) _ _ _ ls (by omega) (lt_s (fun j hj => (pk_un (Nat.ne_of_lt hj)).trans (hg j hj)) pk_us) hw (lv_sub hl [0, 1, 2] rfl)
      exact lp2 4 0 _ _ _ ls rfl lt_0 hw (lv_sub hl [0, 1, 2] rfl)
    | succ n ih =>
      intro k  H locs ls hk hw hl
      refine lv_iload_n hx hb dX0_wakeUp_7 rfl (lv_at hl 0 rfl) ?_
      refine lv_bipush (v := 12) hx hb dX0_wakeUp_8 (by decide) ?_
      refine lv_icmp_ge (tgt := 24) hx hb dX0_wakeUp_10 (by decide) (fun c10 => absurd ((nI_leI (a := 12) (b := k) (by decide) (by omega)).mp c10) (by omega)) (fun c10 => ?_)
      refine lv_aload_n hx hb dX0_wakeUp_13 rfl (lv_at hl 2 rfl) ?_
      refine pf_callI [] hc hw hA (k0_tick l D a d oc fx fy fz fi ln (ce, sv, rg, pl, ct, ol, lS, lL, rd, wr, sr, nI (t - k), fl)) (cwV 0 hc.1.2.2.2.2 (lw_V q137 q139 qs6 q22 q140) rfl rfl rfl (by decide +kernel) ⟨Nat.le_of_ble_eq_true rfl, Nat.le_of_ble_eq_true rfl⟩) (ci := 0) (T := TX0) (N := 19) rfl rfl rfl hl.1 rfl (Nat.le_of_ble_eq_true rfl) dX0_wakeUp_14 ⟨Nat.zero_le _, Nat.zero_le _⟩ (fun rt ut H locs hp14 hw => ?_)
      have hu : ut = (ce, sv, rg, pl, ct, ol, lS, lL, rd, wr, sr, nI (t - k) - 1, fl) := by
        rcases hp14 with ⟨-, -, h⟩ | ⟨h, -, -⟩
        · exact h
        · have h : nI (t - k) = nI 0 := h
          have := (nI_eq (by omega) (by decide)).mp h
          omega
      subst hu
      have htt : nI (t - k) - 1 = nI (t - (k + 1)) := by rw [show t - k = (t - (k + 1)) + 1 by omega]; exact nI_pred _
      have hw : pf_H D A s (wC a d ln oc fx fy fz ce sv fi rg pl ct ol lS lL rd wr sr (nI (t - (k + 1))) fl) H locs := by rw [← htt]; exact hw
      refine lv_pop hx hb dX0_wakeUp_17 rfl ?_
      refine lv_iinc (v := nI (k + 1)) (lv' := [(2, .int (nI (k + 1))), (1, .int (nI va)), (0, .ref (a 0))]) hx hb dX0_wakeUp_18 hl (k := 0) rfl (nI_1 _) (by decide) rfl (fun ls hl => ?_)
      refine lv_goto (tgt := 7) hx hb dX0_wakeUp_21 (by decide) ?_
      exact ih (k + 1) _ _ ls (by omega) hw (lv_sub hl [0, 1, 2] rfl)
  exact lp1 12 0 _ _ ls rfl hw (lv_sub hl [0, 1, 2] rfl)
set_option maxHeartbeats 4000000 in
/-- mayLeaveOut -/
theorem k0_mayLeaveOut (l : Launch) (D : va_G) (a : Nat → Nat) (d : Nat → ClassId) (oc fx fy fz ce sv fi rg lS lL : Nat → Int32) (ln pl ct ol rd wr sr tl fl : Int32) (q y n0 : Nat) (hq : q < n0) (hn : n0 ≤ 30) (hln : ln = nI n0) (hy : fy q = nI y) (hy6 : y ≤ 6) : pf_KI l D (tyC d) yX0_mayLeaveOut cX0_mayLeaveOut 4 (some .boolean) 0 0 [.ref (a 0), .int (nI q)] (wC a d ln oc fx fy fz ce sv fi rg pl ct ol lS lL rd wr sr tl fl) (S := Unit) (fun r _ => pf_tf r (pf_skip n0 oc q y)) (fun _ => wC a d ln oc fx fy fz ce sv fi rg pl ct ol lS lL rd wr sr tl fl) := by
  subst hln
  refine pf_entI RX0 (by decide) rfl (Nat.le_of_ble_eq_true rfl) ?_
  intro p e s m below meth c A ls hc hw hA hr hlk hl
  have hx := hc.1.1
  have hb := hc.1.2.1
  have hl : lv_has ls 4 [(0, .ref (a 0)), (1, .int (nI q))] := hl
  refine lv_iload_n hx hb dX0_mayLeaveOut_0 rfl (lv_at hl 1 rfl) ?_
  refine lv_aload_n hx hb dX0_mayLeaveOut_1 rfl (lv_at hl 0 rfl) ?_
  refine g0_fy hc hw dX0_mayLeaveOut_2 ?_
  refine lv_iload_n hx hb dX0_mayLeaveOut_5 rfl (lv_at hl 1 rfl) ?_
  refine l0_fy (j := q) hc hw (pf_ixn (by omega) (by decide)) dX0_mayLeaveOut_6 ?_
  refine lv_iadd hx hb dX0_mayLeaveOut_7 ?_
  refine pf_top (nI (q + y)) (by rw [hy]; exact nI_add _ _) ?_
  refine lv_istore_n (lv' := [(2, .int (nI (q + y))), (0, .ref (a 0)), (1, .int (nI q))]) hx hb dX0_mayLeaveOut_8 rfl hl (by decide) rfl (fun ls hl => ?_)
  refine lv_iload_n hx hb dX0_mayLeaveOut_9 rfl (lv_at hl 0 rfl) ?_
  refine lv_aload_n hx hb dX0_mayLeaveOut_10 rfl (lv_at hl 1 rfl) ?_
  refine g0_ln hc hw dX0_mayLeaveOut_11 ?_
  refine lv_icmp_lt (tgt := 19) hx hb dX0_mayLeaveOut_14 (by decide) (fun c14 => ?_) (fun c14 => ?_)
  · have c14 := (nI_ltI (by omega) (by omega)).mp c14
    refine lv_iload_n hx hb dX0_mayLeaveOut_19 rfl (lv_at hl 2 rfl) ?_
    refine lv_iconst (v := 1) hx hb dX0_mayLeaveOut_20 (by decide) ?_
    refine lv_iadd hx hb dX0_mayLeaveOut_21 ?_
    refine pf_top (nI (q + 1)) (nI_1 _) ?_
    refine lv_istore_n (lv' := [(3, .int (nI (q + 1))), (2, .int (nI (q + y))), (0, .ref (a 0)), (1, .int (nI q))]) hx hb dX0_mayLeaveOut_22 rfl hl (by decide) rfl (fun ls hl => ?_)
    have lp : ∀ (n k : Nat)  (H : Heap) (locs : List Loc) (ls : Array Slot), k + n = q + y + 1 → q + 1 ≤ k → (∀ j, q < j → j < k → ¬ oc j = 9 ∧ ¬ oc j = 10) → pf_H D A s (wC a d (nI n0) oc fx fy fz ce sv fi rg pl ct ol lS lL rd wr sr tl fl) H locs → lv_has ls 4 [(3, .int (nI k)), (2, .int (nI (q + y))), (0, .ref (a 0)), (1, .int (nI q))] → W p l e { frames := 0, cells := 0, slots := 0, locals := 0 } s m ([.ref (a 0), .int (nI q)] : List Value).toArray below meth c H locs 0 0 (MQ below (va_Qi (S := Unit) (fun r _ => pf_tf r (pf_skip n0 oc q y)) (fun u t => pf_at D (tyC d) A ((fun _ => wC a d (nI n0) oc fx fy fz ce sv fi rg pl ct ol lS lL rd wr sr tl fl) u) t) A) ([.ref (a 0), .int (nI q)] : List Value).toArray s 0 0 A) (F0 m 23 ls []) := by
      intro n
      induction n with
      | zero =>
        intro k  H locs ls hk hk1 hg hw hl
        refine lv_iload_n hx hb dX0_mayLeaveOut_23 rfl (lv_at hl 0 rfl) ?_
        refine lv_iload_n hx hb dX0_mayLeaveOut_24 rfl (lv_at hl 1 rfl) ?_
        refine lv_icmp_gt (tgt := 58) hx hb dX0_mayLeaveOut_25 (by decide) (fun c25 => ?_) (fun c25 => absurd ((nI_ltI (by omega) (by omega)).mpr (by omega)) c25)
        refine lv_iconst (v := 1) hx hb dX0_mayLeaveOut_58 (by decide) ?_
        exact pf_retZ hc () hw hr hlk (by decide) (pf_tf1 ⟨c14, fun j h1 h2 => hg j h1 (by omega)⟩) dX0_mayLeaveOut_59
      | succ n ih =>
        intro k  H locs ls hk hk1 hg hw hl
        refine lv_iload_n hx hb dX0_mayLeaveOut_23 rfl (lv_at hl 0 rfl) ?_
        refine lv_iload_n hx hb dX0_mayLeaveOut_24 rfl (lv_at hl 1 rfl) ?_
        refine lv_icmp_gt (tgt := 58) hx hb dX0_mayLeaveOut_25 (by decide) (fun c25 => absurd ((nI_ltI (by omega) (by omega)).mp c25) (by omega)) (fun c25 => ?_)
        refine lv_aload_n hx hb dX0_mayLeaveOut_28 rfl (lv_at hl 2 rfl) ?_
        refine g0_oc hc hw dX0_mayLeaveOut_29 ?_
        refine lv_iload_n hx hb dX0_mayLeaveOut_32 rfl (lv_at hl 0 rfl) ?_
        refine l0_oc (j := k) hc hw (pf_ixn (by omega) (by decide)) dX0_mayLeaveOut_33 ?_
        refine lv_bipush (v := 9) hx hb dX0_mayLeaveOut_34 (by decide) ?_
        refine lv_icmp_eq (tgt := 50) hx hb dX0_mayLeaveOut_36 (by decide) (fun c36 => ?_) (fun c36 => ?_)
        · refine lv_iconst (v := 0) hx hb dX0_mayLeaveOut_50 (by decide) ?_
          exact pf_retZ hc () hw hr hlk (by decide) (pf_tf0 (fun h => (h.2 k (by omega) (by omega)).1 c36)) dX0_mayLeaveOut_51
        · refine lv_aload_n hx hb dX0_mayLeaveOut_39 rfl (lv_at hl 2 rfl) ?_
          refine g0_oc hc hw dX0_mayLeaveOut_40 ?_
          refine lv_iload_n hx hb dX0_mayLeaveOut_43 rfl (lv_at hl 0 rfl) ?_
          refine l0_oc (j := k) hc hw (pf_ixn (by omega) (by decide)) dX0_mayLeaveOut_44 ?_
          refine lv_bipush (v := 10) hx hb dX0_mayLeaveOut_45 (by decide) ?_
          refine lv_icmp_ne (tgt := 52) hx hb dX0_mayLeaveOut_47 (by decide) (fun c47 => ?_) (fun c47 => ?_)
          · refine lv_iinc (v := nI (k + 1)) (lv' := [(3, .int (nI (k + 1))), (2, .int (nI (q + y))), (0, .ref (a 0)), (1, .int (nI q))]) hx hb dX0_mayLeaveOut_52 hl (k := 0) rfl (nI_1 _) (by decide) rfl (fun ls hl => ?_)
            refine lv_goto (tgt := 23) hx hb dX0_mayLeaveOut_55 (by decide) ?_
            exact ih (k + 1) _ _ ls (by omega) (by omega) (fun j h1 h2 => by rcases Nat.lt_or_ge j k with h | h; (exact hg j h1 h); (obtain rfl : j = k := by omega); exact ⟨c36, c47⟩) hw (lv_sub hl [0, 1, 2, 3] rfl)
          · refine lv_iconst (v := 0) hx hb dX0_mayLeaveOut_50 (by decide) ?_
            exact pf_retZ hc () hw hr hlk (by decide) (pf_tf0 (fun h => (h.2 k (by omega) (by omega)).2 c47)) dX0_mayLeaveOut_51
    exact lp y (q + 1) _ _ ls (by omega) (Nat.le_refl _) (fun j h1 h2 => absurd h2 (by omega)) hw (lv_sub hl [0, 1, 2, 3] rfl)
  · have c14 : ¬ q + y < n0 := mt (nI_ltI (by omega) (by omega)).mpr c14
    refine lv_iconst (v := 0) hx hb dX0_mayLeaveOut_17 (by decide) ?_
    exact pf_retZ hc () hw hr hlk (by decide) (pf_tf0 (fun h => c14 h.1)) dX0_mayLeaveOut_18
set_option maxHeartbeats 4000000 in
/-- sound -/
theorem k0_sound (l : Launch) (D : va_G) (a : Nat → Nat) (d : Nat → ClassId) (oc fx fy fz ce sv fi rg lS lL : Nat → Int32) (ln pl ct ol rd wr sr tl fl : Int32) (n0 : Nat) (hn : n0 ≤ 30) (hln : ln = nI n0) (hwf : ∀ p, p < n0 → pf_ok (oc p) (fx p) (fy p) (fz p)) : pf_KI l D (tyC d) yX0_sound cX0_sound 3 (some .boolean) 1 23 [.ref (a 0)] (wC a d ln oc fx fy fz ce sv fi rg pl ct ol lS lL rd wr sr tl fl) (S := Unit) (fun r _ => pf_tf r (pf_sound n0 oc fy)) (fun _ => wC a d ln oc fx fy fz ce sv fi rg pl ct ol lS lL rd wr sr tl fl) := by
  subst hln
  refine pf_entI RX0 (by decide) rfl (Nat.le_of_ble_eq_true rfl) ?_
  intro p e s m below meth c A ls hc hw hA hr hlk hl
  have hx := hc.1.1
  have hb := hc.1.2.1
  have hl : lv_has ls 3 [(0, .ref (a 0))] := hl
  refine lv_iconst (v := 0) hx hb dX0_sound_0 (by decide) ?_
  refine lv_istore_n (lv' := [(1, .int 0), (0, .ref (a 0))]) hx hb dX0_sound_1 rfl hl (by decide) rfl (fun ls hl => ?_)
  refine lv_iconst (v := 0) hx hb dX0_sound_2 (by decide) ?_
  refine lv_istore_n (lv' := [(2, .int 0), (1, .int 0), (0, .ref (a 0))]) hx hb dX0_sound_3 rfl hl (by decide) rfl (fun ls hl => ?_)
  have lp : ∀ (n k : Nat) (e0 : Nat) (H : Heap) (locs : List Loc) (ls : Array Slot), k + n = n0 → e0 ≤ 2 → ((e0 : Int) = pf_dep oc k) → pf_sofar n0 oc fy k → pf_H D A s (wC a d (nI n0) oc fx fy fz ce sv fi rg pl ct ol lS lL rd wr sr tl fl) H locs → lv_has ls 3 [(2, .int (nI k)), (1, .int (nI e0)), (0, .ref (a 0))] → W p l e { frames := 1, cells := 0, slots := 0, locals := 23 } s m ([.ref (a 0)] : List Value).toArray below meth c H locs 0 0 (MQ below (va_Qi (S := Unit) (fun r _ => pf_tf r (pf_sound n0 oc fy)) (fun u t => pf_at D (tyC d) A ((fun _ => wC a d (nI n0) oc fx fy fz ce sv fi rg pl ct ol lS lL rd wr sr tl fl) u) t) A) ([.ref (a 0)] : List Value).toArray s 0 0 A) (F0 m 4 ls []) := by
    intro n
    induction n with
    | zero =>
      intro k e0 H locs ls hk he2 he hg hw hl
      obtain rfl : k = n0 := by omega
      refine lv_iload_n hx hb dX0_sound_4 rfl (lv_at hl 0 rfl) ?_
      refine lv_aload_n hx hb dX0_sound_5 rfl (lv_at hl 2 rfl) ?_
      refine g0_ln hc hw dX0_sound_6 ?_
      refine lv_icmp_ge (tgt := 78) hx hb dX0_sound_9 (by decide) (fun c9 => ?_) (fun c9 => absurd (Int32.le_refl _) c9)
      refine lv_iload_n hx hb dX0_sound_78 rfl (lv_at hl 1 rfl) ?_
      refine lv_if_ne (tgt := 86) hx hb dX0_sound_79 (by decide) (fun c79 => ?_) (fun c79 => ?_)
      · refine lv_iconst (v := 0) hx hb dX0_sound_86 (by decide) ?_
        exact pf_retZ hc () hw hr hlk (by decide) (pf_tf0 (fun h => c79 (by have h2 := h.2; rw [← he] at h2; rw [show e0 = 0 by omega]; rfl))) dX0_sound_87
      · refine lv_iconst (v := 1) hx hb dX0_sound_82 (by decide) ?_
        refine lv_goto (tgt := 87) hx hb dX0_sound_83 (by decide) ?_
        exact pf_retZ hc () hw hr hlk (by decide) (pf_tf1 ⟨hg, by rw [← he, (nI_eq (b := 0) (by omega) (by decide)).mp c79]; rfl⟩) dX0_sound_87
    | succ n ih =>
      intro k e0 H locs ls hk he2 he hg hw hl
      have hkn : k < n0 := by omega
      refine lv_iload_n hx hb dX0_sound_4 rfl (lv_at hl 0 rfl) ?_
      refine lv_aload_n hx hb dX0_sound_5 rfl (lv_at hl 2 rfl) ?_
      refine g0_ln hc hw dX0_sound_6 ?_
      refine lv_icmp_ge (tgt := 78) hx hb dX0_sound_9 (by decide) (fun c9 => absurd ((nI_leI (by omega) (by omega)).mp c9) (by omega)) (fun c9 => ?_)
      refine lv_aload_n hx hb dX0_sound_12 rfl (lv_at hl 2 rfl) ?_
      refine g0_oc hc hw dX0_sound_13 ?_
      refine lv_iload_n hx hb dX0_sound_16 rfl (lv_at hl 0 rfl) ?_
      refine l0_oc (j := k) hc hw (pf_ixn (by omega) (by decide)) dX0_sound_17 ?_
      refine lv_bipush (v := 9) hx hb dX0_sound_18 (by decide) ?_
      refine lv_icmp_ne (tgt := 26) hx hb dX0_sound_20 (by decide) (fun c20 => ?_) (fun c20 => ?_)
      · refine lv_aload_n hx hb dX0_sound_26 rfl (lv_at hl 2 rfl) ?_
        refine g0_oc hc hw dX0_sound_27 ?_
        refine lv_iload_n hx hb dX0_sound_30 rfl (lv_at hl 0 rfl) ?_
        refine l0_oc (j := k) hc hw (pf_ixn (by omega) (by decide)) dX0_sound_31 ?_
        refine lv_bipush (v := 10) hx hb dX0_sound_32 (by decide) ?_
        refine lv_icmp_ne (tgt := 40) hx hb dX0_sound_34 (by decide) (fun c34 => ?_) (fun c34 => ?_)
        · have hdp : pf_dep oc (k + 1) = (e0 : Int) := by show pf_dep oc k + _ - _ = _; rw [if_neg c20, if_neg c34, ← he]; omega
          refine lv_iload_n hx hb dX0_sound_40 rfl (lv_at hl 1 rfl) ?_
          refine lv_if_lt (tgt := 49) hx hb dX0_sound_41 (by decide) (fun c41 => absurd c41 (nI_pos (by omega))) (fun c41 => ?_)
          refine lv_iload_n hx hb dX0_sound_44 rfl (lv_at hl 1 rfl) ?_
          refine lv_iconst (v := 2) hx hb dX0_sound_45 (by decide) ?_
          refine lv_icmp_le (tgt := 51) hx hb dX0_sound_46 (by decide) (fun c46 => ?_) (fun c46 => absurd ((nI_leI (b := 2) (by omega) (by decide)).mpr (by omega)) c46)
          refine lv_aload_n hx hb dX0_sound_51 rfl (lv_at hl 2 rfl) ?_
          refine g0_oc hc hw dX0_sound_52 ?_
          refine lv_iload_n hx hb dX0_sound_55 rfl (lv_at hl 0 rfl) ?_
          refine l0_oc (j := k) hc hw (pf_ixn (by omega) (by decide)) dX0_sound_56 ?_
          refine lv_bipush (v := 8) hx hb dX0_sound_57 (by decide) ?_
          refine lv_icmp_ne (tgt := 72) hx hb dX0_sound_59 (by decide) (fun c59 => ?_) (fun c59 => ?_)
          · refine lv_iinc (v := nI (k + 1)) (lv' := [(2, .int (nI (k + 1))), (1, .int (nI e0)), (0, .ref (a 0))]) hx hb dX0_sound_72 hl (k := 0) rfl (nI_1 _) (by decide) rfl (fun ls hl => ?_)
            refine lv_goto (tgt := 4) hx hb dX0_sound_75 (by decide) ?_
            exact ih (k + 1) e0 _ _ ls (by omega) (by omega) (by omega) (pf_sofar_s hg (by omega) (by omega) (fun h => absurd h c59)) hw (lv_sub hl [0, 1, 2] rfl)
          · obtain ⟨y, hy, hy6, hy2⟩ := pf_ok8 (hwf k hkn) c59
            refine lv_aload_n hx hb dX0_sound_62 rfl (lv_at hl 2 rfl) ?_
            refine lv_iload_n hx hb dX0_sound_63 rfl (lv_at hl 0 rfl) ?_
            refine pf_callI [.int (nI k)] hc hw hA (k0_mayLeaveOut l D a d oc fx fy fz ce sv fi rg lS lL (nI n0) pl ct ol rd wr sr tl fl k y n0 hkn hn rfl hy hy6) (cwV 1 hc.1.2.2.2.2 (lw_V q112 q114 qs2 q22 q115) rfl rfl rfl (by decide +kernel) ⟨Nat.le_of_ble_eq_true rfl, Nat.le_of_ble_eq_true rfl⟩) (ci := 0) (T := TX0) (N := 19) rfl rfl rfl hl.1 rfl (Nat.le_of_ble_eq_true rfl) dX0_sound_64 ⟨Nat.zero_le _, Nat.zero_le _⟩ (fun r64 _ H locs hp64 hw => ?_)
            refine lv_if_ne (tgt := 72) hx hb dX0_sound_67 (by decide) (fun c67 => ?_) (fun c67 => ?_)
            · have c67 := pf_tf_yes hp64 c67
              refine lv_iinc (v := nI (k + 1)) (lv' := [(2, .int (nI (k + 1))), (1, .int (nI e0)), (0, .ref (a 0))]) hx hb dX0_sound_72 hl (k := 0) rfl (nI_1 _) (by decide) rfl (fun ls hl => ?_)
              refine lv_goto (tgt := 4) hx hb dX0_sound_75 (by decide) ?_
              exact ih (k + 1) e0 _ _ ls (by omega) (by omega) (by omega) (pf_sofar_s hg (by omega) (by omega) (fun _ => by rw [hy2]; exact c67)) hw (lv_sub hl [0, 1, 2] rfl)
            · have c67 := pf_tf_no hp64 c67
              refine lv_iconst (v := 0) hx hb dX0_sound_70 (by decide) ?_
              exact pf_retZ hc () hw hr hlk (by decide) (pf_tf0 (fun h => c67 (by rw [← hy2]; exact (h.1 k hkn).2.2 c59))) dX0_sound_71
        · have hdp : pf_dep oc (k + 1) = (e0 : Int) - 1 := by show pf_dep oc k + _ - _ = _; rw [if_neg c20, if_pos c34, ← he]; omega
          refine lv_iinc (v := nI e0 + (-1)) (lv' := [(1, .int (nI e0 + (-1))), (2, .int (nI k)), (0, .ref (a 0))]) hx hb dX0_sound_37 hl (k := 1) rfl rfl (by decide) rfl (fun ls hl => ?_)
          refine lv_iload_n hx hb dX0_sound_40 rfl (lv_at hl 0 rfl) ?_
          refine lv_if_lt (tgt := 49) hx hb dX0_sound_41 (by decide) (fun c41 => ?_) (fun c41 => ?_)
          · have he0 : e0 = 0 := by
              rcases Nat.eq_zero_or_pos e0 with q | q
              · exact q
              · exact absurd c41 (by rw [sb_m1 q]; exact nI_pos (by omega))
            refine lv_iconst (v := 0) hx hb dX0_sound_49 (by decide) ?_
            exact pf_retZ hc () hw hr hlk (by decide) (pf_tf0 (fun h => by have h1 := h.1 k hkn; rw [hdp] at h1; omega)) dX0_sound_50
          · have he0 : 0 < e0 := by
              rcases Nat.eq_zero_or_pos e0 with q | q
              · rw [q] at c41; exact absurd (by decide) c41
              · exact q
            refine lv_iload_n hx hb dX0_sound_44 rfl (lv_at hl 0 rfl) ?_
            refine lv_iconst (v := 2) hx hb dX0_sound_45 (by decide) ?_
            refine lv_icmp_le (tgt := 51) hx hb dX0_sound_46 (by decide) (fun c46 => ?_) (fun c46 => absurd (by rw [sb_m1 he0]; exact (nI_leI (b := 2) (by omega) (by decide)).mpr (by omega)) c46)
            refine lv_aload_n hx hb dX0_sound_51 rfl (lv_at hl 2 rfl) ?_
            refine g0_oc hc hw dX0_sound_52 ?_
            refine lv_iload_n hx hb dX0_sound_55 rfl (lv_at hl 1 rfl) ?_
            refine l0_oc (j := k) hc hw (pf_ixn (by omega) (by decide)) dX0_sound_56 ?_
            refine lv_bipush (v := 8) hx hb dX0_sound_57 (by decide) ?_
            refine lv_icmp_ne (tgt := 72) hx hb dX0_sound_59 (by decide) (fun c59 => ?_) (fun c59 => absurd (c34.symm.trans c59) (by decide))
            refine lv_iinc (v := nI (k + 1)) (lv' := [(2, .int (nI (k + 1))), (1, .int (nI e0 + (-1))), (0, .ref (a 0))]) hx hb dX0_sound_72 hl (k := 1) rfl (nI_1 _) (by decide) rfl (fun ls hl => ?_)
            refine lv_goto (tgt := 4) hx hb dX0_sound_75 (by decide) ?_
            have hl : lv_has ls 3 [(2, .int (nI (k + 1))), (1, .int (nI (e0 - 1))), (0, .ref (a 0))] := by rw [← sb_m1 he0]; exact lv_sub hl [0, 1, 2] rfl
            exact ih (k + 1) (e0 - 1) _ _ ls (by omega) (by omega) (by omega) (pf_sofar_s hg (by omega) (by omega) (fun h => absurd (c34.symm.trans h) (by decide))) hw hl
      · have hdp : pf_dep oc (k + 1) = (e0 : Int) + 1 := by show pf_dep oc k + _ - _ = _; rw [if_pos c20, if_neg (by rw [c20]; decide), ← he]; omega
        refine lv_iinc (v := nI (e0 + 1)) (lv' := [(1, .int (nI (e0 + 1))), (2, .int (nI k)), (0, .ref (a 0))]) hx hb dX0_sound_23 hl (k := 1) rfl (nI_1 _) (by decide) rfl (fun ls hl => ?_)
        refine lv_aload_n hx hb dX0_sound_26 rfl (lv_at hl 2 rfl) ?_
        refine g0_oc hc hw dX0_sound_27 ?_
        refine lv_iload_n hx hb dX0_sound_30 rfl (lv_at hl 1 rfl) ?_
        refine l0_oc (j := k) hc hw (pf_ixn (by omega) (by decide)) dX0_sound_31 ?_
        refine lv_bipush (v := 10) hx hb dX0_sound_32 (by decide) ?_
        refine lv_icmp_ne (tgt := 40) hx hb dX0_sound_34 (by decide) (fun c34 => ?_) (fun c34 => absurd (c20.symm.trans c34) (by decide))
        refine lv_iload_n hx hb dX0_sound_40 rfl (lv_at hl 0 rfl) ?_
        refine lv_if_lt (tgt := 49) hx hb dX0_sound_41 (by decide) (fun c41 => absurd c41 (nI_pos (by omega))) (fun c41 => ?_)
        refine lv_iload_n hx hb dX0_sound_44 rfl (lv_at hl 0 rfl) ?_
        refine lv_iconst (v := 2) hx hb dX0_sound_45 (by decide) ?_
        refine lv_icmp_le (tgt := 51) hx hb dX0_sound_46 (by decide) (fun c46 => ?_) (fun c46 => ?_)
        · have c46 := (nI_leI (b := 2) (by omega) (by decide)).mp c46
          refine lv_aload_n hx hb dX0_sound_51 rfl (lv_at hl 2 rfl) ?_
          refine g0_oc hc hw dX0_sound_52 ?_
          refine lv_iload_n hx hb dX0_sound_55 rfl (lv_at hl 1 rfl) ?_
          refine l0_oc (j := k) hc hw (pf_ixn (by omega) (by decide)) dX0_sound_56 ?_
          refine lv_bipush (v := 8) hx hb dX0_sound_57 (by decide) ?_
          refine lv_icmp_ne (tgt := 72) hx hb dX0_sound_59 (by decide) (fun c59 => ?_) (fun c59 => absurd (c20.symm.trans c59) (by decide))
          refine lv_iinc (v := nI (k + 1)) (lv' := [(2, .int (nI (k + 1))), (1, .int (nI (e0 + 1))), (0, .ref (a 0))]) hx hb dX0_sound_72 hl (k := 1) rfl (nI_1 _) (by decide) rfl (fun ls hl => ?_)
          refine lv_goto (tgt := 4) hx hb dX0_sound_75 (by decide) ?_
          exact ih (k + 1) (e0 + 1) _ _ ls (by omega) (by omega) (by omega) (pf_sofar_s hg (by omega) (by omega) (fun h => absurd (c20.symm.trans h) (by decide))) hw (lv_sub hl [0, 1, 2] rfl)
        · have c46 := mt (nI_leI (b := 2) (by omega) (by decide)).mpr c46
          refine lv_iconst (v := 0) hx hb dX0_sound_49 (by decide) ?_
          exact pf_retZ hc () hw hr hlk (by decide) (pf_tf0 (fun h => by have h1 := h.1 k hkn; rw [hdp] at h1; omega)) dX0_sound_50
  exact lp n0 0 0 _ _ ls (by omega) (by decide) rfl (fun p h => absurd h (by omega)) hw (lv_sub hl [0, 1, 2] rfl)
end
section
set_option maxRecDepth 100000
theorem pf_ok10 {o x y z : Int32} (h : pf_ok o x y z) (h8 : ¬ o < 8) (g8 : ¬ o = 8) (g9 : ¬ o = 9) : o = 10 := by
  rcases pf_ops h.1 with rfl | rfl | rfl | rfl | rfl | rfl | rfl | rfl | rfl | rfl | rfl <;> first | exact absurd (by decide) h8 | exact absurd rfl g8 | exact absurd rfl g9 | rfl
theorem pf_fx_ {o x y z : Int32} (h : pf_fits o x y z) (h10 : ¬ o = 10) (h9 : ¬ o = 9) : pf_in x 3 := by
  unfold pf_fits at h
  rw [if_neg h10, if_neg h9] at h
  split at h
  · exact h
  · split at h
    · exact h.1
    · split at h
      · exact h.1
      · exact h.1
theorem pf_okx {o x y z : Int32} (h : pf_ok o x y z) (h10 : ¬ o = 10) (h9 : ¬ o = 9) : vp_in x 4 := pf_in_vp (by decide) (pf_fx_ h.2 h10 h9)
theorem pf_oky {o x y z : Int32} (h : pf_ok o x y z) (h5 : 5 < o) (h8 : o < 8) : vp_in y 4 := by
  have h2 := h.2
  unfold pf_fits at h2
  rw [if_neg (by rintro rfl; exact absurd h8 (by decide)), if_neg (by rintro rfl; exact absurd h8 (by decide)), if_neg (by rintro rfl; exact absurd h5 (by decide)), if_neg (by rintro (rfl | rfl) <;> exact absurd h5 (by decide)), if_neg (by rintro rfl; exact absurd h8 (by decide))] at h2
  exact pf_in_vp (by decide) h2.2.1
theorem pf_okz {o x y z : Int32} (h : pf_ok o x y z) (h0 : ¬ o = 0) (h4 : o < 4) : vp_in y 4 ∧ vp_in z 4 := by
  have h2 := h.2
  unfold pf_fits at h2
  rw [if_neg (by rintro rfl; exact absurd h4 (by decide)), if_neg (by rintro rfl; exact absurd h4 (by decide)), if_neg h0, if_neg (by rintro (rfl | rfl) <;> exact absurd h4 (by decide)), if_neg (by rintro rfl; exact absurd h4 (by decide))] at h2
  refine ⟨pf_in_vp (by decide) h2.2.1, pf_in_vp (t := 3) (by decide) ?_⟩
  rcases h2.2.2 with h | h
  · exfalso
    rw [Int32.lt_iff_toInt_lt] at h h4
    have e3 : (3 : Int32).toInt = 3 := by decide
    have e4 : (4 : Int32).toInt = 4 := by decide
    omega
  · exact h
theorem pf_vp_up {x : Int32} {n k : Nat} (h : vp_in x n) (hk : n ≤ k) : vp_in x k := by
  rw [vp_in_iff] at h ⊢
  omega
theorem pf_okc {oc fx fy fz rg : Nat → Int32} {q : Nat} (h : pf_ok (oc q) (fx q) (fy q) (fz q)) (h4 : ¬ oc q < 4) (h8 : oc q < 8) : vp_in (pf_cell oc fy rg q) 12 := by
  unfold pf_cell
  split
  · exact pf_vp_up (pk_andIn (m := 7) _ 3 (by decide) (by decide)) (by decide)
  · rename_i h5
    have e : oc q = 4 ∨ oc q = 5 := by
      rcases pf_ops h.1 with e | e | e | e | e | e | e | e | e | e | e <;> rw [e] at h4 h5 h8 <;> first | exact absurd (by decide) h4 | exact absurd (by decide) h5 | exact absurd h8 (by decide) | exact Or.inl e | exact Or.inr e
    have h2 := h.2
    unfold pf_fits at h2
    rw [if_neg (by intro g; rw [g] at h8; exact absurd h8 (by decide)), if_neg (by intro g; rw [g] at h8; exact absurd h8 (by decide)), if_neg (by intro g; rw [g] at h4; exact absurd (by decide) h4), if_pos e] at h2
    exact pf_in_vp (t := 11) (by decide) ⟨h2.2.1, h2.2.2⟩
theorem pf_save_fl {v u : pfV} {t : Nat} (h : pf_save v t u) (hf : ¬ v_fl u = 0) (hv : v_fl v = 0 := by rfl) : v_fl u = 1 := by
  rcases h with ⟨-, sv', rfl, -⟩ | ⟨-, h, -⟩
  · exact absurd hv hf
  · exact h
theorem pf_save_mach {v u : pfV} {t : Nat} (h : pf_save v t u) (hf : v_fl u = 0) : v_rg u = v_rg v ∧ v_ol u = v_ol v := by
  rcases h with ⟨-, sv', rfl, -⟩ | ⟨-, h, -⟩
  · exact ⟨rfl, rfl⟩
  · rw [h] at hf; exact absurd hf (by decide)
set_option maxHeartbeats 4000000 in
/-- step at place q, k loops open, t ticks left -/
theorem k0_step (l : Launch) (D : va_G) (a : Nat → Nat) (d : Nat → ClassId) (oc fx fy fz fi : Nat → Int32) (ln : Int32) (v : pfV) (q k t : Nat) (hq : q < 30) (hk : k ≤ 2) (ht : t < 2 ^ 31) (hpl : v_pl v = nI q) (hol : v_ol v = nI k) (htl : v_tl v = nI t) (hfl : v_fl v = 0) (hok : pf_ok (oc q) (fx q) (fy q) (fz q)) (h9 : oc q = 9 → k < 2) (h10 : oc q = 10 → 0 < k) : pf_KV l D (tyC d) yX0_step cX0_step 4 3 64 [.ref (a 0)] (wV a d ln oc fx fy fz fi v) (S := pfV) (fun u => pf_step oc fx fy fz q k t v u) (fun u => wV a d ln oc fx fy fz fi u) := by
  obtain ⟨ce, sv, rg, pl, ct, ol, lS, lL, rd, wr, sr, tl, fl⟩ := v
  obtain rfl : pl = nI q := hpl
  obtain rfl : ol = nI k := hol
  obtain rfl : tl = nI t := htl
  obtain rfl : fl = 0 := hfl
  refine pf_entV RX0 (by decide) rfl (Nat.le_of_ble_eq_true rfl) ?_
  intro p e s m below meth c A ls hc hw hA hr hlk hl
  have hx := hc.1.1
  have hb := hc.1.2.1
  have hl : lv_has ls 4 [(0, .ref (a 0))] := hl
  have hw : pf_H D A s (wC a d ln oc fx fy fz ce sv fi rg (nI q) ct (nI k) lS lL rd wr sr (nI t) 0) s.heap [] := hw
  refine lv_aload_n hx hb dX0_step_0 rfl (lv_at hl 0 rfl) ?_
  refine g0_pl hc hw dX0_step_1 ?_
  refine lv_istore_n (lv' := [(1, .int (nI q)), (0, .ref (a 0))]) hx hb dX0_step_4 rfl hl (by decide) rfl (fun ls hl => ?_)
  refine lv_aload_n hx hb dX0_step_5 rfl (lv_at hl 1 rfl) ?_
  refine g0_oc hc hw dX0_step_6 ?_
  refine lv_iload_n hx hb dX0_step_9 rfl (lv_at hl 0 rfl) ?_
  refine l0_oc (j := q) hc hw (pf_ixn hq (by decide)) dX0_step_10 ?_
  refine lv_istore_n (lv' := [(2, .int (oc q)), (1, .int (nI q)), (0, .ref (a 0))]) hx hb dX0_step_11 rfl hl (by decide) rfl (fun ls hl => ?_)
  have L69 : ∀ (b : Int32) (ce1 sv1 rg1 lS1 lL1 : Nat → Int32) (pl1 ct1 ol1 rd1 wr1 sr1 tl1 fl1 : Int32) (H : Heap) (locs : List Loc) (ls : Array Slot), ((¬ pf_need oc fy q (ce, sv, rg, nI q, ct, nI k, lS, lL, rd, wr, sr, nI t, 0) ∧ (ce1, sv1, rg1, pl1, ct1, ol1, lS1, lL1, rd1, wr1, sr1, tl1, fl1) = (ce, sv, rg, nI q, ct, nI k, lS, lL, rd, wr, sr, nI t, 0)) ∨ (pf_need oc fy q (ce, sv, rg, nI q, ct, nI k, lS, lL, rd, wr, sr, nI t, 0) ∧ pf_save (ce, sv, rg, nI q, ct, nI k, lS, lL, rd, wr, sr, nI t, 0) t (ce1, sv1, rg1, pl1, ct1, ol1, lS1, lL1, rd1, wr1, sr1, tl1, fl1))) → fl1 = 0 → rg1 = rg → ol1 = nI k → pf_H D A s (wC a d ln oc fx fy fz ce1 sv1 fi rg1 pl1 ct1 ol1 lS1 lL1 rd1 wr1 sr1 tl1 fl1) H locs → lv_has ls 4 [(3, .int b), (2, .int (oc q)), (1, .int (nI q)), (0, .ref (a 0))] → W p l e { frames := 3, cells := 0, slots := 0, locals := 64 } s m ([.ref (a 0)] : List Value).toArray below meth c H locs 0 0 (MQ below (va_Qv (S := pfV) (fun u => pf_step oc fx fy fz q k t (ce, sv, rg, nI q, ct, nI k, lS, lL, rd, wr, sr, nI t, 0) u) (fun u t => pf_at D (tyC d) A ((fun u => wV a d ln oc fx fy fz fi u) u) t) A) ([.ref (a 0)] : List Value).toArray s 0 0 A) (F0 m 69 ls []) := by
    intro b ce1 sv1 rg1 lS1 lL1 pl1 ct1 ol1 rd1 wr1 sr1 tl1 fl1 H locs ls hrel hf1 hrg hol hw hl
    subst hrg
    subst hol
    subst hf1
    refine lv_aload_n hx hb dX0_step_69 rfl (lv_at hl 3 rfl) ?_
    refine pf_callI [] hc hw hA (k0_tick l D a d oc fx fy fz fi ln (ce1, sv1, rg1, pl1, ct1, nI k, lS1, lL1, rd1, wr1, sr1, tl1, 0)) (cwV 0 hc.1.2.2.2.2 (lw_V q137 q139 qs6 q22 q140) rfl rfl rfl (by decide +kernel) ⟨Nat.le_of_ble_eq_true rfl, Nat.le_of_ble_eq_true rfl⟩) (ci := 0) (T := TX0) (N := 19) rfl rfl rfl hl.1 rfl (Nat.le_of_ble_eq_true rfl) dX0_step_70 ⟨Nat.zero_le _, Nat.zero_le _⟩ (fun rt v2 H locs hp70 hw => ?_)
    refine lv_if_ne (tgt := 77) hx hb dX0_step_73 (by decide) (fun c73 => ?_) (fun c73 => ?_)
    · have hu : v2 = (ce1, sv1, rg1, pl1, ct1, nI k, lS1, lL1, rd1, wr1, sr1, tl1 - 1, 0) := by
        rcases hp70 with ⟨-, -, h⟩ | ⟨-, h, -⟩
        · exact h
        · exact absurd h c73
      subst hu
      have hrt : rt = 1 := by
        rcases hp70 with ⟨-, h, -⟩ | ⟨-, h, -⟩
        · exact h
        · exact absurd h c73
      have hw : pf_H D A s (wC a d ln oc fx fy fz ce1 sv1 fi rg1 pl1 ct1 (nI k) lS1 lL1 rd1 wr1 sr1 (tl1 - 1) 0) H locs := hw
      refine lv_aload_n hx hb dX0_step_77 rfl (lv_at hl 3 rfl) ?_
      refine lv_dup hx hb dX0_step_78 rfl ?_
      refine g0_sr hc hw dX0_step_79 ?_
      refine lv_iconst (v := 1) hx hb dX0_step_82 (by decide) ?_
      refine lv_iadd hx hb dX0_step_83 ?_
      refine p0_sr hc hw dX0_step_84 (fun H locs hw => ?_)
      refine lv_aload_n hx hb dX0_step_87 rfl (lv_at hl 3 rfl) ?_
      refine lv_dup hx hb dX0_step_88 rfl ?_
      refine g0_ct hc hw dX0_step_89 ?_
      refine lv_iconst (v := 1) hx hb dX0_step_92 (by decide) ?_
      refine lv_iadd hx hb dX0_step_93 ?_
      refine p0_ct hc hw dX0_step_94 (fun H locs hw => ?_)
      refine lv_aload_n hx hb dX0_step_97 rfl (lv_at hl 3 rfl) ?_
      refine lv_dup hx hb dX0_step_98 rfl ?_
      refine g0_pl hc hw dX0_step_99 ?_
      refine lv_iconst (v := 1) hx hb dX0_step_102 (by decide) ?_
      refine lv_iadd hx hb dX0_step_103 ?_
      refine p0_pl hc hw dX0_step_104 (fun H locs hw => ?_)
      refine lv_iload_n hx hb dX0_step_107 rfl (lv_at hl 1 rfl) ?_
      refine lv_bipush (v := 8) hx hb dX0_step_108 (by decide) ?_
      refine lv_icmp_lt (tgt := 122) hx hb dX0_step_110 (by decide) (fun c110 => ?_) (fun c110 => ?_)
      · refine lv_iload_n hx hb dX0_step_122 rfl (lv_at hl 1 rfl) ?_
        refine lv_iconst (v := 4) hx hb dX0_step_123 (by decide) ?_
        refine lv_icmp_lt (tgt := 136) hx hb dX0_step_124 (by decide) (fun c124 => ?_) (fun c124 => ?_)
        · refine lv_aload_n hx hb dX0_step_136 rfl (lv_at hl 3 rfl) ?_
          refine lv_iload_n hx hb dX0_step_137 rfl (lv_at hl 1 rfl) ?_
          refine lv_iload_n hx hb dX0_step_138 rfl (lv_at hl 2 rfl) ?_
          refine pf_callV [.int (oc q), .int (nI q)] hc hw hA (k0_compute l D a d oc fx fy fz fi ln (ce1, sv1, rg1, pl1 + 1, ct1 + 1, nI k, lS1, lL1, rd1, wr1, sr1 + 1, tl1 - 1, 0) q hq (pf_okx hok (by intro h; rw [h] at c110; exact absurd c110 (by decide)) (by intro h; rw [h] at c110; exact absurd c110 (by decide))) (fun h => pf_okz hok h c124)) (cwV 2 hc.1.2.2.2.2 (lw_V q173 q175 qs15 q22 q176) rfl rfl rfl (by decide +kernel) ⟨Nat.le_of_ble_eq_true rfl, Nat.le_of_ble_eq_true rfl⟩) (ci := 0) (T := TX0) (N := 19) rfl rfl rfl hl.1 rfl (Nat.le_of_ble_eq_true rfl) dX0_step_139 ⟨Nat.zero_le _, Nat.zero_le _⟩ (fun u139 H locs hp139 hw => ?_)
          have hw : pf_H D A s (wV a d ln oc fx fy fz fi u139) H locs := hw
          exact pf_retV hc u139 hw hr hlk ⟨(ce1, sv1, rg1, pl1, ct1, nI k, lS1, lL1, rd1, wr1, sr1, tl1, 0), hrel, Or.inr ⟨rfl, rt, (ce1, sv1, rg1, pl1, ct1, nI k, lS1, lL1, rd1, wr1, sr1, tl1 - 1, 0), hp70, Or.inr ⟨hrt, by rw [hp139]; unfold pf_exec; rw [if_pos c110, if_pos c124]; rfl⟩⟩⟩ dX0_step_142
        · refine lv_aload_n hx hb dX0_step_127 rfl (lv_at hl 3 rfl) ?_
          refine lv_iload_n hx hb dX0_step_128 rfl (lv_at hl 1 rfl) ?_
          refine lv_iload_n hx hb dX0_step_129 rfl (lv_at hl 2 rfl) ?_
          refine pf_callV [.int (oc q), .int (nI q)] hc hw hA (k0_moveCell l D a d oc fx fy fz fi ln (ce1, sv1, rg1, pl1 + 1, ct1 + 1, nI k, lS1, lL1, rd1, wr1, sr1 + 1, tl1 - 1, 0) q hq (pf_okx hok (by intro h; rw [h] at c110; exact absurd c110 (by decide)) (by intro h; rw [h] at c110; exact absurd c110 (by decide))) (fun h => pf_oky hok h c110) (pf_okc hok c124 c110)) (cwV 2 hc.1.2.2.2.2 (lw_V q169 q171 qs14 q22 q172) rfl rfl rfl (by decide +kernel) ⟨Nat.le_of_ble_eq_true rfl, Nat.le_of_ble_eq_true rfl⟩) (ci := 0) (T := TX0) (N := 19) rfl rfl rfl hl.1 rfl (Nat.le_of_ble_eq_true rfl) dX0_step_130 ⟨Nat.zero_le _, Nat.zero_le _⟩ (fun u130 H locs hp130 hw => ?_)
          have hw : pf_H D A s (wV a d ln oc fx fy fz fi u130) H locs := hw
          refine lv_goto (tgt := 142) hx hb dX0_step_133 (by decide) ?_
          exact pf_retV hc u130 hw hr hlk ⟨(ce1, sv1, rg1, pl1, ct1, nI k, lS1, lL1, rd1, wr1, sr1, tl1, 0), hrel, Or.inr ⟨rfl, rt, (ce1, sv1, rg1, pl1, ct1, nI k, lS1, lL1, rd1, wr1, sr1, tl1 - 1, 0), hp70, Or.inr ⟨hrt, by rw [hp130]; unfold pf_exec; rw [if_pos c110, if_neg c124]; rfl⟩⟩⟩ dX0_step_142
      · refine lv_aload_n hx hb dX0_step_113 rfl (lv_at hl 3 rfl) ?_
        refine lv_iload_n hx hb dX0_step_114 rfl (lv_at hl 1 rfl) ?_
        refine lv_iload_n hx hb dX0_step_115 rfl (lv_at hl 2 rfl) ?_
        refine pf_callV [.int (oc q), .int (nI q)] hc hw hA (k0_control l D a d oc fx fy fz fi ln (ce1, sv1, rg1, pl1 + 1, ct1 + 1, nI k, lS1, lL1, rd1, wr1, sr1 + 1, tl1 - 1, 0) q k hq (fun h => pf_okx hok (by rw [h]; decide) (by rw [h]; decide)) rfl h9 (fun g8 g9 => ⟨h10 (pf_ok10 hok c110 g8 g9), hk⟩)) (cwV 2 hc.1.2.2.2.2 (lw_V q165 q167 qs13 q22 q168) rfl rfl rfl (by decide +kernel) ⟨Nat.le_of_ble_eq_true rfl, Nat.le_of_ble_eq_true rfl⟩) (ci := 0) (T := TX0) (N := 19) rfl rfl rfl hl.1 rfl (Nat.le_of_ble_eq_true rfl) dX0_step_116 ⟨Nat.zero_le _, Nat.zero_le _⟩ (fun u116 H locs hp116 hw => ?_)
        have hw : pf_H D A s (wV a d ln oc fx fy fz fi u116) H locs := hw
        refine lv_goto (tgt := 142) hx hb dX0_step_119 (by decide) ?_
        exact pf_retV hc u116 hw hr hlk ⟨(ce1, sv1, rg1, pl1, ct1, nI k, lS1, lL1, rd1, wr1, sr1, tl1, 0), hrel, Or.inr ⟨rfl, rt, (ce1, sv1, rg1, pl1, ct1, nI k, lS1, lL1, rd1, wr1, sr1, tl1 - 1, 0), hp70, Or.inr ⟨hrt, by rw [hp116]; unfold pf_exec; rw [if_neg c110]; rfl⟩⟩⟩ dX0_step_142
    · exact pf_retV hc v2 hw hr hlk ⟨(ce1, sv1, rg1, pl1, ct1, nI k, lS1, lL1, rd1, wr1, sr1, tl1, 0), hrel, Or.inr ⟨rfl, rt, v2, hp70, Or.inl ⟨c73, rfl⟩⟩⟩ dX0_step_76
  have L57 : ∀ (b : Int32) (H : Heap) (locs : List Loc) (ls : Array Slot), pf_need oc fy q (ce, sv, rg, nI q, ct, nI k, lS, lL, rd, wr, sr, nI t, 0) → pf_H D A s (wC a d ln oc fx fy fz ce sv fi rg (nI q) ct (nI k) lS lL rd wr sr (nI t) 0) H locs → lv_has ls 4 [(3, .int b), (2, .int (oc q)), (1, .int (nI q)), (0, .ref (a 0))] → W p l e { frames := 3, cells := 0, slots := 0, locals := 64 } s m ([.ref (a 0)] : List Value).toArray below meth c H locs 0 0 (MQ below (va_Qv (S := pfV) (fun u => pf_step oc fx fy fz q k t (ce, sv, rg, nI q, ct, nI k, lS, lL, rd, wr, sr, nI t, 0) u) (fun u t => pf_at D (tyC d) A ((fun u => wV a d ln oc fx fy fz fi u) u) t) A) ([.ref (a 0)] : List Value).toArray s 0 0 A) (F0 m 57 ls []) := by
    intro b H locs ls hnd hw hl
    refine lv_aload_n hx hb dX0_step_57 rfl (lv_at hl 3 rfl) ?_
    refine pf_callV [] hc hw hA (k0_save l D a d oc fx fy fz fi ln (ce, sv, rg, nI q, ct, nI k, lS, lL, rd, wr, sr, nI t, 0) t ht rfl) (cwV 0 hc.1.2.2.2.2 (lw_V q157 q159 qs11 q22 q160) rfl rfl rfl (by decide +kernel) ⟨Nat.le_of_ble_eq_true rfl, Nat.le_of_ble_eq_true rfl⟩) (ci := 0) (T := TX0) (N := 19) rfl rfl rfl hl.1 rfl (Nat.le_of_ble_eq_true rfl) dX0_step_58 ⟨Nat.zero_le _, Nat.zero_le _⟩ (fun v1 H locs hp58 hw => ?_)
    obtain ⟨ce1, sv1, rg1, pl1, ct1, ol1, lS1, lL1, rd1, wr1, sr1, tl1, fl1⟩ := v1
    have hw : pf_H D A s (wC a d ln oc fx fy fz ce1 sv1 fi rg1 pl1 ct1 ol1 lS1 lL1 rd1 wr1 sr1 tl1 fl1) H locs := hw
    refine lv_aload_n hx hb dX0_step_61 rfl (lv_at hl 3 rfl) ?_
    refine g0_fl hc hw dX0_step_62 ?_
    refine lv_if_eq (tgt := 69) hx hb dX0_step_65 (by decide) (fun c65 => ?_) (fun c65 => ?_)
    · exact L69 b ce1 sv1 rg1 lS1 lL1 pl1 ct1 ol1 rd1 wr1 sr1 tl1 fl1 H locs ls (Or.inr ⟨hnd, hp58⟩) c65 (pf_save_mach hp58 c65).1 (pf_save_mach hp58 c65).2 hw hl
    · exact pf_retV hc (ce1, sv1, rg1, pl1, ct1, ol1, lS1, lL1, rd1, wr1, sr1, tl1, fl1) hw hr hlk ⟨(ce1, sv1, rg1, pl1, ct1, ol1, lS1, lL1, rd1, wr1, sr1, tl1, fl1), Or.inr ⟨hnd, hp58⟩, Or.inl ⟨pf_save_fl hp58 c65, rfl⟩⟩ dX0_step_68
  have L29 : ∀ (b : Int32) (H : Heap) (locs : List Loc) (ls : Array Slot), pf_tf b (oc q = 5 ∨ oc q = 7) → pf_H D A s (wC a d ln oc fx fy fz ce sv fi rg (nI q) ct (nI k) lS lL rd wr sr (nI t) 0) H locs → lv_has ls 4 [(3, .int b), (2, .int (oc q)), (1, .int (nI q)), (0, .ref (a 0))] → W p l e { frames := 3, cells := 0, slots := 0, locals := 64 } s m ([.ref (a 0)] : List Value).toArray below meth c H locs 0 0 (MQ below (va_Qv (S := pfV) (fun u => pf_step oc fx fy fz q k t (ce, sv, rg, nI q, ct, nI k, lS, lL, rd, wr, sr, nI t, 0) u) (fun u t => pf_at D (tyC d) A ((fun u => wV a d ln oc fx fy fz fi u) u) t) A) ([.ref (a 0)] : List Value).toArray s 0 0 A) (F0 m 29 ls []) := by
    intro b H locs ls hb5 hw hl
    refine lv_aload_n hx hb dX0_step_29 rfl (lv_at hl 3 rfl) ?_
    refine g0_sr hc hw dX0_step_30 ?_
    refine lv_bipush (v := 10) hx hb dX0_step_33 (by decide) ?_
    refine lv_icmp_eq (tgt := 57) hx hb dX0_step_35 (by decide) (fun c35 => ?_) (fun c35 => ?_)
    · exact L57 b H locs ls (Or.inl c35) hw hl
    · refine lv_iload_n hx hb dX0_step_38 rfl (lv_at hl 0 rfl) ?_
      refine lv_if_eq (tgt := 69) hx hb dX0_step_39 (by decide) (fun c39 => ?_) (fun c39 => ?_)
      · exact L69 b ce sv rg lS lL (nI q) ct (nI k) rd wr sr (nI t) 0 H locs ls (Or.inl ⟨(fun h => by rcases h with h | h; (exact c35 h); exact pf_tf_no hb5 c39 h.1), rfl⟩) rfl rfl rfl hw hl
      · refine lv_aload_n hx hb dX0_step_42 rfl (lv_at hl 3 rfl) ?_
        refine g0_rd hc hw dX0_step_43 ?_
        refine lv_aload_n hx hb dX0_step_46 rfl (lv_at hl 3 rfl) ?_
        refine lv_iload_n hx hb dX0_step_47 rfl (lv_at hl 2 rfl) ?_
        refine pf_callI [.int (nI q)] hc hw hA (k0_cellOf l D a d oc fx fy fz ce sv fi rg lS lL ln (nI q) ct (nI k) rd wr sr (nI t) 0 q hq (fun h => pf_oky hok h (by rcases pf_tf_yes hb5 c39 with h1 | h1 <;> rw [h1] <;> decide))) (cwV 1 hc.1.2.2.2.2 (lw_V q153 q155 qs10 q22 q156) rfl rfl rfl (by decide +kernel) ⟨Nat.le_of_ble_eq_true rfl, Nat.le_of_ble_eq_true rfl⟩) (ci := 0) (T := TX0) (N := 19) rfl rfl rfl hl.1 rfl (Nat.le_of_ble_eq_true rfl) dX0_step_48 ⟨Nat.zero_le _, Nat.zero_le _⟩ (fun rc _ H locs hp48 hw => ?_)
        subst hp48
        refine lv_ishr hx hb dX0_step_51 ?_
        refine lv_iconst (v := 1) hx hb dX0_step_52 (by decide) ?_
        refine lv_iand hx hb dX0_step_53 ?_
        refine lv_if_eq (tgt := 69) hx hb dX0_step_54 (by decide) (fun c54 => ?_) (fun c54 => ?_)
        · exact L69 b ce sv rg lS lL (nI q) ct (nI k) rd wr sr (nI t) 0 H locs ls (Or.inl ⟨(fun h => by rcases h with h | h; (exact c35 h); exact h.2 c54), rfl⟩) rfl rfl rfl hw hl
        · exact L57 b H locs ls (Or.inr ⟨pf_tf_yes hb5 c39, c54⟩) hw hl
  refine lv_iload_n hx hb dX0_step_12 rfl (lv_at hl 0 rfl) ?_
  refine lv_iconst (v := 5) hx hb dX0_step_13 (by decide) ?_
  refine lv_icmp_eq (tgt := 23) hx hb dX0_step_14 (by decide) (fun c14 => ?_) (fun c14 => ?_)
  · refine lv_iconst (v := 1) hx hb dX0_step_23 (by decide) ?_
    refine lv_goto (tgt := 28) hx hb dX0_step_24 (by decide) ?_
    refine lv_istore_n (lv' := [(3, .int 1), (2, .int (oc q)), (1, .int (nI q)), (0, .ref (a 0))]) hx hb dX0_step_28 rfl hl (by decide) rfl (fun ls hl => ?_)
    exact L29 1 _ _ ls (pf_tf1 (Or.inl c14)) hw (lv_sub hl [0, 1, 2, 3] rfl)
  · refine lv_iload_n hx hb dX0_step_17 rfl (lv_at hl 0 rfl) ?_
    refine lv_bipush (v := 7) hx hb dX0_step_18 (by decide) ?_
    refine lv_icmp_ne (tgt := 27) hx hb dX0_step_20 (by decide) (fun c20 => ?_) (fun c20 => ?_)
    · refine lv_iconst (v := 0) hx hb dX0_step_27 (by decide) ?_
      refine lv_istore_n (lv' := [(3, .int 0), (2, .int (oc q)), (1, .int (nI q)), (0, .ref (a 0))]) hx hb dX0_step_28 rfl hl (by decide) rfl (fun ls hl => ?_)
      exact L29 0 _ _ ls (pf_tf0 (fun h => by rcases h with h | h; (exact c14 h); exact c20 h)) hw (lv_sub hl [0, 1, 2, 3] rfl)
    · refine lv_iconst (v := 1) hx hb dX0_step_23 (by decide) ?_
      refine lv_goto (tgt := 28) hx hb dX0_step_24 (by decide) ?_
      refine lv_istore_n (lv' := [(3, .int 1), (2, .int (oc q)), (1, .int (nI q)), (0, .ref (a 0))]) hx hb dX0_step_28 rfl hl (by decide) rfl (fun ls hl => ?_)
      exact L29 1 _ _ ls (pf_tf1 (Or.inr c20)) hw (lv_sub hl [0, 1, 2, 3] rfl)
end
section
set_option maxRecDepth 100000
set_option maxHeartbeats 4000000 in
/-- in(v, top) -/
theorem k1_in (l : Launch) (D : va_G) (a : Nat → Nat) (d : Nat → ClassId) (mo mx my mz mc mr ml : Nat → Int32) (nn : Int32) (x y : Int32) : pf_KI l D (tyM d) yX1_in cX1_in 3 (some .boolean) 0 0 [.ref (a 0), .int x, .int y] (wM a d nn mo mx my mz mc mr ml) (S := Unit) (fun r _ => pf_tf r (pf_in x y)) (fun _ => wM a d nn mo mx my mz mc mr ml) := by
  refine pf_entI RX1 (by decide) rfl (Nat.le_of_ble_eq_true rfl) ?_
  intro p e s m below meth c A ls hc hw hA hr hlk hl
  have hx := hc.1.1
  have hb := hc.1.2.1
  have hl : lv_has ls 3 [(0, .ref (a 0)), (1, .int x), (2, .int y)] := hl
  refine lv_iload_n hx hb dX1_in_0 rfl (lv_at hl 1 rfl) ?_
  refine lv_if_lt (tgt := 13) hx hb dX1_in_1 (by decide) (fun c1 => ?_) (fun c1 => ?_)
  · refine lv_iconst (v := 0) hx hb dX1_in_13 (by decide) ?_
    exact pf_retZ hc () hw hr hlk (by decide) (by simp [pf_tf, pf_in, c1]) dX1_in_14
  · refine lv_iload_n hx hb dX1_in_4 rfl (lv_at hl 1 rfl) ?_
    refine lv_iload_n hx hb dX1_in_5 rfl (lv_at hl 2 rfl) ?_
    refine lv_icmp_gt (tgt := 13) hx hb dX1_in_6 (by decide) (fun c6 => ?_) (fun c6 => ?_)
    · refine lv_iconst (v := 0) hx hb dX1_in_13 (by decide) ?_
      exact pf_retZ hc () hw hr hlk (by decide) (by simp [pf_tf, pf_in, c1, c6]) dX1_in_14
    · refine lv_iconst (v := 1) hx hb dX1_in_9 (by decide) ?_
      refine lv_goto (tgt := 14) hx hb dX1_in_10 (by decide) ?_
      exact pf_retZ hc () hw hr hlk (by decide) (by simp [pf_tf, pf_in, c1, c6]) dX1_in_14
set_option maxHeartbeats 4000000 in
/-- fits -/
theorem k1_fits (l : Launch) (D : va_G) (a : Nat → Nat) (d : Nat → ClassId) (mo mx my mz mc mr ml : Nat → Int32) (nn : Int32) (x y z q : Int32) : pf_KI l D (tyM d) yX1_fits cX1_fits 5 (some .boolean) 1 22 [.ref (a 0), .int x, .int y, .int z, .int q] (wM a d nn mo mx my mz mc mr ml) (S := Unit) (fun r _ => pf_tf r (pf_fitm x y z q)) (fun _ => wM a d nn mo mx my mz mc mr ml) := by
  refine pf_entI RX1 (by decide) rfl (Nat.le_of_ble_eq_true rfl) ?_
  intro p e s m below meth c A ls hc hw hA hr hlk hl
  have hx := hc.1.1
  have hb := hc.1.2.1
  have hl : lv_has ls 5 [(0, .ref (a 0)), (1, .int x), (2, .int y), (3, .int z), (4, .int q)] := hl
  refine lv_iload_n hx hb dX1_fits_0 rfl (lv_at hl 1 rfl) ?_
  refine lv_if_lt (tgt := 10) hx hb dX1_fits_1 (by decide) (fun c1 => ?_) (fun c1 => ?_)
  · refine lv_iconst (v := 0) hx hb dX1_fits_10 (by decide) ?_
    exact pf_retZ hc () hw hr hlk (by decide) (by simp [pf_tf, pf_fitm, c1]) dX1_fits_11
  · refine lv_iload_n hx hb dX1_fits_4 rfl (lv_at hl 1 rfl) ?_
    refine lv_bipush (v := 10) hx hb dX1_fits_5 (by decide) ?_
    refine lv_icmp_le (tgt := 12) hx hb dX1_fits_7 (by decide) (fun c7 => ?_) (fun c7 => ?_)
    · have c7 := pf_nlt_le c7
      refine lv_iload_n hx hb dX1_fits_12 rfl (lv_at hl 1 rfl) ?_
      refine lv_bipush (v := 10) hx hb dX1_fits_13 (by decide) ?_
      refine lv_icmp_ne (tgt := 20) hx hb dX1_fits_15 (by decide) (fun c15 => ?_) (fun c15 => ?_)
      · refine lv_iload_n hx hb dX1_fits_20 rfl (lv_at hl 1 rfl) ?_
        refine lv_bipush (v := 9) hx hb dX1_fits_21 (by decide) ?_
        refine lv_icmp_ne (tgt := 43) hx hb dX1_fits_23 (by decide) (fun c23 => ?_) (fun c23 => ?_)
        · refine lv_aload_n hx hb dX1_fits_43 rfl (lv_at hl 0 rfl) ?_
          refine lv_iload_n hx hb dX1_fits_44 rfl (lv_at hl 2 rfl) ?_
          refine lv_iconst (v := 3) hx hb dX1_fits_45 (by decide) ?_
          refine pf_callI [.int y, .int 3] hc hw hA (k1_in l D a d mo mx my mz mc mr ml nn y 3) (cwV 2 hc.1.2.2.2.2 (lw_V q228 q230 qs17 q23 q231) rfl rfl rfl (by decide +kernel) ⟨Nat.le_of_ble_eq_true rfl, Nat.le_of_ble_eq_true rfl⟩) (ci := 1) (T := TX1) (N := 8) rfl rfl rfl hl.1 rfl (Nat.le_of_ble_eq_true rfl) dX1_fits_46 ⟨Nat.zero_le _, Nat.zero_le _⟩ (fun r46 _ H locs hp46 hw => ?_)
          refine lv_if_ne (tgt := 54) hx hb dX1_fits_49 (by decide) (fun c49 => ?_) (fun c49 => ?_)
          · have c49 := pf_tf_yes hp46 c49
            refine lv_iload_n hx hb dX1_fits_54 rfl (lv_at hl 1 rfl) ?_
            refine lv_iconst (v := 1) hx hb dX1_fits_55 (by decide) ?_
            refine lv_icmp_lt (tgt := 89) hx hb dX1_fits_56 (by decide) (fun c56 => ?_) (fun c56 => ?_)
            · refine lv_iload_n hx hb dX1_fits_89 rfl (lv_at hl 1 rfl) ?_
              refine lv_iconst (v := 4) hx hb dX1_fits_90 (by decide) ?_
              refine lv_icmp_eq (tgt := 99) hx hb dX1_fits_91 (by decide) (fun c91 => ?_) (fun c91 => ?_)
              · refine lv_aload_n hx hb dX1_fits_99 rfl (lv_at hl 0 rfl) ?_
                refine lv_iload_n hx hb dX1_fits_100 rfl (lv_at hl 3 rfl) ?_
                refine lv_bipush (v := 11) hx hb dX1_fits_101 (by decide) ?_
                refine pf_callI [.int z, .int 11] hc hw hA (k1_in l D a d mo mx my mz mc mr ml nn z 11) (cwV 2 hc.1.2.2.2.2 (lw_V q228 q230 qs17 q23 q231) rfl rfl rfl (by decide +kernel) ⟨Nat.le_of_ble_eq_true rfl, Nat.le_of_ble_eq_true rfl⟩) (ci := 1) (T := TX1) (N := 8) rfl rfl rfl hl.1 rfl (Nat.le_of_ble_eq_true rfl) dX1_fits_103 ⟨Nat.zero_le _, Nat.zero_le _⟩ (fun r103 _ H locs hp103 hw => ?_)
                have ee : pf_fitm x y z q = pf_in z 11 := by simp [pf_fitm, c1, c7, c15, c23, c49, c56, c91]
                exact pf_retZ hc () hw hr hlk (pf_tf01 hp103) (by rw [ee]; exact hp103) dX1_fits_106
              · refine lv_iload_n hx hb dX1_fits_94 rfl (lv_at hl 1 rfl) ?_
                refine lv_iconst (v := 5) hx hb dX1_fits_95 (by decide) ?_
                refine lv_icmp_ne (tgt := 107) hx hb dX1_fits_96 (by decide) (fun c96 => ?_) (fun c96 => ?_)
                · refine lv_iload_n hx hb dX1_fits_107 rfl (lv_at hl 1 rfl) ?_
                  refine lv_bipush (v := 6) hx hb dX1_fits_108 (by decide) ?_
                  refine lv_icmp_eq (tgt := 119) hx hb dX1_fits_110 (by decide) (fun c110 => ?_) (fun c110 => ?_)
                  · refine lv_aload_n hx hb dX1_fits_119 rfl (lv_at hl 0 rfl) ?_
                    refine lv_iload_n hx hb dX1_fits_120 rfl (lv_at hl 3 rfl) ?_
                    refine lv_iconst (v := 3) hx hb dX1_fits_121 (by decide) ?_
                    refine pf_callI [.int z, .int 3] hc hw hA (k1_in l D a d mo mx my mz mc mr ml nn z 3) (cwV 2 hc.1.2.2.2.2 (lw_V q228 q230 qs17 q23 q231) rfl rfl rfl (by decide +kernel) ⟨Nat.le_of_ble_eq_true rfl, Nat.le_of_ble_eq_true rfl⟩) (ci := 1) (T := TX1) (N := 8) rfl rfl rfl hl.1 rfl (Nat.le_of_ble_eq_true rfl) dX1_fits_122 ⟨Nat.zero_le _, Nat.zero_le _⟩ (fun r122 _ H locs hp122 hw => ?_)
                    have ee : pf_fitm x y z q = pf_in z 3 := by simp [pf_fitm, c1, c7, c15, c23, c49, c56, c91, c96, c110]
                    exact pf_retZ hc () hw hr hlk (pf_tf01 hp122) (by rw [ee]; exact hp122) dX1_fits_125
                  · refine lv_iload_n hx hb dX1_fits_113 rfl (lv_at hl 1 rfl) ?_
                    refine lv_bipush (v := 7) hx hb dX1_fits_114 (by decide) ?_
                    refine lv_icmp_ne (tgt := 126) hx hb dX1_fits_116 (by decide) (fun c116 => ?_) (fun c116 => ?_)
                    · refine lv_iload_n hx hb dX1_fits_126 rfl (lv_at hl 1 rfl) ?_
                      refine lv_bipush (v := 8) hx hb dX1_fits_127 (by decide) ?_
                      refine lv_icmp_ne (tgt := 143) hx hb dX1_fits_129 (by decide) (fun c129 => ?_) (fun c129 => ?_)
                      · refine lv_iconst (v := 1) hx hb dX1_fits_143 (by decide) ?_
                        refine lv_goto (tgt := 148) hx hb dX1_fits_144 (by decide) ?_
                        exact pf_retZ hc () hw hr hlk (by decide) (by simp [pf_tf, pf_fitm, c1, c7, c15, c23, c49, c56, c91, c96, c110, c116, c129]) dX1_fits_148
                      · refine lv_iload_n hx hb dX1_fits_132 rfl (lv_at hl 3 rfl) ?_
                        refine lv_iconst (v := 1) hx hb dX1_fits_133 (by decide) ?_
                        refine lv_icmp_lt (tgt := 147) hx hb dX1_fits_134 (by decide) (fun c134 => ?_) (fun c134 => ?_)
                        · refine lv_iconst (v := 0) hx hb dX1_fits_147 (by decide) ?_
                          exact pf_retZ hc () hw hr hlk (by decide) (by simp [pf_tf, pf_fitm, c1, c7, c15, c23, c49, c56, c91, c96, c110, c116, c129, c134]) dX1_fits_148
                        · refine lv_iload_n hx hb dX1_fits_137 rfl (lv_at hl 3 rfl) ?_
                          refine lv_bipush (v := 6) hx hb dX1_fits_138 (by decide) ?_
                          refine lv_icmp_gt (tgt := 147) hx hb dX1_fits_140 (by decide) (fun c140 => ?_) (fun c140 => ?_)
                          · refine lv_iconst (v := 0) hx hb dX1_fits_147 (by decide) ?_
                            exact pf_retZ hc () hw hr hlk (by decide) (by simp [pf_tf, pf_fitm, c1, c7, c15, c23, c49, c56, c91, c96, c110, c116, c129, c134, c140]) dX1_fits_148
                          · refine lv_iconst (v := 1) hx hb dX1_fits_143 (by decide) ?_
                            refine lv_goto (tgt := 148) hx hb dX1_fits_144 (by decide) ?_
                            exact pf_retZ hc () hw hr hlk (by decide) (by simp [pf_tf, pf_fitm, c1, c7, c15, c23, c49, c56, c91, c96, c110, c116, c129, c134, c140]) dX1_fits_148
                    · refine lv_aload_n hx hb dX1_fits_119 rfl (lv_at hl 0 rfl) ?_
                      refine lv_iload_n hx hb dX1_fits_120 rfl (lv_at hl 3 rfl) ?_
                      refine lv_iconst (v := 3) hx hb dX1_fits_121 (by decide) ?_
                      refine pf_callI [.int z, .int 3] hc hw hA (k1_in l D a d mo mx my mz mc mr ml nn z 3) (cwV 2 hc.1.2.2.2.2 (lw_V q228 q230 qs17 q23 q231) rfl rfl rfl (by decide +kernel) ⟨Nat.le_of_ble_eq_true rfl, Nat.le_of_ble_eq_true rfl⟩) (ci := 1) (T := TX1) (N := 8) rfl rfl rfl hl.1 rfl (Nat.le_of_ble_eq_true rfl) dX1_fits_122 ⟨Nat.zero_le _, Nat.zero_le _⟩ (fun r122 _ H locs hp122 hw => ?_)
                      have ee : pf_fitm x y z q = pf_in z 3 := by simp [pf_fitm, c1, c7, c15, c23, c49, c56, c91, c96, c110, c116]
                      exact pf_retZ hc () hw hr hlk (pf_tf01 hp122) (by rw [ee]; exact hp122) dX1_fits_125
                · refine lv_aload_n hx hb dX1_fits_99 rfl (lv_at hl 0 rfl) ?_
                  refine lv_iload_n hx hb dX1_fits_100 rfl (lv_at hl 3 rfl) ?_
                  refine lv_bipush (v := 11) hx hb dX1_fits_101 (by decide) ?_
                  refine pf_callI [.int z, .int 11] hc hw hA (k1_in l D a d mo mx my mz mc mr ml nn z 11) (cwV 2 hc.1.2.2.2.2 (lw_V q228 q230 qs17 q23 q231) rfl rfl rfl (by decide +kernel) ⟨Nat.le_of_ble_eq_true rfl, Nat.le_of_ble_eq_true rfl⟩) (ci := 1) (T := TX1) (N := 8) rfl rfl rfl hl.1 rfl (Nat.le_of_ble_eq_true rfl) dX1_fits_103 ⟨Nat.zero_le _, Nat.zero_le _⟩ (fun r103 _ H locs hp103 hw => ?_)
                  have ee : pf_fitm x y z q = pf_in z 11 := by simp [pf_fitm, c1, c7, c15, c23, c49, c56, c91, c96]
                  exact pf_retZ hc () hw hr hlk (pf_tf01 hp103) (by rw [ee]; exact hp103) dX1_fits_106
            · refine lv_iload_n hx hb dX1_fits_59 rfl (lv_at hl 1 rfl) ?_
              refine lv_iconst (v := 3) hx hb dX1_fits_60 (by decide) ?_
              refine lv_icmp_gt (tgt := 89) hx hb dX1_fits_61 (by decide) (fun c61 => ?_) (fun c61 => ?_)
              · refine lv_iload_n hx hb dX1_fits_89 rfl (lv_at hl 1 rfl) ?_
                refine lv_iconst (v := 4) hx hb dX1_fits_90 (by decide) ?_
                refine lv_icmp_eq (tgt := 99) hx hb dX1_fits_91 (by decide) (fun c91 => ?_) (fun c91 => ?_)
                · refine lv_aload_n hx hb dX1_fits_99 rfl (lv_at hl 0 rfl) ?_
                  refine lv_iload_n hx hb dX1_fits_100 rfl (lv_at hl 3 rfl) ?_
                  refine lv_bipush (v := 11) hx hb dX1_fits_101 (by decide) ?_
                  refine pf_callI [.int z, .int 11] hc hw hA (k1_in l D a d mo mx my mz mc mr ml nn z 11) (cwV 2 hc.1.2.2.2.2 (lw_V q228 q230 qs17 q23 q231) rfl rfl rfl (by decide +kernel) ⟨Nat.le_of_ble_eq_true rfl, Nat.le_of_ble_eq_true rfl⟩) (ci := 1) (T := TX1) (N := 8) rfl rfl rfl hl.1 rfl (Nat.le_of_ble_eq_true rfl) dX1_fits_103 ⟨Nat.zero_le _, Nat.zero_le _⟩ (fun r103 _ H locs hp103 hw => ?_)
                  have ee : pf_fitm x y z q = pf_in z 11 := by simp [pf_fitm, c1, c7, c15, c23, c49, c56, c61, c91]
                  exact pf_retZ hc () hw hr hlk (pf_tf01 hp103) (by rw [ee]; exact hp103) dX1_fits_106
                · refine lv_iload_n hx hb dX1_fits_94 rfl (lv_at hl 1 rfl) ?_
                  refine lv_iconst (v := 5) hx hb dX1_fits_95 (by decide) ?_
                  refine lv_icmp_ne (tgt := 107) hx hb dX1_fits_96 (by decide) (fun c96 => ?_) (fun c96 => ?_)
                  · refine lv_iload_n hx hb dX1_fits_107 rfl (lv_at hl 1 rfl) ?_
                    refine lv_bipush (v := 6) hx hb dX1_fits_108 (by decide) ?_
                    refine lv_icmp_eq (tgt := 119) hx hb dX1_fits_110 (by decide) (fun c110 => ?_) (fun c110 => ?_)
                    · refine lv_aload_n hx hb dX1_fits_119 rfl (lv_at hl 0 rfl) ?_
                      refine lv_iload_n hx hb dX1_fits_120 rfl (lv_at hl 3 rfl) ?_
                      refine lv_iconst (v := 3) hx hb dX1_fits_121 (by decide) ?_
                      refine pf_callI [.int z, .int 3] hc hw hA (k1_in l D a d mo mx my mz mc mr ml nn z 3) (cwV 2 hc.1.2.2.2.2 (lw_V q228 q230 qs17 q23 q231) rfl rfl rfl (by decide +kernel) ⟨Nat.le_of_ble_eq_true rfl, Nat.le_of_ble_eq_true rfl⟩) (ci := 1) (T := TX1) (N := 8) rfl rfl rfl hl.1 rfl (Nat.le_of_ble_eq_true rfl) dX1_fits_122 ⟨Nat.zero_le _, Nat.zero_le _⟩ (fun r122 _ H locs hp122 hw => ?_)
                      have ee : pf_fitm x y z q = pf_in z 3 := by simp [pf_fitm, c1, c7, c15, c23, c49, c56, c61, c91, c96, c110]
                      exact pf_retZ hc () hw hr hlk (pf_tf01 hp122) (by rw [ee]; exact hp122) dX1_fits_125
                    · refine lv_iload_n hx hb dX1_fits_113 rfl (lv_at hl 1 rfl) ?_
                      refine lv_bipush (v := 7) hx hb dX1_fits_114 (by decide) ?_
                      refine lv_icmp_ne (tgt := 126) hx hb dX1_fits_116 (by decide) (fun c116 => ?_) (fun c116 => ?_)
                      · refine lv_iload_n hx hb dX1_fits_126 rfl (lv_at hl 1 rfl) ?_
                        refine lv_bipush (v := 8) hx hb dX1_fits_127 (by decide) ?_
                        refine lv_icmp_ne (tgt := 143) hx hb dX1_fits_129 (by decide) (fun c129 => ?_) (fun c129 => ?_)
                        · refine lv_iconst (v := 1) hx hb dX1_fits_143 (by decide) ?_
                          refine lv_goto (tgt := 148) hx hb dX1_fits_144 (by decide) ?_
                          exact pf_retZ hc () hw hr hlk (by decide) (by simp [pf_tf, pf_fitm, c1, c7, c15, c23, c49, c56, c61, c91, c96, c110, c116, c129]) dX1_fits_148
                        · refine lv_iload_n hx hb dX1_fits_132 rfl (lv_at hl 3 rfl) ?_
                          refine lv_iconst (v := 1) hx hb dX1_fits_133 (by decide) ?_
                          refine lv_icmp_lt (tgt := 147) hx hb dX1_fits_134 (by decide) (fun c134 => ?_) (fun c134 => ?_)
                          · refine lv_iconst (v := 0) hx hb dX1_fits_147 (by decide) ?_
                            exact pf_retZ hc () hw hr hlk (by decide) (by simp [pf_tf, pf_fitm, c1, c7, c15, c23, c49, c56, c61, c91, c96, c110, c116, c129, c134]) dX1_fits_148
                          · refine lv_iload_n hx hb dX1_fits_137 rfl (lv_at hl 3 rfl) ?_
                            refine lv_bipush (v := 6) hx hb dX1_fits_138 (by decide) ?_
                            refine lv_icmp_gt (tgt := 147) hx hb dX1_fits_140 (by decide) (fun c140 => ?_) (fun c140 => ?_)
                            · refine lv_iconst (v := 0) hx hb dX1_fits_147 (by decide) ?_
                              exact pf_retZ hc () hw hr hlk (by decide) (by simp [pf_tf, pf_fitm, c1, c7, c15, c23, c49, c56, c61, c91, c96, c110, c116, c129, c134, c140]) dX1_fits_148
                            · refine lv_iconst (v := 1) hx hb dX1_fits_143 (by decide) ?_
                              refine lv_goto (tgt := 148) hx hb dX1_fits_144 (by decide) ?_
                              exact pf_retZ hc () hw hr hlk (by decide) (by simp [pf_tf, pf_fitm, c1, c7, c15, c23, c49, c56, c61, c91, c96, c110, c116, c129, c134, c140]) dX1_fits_148
                      · refine lv_aload_n hx hb dX1_fits_119 rfl (lv_at hl 0 rfl) ?_
                        refine lv_iload_n hx hb dX1_fits_120 rfl (lv_at hl 3 rfl) ?_
                        refine lv_iconst (v := 3) hx hb dX1_fits_121 (by decide) ?_
                        refine pf_callI [.int z, .int 3] hc hw hA (k1_in l D a d mo mx my mz mc mr ml nn z 3) (cwV 2 hc.1.2.2.2.2 (lw_V q228 q230 qs17 q23 q231) rfl rfl rfl (by decide +kernel) ⟨Nat.le_of_ble_eq_true rfl, Nat.le_of_ble_eq_true rfl⟩) (ci := 1) (T := TX1) (N := 8) rfl rfl rfl hl.1 rfl (Nat.le_of_ble_eq_true rfl) dX1_fits_122 ⟨Nat.zero_le _, Nat.zero_le _⟩ (fun r122 _ H locs hp122 hw => ?_)
                        have ee : pf_fitm x y z q = pf_in z 3 := by simp [pf_fitm, c1, c7, c15, c23, c49, c56, c61, c91, c96, c110, c116]
                        exact pf_retZ hc () hw hr hlk (pf_tf01 hp122) (by rw [ee]; exact hp122) dX1_fits_125
                  · refine lv_aload_n hx hb dX1_fits_99 rfl (lv_at hl 0 rfl) ?_
                    refine lv_iload_n hx hb dX1_fits_100 rfl (lv_at hl 3 rfl) ?_
                    refine lv_bipush (v := 11) hx hb dX1_fits_101 (by decide) ?_
                    refine pf_callI [.int z, .int 11] hc hw hA (k1_in l D a d mo mx my mz mc mr ml nn z 11) (cwV 2 hc.1.2.2.2.2 (lw_V q228 q230 qs17 q23 q231) rfl rfl rfl (by decide +kernel) ⟨Nat.le_of_ble_eq_true rfl, Nat.le_of_ble_eq_true rfl⟩) (ci := 1) (T := TX1) (N := 8) rfl rfl rfl hl.1 rfl (Nat.le_of_ble_eq_true rfl) dX1_fits_103 ⟨Nat.zero_le _, Nat.zero_le _⟩ (fun r103 _ H locs hp103 hw => ?_)
                    have ee : pf_fitm x y z q = pf_in z 11 := by simp [pf_fitm, c1, c7, c15, c23, c49, c56, c61, c91, c96]
                    exact pf_retZ hc () hw hr hlk (pf_tf01 hp103) (by rw [ee]; exact hp103) dX1_fits_106
              · refine lv_aload_n hx hb dX1_fits_64 rfl (lv_at hl 0 rfl) ?_
                refine lv_iload_n hx hb dX1_fits_65 rfl (lv_at hl 3 rfl) ?_
                refine lv_iconst (v := 3) hx hb dX1_fits_66 (by decide) ?_
                refine pf_callI [.int z, .int 3] hc hw hA (k1_in l D a d mo mx my mz mc mr ml nn z 3) (cwV 2 hc.1.2.2.2.2 (lw_V q228 q230 qs17 q23 q231) rfl rfl rfl (by decide +kernel) ⟨Nat.le_of_ble_eq_true rfl, Nat.le_of_ble_eq_true rfl⟩) (ci := 1) (T := TX1) (N := 8) rfl rfl rfl hl.1 rfl (Nat.le_of_ble_eq_true rfl) dX1_fits_67 ⟨Nat.zero_le _, Nat.zero_le _⟩ (fun r67 _ H locs hp67 hw => ?_)
                refine lv_if_eq (tgt := 87) hx hb dX1_fits_70 (by decide) (fun c70 => ?_) (fun c70 => ?_)
                · have c70 := pf_tf_no hp67 c70
                  refine lv_iconst (v := 0) hx hb dX1_fits_87 (by decide) ?_
                  exact pf_retZ hc () hw hr hlk (by decide) (by simp [pf_tf, pf_fitm, c1, c7, c15, c23, c49, c56, c61, c70]) dX1_fits_88
                · have c70 := pf_tf_yes hp67 c70
                  refine lv_aload_n hx hb dX1_fits_73 rfl (lv_at hl 0 rfl) ?_
                  refine lv_iload hx hb dX1_fits_74 (lv_at hl 4 rfl) ?_
                  refine lv_iconst (v := 3) hx hb dX1_fits_76 (by decide) ?_
                  refine pf_callI [.int q, .int 3] hc hw hA (k1_in l D a d mo mx my mz mc mr ml nn q 3) (cwV 2 hc.1.2.2.2.2 (lw_V q228 q230 qs17 q23 q231) rfl rfl rfl (by decide +kernel) ⟨Nat.le_of_ble_eq_true rfl, Nat.le_of_ble_eq_true rfl⟩) (ci := 1) (T := TX1) (N := 8) rfl rfl rfl hl.1 rfl (Nat.le_of_ble_eq_true rfl) dX1_fits_77 ⟨Nat.zero_le _, Nat.zero_le _⟩ (fun r77 _ H locs hp77 hw => ?_)
                  refine lv_if_eq (tgt := 87) hx hb dX1_fits_80 (by decide) (fun c80 => ?_) (fun c80 => ?_)
                  · have c80 := pf_tf_no hp77 c80
                    refine lv_iconst (v := 0) hx hb dX1_fits_87 (by decide) ?_
                    exact pf_retZ hc () hw hr hlk (by decide) (by simp [pf_tf, pf_fitm, c1, c7, c15, c23, c49, c56, c61, c70, c80]) dX1_fits_88
                  · have c80 := pf_tf_yes hp77 c80
                    refine lv_iconst (v := 1) hx hb dX1_fits_83 (by decide) ?_
                    refine lv_goto (tgt := 88) hx hb dX1_fits_84 (by decide) ?_
                    exact pf_retZ hc () hw hr hlk (by decide) (by simp [pf_tf, pf_fitm, c1, c7, c15, c23, c49, c56, c61, c70, c80]) dX1_fits_88
          · have c49 := pf_tf_no hp46 c49
            refine lv_iconst (v := 0) hx hb dX1_fits_52 (by decide) ?_
            exact pf_retZ hc () hw hr hlk (by decide) (by simp [pf_tf, pf_fitm, c1, c7, c15, c23, c49]) dX1_fits_53
        · refine lv_iload_n hx hb dX1_fits_26 rfl (lv_at hl 2 rfl) ?_
          refine lv_iconst (v := 1) hx hb dX1_fits_27 (by decide) ?_
          refine lv_icmp_lt (tgt := 41) hx hb dX1_fits_28 (by decide) (fun c28 => ?_) (fun c28 => ?_)
          · refine lv_iconst (v := 0) hx hb dX1_fits_41 (by decide) ?_
            exact pf_retZ hc () hw hr hlk (by decide) (by simp [pf_tf, pf_fitm, c1, c7, c15, c23, c28]) dX1_fits_42
          · refine lv_iload_n hx hb dX1_fits_31 rfl (lv_at hl 2 rfl) ?_
            refine lv_bipush (v := 6) hx hb dX1_fits_32 (by decide) ?_
            refine lv_icmp_gt (tgt := 41) hx hb dX1_fits_34 (by decide) (fun c34 => ?_) (fun c34 => ?_)
            · refine lv_iconst (v := 0) hx hb dX1_fits_41 (by decide) ?_
              exact pf_retZ hc () hw hr hlk (by decide) (by simp [pf_tf, pf_fitm, c1, c7, c15, c23, c28, c34]) dX1_fits_42
            · refine lv_iconst (v := 1) hx hb dX1_fits_37 (by decide) ?_
              refine lv_goto (tgt := 42) hx hb dX1_fits_38 (by decide) ?_
              exact pf_retZ hc () hw hr hlk (by decide) (by simp [pf_tf, pf_fitm, c1, c7, c15, c23, c28, c34]) dX1_fits_42
      · refine lv_iconst (v := 1) hx hb dX1_fits_18 (by decide) ?_
        exact pf_retZ hc () hw hr hlk (by decide) (by simp [pf_tf, pf_fitm, c1, c7, c15]) dX1_fits_19
    · have c7 := pf_nle_lt c7
      refine lv_iconst (v := 0) hx hb dX1_fits_10 (by decide) ?_
      exact pf_retZ hc () hw hr hlk (by decide) (by simp [pf_tf, pf_fitm, c1, c7]) dX1_fits_11
set_option maxHeartbeats 4000000 in
/-- emit: n instructions stand -/
theorem k1_emit (l : Launch) (D : va_G) (a : Nat → Nat) (d : Nat → ClassId) (mo mx my mz mc mr ml : Nat → Int32) (nn : Int32) (x y z q : Int32) (n : Nat) (hn : n ≤ 30) (hln : nn = nI n) : pf_KI l D (tyM d) yX1_emit cX1_emit 5 (some .int) 2 46 [.ref (a 0), .int x, .int y, .int z, .int q] (wM a d nn mo mx my mz mc mr ml) (S := Int32 × (Nat → Int32) × (Nat → Int32) × (Nat → Int32) × (Nat → Int32)) (fun r u => (n = 30 ∧ r = -2 ∧ u = (nI n, mo, mx, my, mz)) ∨ (n < 30 ∧ ¬ pf_fitm x y z q ∧ r = -1 ∧ u = (nI n, mo, mx, my, mz)) ∨ (n < 30 ∧ pf_fitm x y z q ∧ r = nI (n + 1) ∧ u = (nI (n + 1), upd mo n x, upd mx n y, upd my n z, upd mz n q))) (fun u => wM a d u.1 u.2.1 u.2.2.1 u.2.2.2.1 u.2.2.2.2 mc mr ml) := by
  subst hln
  refine pf_entI RX1 (by decide) rfl (Nat.le_of_ble_eq_true rfl) ?_
  intro p e s m below meth c A ls hc hw hA hr hlk hl
  have hx := hc.1.1
  have hb := hc.1.2.1
  have hl : lv_has ls 5 [(0, .ref (a 0)), (1, .int x), (2, .int y), (3, .int z), (4, .int q)] := hl
  refine lv_aload_n hx hb dX1_emit_0 rfl (lv_at hl 0 rfl) ?_
  refine g1_nn hc hw dX1_emit_1 ?_
  refine lv_bipush (v := 30) hx hb dX1_emit_4 (by decide) ?_
  refine lv_icmp_ne (tgt := 12) hx hb dX1_emit_6 (by decide) (fun c6 => ?_) (fun c6 => ?_)
  · have c6 : n < 30 := by have := mt (nI_eq (a := n) (b := 30) (by omega) (by decide)).mpr c6; omega
    refine lv_aload_n hx hb dX1_emit_12 rfl (lv_at hl 0 rfl) ?_
    refine lv_iload_n hx hb dX1_emit_13 rfl (lv_at hl 1 rfl) ?_
    refine lv_iload_n hx hb dX1_emit_14 rfl (lv_at hl 2 rfl) ?_
    refine lv_iload_n hx hb dX1_emit_15 rfl (lv_at hl 3 rfl) ?_
    refine lv_iload hx hb dX1_emit_16 (lv_at hl 4 rfl) ?_
    refine pf_callI [.int x, .int y, .int z, .int q] hc hw hA (k1_fits l D a d mo mx my mz mc mr ml (nI n) x y z q) (cwV 4 hc.1.2.2.2.2 (lw_V q224 q226 qs16 q23 q227) rfl rfl rfl (by decide +kernel) ⟨Nat.le_of_ble_eq_true rfl, Nat.le_of_ble_eq_true rfl⟩) (ci := 1) (T := TX1) (N := 8) rfl rfl rfl hl.1 rfl (Nat.le_of_ble_eq_true rfl) dX1_emit_18 ⟨Nat.zero_le _, Nat.zero_le _⟩ (fun r18 _ H locs hp18 hw => ?_)
    refine lv_if_ne (tgt := 26) hx hb dX1_emit_21 (by decide) (fun c21 => ?_) (fun c21 => ?_)
    · have c21 := pf_tf_yes hp18 c21
      refine lv_aload_n hx hb dX1_emit_26 rfl (lv_at hl 0 rfl) ?_
      refine g1_mo hc hw dX1_emit_27 ?_
      refine lv_aload_n hx hb dX1_emit_30 rfl (lv_at hl 0 rfl) ?_
      refine g1_nn hc hw dX1_emit_31 ?_
      refine lv_iload_n hx hb dX1_emit_34 rfl (lv_at hl 1 rfl) ?_
      refine s1_mo (j := n) hc hw (pf_ixn c6 (by decide)) dX1_emit_35 (fun H locs hw => ?_)
      refine lv_aload_n hx hb dX1_emit_36 rfl (lv_at hl 0 rfl) ?_
      refine g1_mx hc hw dX1_emit_37 ?_
      refine lv_aload_n hx hb dX1_emit_40 rfl (lv_at hl 0 rfl) ?_
      refine g1_nn hc hw dX1_emit_41 ?_
      refine lv_iload_n hx hb dX1_emit_44 rfl (lv_at hl 2 rfl) ?_
      refine s1_mx (j := n) hc hw (pf_ixn c6 (by decide)) dX1_emit_45 (fun H locs hw => ?_)
      refine lv_aload_n hx hb dX1_emit_46 rfl (lv_at hl 0 rfl) ?_
      refine g1_my hc hw dX1_emit_47 ?_
      refine lv_aload_n hx hb dX1_emit_50 rfl (lv_at hl 0 rfl) ?_
      refine g1_nn hc hw dX1_emit_51 ?_
      refine lv_iload_n hx hb dX1_emit_54 rfl (lv_at hl 3 rfl) ?_
      refine s1_my (j := n) hc hw (pf_ixn c6 (by decide)) dX1_emit_55 (fun H locs hw => ?_)
      refine lv_aload_n hx hb dX1_emit_56 rfl (lv_at hl 0 rfl) ?_
      refine g1_mz hc hw dX1_emit_57 ?_
      refine lv_aload_n hx hb dX1_emit_60 rfl (lv_at hl 0 rfl) ?_
      refine g1_nn hc hw dX1_emit_61 ?_
      refine lv_iload hx hb dX1_emit_64 (lv_at hl 4 rfl) ?_
      refine s1_mz (j := n) hc hw (pf_ixn c6 (by decide)) dX1_emit_66 (fun H locs hw => ?_)
      refine lv_aload_n hx hb dX1_emit_67 rfl (lv_at hl 0 rfl) ?_
      refine lv_dup hx hb dX1_emit_68 rfl ?_
      refine g1_nn hc hw dX1_emit_69 ?_
      refine lv_iconst (v := 1) hx hb dX1_emit_72 (by decide) ?_
      refine lv_iadd hx hb dX1_emit_73 ?_
      refine pf_top (nI (n + 1)) (nI_1 n) ?_
      refine p1_nn hc hw dX1_emit_74 (fun H locs hw => ?_)
      refine lv_aload_n hx hb dX1_emit_77 rfl (lv_at hl 0 rfl) ?_
      refine g1_nn hc hw dX1_emit_78 ?_
      exact pf_retI hc (nI (n + 1), upd mo n x, upd mx n y, upd my n z, upd mz n q) hw hr hlk (Or.inr (Or.inr ⟨c6, c21, rfl, rfl⟩)) dX1_emit_81
    · have c21 := pf_tf_no hp18 c21
      refine lv_iconst (v := (-1)) hx hb dX1_emit_24 (by decide) ?_
      exact pf_retI hc (nI n, mo, mx, my, mz) hw hr hlk (Or.inr (Or.inl ⟨c6, c21, rfl, rfl⟩)) dX1_emit_25
  · have c6 := (nI_eq (a := n) (b := 30) (by omega) (by decide)).mp c6
    refine lv_bipush (v := (-2)) hx hb dX1_emit_9 (by decide) ?_
    exact pf_retI hc (nI n, mo, mx, my, mz) hw hr hlk (Or.inl ⟨c6, rfl, rfl⟩) dX1_emit_11
set_option maxHeartbeats 4000000 in
/-- retract -/
theorem k1_retract (l : Launch) (D : va_G) (a : Nat → Nat) (d : Nat → ClassId) (mo mx my mz mc mr ml : Nat → Int32) (nn : Int32) (n : Nat) (hn : n ≤ 30) (hln : nn = nI n) : pf_KI l D (tyM d) yX1_retract cX1_retract 1 (some .int) 0 0 [.ref (a 0)] (wM a d nn mo mx my mz mc mr ml) (S := Int32) (fun r u => (n = 0 ∧ r = -1 ∧ u = nI n) ∨ (0 < n ∧ r = nI (n - 1) ∧ u = nI (n - 1))) (fun u => wM a d u mo mx my mz mc mr ml) := by
  subst hln
  refine pf_entI RX1 (by decide) rfl (Nat.le_of_ble_eq_true rfl) ?_
  intro p e s m below meth c A ls hc hw hA hr hlk hl
  have hx := hc.1.1
  have hb := hc.1.2.1
  have hl : lv_has ls 1 [(0, .ref (a 0))] := hl
  refine lv_aload_n hx hb dX1_retract_0 rfl (lv_at hl 0 rfl) ?_
  refine g1_nn hc hw dX1_retract_1 ?_
  refine lv_if_ne (tgt := 9) hx hb dX1_retract_4 (by decide) (fun c4 => ?_) (fun c4 => ?_)
  · have c4 : 0 < n := by rcases Nat.eq_zero_or_pos n with h | h; (exact absurd (by rw [h]; rfl) c4); exact h
    refine lv_aload_n hx hb dX1_retract_9 rfl (lv_at hl 0 rfl) ?_
    refine lv_dup hx hb dX1_retract_10 rfl ?_
    refine g1_nn hc hw dX1_retract_11 ?_
    refine lv_iconst (v := 1) hx hb dX1_retract_14 (by decide) ?_
    refine lv_isub hx hb dX1_retract_15 ?_
    refine pf_top (nI (n - 1)) (pk_sub (a := n) (b := 1) c4) ?_
    refine p1_nn hc hw dX1_retract_16 (fun H locs hw => ?_)
    refine lv_aload_n hx hb dX1_retract_19 rfl (lv_at hl 0 rfl) ?_
    refine g1_nn hc hw dX1_retract_20 ?_
    exact pf_retI hc (nI (n - 1)) hw hr hlk (Or.inr ⟨c4, rfl, rfl⟩) dX1_retract_23
  · have c4 := (nI_eq (a := n) (b := 0) (by omega) (by decide)).mp c4
    refine lv_iconst (v := (-1)) hx hb dX1_retract_7 (by decide) ?_
    exact pf_retI hc (nI n) hw hr hlk (Or.inl ⟨c4, rfl, rfl⟩) dX1_retract_8
set_option maxHeartbeats 4000000 in
/-- setCell -/
theorem k1_setCell (l : Launch) (D : va_G) (a : Nat → Nat) (d : Nat → ClassId) (mo mx my mz mc mr ml : Nat → Int32) (nn : Int32) (x y : Int32) : pf_KI l D (tyM d) yX1_setCell cX1_setCell 3 (some .boolean) 1 22 [.ref (a 0), .int x, .int y] (wM a d nn mo mx my mz mc mr ml) (S := Nat → Int32) (fun r u => (pf_in x 11 ∧ r = 1 ∧ u = upd mc (pf_n x) y) ∨ (¬ pf_in x 11 ∧ r = 0 ∧ u = mc)) (fun u => wM a d nn mo mx my mz u mr ml) := by
  refine pf_entI RX1 (by decide) rfl (Nat.le_of_ble_eq_true rfl) ?_
  intro p e s m below meth c A ls hc hw hA hr hlk hl
  have hx := hc.1.1
  have hb := hc.1.2.1
  have hl : lv_has ls 3 [(0, .ref (a 0)), (1, .int x), (2, .int y)] := hl
  refine lv_aload_n hx hb dX1_setCell_0 rfl (lv_at hl 0 rfl) ?_
  refine lv_iload_n hx hb dX1_setCell_1 rfl (lv_at hl 1 rfl) ?_
  refine lv_bipush (v := 11) hx hb dX1_setCell_2 (by decide) ?_
  refine pf_callI [.int x, .int 11] hc hw hA (k1_in l D a d mo mx my mz mc mr ml nn x 11) (cwV 2 hc.1.2.2.2.2 (lw_V q228 q230 qs17 q23 q231) rfl rfl rfl (by decide +kernel) ⟨Nat.le_of_ble_eq_true rfl, Nat.le_of_ble_eq_true rfl⟩) (ci := 1) (T := TX1) (N := 8) rfl rfl rfl hl.1 rfl (Nat.le_of_ble_eq_true rfl) dX1_setCell_4 ⟨Nat.zero_le _, Nat.zero_le _⟩ (fun r4 _ H locs hp4 hw => ?_)
  refine lv_if_ne (tgt := 12) hx hb dX1_setCell_7 (by decide) (fun c7 => ?_) (fun c7 => ?_)
  · have c7 := pf_tf_yes hp4 c7
    refine lv_aload_n hx hb dX1_setCell_12 rfl (lv_at hl 0 rfl) ?_
    refine g1_mc hc hw dX1_setCell_13 ?_
    refine lv_iload_n hx hb dX1_setCell_16 rfl (lv_at hl 1 rfl) ?_
    refine lv_iload_n hx hb dX1_setCell_17 rfl (lv_at hl 2 rfl) ?_
    refine s1_mc (j := (pf_n x)) hc hw (pf_ixs (pf_in_vp (by decide) c7)) dX1_setCell_18 (fun H locs hw => ?_)
    refine lv_iconst (v := 1) hx hb dX1_setCell_19 (by decide) ?_
    exact pf_retZ hc (upd mc (pf_n x) y) hw hr hlk (by decide) (Or.inl ⟨c7, rfl, rfl⟩) dX1_setCell_20
  · have c7 := pf_tf_no hp4 c7
    refine lv_iconst (v := 0) hx hb dX1_setCell_10 (by decide) ?_
    exact pf_retZ hc mc hw hr hlk (by decide) (Or.inr ⟨c7, rfl, rfl⟩) dX1_setCell_11
set_option maxHeartbeats 4000000 in
/-- cell -/
theorem k1_cell (l : Launch) (D : va_G) (a : Nat → Nat) (d : Nat → ClassId) (mo mx my mz mc mr ml : Nat → Int32) (nn : Int32) (x : Int32) : pf_KI l D (tyM d) yX1_cell cX1_cell 2 (some .int) 1 22 [.ref (a 0), .int x] (wM a d nn mo mx my mz mc mr ml) (S := Unit) (fun r _ => (pf_in x 11 ∧ r = mc (pf_n x)) ∨ (¬ pf_in x 11 ∧ r = 0)) (fun _ => wM a d nn mo mx my mz mc mr ml) := by
  refine pf_entI RX1 (by decide) rfl (Nat.le_of_ble_eq_true rfl) ?_
  intro p e s m below meth c A ls hc hw hA hr hlk hl
  have hx := hc.1.1
  have hb := hc.1.2.1
  have hl : lv_has ls 2 [(0, .ref (a 0)), (1, .int x)] := hl
  refine lv_aload_n hx hb dX1_cell_0 rfl (lv_at hl 0 rfl) ?_
  refine lv_iload_n hx hb dX1_cell_1 rfl (lv_at hl 1 rfl) ?_
  refine lv_bipush (v := 11) hx hb dX1_cell_2 (by decide) ?_
  refine pf_callI [.int x, .int 11] hc hw hA (k1_in l D a d mo mx my mz mc mr ml nn x 11) (cwV 2 hc.1.2.2.2.2 (lw_V q228 q230 qs17 q23 q231) rfl rfl rfl (by decide +kernel) ⟨Nat.le_of_ble_eq_true rfl, Nat.le_of_ble_eq_true rfl⟩) (ci := 1) (T := TX1) (N := 8) rfl rfl rfl hl.1 rfl (Nat.le_of_ble_eq_true rfl) dX1_cell_4 ⟨Nat.zero_le _, Nat.zero_le _⟩ (fun r4 _ H locs hp4 hw => ?_)
  refine lv_if_eq (tgt := 19) hx hb dX1_cell_7 (by decide) (fun c7 => ?_) (fun c7 => ?_)
  · have c7 := pf_tf_no hp4 c7
    refine lv_iconst (v := 0) hx hb dX1_cell_19 (by decide) ?_
    exact pf_retI hc () hw hr hlk (Or.inr ⟨c7, rfl⟩) dX1_cell_20
  · have c7 := pf_tf_yes hp4 c7
    refine lv_aload_n hx hb dX1_cell_10 rfl (lv_at hl 0 rfl) ?_
    refine g1_mc hc hw dX1_cell_11 ?_
    refine lv_iload_n hx hb dX1_cell_14 rfl (lv_at hl 1 rfl) ?_
    refine l1_mc (j := (pf_n x)) hc hw (pf_ixs (pf_in_vp (by decide) c7)) dX1_cell_15 ?_
    refine lv_goto (tgt := 20) hx hb dX1_cell_16 (by decide) ?_
    exact pf_retI hc () hw hr hlk (Or.inl ⟨c7, rfl⟩) dX1_cell_20
set_option maxHeartbeats 4000000 in
/-- register -/
theorem k1_register (l : Launch) (D : va_G) (a : Nat → Nat) (d : Nat → ClassId) (mo mx my mz mc mr ml : Nat → Int32) (nn : Int32) (x : Int32) : pf_KI l D (tyM d) yX1_register cX1_register 2 (some .int) 1 22 [.ref (a 0), .int x] (wM a d nn mo mx my mz mc mr ml) (S := Unit) (fun r _ => (pf_in x 3 ∧ r = mr (pf_n x)) ∨ (¬ pf_in x 3 ∧ r = 0)) (fun _ => wM a d nn mo mx my mz mc mr ml) := by
  refine pf_entI RX1 (by decide) rfl (Nat.le_of_ble_eq_true rfl) ?_
  intro p e s m below meth c A ls hc hw hA hr hlk hl
  have hx := hc.1.1
  have hb := hc.1.2.1
  have hl : lv_has ls 2 [(0, .ref (a 0)), (1, .int x)] := hl
  refine lv_aload_n hx hb dX1_register_0 rfl (lv_at hl 0 rfl) ?_
  refine lv_iload_n hx hb dX1_register_1 rfl (lv_at hl 1 rfl) ?_
  refine lv_iconst (v := 3) hx hb dX1_register_2 (by decide) ?_
  refine pf_callI [.int x, .int 3] hc hw hA (k1_in l D a d mo mx my mz mc mr ml nn x 3) (cwV 2 hc.1.2.2.2.2 (lw_V q228 q230 qs17 q23 q231) rfl rfl rfl (by decide +kernel) ⟨Nat.le_of_ble_eq_true rfl, Nat.le_of_ble_eq_true rfl⟩) (ci := 1) (T := TX1) (N := 8) rfl rfl rfl hl.1 rfl (Nat.le_of_ble_eq_true rfl) dX1_register_3 ⟨Nat.zero_le _, Nat.zero_le _⟩ (fun r3 _ H locs hp3 hw => ?_)
  refine lv_if_eq (tgt := 18) hx hb dX1_register_6 (by decide) (fun c6 => ?_) (fun c6 => ?_)
  · have c6 := pf_tf_no hp3 c6
    refine lv_iconst (v := 0) hx hb dX1_register_18 (by decide) ?_
    exact pf_retI hc () hw hr hlk (Or.inr ⟨c6, rfl⟩) dX1_register_19
  · have c6 := pf_tf_yes hp3 c6
    refine lv_aload_n hx hb dX1_register_9 rfl (lv_at hl 0 rfl) ?_
    refine g1_mr hc hw dX1_register_10 ?_
    refine lv_iload_n hx hb dX1_register_13 rfl (lv_at hl 1 rfl) ?_
    refine l1_mr (j := (pf_n x)) hc hw (pf_ixs (pf_in_vp (by decide) c6)) dX1_register_14 ?_
    refine lv_goto (tgt := 19) hx hb dX1_register_15 (by decide) ?_
    exact pf_retI hc () hw hr hlk (Or.inl ⟨c6, rfl⟩) dX1_register_19
set_option maxHeartbeats 4000000 in
/-- clear -/
theorem k1_clear (l : Launch) (D : va_G) (a : Nat → Nat) (d : Nat → ClassId) (mo mx my mz mc mr ml : Nat → Int32) (nn : Int32)  : pf_KV l D (tyM d) yX1_clear cX1_clear 2 0 0 [.ref (a 0)] (wM a d nn mo mx my mz mc mr ml) (S := (Nat → Int32) × (Nat → Int32)) (fun u => (∀ j, j < 12 → u.1 j = 0) ∧ (∀ j, j < 4 → u.2 j = 0)) (fun u => wM a d 0 mo mx my mz u.1 u.2 ml) := by
  refine pf_entV RX1 (by decide) rfl (Nat.le_of_ble_eq_true rfl) ?_
  intro p e s m below meth c A ls hc hw hA hr hlk hl
  have hx := hc.1.1
  have hb := hc.1.2.1
  have hl : lv_has ls 2 [(0, .ref (a 0))] := hl
  refine lv_aload_n hx hb dX1_clear_0 rfl (lv_at hl 0 rfl) ?_
  refine lv_iconst (v := 0) hx hb dX1_clear_1 (by decide) ?_
  refine p1_nn hc hw dX1_clear_2 (fun H locs hw => ?_)
  refine lv_iconst (v := 0) hx hb dX1_clear_5 (by decide) ?_
  refine lv_istore_n (lv' := [(1, .int 0), (0, .ref (a 0))]) hx hb dX1_clear_6 rfl hl (by decide) rfl (fun ls hl => ?_)
  have lp1 : ∀ (n k : Nat) (g : Nat → Int32) (H : Heap) (locs : List Loc) (ls : Array Slot), k + n = 12 → (∀ j, j < k → g j = 0) → pf_H D A s (wM a d 0 mo mx my mz g mr ml) H locs → lv_has ls 2 [(1, .int (nI k)), (0, .ref (a 0))] → W p l e { frames := 0, cells := 0, slots := 0, locals := 0 } s m ([.ref (a 0)] : List Value).toArray below meth c H locs 0 0 (MQ below (va_Qv (S := (Nat → Int32) × (Nat → Int32)) (fun u => (∀ j, j < 12 → u.1 j = 0) ∧ (∀ j, j < 4 → u.2 j = 0)) (fun u t => pf_at D (tyM d) A ((fun u => wM a d 0 mo mx my mz u.1 u.2 ml) u) t) A) ([.ref (a 0)] : List Value).toArray s 0 0 A) (F0 m 7 ls []) := by
    intro n
    induction n with
    | zero =>
      intro k g H locs ls hk hg hw hl
      obtain rfl : k = 12 := by omega
      obtain ⟨g0, hg0, hw⟩ : ∃ z : Nat → Int32, (∀ j, j < 12 → z j = 0) ∧ pf_H D A s (wM a d 0 mo mx my mz z mr ml) H locs := ⟨g, hg, hw⟩
      refine lv_iload_n hx hb dX1_clear_7 rfl (lv_at hl 0 rfl) ?_
      refine lv_bipush (v := 12) hx hb dX1_clear_8 (by decide) ?_
      refine lv_icmp_ge (tgt := 26) hx hb dX1_clear_10 (by decide) (fun c10 => ?_) (fun c10 => absurd (Int32.le_refl _) c10)
      refine lv_iconst (v := 0) hx hb dX1_clear_26 (by decide) ?_
      refine lv_istore_n (lv' := [(1, .int 0), (0, .ref (a 0))]) hx hb dX1_clear_27 rfl hl (by decide) rfl (fun ls hl => ?_)
      have lp2 : ∀ (n k : Nat) (g : Nat → Int32) (H : Heap) (locs : List Loc) (ls : Array Slot), k + n = 4 → (∀ j, j < k → g j = 0) → pf_H D A s (wM a d 0 mo mx my mz g0 g ml) H locs → lv_has ls 2 [(1, .int (nI k)), (0, .ref (a 0))] → W p l e { frames := 0, cells := 0, slots := 0, locals := 0 } s m ([.ref (a 0)] : List Value).toArray below meth c H locs 0 0 (MQ below (va_Qv (S := (Nat → Int32) × (Nat → Int32)) (fun u => (∀ j, j < 12 → u.1 j = 0) ∧ (∀ j, j < 4 → u.2 j = 0)) (fun u t => pf_at D (tyM d) A ((fun u => wM a d 0 mo mx my mz u.1 u.2 ml) u) t) A) ([.ref (a 0)] : List Value).toArray s 0 0 A) (F0 m 28 ls []) := by
        intro n
        induction n with
        | zero =>
          intro k g H locs ls hk hg hw hl
          obtain rfl : k = 4 := by omega
          refine lv_iload_n hx hb dX1_clear_28 rfl (lv_at hl 0 rfl) ?_
          refine lv_iconst (v := 4) hx hb dX1_clear_29 (by decide) ?_
          refine lv_icmp_ge (tgt := 46) hx hb dX1_clear_30 (by decide) (fun c30 => ?_) (fun c30 => absurd (Int32.le_refl _) c30)
          exact pf_retV hc (g0, g) hw hr hlk ⟨hg0, hg⟩ dX1_clear_46
        | succ n ih =>
          intro k g H locs ls hk hg hw hl
          refine lv_iload_n hx hb dX1_clear_28 rfl (lv_at hl 0 rfl) ?_
          refine lv_iconst (v := 4) hx hb dX1_clear_29 (by decide) ?_
          refine lv_icmp_ge (tgt := 46) hx hb dX1_clear_30 (by decide) (fun c30 => absurd ((nI_leI (a := 4) (b := k) (by decide) (by omega)).mp c30) (by omega)) (fun c30 => ?_)
          refine lv_aload_n hx hb dX1_clear_33 rfl (lv_at hl 1 rfl) ?_
          refine g1_mr hc hw dX1_clear_34 ?_
          refine lv_iload_n hx hb dX1_clear_37 rfl (lv_at hl 0 rfl) ?_
          refine lv_iconst (v := 0) hx hb dX1_clear_38 (by decide) ?_
          refine s1_mr (j := k) hc hw (pf_ixn (by omega) (by decide)) dX1_clear_39 (fun H locs hw => ?_)
          refine lv_iinc (v := nI (k + 1)) (lv' := [(1, .int (nI (k + 1))), (0, .ref (a 0))]) hx hb dX1_clear_40 hl (k := 0) rfl (nI_1 _) (by decide) rfl (fun ls hl => ?_)
          refine lv_goto (tgt := 28) hx hb dX1_clear_43 (by decide) ?_
          exact ih (k + 1) _ _ _ ls (by omega) (lt_s (fun j hj => (pk_un (Nat.ne_of_lt hj)).trans (hg j hj)) pk_us) hw (lv_sub hl [0, 1] rfl)
      exact lp2 4 0 _ _ _ ls rfl lt_0 hw (lv_sub hl [0, 1] rfl)
    | succ n ih =>
      intro k g H locs ls hk hg hw hl
      refine lv_iload_n hx hb dX1_clear_7 rfl (lv_at hl 0 rfl) ?_
      refine lv_bipush (v := 12) hx hb dX1_clear_8 (by decide) ?_
      refine lv_icmp_ge (tgt := 26) hx hb dX1_clear_10 (by decide) (fun c10 => absurd ((nI_leI (a := 12) (b := k) (by decide) (by omega)).mp c10) (by omega)) (fun c10 => ?_)
      refine lv_aload_n hx hb dX1_clear_13 rfl (lv_at hl 1 rfl) ?_
      refine g1_mc hc hw dX1_clear_14 ?_
      refine lv_iload_n hx hb dX1_clear_17 rfl (lv_at hl 0 rfl) ?_
      refine lv_iconst (v := 0) hx hb dX1_clear_18 (by decide) ?_
      refine s1_mc (j := k) hc hw (pf_ixn (by omega) (by decide)) dX1_clear_19 (fun H locs hw => ?_)
      refine lv_iinc (v := nI (k + 1)) (lv' := [(1, .int (nI (k + 1))), (0, .ref (a 0))]) hx hb dX1_clear_20 hl (k := 0) rfl (nI_1 _) (by decide) rfl (fun ls hl => ?_)
      refine lv_goto (tgt := 7) hx hb dX1_clear_23 (by decide) ?_
      exact ih (k + 1) _ _ _ ls (by omega) (lt_s (fun j hj => (pk_un (Nat.ne_of_lt hj)).trans (hg j hj)) pk_us) hw (lv_sub hl [0, 1] rfl)
  exact lp1 12 0 _ _ _ ls rfl lt_0 hw (lv_sub hl [0, 1] rfl)
end
section
set_option maxRecDepth 100000
theorem pf_lt9 {o : Int32} (h : o < 9) : ¬ o = 9 ∧ ¬ o = 10 := ⟨fun e => by rw [e] at h; exact absurd h (by decide), fun e => by rw [e] at h; exact absurd h (by decide)⟩
theorem pf_ge9 {o : Int32} (h : pf_in o 10) (h9 : ¬ o < 9) (hh : ¬ o = 9 ∧ ¬ o = 10) : False := by
  rcases pf_ops h with rfl | rfl | rfl | rfl | rfl | rfl | rfl | rfl | rfl | rfl | rfl <;> first | exact h9 (by decide) | exact hh.1 rfl | exact hh.2 rfl
/-- s0 is the place where the loop that ends at q begins -/
def pf_opener (o : Nat → Int32) (q s0 : Nat) : Prop := s0 ≤ q ∧ pf_dep o s0 = pf_dep o (q + 1) ∧ (∀ j, s0 < j → j ≤ q → pf_dep o (q + 1) < pf_dep o j) ∧ (∀ j, j ≤ q + 1 → 0 ≤ pf_dep o j ∧ pf_dep o j ≤ 2)
set_option maxHeartbeats 4000000 in
/-- skipFits -/
theorem k1_skipFits (l : Launch) (D : va_G) (a : Nat → Nat) (d : Nat → ClassId) (mo mx my mz mc mr ml : Nat → Int32) (nn : Int32) (q y n0 : Nat) (hq : q < n0) (hn : n0 ≤ 30) (hln : nn = nI n0) (hy : my q = nI y) (hy6 : y ≤ 6) (hop : ∀ p, p < n0 → pf_in (mo p) 10) : pf_KI l D (tyM d) yX1_skipFits cX1_skipFits 3 (some .boolean) 0 0 [.ref (a 0), .int (nI q)] (wM a d nn mo mx my mz mc mr ml) (S := Unit) (fun r _ => pf_tf r (pf_skip n0 mo q y)) (fun _ => wM a d nn mo mx my mz mc mr ml) := by
  subst hln
  refine pf_entI RX1 (by decide) rfl (Nat.le_of_ble_eq_true rfl) ?_
  intro p e s m below meth c A ls hc hw hA hr hlk hl
  have hx := hc.1.1
  have hb := hc.1.2.1
  have hl : lv_has ls 3 [(0, .ref (a 0)), (1, .int (nI q))] := hl
  refine lv_iload_n hx hb dX1_skipFits_0 rfl (lv_at hl 1 rfl) ?_
  refine lv_aload_n hx hb dX1_skipFits_1 rfl (lv_at hl 0 rfl) ?_
  refine g1_my hc hw dX1_skipFits_2 ?_
  refine lv_iload_n hx hb dX1_skipFits_5 rfl (lv_at hl 1 rfl) ?_
  refine l1_my (j := q) hc hw (pf_ixn (by omega) (by decide)) dX1_skipFits_6 ?_
  refine lv_iadd hx hb dX1_skipFits_7 ?_
  refine pf_top (nI (q + y)) (by rw [hy]; exact nI_add _ _) ?_
  refine lv_aload_n hx hb dX1_skipFits_8 rfl (lv_at hl 0 rfl) ?_
  refine g1_nn hc hw dX1_skipFits_9 ?_
  refine lv_icmp_lt (tgt := 17) hx hb dX1_skipFits_12 (by decide) (fun c12 => ?_) (fun c12 => ?_)
  · have c12 := (nI_ltI (by omega) (by omega)).mp c12
    refine lv_iload_n hx hb dX1_skipFits_17 rfl (lv_at hl 1 rfl) ?_
    refine lv_iconst (v := 1) hx hb dX1_skipFits_18 (by decide) ?_
    refine lv_iadd hx hb dX1_skipFits_19 ?_
    refine pf_top (nI (q + 1)) (nI_1 _) ?_
    refine lv_istore_n (lv' := [(2, .int (nI (q + 1))), (0, .ref (a 0)), (1, .int (nI q))]) hx hb dX1_skipFits_20 rfl hl (by decide) rfl (fun ls hl => ?_)
    have lp : ∀ (n k : Nat)  (H : Heap) (locs : List Loc) (ls : Array Slot), k + n = q + y + 1 → q + 1 ≤ k → (∀ j, q < j → j < k → ¬ mo j = 9 ∧ ¬ mo j = 10) → pf_H D A s (wM a d (nI n0) mo mx my mz mc mr ml) H locs → lv_has ls 3 [(2, .int (nI k)), (0, .ref (a 0)), (1, .int (nI q))] → W p l e { frames := 0, cells := 0, slots := 0, locals := 0 } s m ([.ref (a 0), .int (nI q)] : List Value).toArray below meth c H locs 0 0 (MQ below (va_Qi (S := Unit) (fun r _ => pf_tf r (pf_skip n0 mo q y)) (fun u t => pf_at D (tyM d) A ((fun _ => wM a d (nI n0) mo mx my mz mc mr ml) u) t) A) ([.ref (a 0), .int (nI q)] : List Value).toArray s 0 0 A) (F0 m 21 ls []) := by
      intro n
      induction n with
      | zero =>
        intro k  H locs ls hk hk1 hg hw hl
        refine lv_iload_n hx hb dX1_skipFits_21 rfl (lv_at hl 0 rfl) ?_
        refine lv_iload_n hx hb dX1_skipFits_22 rfl (lv_at hl 2 rfl) ?_
        refine lv_aload_n hx hb dX1_skipFits_23 rfl (lv_at hl 1 rfl) ?_
        refine g1_my hc hw dX1_skipFits_24 ?_
        refine lv_iload_n hx hb dX1_skipFits_27 rfl (lv_at hl 2 rfl) ?_
        refine l1_my (j := q) hc hw (pf_ixn (by omega) (by decide)) dX1_skipFits_28 ?_
        refine lv_iadd hx hb dX1_skipFits_29 ?_
        refine pf_top (nI (q + y)) (by rw [hy]; exact nI_add _ _) ?_
        refine lv_icmp_gt (tgt := 52) hx hb dX1_skipFits_30 (by decide) (fun c30 => ?_) (fun c30 => absurd ((nI_ltI (by omega) (by omega)).mpr (by omega)) c30)
        refine lv_iconst (v := 1) hx hb dX1_skipFits_52 (by decide) ?_
        exact pf_retZ hc () hw hr hlk (by decide) (pf_tf1 ⟨c12, fun j h1 h2 => hg j h1 (by omega)⟩) dX1_skipFits_53
      | succ n ih =>
        intro k  H locs ls hk hk1 hg hw hl
        refine lv_iload_n hx hb dX1_skipFits_21 rfl (lv_at hl 0 rfl) ?_
        refine lv_iload_n hx hb dX1_skipFits_22 rfl (lv_at hl 2 rfl) ?_
        refine lv_aload_n hx hb dX1_skipFits_23 rfl (lv_at hl 1 rfl) ?_
        refine g1_my hc hw dX1_skipFits_24 ?_
        refine lv_iload_n hx hb dX1_skipFits_27 rfl (lv_at hl 2 rfl) ?_
        refine l1_my (j := q) hc hw (pf_ixn (by omega) (by decide)) dX1_skipFits_28 ?_
        refine lv_iadd hx hb dX1_skipFits_29 ?_
        refine pf_top (nI (q + y)) (by rw [hy]; exact nI_add _ _) ?_
        refine lv_icmp_gt (tgt := 52) hx hb dX1_skipFits_30 (by decide) (fun c30 => absurd ((nI_ltI (by omega) (by omega)).mp c30) (by omega)) (fun c30 => ?_)
        refine lv_aload_n hx hb dX1_skipFits_33 rfl (lv_at hl 1 rfl) ?_
        refine g1_mo hc hw dX1_skipFits_34 ?_
        refine lv_iload_n hx hb dX1_skipFits_37 rfl (lv_at hl 0 rfl) ?_
        refine l1_mo (j := k) hc hw (pf_ixn (by omega) (by decide)) dX1_skipFits_38 ?_
        refine lv_bipush (v := 9) hx hb dX1_skipFits_39 (by decide) ?_
        refine lv_icmp_lt (tgt := 46) hx hb dX1_skipFits_41 (by decide) (fun c41 => ?_) (fun c41 => ?_)
        · refine lv_iinc (v := nI (k + 1)) (lv' := [(2, .int (nI (k + 1))), (0, .ref (a 0)), (1, .int (nI q))]) hx hb dX1_skipFits_46 hl (k := 0) rfl (nI_1 _) (by decide) rfl (fun ls hl => ?_)
          refine lv_goto (tgt := 21) hx hb dX1_skipFits_49 (by decide) ?_
          exact ih (k + 1) _ _ ls (by omega) (by omega) (fun j h1 h2 => by rcases Nat.lt_or_ge j k with h | h; (exact hg j h1 h); (obtain rfl : j = k := by omega); exact pf_lt9 c41) hw (lv_sub hl [0, 1, 2] rfl)
        · refine lv_iconst (v := 0) hx hb dX1_skipFits_44 (by decide) ?_
          exact pf_retZ hc () hw hr hlk (by decide) (pf_tf0 (fun h => pf_ge9 (hop k (by omega)) c41 (h.2 k (by omega) (by omega)))) dX1_skipFits_45
    exact lp y (q + 1) _ _ ls (by omega) (Nat.le_refl _) (fun j h1 h2 => absurd h2 (by omega)) hw (lv_sub hl [0, 1, 2] rfl)
  · have c12 : ¬ q + y < n0 := mt (nI_ltI (by omega) (by omega)).mpr c12
    refine lv_iconst (v := 0) hx hb dX1_skipFits_15 (by decide) ?_
    exact pf_retZ hc () hw hr hlk (by decide) (pf_tf0 (fun h => c12 h.1)) dX1_skipFits_16
set_option maxHeartbeats 4000000 in
/-- sound -/
theorem k1_sound (l : Launch) (D : va_G) (a : Nat → Nat) (d : Nat → ClassId) (mo mx my mz mc mr ml : Nat → Int32) (nn : Int32) (n0 : Nat) (hn : n0 ≤ 30) (hln : nn = nI n0) (hwf : ∀ p, p < n0 → pf_ok (mo p) (mx p) (my p) (mz p)) : pf_KI l D (tyM d) yX1_sound cX1_sound 3 (some .boolean) 1 22 [.ref (a 0)] (wM a d nn mo mx my mz mc mr ml) (S := Unit) (fun r _ => pf_tf r (pf_sound n0 mo my)) (fun _ => wM a d nn mo mx my mz mc mr ml) := by
  subst hln
  refine pf_entI RX1 (by decide) rfl (Nat.le_of_ble_eq_true rfl) ?_
  intro p e s m below meth c A ls hc hw hA hr hlk hl
  have hx := hc.1.1
  have hb := hc.1.2.1
  have hl : lv_has ls 3 [(0, .ref (a 0))] := hl
  refine lv_iconst (v := 0) hx hb dX1_sound_0 (by decide) ?_
  refine lv_istore_n (lv' := [(1, .int 0), (0, .ref (a 0))]) hx hb dX1_sound_1 rfl hl (by decide) rfl (fun ls hl => ?_)
  refine lv_iconst (v := 0) hx hb dX1_sound_2 (by decide) ?_
  refine lv_istore_n (lv' := [(2, .int 0), (1, .int 0), (0, .ref (a 0))]) hx hb dX1_sound_3 rfl hl (by decide) rfl (fun ls hl => ?_)
  have lp : ∀ (n k : Nat) (e0 : Nat) (H : Heap) (locs : List Loc) (ls : Array Slot), k + n = n0 → e0 ≤ 2 → ((e0 : Int) = pf_dep mo k) → pf_sofar n0 mo my k → pf_H D A s (wM a d (nI n0) mo mx my mz mc mr ml) H locs → lv_has ls 3 [(2, .int (nI k)), (1, .int (nI e0)), (0, .ref (a 0))] → W p l e { frames := 1, cells := 0, slots := 0, locals := 22 } s m ([.ref (a 0)] : List Value).toArray below meth c H locs 0 0 (MQ below (va_Qi (S := Unit) (fun r _ => pf_tf r (pf_sound n0 mo my)) (fun u t => pf_at D (tyM d) A ((fun _ => wM a d (nI n0) mo mx my mz mc mr ml) u) t) A) ([.ref (a 0)] : List Value).toArray s 0 0 A) (F0 m 4 ls []) := by
    intro n
    induction n with
    | zero =>
      intro k e0 H locs ls hk he2 he hg hw hl
      obtain rfl : k = n0 := by omega
      refine lv_iload_n hx hb dX1_sound_4 rfl (lv_at hl 0 rfl) ?_
      refine lv_aload_n hx hb dX1_sound_5 rfl (lv_at hl 2 rfl) ?_
      refine g1_nn hc hw dX1_sound_6 ?_
      refine lv_icmp_ge (tgt := 78) hx hb dX1_sound_9 (by decide) (fun c9 => ?_) (fun c9 => absurd (Int32.le_refl _) c9)
      refine lv_iload_n hx hb dX1_sound_78 rfl (lv_at hl 1 rfl) ?_
      refine lv_if_ne (tgt := 86) hx hb dX1_sound_79 (by decide) (fun c79 => ?_) (fun c79 => ?_)
      · refine lv_iconst (v := 0) hx hb dX1_sound_86 (by decide) ?_
        exact pf_retZ hc () hw hr hlk (by decide) (pf_tf0 (fun h => c79 (by have h2 := h.2; rw [← he] at h2; rw [show e0 = 0 by omega]; rfl))) dX1_sound_87
      · refine lv_iconst (v := 1) hx hb dX1_sound_82 (by decide) ?_
        refine lv_goto (tgt := 87) hx hb dX1_sound_83 (by decide) ?_
        exact pf_retZ hc () hw hr hlk (by decide) (pf_tf1 ⟨hg, by rw [← he, (nI_eq (b := 0) (by omega) (by decide)).mp c79]; rfl⟩) dX1_sound_87
    | succ n ih =>
      intro k e0 H locs ls hk he2 he hg hw hl
      have hkn : k < n0 := by omega
      refine lv_iload_n hx hb dX1_sound_4 rfl (lv_at hl 0 rfl) ?_
      refine lv_aload_n hx hb dX1_sound_5 rfl (lv_at hl 2 rfl) ?_
      refine g1_nn hc hw dX1_sound_6 ?_
      refine lv_icmp_ge (tgt := 78) hx hb dX1_sound_9 (by decide) (fun c9 => absurd ((nI_leI (by omega) (by omega)).mp c9) (by omega)) (fun c9 => ?_)
      refine lv_aload_n hx hb dX1_sound_12 rfl (lv_at hl 2 rfl) ?_
      refine g1_mo hc hw dX1_sound_13 ?_
      refine lv_iload_n hx hb dX1_sound_16 rfl (lv_at hl 0 rfl) ?_
      refine l1_mo (j := k) hc hw (pf_ixn (by omega) (by decide)) dX1_sound_17 ?_
      refine lv_bipush (v := 9) hx hb dX1_sound_18 (by decide) ?_
      refine lv_icmp_ne (tgt := 26) hx hb dX1_sound_20 (by decide) (fun c20 => ?_) (fun c20 => ?_)
      · refine lv_aload_n hx hb dX1_sound_26 rfl (lv_at hl 2 rfl) ?_
        refine g1_mo hc hw dX1_sound_27 ?_
        refine lv_iload_n hx hb dX1_sound_30 rfl (lv_at hl 0 rfl) ?_
        refine l1_mo (j := k) hc hw (pf_ixn (by omega) (by decide)) dX1_sound_31 ?_
        refine lv_bipush (v := 10) hx hb dX1_sound_32 (by decide) ?_
        refine lv_icmp_ne (tgt := 40) hx hb dX1_sound_34 (by decide) (fun c34 => ?_) (fun c34 => ?_)
        · have hdp : pf_dep mo (k + 1) = (e0 : Int) := by show pf_dep mo k + _ - _ = _; rw [if_neg c20, if_neg c34, ← he]; omega
          refine lv_iload_n hx hb dX1_sound_40 rfl (lv_at hl 1 rfl) ?_
          refine lv_if_lt (tgt := 49) hx hb dX1_sound_41 (by decide) (fun c41 => absurd c41 (nI_pos (by omega))) (fun c41 => ?_)
          refine lv_iload_n hx hb dX1_sound_44 rfl (lv_at hl 1 rfl) ?_
          refine lv_iconst (v := 2) hx hb dX1_sound_45 (by decide) ?_
          refine lv_icmp_le (tgt := 51) hx hb dX1_sound_46 (by decide) (fun c46 => ?_) (fun c46 => absurd ((nI_leI (b := 2) (by omega) (by decide)).mpr (by omega)) c46)
          refine lv_aload_n hx hb dX1_sound_51 rfl (lv_at hl 2 rfl) ?_
          refine g1_mo hc hw dX1_sound_52 ?_
          refine lv_iload_n hx hb dX1_sound_55 rfl (lv_at hl 0 rfl) ?_
          refine l1_mo (j := k) hc hw (pf_ixn (by omega) (by decide)) dX1_sound_56 ?_
          refine lv_bipush (v := 8) hx hb dX1_sound_57 (by decide) ?_
          refine lv_icmp_ne (tgt := 72) hx hb dX1_sound_59 (by decide) (fun c59 => ?_) (fun c59 => ?_)
          · refine lv_iinc (v := nI (k + 1)) (lv' := [(2, .int (nI (k + 1))), (1, .int (nI e0)), (0, .ref (a 0))]) hx hb dX1_sound_72 hl (k := 0) rfl (nI_1 _) (by decide) rfl (fun ls hl => ?_)
            refine lv_goto (tgt := 4) hx hb dX1_sound_75 (by decide) ?_
            exact ih (k + 1) e0 _ _ ls (by omega) (by omega) (by omega) (pf_sofar_s hg (by omega) (by omega) (fun h => absurd h c59)) hw (lv_sub hl [0, 1, 2] rfl)
          · obtain ⟨y, hy, hy6, hy2⟩ := pf_ok8 (hwf k hkn) c59
            refine lv_aload_n hx hb dX1_sound_62 rfl (lv_at hl 2 rfl) ?_
            refine lv_iload_n hx hb dX1_sound_63 rfl (lv_at hl 0 rfl) ?_
            refine pf_callI [.int (nI k)] hc hw hA (k1_skipFits l D a d mo mx my mz mc mr ml (nI n0) k y n0 hkn hn rfl hy hy6 (fun p hp => (hwf p hp).1)) (cwV 1 hc.1.2.2.2.2 (lw_V q240 q242 qs18 q23 q243) rfl rfl rfl (by decide +kernel) ⟨Nat.le_of_ble_eq_true rfl, Nat.le_of_ble_eq_true rfl⟩) (ci := 1) (T := TX1) (N := 8) rfl rfl rfl hl.1 rfl (Nat.le_of_ble_eq_true rfl) dX1_sound_64 ⟨Nat.zero_le _, Nat.zero_le _⟩ (fun r64 _ H locs hp64 hw => ?_)
            refine lv_if_ne (tgt := 72) hx hb dX1_sound_67 (by decide) (fun c67 => ?_) (fun c67 => ?_)
            · have c67 := pf_tf_yes hp64 c67
              refine lv_iinc (v := nI (k + 1)) (lv' := [(2, .int (nI (k + 1))), (1, .int (nI e0)), (0, .ref (a 0))]) hx hb dX1_sound_72 hl (k := 0) rfl (nI_1 _) (by decide) rfl (fun ls hl => ?_)
              refine lv_goto (tgt := 4) hx hb dX1_sound_75 (by decide) ?_
              exact ih (k + 1) e0 _ _ ls (by omega) (by omega) (by omega) (pf_sofar_s hg (by omega) (by omega) (fun _ => by rw [hy2]; exact c67)) hw (lv_sub hl [0, 1, 2] rfl)
            · have c67 := pf_tf_no hp64 c67
              refine lv_iconst (v := 0) hx hb dX1_sound_70 (by decide) ?_
              exact pf_retZ hc () hw hr hlk (by decide) (pf_tf0 (fun h => c67 (by rw [← hy2]; exact (h.1 k hkn).2.2 c59))) dX1_sound_71
        · have hdp : pf_dep mo (k + 1) = (e0 : Int) - 1 := by show pf_dep mo k + _ - _ = _; rw [if_neg c20, if_pos c34, ← he]; omega
          refine lv_iinc (v := nI e0 + (-1)) (lv' := [(1, .int (nI e0 + (-1))), (2, .int (nI k)), (0, .ref (a 0))]) hx hb dX1_sound_37 hl (k := 1) rfl rfl (by decide) rfl (fun ls hl => ?_)
          refine lv_iload_n hx hb dX1_sound_40 rfl (lv_at hl 0 rfl) ?_
          refine lv_if_lt (tgt := 49) hx hb dX1_sound_41 (by decide) (fun c41 => ?_) (fun c41 => ?_)
          · have he0 : e0 = 0 := by
              rcases Nat.eq_zero_or_pos e0 with q | q
              · exact q
              · exact absurd c41 (by rw [sb_m1 q]; exact nI_pos (by omega))
            refine lv_iconst (v := 0) hx hb dX1_sound_49 (by decide) ?_
            exact pf_retZ hc () hw hr hlk (by decide) (pf_tf0 (fun h => by have h1 := h.1 k hkn; rw [hdp] at h1; omega)) dX1_sound_50
          · have he0 : 0 < e0 := by
              rcases Nat.eq_zero_or_pos e0 with q | q
              · rw [q] at c41; exact absurd (by decide) c41
              · exact q
            refine lv_iload_n hx hb dX1_sound_44 rfl (lv_at hl 0 rfl) ?_
            refine lv_iconst (v := 2) hx hb dX1_sound_45 (by decide) ?_
            refine lv_icmp_le (tgt := 51) hx hb dX1_sound_46 (by decide) (fun c46 => ?_) (fun c46 => absurd (by rw [sb_m1 he0]; exact (nI_leI (b := 2) (by omega) (by decide)).mpr (by omega)) c46)
            refine lv_aload_n hx hb dX1_sound_51 rfl (lv_at hl 2 rfl) ?_
            refine g1_mo hc hw dX1_sound_52 ?_
            refine lv_iload_n hx hb dX1_sound_55 rfl (lv_at hl 1 rfl) ?_
            refine l1_mo (j := k) hc hw (pf_ixn (by omega) (by decide)) dX1_sound_56 ?_
            refine lv_bipush (v := 8) hx hb dX1_sound_57 (by decide) ?_
            refine lv_icmp_ne (tgt := 72) hx hb dX1_sound_59 (by decide) (fun c59 => ?_) (fun c59 => absurd (c34.symm.trans c59) (by decide))
            refine lv_iinc (v := nI (k + 1)) (lv' := [(2, .int (nI (k + 1))), (1, .int (nI e0 + (-1))), (0, .ref (a 0))]) hx hb dX1_sound_72 hl (k := 1) rfl (nI_1 _) (by decide) rfl (fun ls hl => ?_)
            refine lv_goto (tgt := 4) hx hb dX1_sound_75 (by decide) ?_
            have hl : lv_has ls 3 [(2, .int (nI (k + 1))), (1, .int (nI (e0 - 1))), (0, .ref (a 0))] := by rw [← sb_m1 he0]; exact lv_sub hl [0, 1, 2] rfl
            exact ih (k + 1) (e0 - 1) _ _ ls (by omega) (by omega) (by omega) (pf_sofar_s hg (by omega) (by omega) (fun h => absurd (c34.symm.trans h) (by decide))) hw hl
      · have hdp : pf_dep mo (k + 1) = (e0 : Int) + 1 := by show pf_dep mo k + _ - _ = _; rw [if_pos c20, if_neg (by rw [c20]; decide), ← he]; omega
        refine lv_iinc (v := nI (e0 + 1)) (lv' := [(1, .int (nI (e0 + 1))), (2, .int (nI k)), (0, .ref (a 0))]) hx hb dX1_sound_23 hl (k := 1) rfl (nI_1 _) (by decide) rfl (fun ls hl => ?_)
        refine lv_aload_n hx hb dX1_sound_26 rfl (lv_at hl 2 rfl) ?_
        refine g1_mo hc hw dX1_sound_27 ?_
        refine lv_iload_n hx hb dX1_sound_30 rfl (lv_at hl 1 rfl) ?_
        refine l1_mo (j := k) hc hw (pf_ixn (by omega) (by decide)) dX1_sound_31 ?_
        refine lv_bipush (v := 10) hx hb dX1_sound_32 (by decide) ?_
        refine lv_icmp_ne (tgt := 40) hx hb dX1_sound_34 (by decide) (fun c34 => ?_) (fun c34 => absurd (c20.symm.trans c34) (by decide))
        refine lv_iload_n hx hb dX1_sound_40 rfl (lv_at hl 0 rfl) ?_
        refine lv_if_lt (tgt := 49) hx hb dX1_sound_41 (by decide) (fun c41 => absurd c41 (nI_pos (by omega))) (fun c41 => ?_)
        refine lv_iload_n hx hb dX1_sound_44 rfl (lv_at hl 0 rfl) ?_
        refine lv_iconst (v := 2) hx hb dX1_sound_45 (by decide) ?_
        refine lv_icmp_le (tgt := 51) hx hb dX1_sound_46 (by decide) (fun c46 => ?_) (fun c46 => ?_)
        · have c46 := (nI_leI (b := 2) (by omega) (by decide)).mp c46
          refine lv_aload_n hx hb dX1_sound_51 rfl (lv_at hl 2 rfl) ?_
          refine g1_mo hc hw dX1_sound_52 ?_
          refine lv_iload_n hx hb dX1_sound_55 rfl (lv_at hl 1 rfl) ?_
          refine l1_mo (j := k) hc hw (pf_ixn (by omega) (by decide)) dX1_sound_56 ?_
          refine lv_bipush (v := 8) hx hb dX1_sound_57 (by decide) ?_
          refine lv_icmp_ne (tgt := 72) hx hb dX1_sound_59 (by decide) (fun c59 => ?_) (fun c59 => absurd (c20.symm.trans c59) (by decide))
          refine lv_iinc (v := nI (k + 1)) (lv' := [(2, .int (nI (k + 1))), (1, .int (nI (e0 + 1))), (0, .ref (a 0))]) hx hb dX1_sound_72 hl (k := 1) rfl (nI_1 _) (by decide) rfl (fun ls hl => ?_)
          refine lv_goto (tgt := 4) hx hb dX1_sound_75 (by decide) ?_
          exact ih (k + 1) (e0 + 1) _ _ ls (by omega) (by omega) (by omega) (pf_sofar_s hg (by omega) (by omega) (fun h => absurd (c20.symm.trans h) (by decide))) hw (lv_sub hl [0, 1, 2] rfl)
        · have c46 := mt (nI_leI (b := 2) (by omega) (by decide)).mpr c46
          refine lv_iconst (v := 0) hx hb dX1_sound_49 (by decide) ?_
          exact pf_retZ hc () hw hr hlk (by decide) (pf_tf0 (fun h => by have h1 := h.1 k hkn; rw [hdp] at h1; omega)) dX1_sound_50
  exact lp n0 0 0 _ _ ls (by omega) (by decide) rfl (fun p h => absurd h (by omega)) hw (lv_sub hl [0, 1, 2] rfl)
set_option maxHeartbeats 4000000 in
/-- openerOf: the place s0 where the loop that ends at q begins -/
theorem k1_openerOf (l : Launch) (D : va_G) (a : Nat → Nat) (d : Nat → ClassId) (mo mx my mz mc mr ml : Nat → Int32) (nn : Int32) (q s0 : Nat) (hq : q < 30) (hs : pf_opener mo q s0) : pf_KI l D (tyM d) yX1_openerOf cX1_openerOf 4 (some .int) 0 0 [.ref (a 0), .int (nI q)] (wM a d nn mo mx my mz mc mr ml) (S := Unit) (fun r _ => r = nI s0) (fun _ => wM a d nn mo mx my mz mc mr ml) := by
  have hsq := hs.1
  have hse := hs.2.1
  refine pf_entI RX1 (by decide) rfl (Nat.le_of_ble_eq_true rfl) ?_
  intro p e s m below meth c A ls hc hw hA hr hlk hl
  have hx := hc.1.1
  have hb := hc.1.2.1
  have hl : lv_has ls 4 [(0, .ref (a 0)), (1, .int (nI q))] := hl
  refine lv_iconst (v := 0) hx hb dX1_openerOf_0 (by decide) ?_
  refine lv_istore_n (lv' := [(2, .int 0), (0, .ref (a 0)), (1, .int (nI q))]) hx hb dX1_openerOf_1 rfl hl (by decide) rfl (fun ls hl => ?_)
  refine lv_iload_n hx hb dX1_openerOf_2 rfl (lv_at hl 2 rfl) ?_
  refine lv_istore_n (lv' := [(3, .int (nI q)), (2, .int 0), (0, .ref (a 0)), (1, .int (nI q))]) hx hb dX1_openerOf_3 rfl hl (by decide) rfl (fun ls hl => ?_)
  have lp : ∀ (n k : Nat) (e0 : Nat) (H : Heap) (locs : List Loc) (ls : Array Slot), k = s0 + n → k ≤ q → e0 ≤ 2 → ((e0 : Int) = pf_dep mo (k + 1) - pf_dep mo (q + 1)) → pf_H D A s (wM a d nn mo mx my mz mc mr ml) H locs → lv_has ls 4 [(3, .int (nI k)), (2, .int (nI e0)), (1, .int (nI q)), (0, .ref (a 0))] → W p l e { frames := 0, cells := 0, slots := 0, locals := 0 } s m ([.ref (a 0), .int (nI q)] : List Value).toArray below meth c H locs 0 0 (MQ below (va_Qi (S := Unit) (fun r _ => r = nI s0) (fun u t => pf_at D (tyM d) A ((fun _ => wM a d nn mo mx my mz mc mr ml) u) t) A) ([.ref (a 0), .int (nI q)] : List Value).toArray s 0 0 A) (F0 m 4 ls []) := by
    intro n
    induction n with
    | zero =>
      intro k e0 H locs ls hk hkq he2 he hw hl
      obtain rfl : k = s0 := by omega
      have hd0 := (hs.2.2.2 k (by omega)).1
      refine lv_iload_n hx hb dX1_openerOf_4 rfl (lv_at hl 0 rfl) ?_
      refine lv_if_lt (tgt := 48) hx hb dX1_openerOf_5 (by decide) (fun c5 => absurd c5 (nI_pos (by omega))) (fun c5 => ?_)
      refine lv_aload_n hx hb dX1_openerOf_8 rfl (lv_at hl 3 rfl) ?_
      refine g1_mo hc hw dX1_openerOf_9 ?_
      refine lv_iload_n hx hb dX1_openerOf_12 rfl (lv_at hl 0 rfl) ?_
      refine l1_mo (j := k) hc hw (pf_ixn (by omega) (by decide)) dX1_openerOf_13 ?_
      refine lv_bipush (v := 10) hx hb dX1_openerOf_14 (by decide) ?_
      refine lv_icmp_ne (tgt := 22) hx hb dX1_openerOf_16 (by decide) (fun c16 => ?_) (fun c16 => ?_)
      · refine lv_aload_n hx hb dX1_openerOf_22 rfl (lv_at hl 3 rfl) ?_
        refine g1_mo hc hw dX1_openerOf_23 ?_
        refine lv_iload_n hx hb dX1_openerOf_26 rfl (lv_at hl 0 rfl) ?_
        refine l1_mo (j := k) hc hw (pf_ixn (by omega) (by decide)) dX1_openerOf_27 ?_
        refine lv_bipush (v := 9) hx hb dX1_openerOf_28 (by decide) ?_
        refine lv_icmp_ne (tgt := 36) hx hb dX1_openerOf_30 (by decide) (fun c30 => ?_) (fun c30 => ?_)
        · have hdp : pf_dep mo (k + 1) = pf_dep mo k := by show pf_dep mo k + _ - _ = _; rw [if_neg c30, if_neg c16]; omega
          refine lv_iload_n hx hb dX1_openerOf_36 rfl (lv_at hl 1 rfl) ?_
          refine lv_if_ne (tgt := 42) hx hb dX1_openerOf_37 (by decide) (fun c37 => absurd (by rw [show e0 = 0 by omega]; rfl) c37) (fun c37 => ?_)
          refine lv_iload_n hx hb dX1_openerOf_40 rfl (lv_at hl 0 rfl) ?_
          exact pf_retI hc () hw hr hlk rfl dX1_openerOf_41
        · have hdp : pf_dep mo (k + 1) = pf_dep mo k + 1 := by show pf_dep mo k + _ - _ = _; rw [if_pos c30, if_neg c16]; omega
          refine lv_iinc (v := nI (e0 - 1)) (lv' := [(2, .int (nI (e0 - 1))), (3, .int (nI k)), (1, .int (nI q)), (0, .ref (a 0))]) hx hb dX1_openerOf_33 hl (k := 1) rfl (sb_m1 (by omega)) (by decide) rfl (fun ls hl => ?_)
          refine lv_iload_n hx hb dX1_openerOf_36 rfl (lv_at hl 0 rfl) ?_
          refine lv_if_ne (tgt := 42) hx hb dX1_openerOf_37 (by decide) (fun c37 => absurd (by rw [show e0 - 1 = 0 by omega]; rfl) c37) (fun c37 => ?_)
          refine lv_iload_n hx hb dX1_openerOf_40 rfl (lv_at hl 1 rfl) ?_
          exact pf_retI hc () hw hr hlk rfl dX1_openerOf_41
      · have hdp : pf_dep mo (k + 1) = pf_dep mo k - 1 := by show pf_dep mo k + _ - _ = _; rw [if_neg (by rw [c16]; decide), if_pos c16]; omega
        refine lv_iinc (v := nI (e0 + 1)) (lv' := [(2, .int (nI (e0 + 1))), (3, .int (nI k)), (1, .int (nI q)), (0, .ref (a 0))]) hx hb dX1_openerOf_19 hl (k := 1) rfl (nI_1 _) (by decide) rfl (fun ls hl => ?_)
        refine lv_aload_n hx hb dX1_openerOf_22 rfl (lv_at hl 3 rfl) ?_
        refine g1_mo hc hw dX1_openerOf_23 ?_
        refine lv_iload_n hx hb dX1_openerOf_26 rfl (lv_at hl 1 rfl) ?_
        refine l1_mo (j := k) hc hw (pf_ixn (by omega) (by decide)) dX1_openerOf_27 ?_
        refine lv_bipush (v := 9) hx hb dX1_openerOf_28 (by decide) ?_
        refine lv_icmp_ne (tgt := 36) hx hb dX1_openerOf_30 (by decide) (fun c30 => ?_) (fun c30 => absurd (c16.symm.trans c30) (by decide))
        refine lv_iload_n hx hb dX1_openerOf_36 rfl (lv_at hl 0 rfl) ?_
        refine lv_if_ne (tgt := 42) hx hb dX1_openerOf_37 (by decide) (fun c37 => absurd (by rw [show e0 + 1 = 0 by omega]; rfl) c37) (fun c37 => ?_)
        refine lv_iload_n hx hb dX1_openerOf_40 rfl (lv_at hl 1 rfl) ?_
        exact pf_retI hc () hw hr hlk rfl dX1_openerOf_41
    | succ n ih =>
      intro k e0 H locs ls hk hkq he2 he hw hl
      have hgt := hs.2.2.1 k (by omega) (by omega)
      have hd0 := hs.2.2.2 k (by omega)
      have hd1 := hs.2.2.2 (q + 1) (by omega)
      refine lv_iload_n hx hb dX1_openerOf_4 rfl (lv_at hl 0 rfl) ?_
      refine lv_if_lt (tgt := 48) hx hb dX1_openerOf_5 (by decide) (fun c5 => absurd c5 (nI_pos (by omega))) (fun c5 => ?_)
      refine lv_aload_n hx hb dX1_openerOf_8 rfl (lv_at hl 3 rfl) ?_
      refine g1_mo hc hw dX1_openerOf_9 ?_
      refine lv_iload_n hx hb dX1_openerOf_12 rfl (lv_at hl 0 rfl) ?_
      refine l1_mo (j := k) hc hw (pf_ixn (by omega) (by decide)) dX1_openerOf_13 ?_
      refine lv_bipush (v := 10) hx hb dX1_openerOf_14 (by decide) ?_
      refine lv_icmp_ne (tgt := 22) hx hb dX1_openerOf_16 (by decide) (fun c16 => ?_) (fun c16 => ?_)
      · refine lv_aload_n hx hb dX1_openerOf_22 rfl (lv_at hl 3 rfl) ?_
        refine g1_mo hc hw dX1_openerOf_23 ?_
        refine lv_iload_n hx hb dX1_openerOf_26 rfl (lv_at hl 0 rfl) ?_
        refine l1_mo (j := k) hc hw (pf_ixn (by omega) (by decide)) dX1_openerOf_27 ?_
        refine lv_bipush (v := 9) hx hb dX1_openerOf_28 (by decide) ?_
        refine lv_icmp_ne (tgt := 36) hx hb dX1_openerOf_30 (by decide) (fun c30 => ?_) (fun c30 => ?_)
        · have hdp : pf_dep mo (k + 1) = pf_dep mo k := by show pf_dep mo k + _ - _ = _; rw [if_neg c30, if_neg c16]; omega
          refine lv_iload_n hx hb dX1_openerOf_36 rfl (lv_at hl 1 rfl) ?_
          refine lv_if_ne (tgt := 42) hx hb dX1_openerOf_37 (by decide) (fun c37 => ?_) (fun c37 => absurd c37 (nI_ne0 (n := e0) (by omega) (by omega)))
          refine lv_iinc (v := nI (k - 1)) (lv' := [(3, .int (nI (k - 1))), (2, .int (nI e0)), (1, .int (nI q)), (0, .ref (a 0))]) hx hb dX1_openerOf_42 hl (k := 0) rfl (sb_m1 (by omega)) (by decide) rfl (fun ls hl => ?_)
          refine lv_goto (tgt := 4) hx hb dX1_openerOf_45 (by decide) ?_
          exact ih (k - 1) (e0) _ _ ls (by omega) (by omega) (by omega) (by rw [show k - 1 + 1 = k by omega]; omega) hw (lv_sub hl [0, 1, 2, 3] rfl)
        · have hdp : pf_dep mo (k + 1) = pf_dep mo k + 1 := by show pf_dep mo k + _ - _ = _; rw [if_pos c30, if_neg c16]; omega
          refine lv_iinc (v := nI (e0 - 1)) (lv' := [(2, .int (nI (e0 - 1))), (3, .int (nI k)), (1, .int (nI q)), (0, .ref (a 0))]) hx hb dX1_openerOf_33 hl (k := 1) rfl (sb_m1 (by omega)) (by decide) rfl (fun ls hl => ?_)
          refine lv_iload_n hx hb dX1_openerOf_36 rfl (lv_at hl 0 rfl) ?_
          refine lv_if_ne (tgt := 42) hx hb dX1_openerOf_37 (by decide) (fun c37 => ?_) (fun c37 => absurd c37 (nI_ne0 (n := e0 - 1) (by omega) (by omega)))
          refine lv_iinc (v := nI (k - 1)) (lv' := [(3, .int (nI (k - 1))), (2, .int (nI (e0 - 1))), (1, .int (nI q)), (0, .ref (a 0))]) hx hb dX1_openerOf_42 hl (k := 1) rfl (sb_m1 (by omega)) (by decide) rfl (fun ls hl => ?_)
          refine lv_goto (tgt := 4) hx hb dX1_openerOf_45 (by decide) ?_
          exact ih (k - 1) (e0 - 1) _ _ ls (by omega) (by omega) (by omega) (by rw [show k - 1 + 1 = k by omega]; omega) hw (lv_sub hl [0, 1, 2, 3] rfl)
      · have hdp : pf_dep mo (k + 1) = pf_dep mo k - 1 := by show pf_dep mo k + _ - _ = _; rw [if_neg (by rw [c16]; decide), if_pos c16]; omega
        refine lv_iinc (v := nI (e0 + 1)) (lv' := [(2, .int (nI (e0 + 1))), (3, .int (nI k)), (1, .int (nI q)), (0, .ref (a 0))]) hx hb dX1_openerOf_19 hl (k := 1) rfl (nI_1 _) (by decide) rfl (fun ls hl => ?_)
        refine lv_aload_n hx hb dX1_openerOf_22 rfl (lv_at hl 3 rfl) ?_
        refine g1_mo hc hw dX1_openerOf_23 ?_
        refine lv_iload_n hx hb dX1_openerOf_26 rfl (lv_at hl 1 rfl) ?_
        refine l1_mo (j := k) hc hw (pf_ixn (by omega) (by decide)) dX1_openerOf_27 ?_
        refine lv_bipush (v := 9) hx hb dX1_openerOf_28 (by decide) ?_
        refine lv_icmp_ne (tgt := 36) hx hb dX1_openerOf_30 (by decide) (fun c30 => ?_) (fun c30 => absurd (c16.symm.trans c30) (by decide))
        refine lv_iload_n hx hb dX1_openerOf_36 rfl (lv_at hl 0 rfl) ?_
        refine lv_if_ne (tgt := 42) hx hb dX1_openerOf_37 (by decide) (fun c37 => ?_) (fun c37 => absurd c37 (nI_ne0 (n := e0 + 1) (by omega) (by omega)))
        refine lv_iinc (v := nI (k - 1)) (lv' := [(3, .int (nI (k - 1))), (2, .int (nI (e0 + 1))), (1, .int (nI q)), (0, .ref (a 0))]) hx hb dX1_openerOf_42 hl (k := 1) rfl (sb_m1 (by omega)) (by decide) rfl (fun ls hl => ?_)
        refine lv_goto (tgt := 4) hx hb dX1_openerOf_45 (by decide) ?_
        exact ih (k - 1) (e0 + 1) _ _ ls (by omega) (by omega) (by omega) (by rw [show k - 1 + 1 = k by omega]; omega) hw (lv_sub hl [0, 1, 2, 3] rfl)
  exact lp (q - s0) q 0 _ _ ls (by have := hs.1; omega) (Nat.le_refl _) (by decide) (by omega) hw (lv_sub hl [0, 1, 3, 2] rfl)
end
section
set_option maxRecDepth 100000
theorem pf_ok12 {o x y z : Int32} (h : pf_ok o x y z) (e : o = 4 ∨ o = 5) : vp_in y 12 := by
  have h2 := h.2
  unfold pf_fits at h2
  rw [if_neg (by rcases e with rfl | rfl <;> decide), if_neg (by rcases e with rfl | rfl <;> decide), if_neg (by rcases e with rfl | rfl <;> decide), if_pos e] at h2
  exact pf_in_vp (t := 11) (by decide) ⟨h2.2.1, h2.2.2⟩
def pf_mreg (mo mx my mz : Nat → Int32) (q : Nat) (mc mr : Nat → Int32) : Nat → Int32 :=
  if mo q = 0 then upd mr (pf_n (mx q)) (my q) else if mo q = 1 then upd mr (pf_n (mx q)) (mr (pf_n (my q)) + mr (pf_n (mz q))) else if mo q = 2 then upd mr (pf_n (mx q)) (mr (pf_n (my q)) - mr (pf_n (mz q))) else if mo q = 3 then upd mr (pf_n (mx q)) (mr (pf_n (my q)) * mr (pf_n (mz q)))
  else if mo q = 4 then upd mr (pf_n (mx q)) (mc (pf_n (my q))) else if mo q = 6 then upd mr (pf_n (mx q)) (mc (pf_n (mr (pf_n (my q)) &&& 7))) else mr
def pf_mcel (mo mx my : Nat → Int32) (q : Nat) (mc mr : Nat → Int32) : Nat → Int32 :=
  if mo q = 5 then upd mc (pf_n (my q)) (mr (pf_n (mx q))) else if mo q = 7 then upd mc (pf_n (mr (pf_n (my q)) &&& 7)) (mr (pf_n (mx q))) else mc
def pf_mlef (mo mx : Nat → Int32) (q s0 : Nat) (ml : Nat → Int32) : Nat → Int32 :=
  if mo q = 9 then upd ml q (mx q) else if mo q = 10 then upd ml s0 (ml s0 - 1) else ml
def pf_mret (mo mx my : Nat → Int32) (q s0 : Nat) (mr ml : Nat → Int32) : Int32 :=
  if mo q = 8 then (if 0 < mr (pf_n (mx q)) then nI q + 1 else nI q + my q + 1) else if mo q = 10 then (if ml s0 - 1 ≤ 0 then nI q + 1 else nI s0 + 1) else nI q + 1
set_option maxHeartbeats 4000000 in
/-- step(q) -/
theorem k1_step (l : Launch) (D : va_G) (a : Nat → Nat) (d : Nat → ClassId) (mo mx my mz mc mr ml : Nat → Int32) (nn : Int32) (q s0 : Nat) (hq : q < 30) (hok : pf_ok (mo q) (mx q) (my q) (mz q)) (hop : mo q = 10 → pf_opener mo q s0) : pf_KI l D (tyM d) yX1_step cX1_step 5 (some .int) 1 23 [.ref (a 0), .int (nI q)] (wM a d nn mo mx my mz mc mr ml) (S := (Nat → Int32) × (Nat → Int32) × (Nat → Int32)) (fun r u => r = pf_mret mo mx my q s0 mr ml ∧ u = (pf_mcel mo mx my q mc mr, pf_mreg mo mx my mz q mc mr, pf_mlef mo mx q s0 ml)) (fun u => wM a d nn mo mx my mz u.1 u.2.1 u.2.2) := by
  refine pf_entI RX1 (by decide) rfl (Nat.le_of_ble_eq_true rfl) ?_
  intro p e s m below meth c A ls hc hw hA hr hlk hl
  have hx := hc.1.1
  have hb := hc.1.2.1
  have hl : lv_has ls 5 [(0, .ref (a 0)), (1, .int (nI q))] := hl
  rcases pf_ops hok.1 with ho | ho | ho | ho | ho | ho | ho | ho | ho | ho | ho
  · refine lv_aload_n hx hb dX1_step_0 rfl (lv_at hl 0 rfl) ?_
    refine g1_mx hc hw dX1_step_1 ?_
    refine lv_iload_n hx hb dX1_step_4 rfl (lv_at hl 1 rfl) ?_
    refine l1_mx (j := q) hc hw (pf_ixn hq (by decide)) dX1_step_5 ?_
    refine lv_istore_n (lv' := [(2, .int (mx q)), (0, .ref (a 0)), (1, .int (nI q))]) hx hb dX1_step_6 rfl hl (by decide) rfl (fun ls hl => ?_)
    refine lv_aload_n hx hb dX1_step_7 rfl (lv_at hl 1 rfl) ?_
    refine g1_my hc hw dX1_step_8 ?_
    refine lv_iload_n hx hb dX1_step_11 rfl (lv_at hl 2 rfl) ?_
    refine l1_my (j := q) hc hw (pf_ixn hq (by decide)) dX1_step_12 ?_
    refine lv_istore_n (lv' := [(3, .int (my q)), (2, .int (mx q)), (0, .ref (a 0)), (1, .int (nI q))]) hx hb dX1_step_13 rfl hl (by decide) rfl (fun ls hl => ?_)
    refine lv_aload_n hx hb dX1_step_14 rfl (lv_at hl 2 rfl) ?_
    refine g1_mo hc hw dX1_step_15 ?_
    refine lv_iload_n hx hb dX1_step_18 rfl (lv_at hl 3 rfl) ?_
    refine l1_mo (j := q) hc hw (pf_ixn hq (by decide)) dX1_step_19 ?_
    refine lv_if_ne (tgt := 30) hx hb dX1_step_20 (by decide) (fun c20 => absurd ho c20) (fun c20 => ?_)
    refine lv_aload_n hx hb dX1_step_23 rfl (lv_at hl 2 rfl) ?_
    refine g1_mr hc hw dX1_step_24 ?_
    refine lv_iload_n hx hb dX1_step_27 rfl (lv_at hl 1 rfl) ?_
    refine lv_iload_n hx hb dX1_step_28 rfl (lv_at hl 0 rfl) ?_
    refine s1_mr (j := (pf_n (mx q))) hc hw (pf_ixs (pf_okx hok (by rw [ho]; decide) (by rw [ho]; decide))) dX1_step_29 (fun H locs hw => ?_)
    refine lv_aload_n hx hb dX1_step_30 rfl (lv_at hl 2 rfl) ?_
    refine g1_mo hc hw dX1_step_31 ?_
    refine lv_iload_n hx hb dX1_step_34 rfl (lv_at hl 3 rfl) ?_
    refine l1_mo (j := q) hc hw (pf_ixn hq (by decide)) dX1_step_35 ?_
    refine lv_iconst (v := 1) hx hb dX1_step_36 (by decide) ?_
    refine lv_icmp_ne (tgt := 64) hx hb dX1_step_37 (by decide) (fun c37 => ?_) (fun c37 => absurd (ho.symm.trans c37) (by decide))
    refine lv_aload_n hx hb dX1_step_64 rfl (lv_at hl 2 rfl) ?_
    refine g1_mo hc hw dX1_step_65 ?_
    refine lv_iload_n hx hb dX1_step_68 rfl (lv_at hl 3 rfl) ?_
    refine l1_mo (j := q) hc hw (pf_ixn hq (by decide)) dX1_step_69 ?_
    refine lv_iconst (v := 2) hx hb dX1_step_70 (by decide) ?_
    refine lv_icmp_ne (tgt := 98) hx hb dX1_step_71 (by decide) (fun c71 => ?_) (fun c71 => absurd (ho.symm.trans c71) (by decide))
    refine lv_aload_n hx hb dX1_step_98 rfl (lv_at hl 2 rfl) ?_
    refine g1_mo hc hw dX1_step_99 ?_
    refine lv_iload_n hx hb dX1_step_102 rfl (lv_at hl 3 rfl) ?_
    refine l1_mo (j := q) hc hw (pf_ixn hq (by decide)) dX1_step_103 ?_
    refine lv_iconst (v := 3) hx hb dX1_step_104 (by decide) ?_
    refine lv_icmp_ne (tgt := 132) hx hb dX1_step_105 (by decide) (fun c105 => ?_) (fun c105 => absurd (ho.symm.trans c105) (by decide))
    refine lv_aload_n hx hb dX1_step_132 rfl (lv_at hl 2 rfl) ?_
    refine g1_mo hc hw dX1_step_133 ?_
    refine lv_iload_n hx hb dX1_step_136 rfl (lv_at hl 3 rfl) ?_
    refine l1_mo (j := q) hc hw (pf_ixn hq (by decide)) dX1_step_137 ?_
    refine lv_iconst (v := 4) hx hb dX1_step_138 (by decide) ?_
    refine lv_icmp_ne (tgt := 154) hx hb dX1_step_139 (by decide) (fun c139 => ?_) (fun c139 => absurd (ho.symm.trans c139) (by decide))
    refine lv_aload_n hx hb dX1_step_154 rfl (lv_at hl 2 rfl) ?_
    refine g1_mo hc hw dX1_step_155 ?_
    refine lv_iload_n hx hb dX1_step_158 rfl (lv_at hl 3 rfl) ?_
    refine l1_mo (j := q) hc hw (pf_ixn hq (by decide)) dX1_step_159 ?_
    refine lv_iconst (v := 5) hx hb dX1_step_160 (by decide) ?_
    refine lv_icmp_ne (tgt := 176) hx hb dX1_step_161 (by decide) (fun c161 => ?_) (fun c161 => absurd (ho.symm.trans c161) (by decide))
    refine lv_aload_n hx hb dX1_step_176 rfl (lv_at hl 2 rfl) ?_
    refine g1_mo hc hw dX1_step_177 ?_
    refine lv_iload_n hx hb dX1_step_180 rfl (lv_at hl 3 rfl) ?_
    refine l1_mo (j := q) hc hw (pf_ixn hq (by decide)) dX1_step_181 ?_
    refine lv_bipush (v := 6) hx hb dX1_step_182 (by decide) ?_
    refine lv_icmp_ne (tgt := 207) hx hb dX1_step_184 (by decide) (fun c184 => ?_) (fun c184 => absurd (ho.symm.trans c184) (by decide))
    refine lv_aload_n hx hb dX1_step_207 rfl (lv_at hl 2 rfl) ?_
    refine g1_mo hc hw dX1_step_208 ?_
    refine lv_iload_n hx hb dX1_step_211 rfl (lv_at hl 3 rfl) ?_
    refine l1_mo (j := q) hc hw (pf_ixn hq (by decide)) dX1_step_212 ?_
    refine lv_bipush (v := 7) hx hb dX1_step_213 (by decide) ?_
    refine lv_icmp_ne (tgt := 238) hx hb dX1_step_215 (by decide) (fun c215 => ?_) (fun c215 => absurd (ho.symm.trans c215) (by decide))
    refine lv_aload_n hx hb dX1_step_238 rfl (lv_at hl 2 rfl) ?_
    refine g1_mo hc hw dX1_step_239 ?_
    refine lv_iload_n hx hb dX1_step_242 rfl (lv_at hl 3 rfl) ?_
    refine l1_mo (j := q) hc hw (pf_ixn hq (by decide)) dX1_step_243 ?_
    refine lv_bipush (v := 8) hx hb dX1_step_244 (by decide) ?_
    refine lv_icmp_ne (tgt := 264) hx hb dX1_step_246 (by decide) (fun c246 => ?_) (fun c246 => absurd (ho.symm.trans c246) (by decide))
    refine lv_aload_n hx hb dX1_step_264 rfl (lv_at hl 2 rfl) ?_
    refine g1_mo hc hw dX1_step_265 ?_
    refine lv_iload_n hx hb dX1_step_268 rfl (lv_at hl 3 rfl) ?_
    refine l1_mo (j := q) hc hw (pf_ixn hq (by decide)) dX1_step_269 ?_
    refine lv_bipush (v := 9) hx hb dX1_step_270 (by decide) ?_
    refine lv_icmp_ne (tgt := 282) hx hb dX1_step_272 (by decide) (fun c272 => ?_) (fun c272 => absurd (ho.symm.trans c272) (by decide))
    refine lv_aload_n hx hb dX1_step_282 rfl (lv_at hl 2 rfl) ?_
    refine g1_mo hc hw dX1_step_283 ?_
    refine lv_iload_n hx hb dX1_step_286 rfl (lv_at hl 3 rfl) ?_
    refine l1_mo (j := q) hc hw (pf_ixn hq (by decide)) dX1_step_287 ?_
    refine lv_bipush (v := 10) hx hb dX1_step_288 (by decide) ?_
    refine lv_icmp_ne (tgt := 326) hx hb dX1_step_290 (by decide) (fun c290 => ?_) (fun c290 => absurd (ho.symm.trans c290) (by decide))
    refine lv_iload_n hx hb dX1_step_326 rfl (lv_at hl 3 rfl) ?_
    refine lv_iconst (v := 1) hx hb dX1_step_327 (by decide) ?_
    refine lv_iadd hx hb dX1_step_328 ?_
    exact pf_retI hc (mc, (upd mr (pf_n (mx q)) (my q)), ml) hw hr hlk (by simp [pf_mret, pf_mcel, pf_mreg, pf_mlef, pf_n, ho]) dX1_step_329
  · refine lv_aload_n hx hb dX1_step_0 rfl (lv_at hl 0 rfl) ?_
    refine g1_mx hc hw dX1_step_1 ?_
    refine lv_iload_n hx hb dX1_step_4 rfl (lv_at hl 1 rfl) ?_
    refine l1_mx (j := q) hc hw (pf_ixn hq (by decide)) dX1_step_5 ?_
    refine lv_istore_n (lv' := [(2, .int (mx q)), (0, .ref (a 0)), (1, .int (nI q))]) hx hb dX1_step_6 rfl hl (by decide) rfl (fun ls hl => ?_)
    refine lv_aload_n hx hb dX1_step_7 rfl (lv_at hl 1 rfl) ?_
    refine g1_my hc hw dX1_step_8 ?_
    refine lv_iload_n hx hb dX1_step_11 rfl (lv_at hl 2 rfl) ?_
    refine l1_my (j := q) hc hw (pf_ixn hq (by decide)) dX1_step_12 ?_
    refine lv_istore_n (lv' := [(3, .int (my q)), (2, .int (mx q)), (0, .ref (a 0)), (1, .int (nI q))]) hx hb dX1_step_13 rfl hl (by decide) rfl (fun ls hl => ?_)
    refine lv_aload_n hx hb dX1_step_14 rfl (lv_at hl 2 rfl) ?_
    refine g1_mo hc hw dX1_step_15 ?_
    refine lv_iload_n hx hb dX1_step_18 rfl (lv_at hl 3 rfl) ?_
    refine l1_mo (j := q) hc hw (pf_ixn hq (by decide)) dX1_step_19 ?_
    refine lv_if_ne (tgt := 30) hx hb dX1_step_20 (by decide) (fun c20 => ?_) (fun c20 => absurd (ho.symm.trans c20) (by decide))
    refine lv_aload_n hx hb dX1_step_30 rfl (lv_at hl 2 rfl) ?_
    refine g1_mo hc hw dX1_step_31 ?_
    refine lv_iload_n hx hb dX1_step_34 rfl (lv_at hl 3 rfl) ?_
    refine l1_mo (j := q) hc hw (pf_ixn hq (by decide)) dX1_step_35 ?_
    refine lv_iconst (v := 1) hx hb dX1_step_36 (by decide) ?_
    refine lv_icmp_ne (tgt := 64) hx hb dX1_step_37 (by decide) (fun c37 => absurd ho c37) (fun c37 => ?_)
    refine lv_aload_n hx hb dX1_step_40 rfl (lv_at hl 2 rfl) ?_
    refine g1_mr hc hw dX1_step_41 ?_
    refine lv_iload_n hx hb dX1_step_44 rfl (lv_at hl 1 rfl) ?_
    refine lv_aload_n hx hb dX1_step_45 rfl (lv_at hl 2 rfl) ?_
    refine g1_mr hc hw dX1_step_46 ?_
    refine lv_iload_n hx hb dX1_step_49 rfl (lv_at hl 0 rfl) ?_
    refine l1_mr (j := (pf_n (my q))) hc hw (pf_ixs (pf_okz hok (by rw [ho]; decide) (by rw [ho]; decide)).1) dX1_step_50 ?_
    refine lv_aload_n hx hb dX1_step_51 rfl (lv_at hl 2 rfl) ?_
    refine g1_mr hc hw dX1_step_52 ?_
    refine lv_aload_n hx hb dX1_step_55 rfl (lv_at hl 2 rfl) ?_
    refine g1_mz hc hw dX1_step_56 ?_
    refine lv_iload_n hx hb dX1_step_59 rfl (lv_at hl 3 rfl) ?_
    refine l1_mz (j := q) hc hw (pf_ixn hq (by decide)) dX1_step_60 ?_
    refine l1_mr (j := (pf_n (mz q))) hc hw (pf_ixs (pf_okz hok (by rw [ho]; decide) (by rw [ho]; decide)).2) dX1_step_61 ?_
    refine lv_iadd hx hb dX1_step_62 ?_
    refine s1_mr (j := (pf_n (mx q))) hc hw (pf_ixs (pf_okx hok (by rw [ho]; decide) (by rw [ho]; decide))) dX1_step_63 (fun H locs hw => ?_)
    refine lv_aload_n hx hb dX1_step_64 rfl (lv_at hl 2 rfl) ?_
    refine g1_mo hc hw dX1_step_65 ?_
    refine lv_iload_n hx hb dX1_step_68 rfl (lv_at hl 3 rfl) ?_
    refine l1_mo (j := q) hc hw (pf_ixn hq (by decide)) dX1_step_69 ?_
    refine lv_iconst (v := 2) hx hb dX1_step_70 (by decide) ?_
    refine lv_icmp_ne (tgt := 98) hx hb dX1_step_71 (by decide) (fun c71 => ?_) (fun c71 => absurd (ho.symm.trans c71) (by decide))
    refine lv_aload_n hx hb dX1_step_98 rfl (lv_at hl 2 rfl) ?_
    refine g1_mo hc hw dX1_step_99 ?_
    refine lv_iload_n hx hb dX1_step_102 rfl (lv_at hl 3 rfl) ?_
    refine l1_mo (j := q) hc hw (pf_ixn hq (by decide)) dX1_step_103 ?_
    refine lv_iconst (v := 3) hx hb dX1_step_104 (by decide) ?_
    refine lv_icmp_ne (tgt := 132) hx hb dX1_step_105 (by decide) (fun c105 => ?_) (fun c105 => absurd (ho.symm.trans c105) (by decide))
    refine lv_aload_n hx hb dX1_step_132 rfl (lv_at hl 2 rfl) ?_
    refine g1_mo hc hw dX1_step_133 ?_
    refine lv_iload_n hx hb dX1_step_136 rfl (lv_at hl 3 rfl) ?_
    refine l1_mo (j := q) hc hw (pf_ixn hq (by decide)) dX1_step_137 ?_
    refine lv_iconst (v := 4) hx hb dX1_step_138 (by decide) ?_
    refine lv_icmp_ne (tgt := 154) hx hb dX1_step_139 (by decide) (fun c139 => ?_) (fun c139 => absurd (ho.symm.trans c139) (by decide))
    refine lv_aload_n hx hb dX1_step_154 rfl (lv_at hl 2 rfl) ?_
    refine g1_mo hc hw dX1_step_155 ?_
    refine lv_iload_n hx hb dX1_step_158 rfl (lv_at hl 3 rfl) ?_
    refine l1_mo (j := q) hc hw (pf_ixn hq (by decide)) dX1_step_159 ?_
    refine lv_iconst (v := 5) hx hb dX1_step_160 (by decide) ?_
    refine lv_icmp_ne (tgt := 176) hx hb dX1_step_161 (by decide) (fun c161 => ?_) (fun c161 => absurd (ho.symm.trans c161) (by decide))
    refine lv_aload_n hx hb dX1_step_176 rfl (lv_at hl 2 rfl) ?_
    refine g1_mo hc hw dX1_step_177 ?_
    refine lv_iload_n hx hb dX1_step_180 rfl (lv_at hl 3 rfl) ?_
    refine l1_mo (j := q) hc hw (pf_ixn hq (by decide)) dX1_step_181 ?_
    refine lv_bipush (v := 6) hx hb dX1_step_182 (by decide) ?_
    refine lv_icmp_ne (tgt := 207) hx hb dX1_step_184 (by decide) (fun c184 => ?_) (fun c184 => absurd (ho.symm.trans c184) (by decide))
    refine lv_aload_n hx hb dX1_step_207 rfl (lv_at hl 2 rfl) ?_
    refine g1_mo hc hw dX1_step_208 ?_
    refine lv_iload_n hx hb dX1_step_211 rfl (lv_at hl 3 rfl) ?_
    refine l1_mo (j := q) hc hw (pf_ixn hq (by decide)) dX1_step_212 ?_
    refine lv_bipush (v := 7) hx hb dX1_step_213 (by decide) ?_
    refine lv_icmp_ne (tgt := 238) hx hb dX1_step_215 (by decide) (fun c215 => ?_) (fun c215 => absurd (ho.symm.trans c215) (by decide))
    refine lv_aload_n hx hb dX1_step_238 rfl (lv_at hl 2 rfl) ?_
    refine g1_mo hc hw dX1_step_239 ?_
    refine lv_iload_n hx hb dX1_step_242 rfl (lv_at hl 3 rfl) ?_
    refine l1_mo (j := q) hc hw (pf_ixn hq (by decide)) dX1_step_243 ?_
    refine lv_bipush (v := 8) hx hb dX1_step_244 (by decide) ?_
    refine lv_icmp_ne (tgt := 264) hx hb dX1_step_246 (by decide) (fun c246 => ?_) (fun c246 => absurd (ho.symm.trans c246) (by decide))
    refine lv_aload_n hx hb dX1_step_264 rfl (lv_at hl 2 rfl) ?_
    refine g1_mo hc hw dX1_step_265 ?_
    refine lv_iload_n hx hb dX1_step_268 rfl (lv_at hl 3 rfl) ?_
    refine l1_mo (j := q) hc hw (pf_ixn hq (by decide)) dX1_step_269 ?_
    refine lv_bipush (v := 9) hx hb dX1_step_270 (by decide) ?_
    refine lv_icmp_ne (tgt := 282) hx hb dX1_step_272 (by decide) (fun c272 => ?_) (fun c272 => absurd (ho.symm.trans c272) (by decide))
    refine lv_aload_n hx hb dX1_step_282 rfl (lv_at hl 2 rfl) ?_
    refine g1_mo hc hw dX1_step_283 ?_
    refine lv_iload_n hx hb dX1_step_286 rfl (lv_at hl 3 rfl) ?_
    refine l1_mo (j := q) hc hw (pf_ixn hq (by decide)) dX1_step_287 ?_
    refine lv_bipush (v := 10) hx hb dX1_step_288 (by decide) ?_
    refine lv_icmp_ne (tgt := 326) hx hb dX1_step_290 (by decide) (fun c290 => ?_) (fun c290 => absurd (ho.symm.trans c290) (by decide))
    refine lv_iload_n hx hb dX1_step_326 rfl (lv_at hl 3 rfl) ?_
    refine lv_iconst (v := 1) hx hb dX1_step_327 (by decide) ?_
    refine lv_iadd hx hb dX1_step_328 ?_
    exact pf_retI hc (mc, (upd mr (pf_n (mx q)) ((mr (pf_n (my q))) + (mr (pf_n (mz q))))), ml) hw hr hlk (by simp [pf_mret, pf_mcel, pf_mreg, pf_mlef, pf_n, ho]) dX1_step_329
  · refine lv_aload_n hx hb dX1_step_0 rfl (lv_at hl 0 rfl) ?_
    refine g1_mx hc hw dX1_step_1 ?_
    refine lv_iload_n hx hb dX1_step_4 rfl (lv_at hl 1 rfl) ?_
    refine l1_mx (j := q) hc hw (pf_ixn hq (by decide)) dX1_step_5 ?_
    refine lv_istore_n (lv' := [(2, .int (mx q)), (0, .ref (a 0)), (1, .int (nI q))]) hx hb dX1_step_6 rfl hl (by decide) rfl (fun ls hl => ?_)
    refine lv_aload_n hx hb dX1_step_7 rfl (lv_at hl 1 rfl) ?_
    refine g1_my hc hw dX1_step_8 ?_
    refine lv_iload_n hx hb dX1_step_11 rfl (lv_at hl 2 rfl) ?_
    refine l1_my (j := q) hc hw (pf_ixn hq (by decide)) dX1_step_12 ?_
    refine lv_istore_n (lv' := [(3, .int (my q)), (2, .int (mx q)), (0, .ref (a 0)), (1, .int (nI q))]) hx hb dX1_step_13 rfl hl (by decide) rfl (fun ls hl => ?_)
    refine lv_aload_n hx hb dX1_step_14 rfl (lv_at hl 2 rfl) ?_
    refine g1_mo hc hw dX1_step_15 ?_
    refine lv_iload_n hx hb dX1_step_18 rfl (lv_at hl 3 rfl) ?_
    refine l1_mo (j := q) hc hw (pf_ixn hq (by decide)) dX1_step_19 ?_
    refine lv_if_ne (tgt := 30) hx hb dX1_step_20 (by decide) (fun c20 => ?_) (fun c20 => absurd (ho.symm.trans c20) (by decide))
    refine lv_aload_n hx hb dX1_step_30 rfl (lv_at hl 2 rfl) ?_
    refine g1_mo hc hw dX1_step_31 ?_
    refine lv_iload_n hx hb dX1_step_34 rfl (lv_at hl 3 rfl) ?_
    refine l1_mo (j := q) hc hw (pf_ixn hq (by decide)) dX1_step_35 ?_
    refine lv_iconst (v := 1) hx hb dX1_step_36 (by decide) ?_
    refine lv_icmp_ne (tgt := 64) hx hb dX1_step_37 (by decide) (fun c37 => ?_) (fun c37 => absurd (ho.symm.trans c37) (by decide))
    refine lv_aload_n hx hb dX1_step_64 rfl (lv_at hl 2 rfl) ?_
    refine g1_mo hc hw dX1_step_65 ?_
    refine lv_iload_n hx hb dX1_step_68 rfl (lv_at hl 3 rfl) ?_
    refine l1_mo (j := q) hc hw (pf_ixn hq (by decide)) dX1_step_69 ?_
    refine lv_iconst (v := 2) hx hb dX1_step_70 (by decide) ?_
    refine lv_icmp_ne (tgt := 98) hx hb dX1_step_71 (by decide) (fun c71 => absurd ho c71) (fun c71 => ?_)
    refine lv_aload_n hx hb dX1_step_74 rfl (lv_at hl 2 rfl) ?_
    refine g1_mr hc hw dX1_step_75 ?_
    refine lv_iload_n hx hb dX1_step_78 rfl (lv_at hl 1 rfl) ?_
    refine lv_aload_n hx hb dX1_step_79 rfl (lv_at hl 2 rfl) ?_
    refine g1_mr hc hw dX1_step_80 ?_
    refine lv_iload_n hx hb dX1_step_83 rfl (lv_at hl 0 rfl) ?_
    refine l1_mr (j := (pf_n (my q))) hc hw (pf_ixs (pf_okz hok (by rw [ho]; decide) (by rw [ho]; decide)).1) dX1_step_84 ?_
    refine lv_aload_n hx hb dX1_step_85 rfl (lv_at hl 2 rfl) ?_
    refine g1_mr hc hw dX1_step_86 ?_
    refine lv_aload_n hx hb dX1_step_89 rfl (lv_at hl 2 rfl) ?_
    refine g1_mz hc hw dX1_step_90 ?_
    refine lv_iload_n hx hb dX1_step_93 rfl (lv_at hl 3 rfl) ?_
    refine l1_mz (j := q) hc hw (pf_ixn hq (by decide)) dX1_step_94 ?_
    refine l1_mr (j := (pf_n (mz q))) hc hw (pf_ixs (pf_okz hok (by rw [ho]; decide) (by rw [ho]; decide)).2) dX1_step_95 ?_
    refine lv_isub hx hb dX1_step_96 ?_
    refine s1_mr (j := (pf_n (mx q))) hc hw (pf_ixs (pf_okx hok (by rw [ho]; decide) (by rw [ho]; decide))) dX1_step_97 (fun H locs hw => ?_)
    refine lv_aload_n hx hb dX1_step_98 rfl (lv_at hl 2 rfl) ?_
    refine g1_mo hc hw dX1_step_99 ?_
    refine lv_iload_n hx hb dX1_step_102 rfl (lv_at hl 3 rfl) ?_
    refine l1_mo (j := q) hc hw (pf_ixn hq (by decide)) dX1_step_103 ?_
    refine lv_iconst (v := 3) hx hb dX1_step_104 (by decide) ?_
    refine lv_icmp_ne (tgt := 132) hx hb dX1_step_105 (by decide) (fun c105 => ?_) (fun c105 => absurd (ho.symm.trans c105) (by decide))
    refine lv_aload_n hx hb dX1_step_132 rfl (lv_at hl 2 rfl) ?_
    refine g1_mo hc hw dX1_step_133 ?_
    refine lv_iload_n hx hb dX1_step_136 rfl (lv_at hl 3 rfl) ?_
    refine l1_mo (j := q) hc hw (pf_ixn hq (by decide)) dX1_step_137 ?_
    refine lv_iconst (v := 4) hx hb dX1_step_138 (by decide) ?_
    refine lv_icmp_ne (tgt := 154) hx hb dX1_step_139 (by decide) (fun c139 => ?_) (fun c139 => absurd (ho.symm.trans c139) (by decide))
    refine lv_aload_n hx hb dX1_step_154 rfl (lv_at hl 2 rfl) ?_
    refine g1_mo hc hw dX1_step_155 ?_
    refine lv_iload_n hx hb dX1_step_158 rfl (lv_at hl 3 rfl) ?_
    refine l1_mo (j := q) hc hw (pf_ixn hq (by decide)) dX1_step_159 ?_
    refine lv_iconst (v := 5) hx hb dX1_step_160 (by decide) ?_
    refine lv_icmp_ne (tgt := 176) hx hb dX1_step_161 (by decide) (fun c161 => ?_) (fun c161 => absurd (ho.symm.trans c161) (by decide))
    refine lv_aload_n hx hb dX1_step_176 rfl (lv_at hl 2 rfl) ?_
    refine g1_mo hc hw dX1_step_177 ?_
    refine lv_iload_n hx hb dX1_step_180 rfl (lv_at hl 3 rfl) ?_
    refine l1_mo (j := q) hc hw (pf_ixn hq (by decide)) dX1_step_181 ?_
    refine lv_bipush (v := 6) hx hb dX1_step_182 (by decide) ?_
    refine lv_icmp_ne (tgt := 207) hx hb dX1_step_184 (by decide) (fun c184 => ?_) (fun c184 => absurd (ho.symm.trans c184) (by decide))
    refine lv_aload_n hx hb dX1_step_207 rfl (lv_at hl 2 rfl) ?_
    refine g1_mo hc hw dX1_step_208 ?_
    refine lv_iload_n hx hb dX1_step_211 rfl (lv_at hl 3 rfl) ?_
    refine l1_mo (j := q) hc hw (pf_ixn hq (by decide)) dX1_step_212 ?_
    refine lv_bipush (v := 7) hx hb dX1_step_213 (by decide) ?_
    refine lv_icmp_ne (tgt := 238) hx hb dX1_step_215 (by decide) (fun c215 => ?_) (fun c215 => absurd (ho.symm.trans c215) (by decide))
    refine lv_aload_n hx hb dX1_step_238 rfl (lv_at hl 2 rfl) ?_
    refine g1_mo hc hw dX1_step_239 ?_
    refine lv_iload_n hx hb dX1_step_242 rfl (lv_at hl 3 rfl) ?_
    refine l1_mo (j := q) hc hw (pf_ixn hq (by decide)) dX1_step_243 ?_
    refine lv_bipush (v := 8) hx hb dX1_step_244 (by decide) ?_
    refine lv_icmp_ne (tgt := 264) hx hb dX1_step_246 (by decide) (fun c246 => ?_) (fun c246 => absurd (ho.symm.trans c246) (by decide))
    refine lv_aload_n hx hb dX1_step_264 rfl (lv_at hl 2 rfl) ?_
    refine g1_mo hc hw dX1_step_265 ?_
    refine lv_iload_n hx hb dX1_step_268 rfl (lv_at hl 3 rfl) ?_
    refine l1_mo (j := q) hc hw (pf_ixn hq (by decide)) dX1_step_269 ?_
    refine lv_bipush (v := 9) hx hb dX1_step_270 (by decide) ?_
    refine lv_icmp_ne (tgt := 282) hx hb dX1_step_272 (by decide) (fun c272 => ?_) (fun c272 => absurd (ho.symm.trans c272) (by decide))
    refine lv_aload_n hx hb dX1_step_282 rfl (lv_at hl 2 rfl) ?_
    refine g1_mo hc hw dX1_step_283 ?_
    refine lv_iload_n hx hb dX1_step_286 rfl (lv_at hl 3 rfl) ?_
    refine l1_mo (j := q) hc hw (pf_ixn hq (by decide)) dX1_step_287 ?_
    refine lv_bipush (v := 10) hx hb dX1_step_288 (by decide) ?_
    refine lv_icmp_ne (tgt := 326) hx hb dX1_step_290 (by decide) (fun c290 => ?_) (fun c290 => absurd (ho.symm.trans c290) (by decide))
    refine lv_iload_n hx hb dX1_step_326 rfl (lv_at hl 3 rfl) ?_
    refine lv_iconst (v := 1) hx hb dX1_step_327 (by decide) ?_
    refine lv_iadd hx hb dX1_step_328 ?_
    exact pf_retI hc (mc, (upd mr (pf_n (mx q)) ((mr (pf_n (my q))) - (mr (pf_n (mz q))))), ml) hw hr hlk (by simp [pf_mret, pf_mcel, pf_mreg, pf_mlef, pf_n, ho]) dX1_step_329
  · refine lv_aload_n hx hb dX1_step_0 rfl (lv_at hl 0 rfl) ?_
    refine g1_mx hc hw dX1_step_1 ?_
    refine lv_iload_n hx hb dX1_step_4 rfl (lv_at hl 1 rfl) ?_
    refine l1_mx (j := q) hc hw (pf_ixn hq (by decide)) dX1_step_5 ?_
    refine lv_istore_n (lv' := [(2, .int (mx q)), (0, .ref (a 0)), (1, .int (nI q))]) hx hb dX1_step_6 rfl hl (by decide) rfl (fun ls hl => ?_)
    refine lv_aload_n hx hb dX1_step_7 rfl (lv_at hl 1 rfl) ?_
    refine g1_my hc hw dX1_step_8 ?_
    refine lv_iload_n hx hb dX1_step_11 rfl (lv_at hl 2 rfl) ?_
    refine l1_my (j := q) hc hw (pf_ixn hq (by decide)) dX1_step_12 ?_
    refine lv_istore_n (lv' := [(3, .int (my q)), (2, .int (mx q)), (0, .ref (a 0)), (1, .int (nI q))]) hx hb dX1_step_13 rfl hl (by decide) rfl (fun ls hl => ?_)
    refine lv_aload_n hx hb dX1_step_14 rfl (lv_at hl 2 rfl) ?_
    refine g1_mo hc hw dX1_step_15 ?_
    refine lv_iload_n hx hb dX1_step_18 rfl (lv_at hl 3 rfl) ?_
    refine l1_mo (j := q) hc hw (pf_ixn hq (by decide)) dX1_step_19 ?_
    refine lv_if_ne (tgt := 30) hx hb dX1_step_20 (by decide) (fun c20 => ?_) (fun c20 => absurd (ho.symm.trans c20) (by decide))
    refine lv_aload_n hx hb dX1_step_30 rfl (lv_at hl 2 rfl) ?_
    refine g1_mo hc hw dX1_step_31 ?_
    refine lv_iload_n hx hb dX1_step_34 rfl (lv_at hl 3 rfl) ?_
    refine l1_mo (j := q) hc hw (pf_ixn hq (by decide)) dX1_step_35 ?_
    refine lv_iconst (v := 1) hx hb dX1_step_36 (by decide) ?_
    refine lv_icmp_ne (tgt := 64) hx hb dX1_step_37 (by decide) (fun c37 => ?_) (fun c37 => absurd (ho.symm.trans c37) (by decide))
    refine lv_aload_n hx hb dX1_step_64 rfl (lv_at hl 2 rfl) ?_
    refine g1_mo hc hw dX1_step_65 ?_
    refine lv_iload_n hx hb dX1_step_68 rfl (lv_at hl 3 rfl) ?_
    refine l1_mo (j := q) hc hw (pf_ixn hq (by decide)) dX1_step_69 ?_
    refine lv_iconst (v := 2) hx hb dX1_step_70 (by decide) ?_
    refine lv_icmp_ne (tgt := 98) hx hb dX1_step_71 (by decide) (fun c71 => ?_) (fun c71 => absurd (ho.symm.trans c71) (by decide))
    refine lv_aload_n hx hb dX1_step_98 rfl (lv_at hl 2 rfl) ?_
    refine g1_mo hc hw dX1_step_99 ?_
    refine lv_iload_n hx hb dX1_step_102 rfl (lv_at hl 3 rfl) ?_
    refine l1_mo (j := q) hc hw (pf_ixn hq (by decide)) dX1_step_103 ?_
    refine lv_iconst (v := 3) hx hb dX1_step_104 (by decide) ?_
    refine lv_icmp_ne (tgt := 132) hx hb dX1_step_105 (by decide) (fun c105 => absurd ho c105) (fun c105 => ?_)
    refine lv_aload_n hx hb dX1_step_108 rfl (lv_at hl 2 rfl) ?_
    refine g1_mr hc hw dX1_step_109 ?_
    refine lv_iload_n hx hb dX1_step_112 rfl (lv_at hl 1 rfl) ?_
    refine lv_aload_n hx hb dX1_step_113 rfl (lv_at hl 2 rfl) ?_
    refine g1_mr hc hw dX1_step_114 ?_
    refine lv_iload_n hx hb dX1_step_117 rfl (lv_at hl 0 rfl) ?_
    refine l1_mr (j := (pf_n (my q))) hc hw (pf_ixs (pf_okz hok (by rw [ho]; decide) (by rw [ho]; decide)).1) dX1_step_118 ?_
    refine lv_aload_n hx hb dX1_step_119 rfl (lv_at hl 2 rfl) ?_
    refine g1_mr hc hw dX1_step_120 ?_
    refine lv_aload_n hx hb dX1_step_123 rfl (lv_at hl 2 rfl) ?_
    refine g1_mz hc hw dX1_step_124 ?_
    refine lv_iload_n hx hb dX1_step_127 rfl (lv_at hl 3 rfl) ?_
    refine l1_mz (j := q) hc hw (pf_ixn hq (by decide)) dX1_step_128 ?_
    refine l1_mr (j := (pf_n (mz q))) hc hw (pf_ixs (pf_okz hok (by rw [ho]; decide) (by rw [ho]; decide)).2) dX1_step_129 ?_
    refine lv_imul hx hb dX1_step_130 ?_
    refine s1_mr (j := (pf_n (mx q))) hc hw (pf_ixs (pf_okx hok (by rw [ho]; decide) (by rw [ho]; decide))) dX1_step_131 (fun H locs hw => ?_)
    refine lv_aload_n hx hb dX1_step_132 rfl (lv_at hl 2 rfl) ?_
    refine g1_mo hc hw dX1_step_133 ?_
    refine lv_iload_n hx hb dX1_step_136 rfl (lv_at hl 3 rfl) ?_
    refine l1_mo (j := q) hc hw (pf_ixn hq (by decide)) dX1_step_137 ?_
    refine lv_iconst (v := 4) hx hb dX1_step_138 (by decide) ?_
    refine lv_icmp_ne (tgt := 154) hx hb dX1_step_139 (by decide) (fun c139 => ?_) (fun c139 => absurd (ho.symm.trans c139) (by decide))
    refine lv_aload_n hx hb dX1_step_154 rfl (lv_at hl 2 rfl) ?_
    refine g1_mo hc hw dX1_step_155 ?_
    refine lv_iload_n hx hb dX1_step_158 rfl (lv_at hl 3 rfl) ?_
    refine l1_mo (j := q) hc hw (pf_ixn hq (by decide)) dX1_step_159 ?_
    refine lv_iconst (v := 5) hx hb dX1_step_160 (by decide) ?_
    refine lv_icmp_ne (tgt := 176) hx hb dX1_step_161 (by decide) (fun c161 => ?_) (fun c161 => absurd (ho.symm.trans c161) (by decide))
    refine lv_aload_n hx hb dX1_step_176 rfl (lv_at hl 2 rfl) ?_
    refine g1_mo hc hw dX1_step_177 ?_
    refine lv_iload_n hx hb dX1_step_180 rfl (lv_at hl 3 rfl) ?_
    refine l1_mo (j := q) hc hw (pf_ixn hq (by decide)) dX1_step_181 ?_
    refine lv_bipush (v := 6) hx hb dX1_step_182 (by decide) ?_
    refine lv_icmp_ne (tgt := 207) hx hb dX1_step_184 (by decide) (fun c184 => ?_) (fun c184 => absurd (ho.symm.trans c184) (by decide))
    refine lv_aload_n hx hb dX1_step_207 rfl (lv_at hl 2 rfl) ?_
    refine g1_mo hc hw dX1_step_208 ?_
    refine lv_iload_n hx hb dX1_step_211 rfl (lv_at hl 3 rfl) ?_
    refine l1_mo (j := q) hc hw (pf_ixn hq (by decide)) dX1_step_212 ?_
    refine lv_bipush (v := 7) hx hb dX1_step_213 (by decide) ?_
    refine lv_icmp_ne (tgt := 238) hx hb dX1_step_215 (by decide) (fun c215 => ?_) (fun c215 => absurd (ho.symm.trans c215) (by decide))
    refine lv_aload_n hx hb dX1_step_238 rfl (lv_at hl 2 rfl) ?_
    refine g1_mo hc hw dX1_step_239 ?_
    refine lv_iload_n hx hb dX1_step_242 rfl (lv_at hl 3 rfl) ?_
    refine l1_mo (j := q) hc hw (pf_ixn hq (by decide)) dX1_step_243 ?_
    refine lv_bipush (v := 8) hx hb dX1_step_244 (by decide) ?_
    refine lv_icmp_ne (tgt := 264) hx hb dX1_step_246 (by decide) (fun c246 => ?_) (fun c246 => absurd (ho.symm.trans c246) (by decide))
    refine lv_aload_n hx hb dX1_step_264 rfl (lv_at hl 2 rfl) ?_
    refine g1_mo hc hw dX1_step_265 ?_
    refine lv_iload_n hx hb dX1_step_268 rfl (lv_at hl 3 rfl) ?_
    refine l1_mo (j := q) hc hw (pf_ixn hq (by decide)) dX1_step_269 ?_
    refine lv_bipush (v := 9) hx hb dX1_step_270 (by decide) ?_
    refine lv_icmp_ne (tgt := 282) hx hb dX1_step_272 (by decide) (fun c272 => ?_) (fun c272 => absurd (ho.symm.trans c272) (by decide))
    refine lv_aload_n hx hb dX1_step_282 rfl (lv_at hl 2 rfl) ?_
    refine g1_mo hc hw dX1_step_283 ?_
    refine lv_iload_n hx hb dX1_step_286 rfl (lv_at hl 3 rfl) ?_
    refine l1_mo (j := q) hc hw (pf_ixn hq (by decide)) dX1_step_287 ?_
    refine lv_bipush (v := 10) hx hb dX1_step_288 (by decide) ?_
    refine lv_icmp_ne (tgt := 326) hx hb dX1_step_290 (by decide) (fun c290 => ?_) (fun c290 => absurd (ho.symm.trans c290) (by decide))
    refine lv_iload_n hx hb dX1_step_326 rfl (lv_at hl 3 rfl) ?_
    refine lv_iconst (v := 1) hx hb dX1_step_327 (by decide) ?_
    refine lv_iadd hx hb dX1_step_328 ?_
    exact pf_retI hc (mc, (upd mr (pf_n (mx q)) ((mr (pf_n (my q))) * (mr (pf_n (mz q))))), ml) hw hr hlk (by simp [pf_mret, pf_mcel, pf_mreg, pf_mlef, pf_n, ho]) dX1_step_329
  · refine lv_aload_n hx hb dX1_step_0 rfl (lv_at hl 0 rfl) ?_
    refine g1_mx hc hw dX1_step_1 ?_
    refine lv_iload_n hx hb dX1_step_4 rfl (lv_at hl 1 rfl) ?_
    refine l1_mx (j := q) hc hw (pf_ixn hq (by decide)) dX1_step_5 ?_
    refine lv_istore_n (lv' := [(2, .int (mx q)), (0, .ref (a 0)), (1, .int (nI q))]) hx hb dX1_step_6 rfl hl (by decide) rfl (fun ls hl => ?_)
    refine lv_aload_n hx hb dX1_step_7 rfl (lv_at hl 1 rfl) ?_
    refine g1_my hc hw dX1_step_8 ?_
    refine lv_iload_n hx hb dX1_step_11 rfl (lv_at hl 2 rfl) ?_
    refine l1_my (j := q) hc hw (pf_ixn hq (by decide)) dX1_step_12 ?_
    refine lv_istore_n (lv' := [(3, .int (my q)), (2, .int (mx q)), (0, .ref (a 0)), (1, .int (nI q))]) hx hb dX1_step_13 rfl hl (by decide) rfl (fun ls hl => ?_)
    refine lv_aload_n hx hb dX1_step_14 rfl (lv_at hl 2 rfl) ?_
    refine g1_mo hc hw dX1_step_15 ?_
    refine lv_iload_n hx hb dX1_step_18 rfl (lv_at hl 3 rfl) ?_
    refine l1_mo (j := q) hc hw (pf_ixn hq (by decide)) dX1_step_19 ?_
    refine lv_if_ne (tgt := 30) hx hb dX1_step_20 (by decide) (fun c20 => ?_) (fun c20 => absurd (ho.symm.trans c20) (by decide))
    refine lv_aload_n hx hb dX1_step_30 rfl (lv_at hl 2 rfl) ?_
    refine g1_mo hc hw dX1_step_31 ?_
    refine lv_iload_n hx hb dX1_step_34 rfl (lv_at hl 3 rfl) ?_
    refine l1_mo (j := q) hc hw (pf_ixn hq (by decide)) dX1_step_35 ?_
    refine lv_iconst (v := 1) hx hb dX1_step_36 (by decide) ?_
    refine lv_icmp_ne (tgt := 64) hx hb dX1_step_37 (by decide) (fun c37 => ?_) (fun c37 => absurd (ho.symm.trans c37) (by decide))
    refine lv_aload_n hx hb dX1_step_64 rfl (lv_at hl 2 rfl) ?_
    refine g1_mo hc hw dX1_step_65 ?_
    refine lv_iload_n hx hb dX1_step_68 rfl (lv_at hl 3 rfl) ?_
    refine l1_mo (j := q) hc hw (pf_ixn hq (by decide)) dX1_step_69 ?_
    refine lv_iconst (v := 2) hx hb dX1_step_70 (by decide) ?_
    refine lv_icmp_ne (tgt := 98) hx hb dX1_step_71 (by decide) (fun c71 => ?_) (fun c71 => absurd (ho.symm.trans c71) (by decide))
    refine lv_aload_n hx hb dX1_step_98 rfl (lv_at hl 2 rfl) ?_
    refine g1_mo hc hw dX1_step_99 ?_
    refine lv_iload_n hx hb dX1_step_102 rfl (lv_at hl 3 rfl) ?_
    refine l1_mo (j := q) hc hw (pf_ixn hq (by decide)) dX1_step_103 ?_
    refine lv_iconst (v := 3) hx hb dX1_step_104 (by decide) ?_
    refine lv_icmp_ne (tgt := 132) hx hb dX1_step_105 (by decide) (fun c105 => ?_) (fun c105 => absurd (ho.symm.trans c105) (by decide))
    refine lv_aload_n hx hb dX1_step_132 rfl (lv_at hl 2 rfl) ?_
    refine g1_mo hc hw dX1_step_133 ?_
    refine lv_iload_n hx hb dX1_step_136 rfl (lv_at hl 3 rfl) ?_
    refine l1_mo (j := q) hc hw (pf_ixn hq (by decide)) dX1_step_137 ?_
    refine lv_iconst (v := 4) hx hb dX1_step_138 (by decide) ?_
    refine lv_icmp_ne (tgt := 154) hx hb dX1_step_139 (by decide) (fun c139 => absurd ho c139) (fun c139 => ?_)
    refine lv_aload_n hx hb dX1_step_142 rfl (lv_at hl 2 rfl) ?_
    refine g1_mr hc hw dX1_step_143 ?_
    refine lv_iload_n hx hb dX1_step_146 rfl (lv_at hl 1 rfl) ?_
    refine lv_aload_n hx hb dX1_step_147 rfl (lv_at hl 2 rfl) ?_
    refine g1_mc hc hw dX1_step_148 ?_
    refine lv_iload_n hx hb dX1_step_151 rfl (lv_at hl 0 rfl) ?_
    refine l1_mc (j := (pf_n (my q))) hc hw (pf_ixs (pf_ok12 hok (Or.inl ho))) dX1_step_152 ?_
    refine s1_mr (j := (pf_n (mx q))) hc hw (pf_ixs (pf_okx hok (by rw [ho]; decide) (by rw [ho]; decide))) dX1_step_153 (fun H locs hw => ?_)
    refine lv_aload_n hx hb dX1_step_154 rfl (lv_at hl 2 rfl) ?_
    refine g1_mo hc hw dX1_step_155 ?_
    refine lv_iload_n hx hb dX1_step_158 rfl (lv_at hl 3 rfl) ?_
    refine l1_mo (j := q) hc hw (pf_ixn hq (by decide)) dX1_step_159 ?_
    refine lv_iconst (v := 5) hx hb dX1_step_160 (by decide) ?_
    refine lv_icmp_ne (tgt := 176) hx hb dX1_step_161 (by decide) (fun c161 => ?_) (fun c161 => absurd (ho.symm.trans c161) (by decide))
    refine lv_aload_n hx hb dX1_step_176 rfl (lv_at hl 2 rfl) ?_
    refine g1_mo hc hw dX1_step_177 ?_
    refine lv_iload_n hx hb dX1_step_180 rfl (lv_at hl 3 rfl) ?_
    refine l1_mo (j := q) hc hw (pf_ixn hq (by decide)) dX1_step_181 ?_
    refine lv_bipush (v := 6) hx hb dX1_step_182 (by decide) ?_
    refine lv_icmp_ne (tgt := 207) hx hb dX1_step_184 (by decide) (fun c184 => ?_) (fun c184 => absurd (ho.symm.trans c184) (by decide))
    refine lv_aload_n hx hb dX1_step_207 rfl (lv_at hl 2 rfl) ?_
    refine g1_mo hc hw dX1_step_208 ?_
    refine lv_iload_n hx hb dX1_step_211 rfl (lv_at hl 3 rfl) ?_
    refine l1_mo (j := q) hc hw (pf_ixn hq (by decide)) dX1_step_212 ?_
    refine lv_bipush (v := 7) hx hb dX1_step_213 (by decide) ?_
    refine lv_icmp_ne (tgt := 238) hx hb dX1_step_215 (by decide) (fun c215 => ?_) (fun c215 => absurd (ho.symm.trans c215) (by decide))
    refine lv_aload_n hx hb dX1_step_238 rfl (lv_at hl 2 rfl) ?_
    refine g1_mo hc hw dX1_step_239 ?_
    refine lv_iload_n hx hb dX1_step_242 rfl (lv_at hl 3 rfl) ?_
    refine l1_mo (j := q) hc hw (pf_ixn hq (by decide)) dX1_step_243 ?_
    refine lv_bipush (v := 8) hx hb dX1_step_244 (by decide) ?_
    refine lv_icmp_ne (tgt := 264) hx hb dX1_step_246 (by decide) (fun c246 => ?_) (fun c246 => absurd (ho.symm.trans c246) (by decide))
    refine lv_aload_n hx hb dX1_step_264 rfl (lv_at hl 2 rfl) ?_
    refine g1_mo hc hw dX1_step_265 ?_
    refine lv_iload_n hx hb dX1_step_268 rfl (lv_at hl 3 rfl) ?_
    refine l1_mo (j := q) hc hw (pf_ixn hq (by decide)) dX1_step_269 ?_
    refine lv_bipush (v := 9) hx hb dX1_step_270 (by decide) ?_
    refine lv_icmp_ne (tgt := 282) hx hb dX1_step_272 (by decide) (fun c272 => ?_) (fun c272 => absurd (ho.symm.trans c272) (by decide))
    refine lv_aload_n hx hb dX1_step_282 rfl (lv_at hl 2 rfl) ?_
    refine g1_mo hc hw dX1_step_283 ?_
    refine lv_iload_n hx hb dX1_step_286 rfl (lv_at hl 3 rfl) ?_
    refine l1_mo (j := q) hc hw (pf_ixn hq (by decide)) dX1_step_287 ?_
    refine lv_bipush (v := 10) hx hb dX1_step_288 (by decide) ?_
    refine lv_icmp_ne (tgt := 326) hx hb dX1_step_290 (by decide) (fun c290 => ?_) (fun c290 => absurd (ho.symm.trans c290) (by decide))
    refine lv_iload_n hx hb dX1_step_326 rfl (lv_at hl 3 rfl) ?_
    refine lv_iconst (v := 1) hx hb dX1_step_327 (by decide) ?_
    refine lv_iadd hx hb dX1_step_328 ?_
    exact pf_retI hc (mc, (upd mr (pf_n (mx q)) (mc (pf_n (my q)))), ml) hw hr hlk (by simp [pf_mret, pf_mcel, pf_mreg, pf_mlef, pf_n, ho]) dX1_step_329
  · refine lv_aload_n hx hb dX1_step_0 rfl (lv_at hl 0 rfl) ?_
    refine g1_mx hc hw dX1_step_1 ?_
    refine lv_iload_n hx hb dX1_step_4 rfl (lv_at hl 1 rfl) ?_
    refine l1_mx (j := q) hc hw (pf_ixn hq (by decide)) dX1_step_5 ?_
    refine lv_istore_n (lv' := [(2, .int (mx q)), (0, .ref (a 0)), (1, .int (nI q))]) hx hb dX1_step_6 rfl hl (by decide) rfl (fun ls hl => ?_)
    refine lv_aload_n hx hb dX1_step_7 rfl (lv_at hl 1 rfl) ?_
    refine g1_my hc hw dX1_step_8 ?_
    refine lv_iload_n hx hb dX1_step_11 rfl (lv_at hl 2 rfl) ?_
    refine l1_my (j := q) hc hw (pf_ixn hq (by decide)) dX1_step_12 ?_
    refine lv_istore_n (lv' := [(3, .int (my q)), (2, .int (mx q)), (0, .ref (a 0)), (1, .int (nI q))]) hx hb dX1_step_13 rfl hl (by decide) rfl (fun ls hl => ?_)
    refine lv_aload_n hx hb dX1_step_14 rfl (lv_at hl 2 rfl) ?_
    refine g1_mo hc hw dX1_step_15 ?_
    refine lv_iload_n hx hb dX1_step_18 rfl (lv_at hl 3 rfl) ?_
    refine l1_mo (j := q) hc hw (pf_ixn hq (by decide)) dX1_step_19 ?_
    refine lv_if_ne (tgt := 30) hx hb dX1_step_20 (by decide) (fun c20 => ?_) (fun c20 => absurd (ho.symm.trans c20) (by decide))
    refine lv_aload_n hx hb dX1_step_30 rfl (lv_at hl 2 rfl) ?_
    refine g1_mo hc hw dX1_step_31 ?_
    refine lv_iload_n hx hb dX1_step_34 rfl (lv_at hl 3 rfl) ?_
    refine l1_mo (j := q) hc hw (pf_ixn hq (by decide)) dX1_step_35 ?_
    refine lv_iconst (v := 1) hx hb dX1_step_36 (by decide) ?_
    refine lv_icmp_ne (tgt := 64) hx hb dX1_step_37 (by decide) (fun c37 => ?_) (fun c37 => absurd (ho.symm.trans c37) (by decide))
    refine lv_aload_n hx hb dX1_step_64 rfl (lv_at hl 2 rfl) ?_
    refine g1_mo hc hw dX1_step_65 ?_
    refine lv_iload_n hx hb dX1_step_68 rfl (lv_at hl 3 rfl) ?_
    refine l1_mo (j := q) hc hw (pf_ixn hq (by decide)) dX1_step_69 ?_
    refine lv_iconst (v := 2) hx hb dX1_step_70 (by decide) ?_
    refine lv_icmp_ne (tgt := 98) hx hb dX1_step_71 (by decide) (fun c71 => ?_) (fun c71 => absurd (ho.symm.trans c71) (by decide))
    refine lv_aload_n hx hb dX1_step_98 rfl (lv_at hl 2 rfl) ?_
    refine g1_mo hc hw dX1_step_99 ?_
    refine lv_iload_n hx hb dX1_step_102 rfl (lv_at hl 3 rfl) ?_
    refine l1_mo (j := q) hc hw (pf_ixn hq (by decide)) dX1_step_103 ?_
    refine lv_iconst (v := 3) hx hb dX1_step_104 (by decide) ?_
    refine lv_icmp_ne (tgt := 132) hx hb dX1_step_105 (by decide) (fun c105 => ?_) (fun c105 => absurd (ho.symm.trans c105) (by decide))
    refine lv_aload_n hx hb dX1_step_132 rfl (lv_at hl 2 rfl) ?_
    refine g1_mo hc hw dX1_step_133 ?_
    refine lv_iload_n hx hb dX1_step_136 rfl (lv_at hl 3 rfl) ?_
    refine l1_mo (j := q) hc hw (pf_ixn hq (by decide)) dX1_step_137 ?_
    refine lv_iconst (v := 4) hx hb dX1_step_138 (by decide) ?_
    refine lv_icmp_ne (tgt := 154) hx hb dX1_step_139 (by decide) (fun c139 => ?_) (fun c139 => absurd (ho.symm.trans c139) (by decide))
    refine lv_aload_n hx hb dX1_step_154 rfl (lv_at hl 2 rfl) ?_
    refine g1_mo hc hw dX1_step_155 ?_
    refine lv_iload_n hx hb dX1_step_158 rfl (lv_at hl 3 rfl) ?_
    refine l1_mo (j := q) hc hw (pf_ixn hq (by decide)) dX1_step_159 ?_
    refine lv_iconst (v := 5) hx hb dX1_step_160 (by decide) ?_
    refine lv_icmp_ne (tgt := 176) hx hb dX1_step_161 (by decide) (fun c161 => absurd ho c161) (fun c161 => ?_)
    refine lv_aload_n hx hb dX1_step_164 rfl (lv_at hl 2 rfl) ?_
    refine g1_mc hc hw dX1_step_165 ?_
    refine lv_iload_n hx hb dX1_step_168 rfl (lv_at hl 0 rfl) ?_
    refine lv_aload_n hx hb dX1_step_169 rfl (lv_at hl 2 rfl) ?_
    refine g1_mr hc hw dX1_step_170 ?_
    refine lv_iload_n hx hb dX1_step_173 rfl (lv_at hl 1 rfl) ?_
    refine l1_mr (j := (pf_n (mx q))) hc hw (pf_ixs (pf_okx hok (by rw [ho]; decide) (by rw [ho]; decide))) dX1_step_174 ?_
    refine s1_mc (j := (pf_n (my q))) hc hw (pf_ixs (pf_ok12 hok (Or.inr ho))) dX1_step_175 (fun H locs hw => ?_)
    refine lv_aload_n hx hb dX1_step_176 rfl (lv_at hl 2 rfl) ?_
    refine g1_mo hc hw dX1_step_177 ?_
    refine lv_iload_n hx hb dX1_step_180 rfl (lv_at hl 3 rfl) ?_
    refine l1_mo (j := q) hc hw (pf_ixn hq (by decide)) dX1_step_181 ?_
    refine lv_bipush (v := 6) hx hb dX1_step_182 (by decide) ?_
    refine lv_icmp_ne (tgt := 207) hx hb dX1_step_184 (by decide) (fun c184 => ?_) (fun c184 => absurd (ho.symm.trans c184) (by decide))
    refine lv_aload_n hx hb dX1_step_207 rfl (lv_at hl 2 rfl) ?_
    refine g1_mo hc hw dX1_step_208 ?_
    refine lv_iload_n hx hb dX1_step_211 rfl (lv_at hl 3 rfl) ?_
    refine l1_mo (j := q) hc hw (pf_ixn hq (by decide)) dX1_step_212 ?_
    refine lv_bipush (v := 7) hx hb dX1_step_213 (by decide) ?_
    refine lv_icmp_ne (tgt := 238) hx hb dX1_step_215 (by decide) (fun c215 => ?_) (fun c215 => absurd (ho.symm.trans c215) (by decide))
    refine lv_aload_n hx hb dX1_step_238 rfl (lv_at hl 2 rfl) ?_
    refine g1_mo hc hw dX1_step_239 ?_
    refine lv_iload_n hx hb dX1_step_242 rfl (lv_at hl 3 rfl) ?_
    refine l1_mo (j := q) hc hw (pf_ixn hq (by decide)) dX1_step_243 ?_
    refine lv_bipush (v := 8) hx hb dX1_step_244 (by decide) ?_
    refine lv_icmp_ne (tgt := 264) hx hb dX1_step_246 (by decide) (fun c246 => ?_) (fun c246 => absurd (ho.symm.trans c246) (by decide))
    refine lv_aload_n hx hb dX1_step_264 rfl (lv_at hl 2 rfl) ?_
    refine g1_mo hc hw dX1_step_265 ?_
    refine lv_iload_n hx hb dX1_step_268 rfl (lv_at hl 3 rfl) ?_
    refine l1_mo (j := q) hc hw (pf_ixn hq (by decide)) dX1_step_269 ?_
    refine lv_bipush (v := 9) hx hb dX1_step_270 (by decide) ?_
    refine lv_icmp_ne (tgt := 282) hx hb dX1_step_272 (by decide) (fun c272 => ?_) (fun c272 => absurd (ho.symm.trans c272) (by decide))
    refine lv_aload_n hx hb dX1_step_282 rfl (lv_at hl 2 rfl) ?_
    refine g1_mo hc hw dX1_step_283 ?_
    refine lv_iload_n hx hb dX1_step_286 rfl (lv_at hl 3 rfl) ?_
    refine l1_mo (j := q) hc hw (pf_ixn hq (by decide)) dX1_step_287 ?_
    refine lv_bipush (v := 10) hx hb dX1_step_288 (by decide) ?_
    refine lv_icmp_ne (tgt := 326) hx hb dX1_step_290 (by decide) (fun c290 => ?_) (fun c290 => absurd (ho.symm.trans c290) (by decide))
    refine lv_iload_n hx hb dX1_step_326 rfl (lv_at hl 3 rfl) ?_
    refine lv_iconst (v := 1) hx hb dX1_step_327 (by decide) ?_
    refine lv_iadd hx hb dX1_step_328 ?_
    exact pf_retI hc ((upd mc (pf_n (my q)) (mr (pf_n (mx q)))), mr, ml) hw hr hlk (by simp [pf_mret, pf_mcel, pf_mreg, pf_mlef, pf_n, ho]) dX1_step_329
  · refine lv_aload_n hx hb dX1_step_0 rfl (lv_at hl 0 rfl) ?_
    refine g1_mx hc hw dX1_step_1 ?_
    refine lv_iload_n hx hb dX1_step_4 rfl (lv_at hl 1 rfl) ?_
    refine l1_mx (j := q) hc hw (pf_ixn hq (by decide)) dX1_step_5 ?_
    refine lv_istore_n (lv' := [(2, .int (mx q)), (0, .ref (a 0)), (1, .int (nI q))]) hx hb dX1_step_6 rfl hl (by decide) rfl (fun ls hl => ?_)
    refine lv_aload_n hx hb dX1_step_7 rfl (lv_at hl 1 rfl) ?_
    refine g1_my hc hw dX1_step_8 ?_
    refine lv_iload_n hx hb dX1_step_11 rfl (lv_at hl 2 rfl) ?_
    refine l1_my (j := q) hc hw (pf_ixn hq (by decide)) dX1_step_12 ?_
    refine lv_istore_n (lv' := [(3, .int (my q)), (2, .int (mx q)), (0, .ref (a 0)), (1, .int (nI q))]) hx hb dX1_step_13 rfl hl (by decide) rfl (fun ls hl => ?_)
    refine lv_aload_n hx hb dX1_step_14 rfl (lv_at hl 2 rfl) ?_
    refine g1_mo hc hw dX1_step_15 ?_
    refine lv_iload_n hx hb dX1_step_18 rfl (lv_at hl 3 rfl) ?_
    refine l1_mo (j := q) hc hw (pf_ixn hq (by decide)) dX1_step_19 ?_
    refine lv_if_ne (tgt := 30) hx hb dX1_step_20 (by decide) (fun c20 => ?_) (fun c20 => absurd (ho.symm.trans c20) (by decide))
    refine lv_aload_n hx hb dX1_step_30 rfl (lv_at hl 2 rfl) ?_
    refine g1_mo hc hw dX1_step_31 ?_
    refine lv_iload_n hx hb dX1_step_34 rfl (lv_at hl 3 rfl) ?_
    refine l1_mo (j := q) hc hw (pf_ixn hq (by decide)) dX1_step_35 ?_
    refine lv_iconst (v := 1) hx hb dX1_step_36 (by decide) ?_
    refine lv_icmp_ne (tgt := 64) hx hb dX1_step_37 (by decide) (fun c37 => ?_) (fun c37 => absurd (ho.symm.trans c37) (by decide))
    refine lv_aload_n hx hb dX1_step_64 rfl (lv_at hl 2 rfl) ?_
    refine g1_mo hc hw dX1_step_65 ?_
    refine lv_iload_n hx hb dX1_step_68 rfl (lv_at hl 3 rfl) ?_
    refine l1_mo (j := q) hc hw (pf_ixn hq (by decide)) dX1_step_69 ?_
    refine lv_iconst (v := 2) hx hb dX1_step_70 (by decide) ?_
    refine lv_icmp_ne (tgt := 98) hx hb dX1_step_71 (by decide) (fun c71 => ?_) (fun c71 => absurd (ho.symm.trans c71) (by decide))
    refine lv_aload_n hx hb dX1_step_98 rfl (lv_at hl 2 rfl) ?_
    refine g1_mo hc hw dX1_step_99 ?_
    refine lv_iload_n hx hb dX1_step_102 rfl (lv_at hl 3 rfl) ?_
    refine l1_mo (j := q) hc hw (pf_ixn hq (by decide)) dX1_step_103 ?_
    refine lv_iconst (v := 3) hx hb dX1_step_104 (by decide) ?_
    refine lv_icmp_ne (tgt := 132) hx hb dX1_step_105 (by decide) (fun c105 => ?_) (fun c105 => absurd (ho.symm.trans c105) (by decide))
    refine lv_aload_n hx hb dX1_step_132 rfl (lv_at hl 2 rfl) ?_
    refine g1_mo hc hw dX1_step_133 ?_
    refine lv_iload_n hx hb dX1_step_136 rfl (lv_at hl 3 rfl) ?_
    refine l1_mo (j := q) hc hw (pf_ixn hq (by decide)) dX1_step_137 ?_
    refine lv_iconst (v := 4) hx hb dX1_step_138 (by decide) ?_
    refine lv_icmp_ne (tgt := 154) hx hb dX1_step_139 (by decide) (fun c139 => ?_) (fun c139 => absurd (ho.symm.trans c139) (by decide))
    refine lv_aload_n hx hb dX1_step_154 rfl (lv_at hl 2 rfl) ?_
    refine g1_mo hc hw dX1_step_155 ?_
    refine lv_iload_n hx hb dX1_step_158 rfl (lv_at hl 3 rfl) ?_
    refine l1_mo (j := q) hc hw (pf_ixn hq (by decide)) dX1_step_159 ?_
    refine lv_iconst (v := 5) hx hb dX1_step_160 (by decide) ?_
    refine lv_icmp_ne (tgt := 176) hx hb dX1_step_161 (by decide) (fun c161 => ?_) (fun c161 => absurd (ho.symm.trans c161) (by decide))
    refine lv_aload_n hx hb dX1_step_176 rfl (lv_at hl 2 rfl) ?_
    refine g1_mo hc hw dX1_step_177 ?_
    refine lv_iload_n hx hb dX1_step_180 rfl (lv_at hl 3 rfl) ?_
    refine l1_mo (j := q) hc hw (pf_ixn hq (by decide)) dX1_step_181 ?_
    refine lv_bipush (v := 6) hx hb dX1_step_182 (by decide) ?_
    refine lv_icmp_ne (tgt := 207) hx hb dX1_step_184 (by decide) (fun c184 => absurd ho c184) (fun c184 => ?_)
    refine lv_aload_n hx hb dX1_step_187 rfl (lv_at hl 2 rfl) ?_
    refine g1_mr hc hw dX1_step_188 ?_
    refine lv_iload_n hx hb dX1_step_191 rfl (lv_at hl 1 rfl) ?_
    refine lv_aload_n hx hb dX1_step_192 rfl (lv_at hl 2 rfl) ?_
    refine g1_mc hc hw dX1_step_193 ?_
    refine lv_aload_n hx hb dX1_step_196 rfl (lv_at hl 2 rfl) ?_
    refine g1_mr hc hw dX1_step_197 ?_
    refine lv_iload_n hx hb dX1_step_200 rfl (lv_at hl 0 rfl) ?_
    refine l1_mr (j := (pf_n (my q))) hc hw (pf_ixs (pf_oky hok (by rw [ho]; decide) (by rw [ho]; decide))) dX1_step_201 ?_
    refine lv_bipush (v := 7) hx hb dX1_step_202 (by decide) ?_
    refine lv_iand hx hb dX1_step_204 ?_
    refine l1_mc (j := (pf_n (mr (pf_n (my q)) &&& 7))) hc hw (pf_ixs (pf_vp_up (pk_andIn (m := 7) _ 3 (by decide) (by decide)) (by decide))) dX1_step_205 ?_
    refine s1_mr (j := (pf_n (mx q))) hc hw (pf_ixs (pf_okx hok (by rw [ho]; decide) (by rw [ho]; decide))) dX1_step_206 (fun H locs hw => ?_)
    refine lv_aload_n hx hb dX1_step_207 rfl (lv_at hl 2 rfl) ?_
    refine g1_mo hc hw dX1_step_208 ?_
    refine lv_iload_n hx hb dX1_step_211 rfl (lv_at hl 3 rfl) ?_
    refine l1_mo (j := q) hc hw (pf_ixn hq (by decide)) dX1_step_212 ?_
    refine lv_bipush (v := 7) hx hb dX1_step_213 (by decide) ?_
    refine lv_icmp_ne (tgt := 238) hx hb dX1_step_215 (by decide) (fun c215 => ?_) (fun c215 => absurd (ho.symm.trans c215) (by decide))
    refine lv_aload_n hx hb dX1_step_238 rfl (lv_at hl 2 rfl) ?_
    refine g1_mo hc hw dX1_step_239 ?_
    refine lv_iload_n hx hb dX1_step_242 rfl (lv_at hl 3 rfl) ?_
    refine l1_mo (j := q) hc hw (pf_ixn hq (by decide)) dX1_step_243 ?_
    refine lv_bipush (v := 8) hx hb dX1_step_244 (by decide) ?_
    refine lv_icmp_ne (tgt := 264) hx hb dX1_step_246 (by decide) (fun c246 => ?_) (fun c246 => absurd (ho.symm.trans c246) (by decide))
    refine lv_aload_n hx hb dX1_step_264 rfl (lv_at hl 2 rfl) ?_
    refine g1_mo hc hw dX1_step_265 ?_
    refine lv_iload_n hx hb dX1_step_268 rfl (lv_at hl 3 rfl) ?_
    refine l1_mo (j := q) hc hw (pf_ixn hq (by decide)) dX1_step_269 ?_
    refine lv_bipush (v := 9) hx hb dX1_step_270 (by decide) ?_
    refine lv_icmp_ne (tgt := 282) hx hb dX1_step_272 (by decide) (fun c272 => ?_) (fun c272 => absurd (ho.symm.trans c272) (by decide))
    refine lv_aload_n hx hb dX1_step_282 rfl (lv_at hl 2 rfl) ?_
    refine g1_mo hc hw dX1_step_283 ?_
    refine lv_iload_n hx hb dX1_step_286 rfl (lv_at hl 3 rfl) ?_
    refine l1_mo (j := q) hc hw (pf_ixn hq (by decide)) dX1_step_287 ?_
    refine lv_bipush (v := 10) hx hb dX1_step_288 (by decide) ?_
    refine lv_icmp_ne (tgt := 326) hx hb dX1_step_290 (by decide) (fun c290 => ?_) (fun c290 => absurd (ho.symm.trans c290) (by decide))
    refine lv_iload_n hx hb dX1_step_326 rfl (lv_at hl 3 rfl) ?_
    refine lv_iconst (v := 1) hx hb dX1_step_327 (by decide) ?_
    refine lv_iadd hx hb dX1_step_328 ?_
    exact pf_retI hc (mc, (upd mr (pf_n (mx q)) (mc (pf_n (mr (pf_n (my q)) &&& 7)))), ml) hw hr hlk (by simp [pf_mret, pf_mcel, pf_mreg, pf_mlef, pf_n, ho]) dX1_step_329
  · refine lv_aload_n hx hb dX1_step_0 rfl (lv_at hl 0 rfl) ?_
    refine g1_mx hc hw dX1_step_1 ?_
    refine lv_iload_n hx hb dX1_step_4 rfl (lv_at hl 1 rfl) ?_
    refine l1_mx (j := q) hc hw (pf_ixn hq (by decide)) dX1_step_5 ?_
    refine lv_istore_n (lv' := [(2, .int (mx q)), (0, .ref (a 0)), (1, .int (nI q))]) hx hb dX1_step_6 rfl hl (by decide) rfl (fun ls hl => ?_)
    refine lv_aload_n hx hb dX1_step_7 rfl (lv_at hl 1 rfl) ?_
    refine g1_my hc hw dX1_step_8 ?_
    refine lv_iload_n hx hb dX1_step_11 rfl (lv_at hl 2 rfl) ?_
    refine l1_my (j := q) hc hw (pf_ixn hq (by decide)) dX1_step_12 ?_
    refine lv_istore_n (lv' := [(3, .int (my q)), (2, .int (mx q)), (0, .ref (a 0)), (1, .int (nI q))]) hx hb dX1_step_13 rfl hl (by decide) rfl (fun ls hl => ?_)
    refine lv_aload_n hx hb dX1_step_14 rfl (lv_at hl 2 rfl) ?_
    refine g1_mo hc hw dX1_step_15 ?_
    refine lv_iload_n hx hb dX1_step_18 rfl (lv_at hl 3 rfl) ?_
    refine l1_mo (j := q) hc hw (pf_ixn hq (by decide)) dX1_step_19 ?_
    refine lv_if_ne (tgt := 30) hx hb dX1_step_20 (by decide) (fun c20 => ?_) (fun c20 => absurd (ho.symm.trans c20) (by decide))
    refine lv_aload_n hx hb dX1_step_30 rfl (lv_at hl 2 rfl) ?_
    refine g1_mo hc hw dX1_step_31 ?_
    refine lv_iload_n hx hb dX1_step_34 rfl (lv_at hl 3 rfl) ?_
    refine l1_mo (j := q) hc hw (pf_ixn hq (by decide)) dX1_step_35 ?_
    refine lv_iconst (v := 1) hx hb dX1_step_36 (by decide) ?_
    refine lv_icmp_ne (tgt := 64) hx hb dX1_step_37 (by decide) (fun c37 => ?_) (fun c37 => absurd (ho.symm.trans c37) (by decide))
    refine lv_aload_n hx hb dX1_step_64 rfl (lv_at hl 2 rfl) ?_
    refine g1_mo hc hw dX1_step_65 ?_
    refine lv_iload_n hx hb dX1_step_68 rfl (lv_at hl 3 rfl) ?_
    refine l1_mo (j := q) hc hw (pf_ixn hq (by decide)) dX1_step_69 ?_
    refine lv_iconst (v := 2) hx hb dX1_step_70 (by decide) ?_
    refine lv_icmp_ne (tgt := 98) hx hb dX1_step_71 (by decide) (fun c71 => ?_) (fun c71 => absurd (ho.symm.trans c71) (by decide))
    refine lv_aload_n hx hb dX1_step_98 rfl (lv_at hl 2 rfl) ?_
    refine g1_mo hc hw dX1_step_99 ?_
    refine lv_iload_n hx hb dX1_step_102 rfl (lv_at hl 3 rfl) ?_
    refine l1_mo (j := q) hc hw (pf_ixn hq (by decide)) dX1_step_103 ?_
    refine lv_iconst (v := 3) hx hb dX1_step_104 (by decide) ?_
    refine lv_icmp_ne (tgt := 132) hx hb dX1_step_105 (by decide) (fun c105 => ?_) (fun c105 => absurd (ho.symm.trans c105) (by decide))
    refine lv_aload_n hx hb dX1_step_132 rfl (lv_at hl 2 rfl) ?_
    refine g1_mo hc hw dX1_step_133 ?_
    refine lv_iload_n hx hb dX1_step_136 rfl (lv_at hl 3 rfl) ?_
    refine l1_mo (j := q) hc hw (pf_ixn hq (by decide)) dX1_step_137 ?_
    refine lv_iconst (v := 4) hx hb dX1_step_138 (by decide) ?_
    refine lv_icmp_ne (tgt := 154) hx hb dX1_step_139 (by decide) (fun c139 => ?_) (fun c139 => absurd (ho.symm.trans c139) (by decide))
    refine lv_aload_n hx hb dX1_step_154 rfl (lv_at hl 2 rfl) ?_
    refine g1_mo hc hw dX1_step_155 ?_
    refine lv_iload_n hx hb dX1_step_158 rfl (lv_at hl 3 rfl) ?_
    refine l1_mo (j := q) hc hw (pf_ixn hq (by decide)) dX1_step_159 ?_
    refine lv_iconst (v := 5) hx hb dX1_step_160 (by decide) ?_
    refine lv_icmp_ne (tgt := 176) hx hb dX1_step_161 (by decide) (fun c161 => ?_) (fun c161 => absurd (ho.symm.trans c161) (by decide))
    refine lv_aload_n hx hb dX1_step_176 rfl (lv_at hl 2 rfl) ?_
    refine g1_mo hc hw dX1_step_177 ?_
    refine lv_iload_n hx hb dX1_step_180 rfl (lv_at hl 3 rfl) ?_
    refine l1_mo (j := q) hc hw (pf_ixn hq (by decide)) dX1_step_181 ?_
    refine lv_bipush (v := 6) hx hb dX1_step_182 (by decide) ?_
    refine lv_icmp_ne (tgt := 207) hx hb dX1_step_184 (by decide) (fun c184 => ?_) (fun c184 => absurd (ho.symm.trans c184) (by decide))
    refine lv_aload_n hx hb dX1_step_207 rfl (lv_at hl 2 rfl) ?_
    refine g1_mo hc hw dX1_step_208 ?_
    refine lv_iload_n hx hb dX1_step_211 rfl (lv_at hl 3 rfl) ?_
    refine l1_mo (j := q) hc hw (pf_ixn hq (by decide)) dX1_step_212 ?_
    refine lv_bipush (v := 7) hx hb dX1_step_213 (by decide) ?_
    refine lv_icmp_ne (tgt := 238) hx hb dX1_step_215 (by decide) (fun c215 => absurd ho c215) (fun c215 => ?_)
    refine lv_aload_n hx hb dX1_step_218 rfl (lv_at hl 2 rfl) ?_
    refine g1_mc hc hw dX1_step_219 ?_
    refine lv_aload_n hx hb dX1_step_222 rfl (lv_at hl 2 rfl) ?_
    refine g1_mr hc hw dX1_step_223 ?_
    refine lv_iload_n hx hb dX1_step_226 rfl (lv_at hl 0 rfl) ?_
    refine l1_mr (j := (pf_n (my q))) hc hw (pf_ixs (pf_oky hok (by rw [ho]; decide) (by rw [ho]; decide))) dX1_step_227 ?_
    refine lv_bipush (v := 7) hx hb dX1_step_228 (by decide) ?_
    refine lv_iand hx hb dX1_step_230 ?_
    refine lv_aload_n hx hb dX1_step_231 rfl (lv_at hl 2 rfl) ?_
    refine g1_mr hc hw dX1_step_232 ?_
    refine lv_iload_n hx hb dX1_step_235 rfl (lv_at hl 1 rfl) ?_
    refine l1_mr (j := (pf_n (mx q))) hc hw (pf_ixs (pf_okx hok (by rw [ho]; decide) (by rw [ho]; decide))) dX1_step_236 ?_
    refine s1_mc (j := (pf_n (mr (pf_n (my q)) &&& 7))) hc hw (pf_ixs (pf_vp_up (pk_andIn (m := 7) _ 3 (by decide) (by decide)) (by decide))) dX1_step_237 (fun H locs hw => ?_)
    refine lv_aload_n hx hb dX1_step_238 rfl (lv_at hl 2 rfl) ?_
    refine g1_mo hc hw dX1_step_239 ?_
    refine lv_iload_n hx hb dX1_step_242 rfl (lv_at hl 3 rfl) ?_
    refine l1_mo (j := q) hc hw (pf_ixn hq (by decide)) dX1_step_243 ?_
    refine lv_bipush (v := 8) hx hb dX1_step_244 (by decide) ?_
    refine lv_icmp_ne (tgt := 264) hx hb dX1_step_246 (by decide) (fun c246 => ?_) (fun c246 => absurd (ho.symm.trans c246) (by decide))
    refine lv_aload_n hx hb dX1_step_264 rfl (lv_at hl 2 rfl) ?_
    refine g1_mo hc hw dX1_step_265 ?_
    refine lv_iload_n hx hb dX1_step_268 rfl (lv_at hl 3 rfl) ?_
    refine l1_mo (j := q) hc hw (pf_ixn hq (by decide)) dX1_step_269 ?_
    refine lv_bipush (v := 9) hx hb dX1_step_270 (by decide) ?_
    refine lv_icmp_ne (tgt := 282) hx hb dX1_step_272 (by decide) (fun c272 => ?_) (fun c272 => absurd (ho.symm.trans c272) (by decide))
    refine lv_aload_n hx hb dX1_step_282 rfl (lv_at hl 2 rfl) ?_
    refine g1_mo hc hw dX1_step_283 ?_
    refine lv_iload_n hx hb dX1_step_286 rfl (lv_at hl 3 rfl) ?_
    refine l1_mo (j := q) hc hw (pf_ixn hq (by decide)) dX1_step_287 ?_
    refine lv_bipush (v := 10) hx hb dX1_step_288 (by decide) ?_
    refine lv_icmp_ne (tgt := 326) hx hb dX1_step_290 (by decide) (fun c290 => ?_) (fun c290 => absurd (ho.symm.trans c290) (by decide))
    refine lv_iload_n hx hb dX1_step_326 rfl (lv_at hl 3 rfl) ?_
    refine lv_iconst (v := 1) hx hb dX1_step_327 (by decide) ?_
    refine lv_iadd hx hb dX1_step_328 ?_
    exact pf_retI hc ((upd mc (pf_n (mr (pf_n (my q)) &&& 7)) (mr (pf_n (mx q)))), mr, ml) hw hr hlk (by simp [pf_mret, pf_mcel, pf_mreg, pf_mlef, pf_n, ho]) dX1_step_329
  · refine lv_aload_n hx hb dX1_step_0 rfl (lv_at hl 0 rfl) ?_
    refine g1_mx hc hw dX1_step_1 ?_
    refine lv_iload_n hx hb dX1_step_4 rfl (lv_at hl 1 rfl) ?_
    refine l1_mx (j := q) hc hw (pf_ixn hq (by decide)) dX1_step_5 ?_
    refine lv_istore_n (lv' := [(2, .int (mx q)), (0, .ref (a 0)), (1, .int (nI q))]) hx hb dX1_step_6 rfl hl (by decide) rfl (fun ls hl => ?_)
    refine lv_aload_n hx hb dX1_step_7 rfl (lv_at hl 1 rfl) ?_
    refine g1_my hc hw dX1_step_8 ?_
    refine lv_iload_n hx hb dX1_step_11 rfl (lv_at hl 2 rfl) ?_
    refine l1_my (j := q) hc hw (pf_ixn hq (by decide)) dX1_step_12 ?_
    refine lv_istore_n (lv' := [(3, .int (my q)), (2, .int (mx q)), (0, .ref (a 0)), (1, .int (nI q))]) hx hb dX1_step_13 rfl hl (by decide) rfl (fun ls hl => ?_)
    refine lv_aload_n hx hb dX1_step_14 rfl (lv_at hl 2 rfl) ?_
    refine g1_mo hc hw dX1_step_15 ?_
    refine lv_iload_n hx hb dX1_step_18 rfl (lv_at hl 3 rfl) ?_
    refine l1_mo (j := q) hc hw (pf_ixn hq (by decide)) dX1_step_19 ?_
    refine lv_if_ne (tgt := 30) hx hb dX1_step_20 (by decide) (fun c20 => ?_) (fun c20 => absurd (ho.symm.trans c20) (by decide))
    refine lv_aload_n hx hb dX1_step_30 rfl (lv_at hl 2 rfl) ?_
    refine g1_mo hc hw dX1_step_31 ?_
    refine lv_iload_n hx hb dX1_step_34 rfl (lv_at hl 3 rfl) ?_
    refine l1_mo (j := q) hc hw (pf_ixn hq (by decide)) dX1_step_35 ?_
    refine lv_iconst (v := 1) hx hb dX1_step_36 (by decide) ?_
    refine lv_icmp_ne (tgt := 64) hx hb dX1_step_37 (by decide) (fun c37 => ?_) (fun c37 => absurd (ho.symm.trans c37) (by decide))
    refine lv_aload_n hx hb dX1_step_64 rfl (lv_at hl 2 rfl) ?_
    refine g1_mo hc hw dX1_step_65 ?_
    refine lv_iload_n hx hb dX1_step_68 rfl (lv_at hl 3 rfl) ?_
    refine l1_mo (j := q) hc hw (pf_ixn hq (by decide)) dX1_step_69 ?_
    refine lv_iconst (v := 2) hx hb dX1_step_70 (by decide) ?_
    refine lv_icmp_ne (tgt := 98) hx hb dX1_step_71 (by decide) (fun c71 => ?_) (fun c71 => absurd (ho.symm.trans c71) (by decide))
    refine lv_aload_n hx hb dX1_step_98 rfl (lv_at hl 2 rfl) ?_
    refine g1_mo hc hw dX1_step_99 ?_
    refine lv_iload_n hx hb dX1_step_102 rfl (lv_at hl 3 rfl) ?_
    refine l1_mo (j := q) hc hw (pf_ixn hq (by decide)) dX1_step_103 ?_
    refine lv_iconst (v := 3) hx hb dX1_step_104 (by decide) ?_
    refine lv_icmp_ne (tgt := 132) hx hb dX1_step_105 (by decide) (fun c105 => ?_) (fun c105 => absurd (ho.symm.trans c105) (by decide))
    refine lv_aload_n hx hb dX1_step_132 rfl (lv_at hl 2 rfl) ?_
    refine g1_mo hc hw dX1_step_133 ?_
    refine lv_iload_n hx hb dX1_step_136 rfl (lv_at hl 3 rfl) ?_
    refine l1_mo (j := q) hc hw (pf_ixn hq (by decide)) dX1_step_137 ?_
    refine lv_iconst (v := 4) hx hb dX1_step_138 (by decide) ?_
    refine lv_icmp_ne (tgt := 154) hx hb dX1_step_139 (by decide) (fun c139 => ?_) (fun c139 => absurd (ho.symm.trans c139) (by decide))
    refine lv_aload_n hx hb dX1_step_154 rfl (lv_at hl 2 rfl) ?_
    refine g1_mo hc hw dX1_step_155 ?_
    refine lv_iload_n hx hb dX1_step_158 rfl (lv_at hl 3 rfl) ?_
    refine l1_mo (j := q) hc hw (pf_ixn hq (by decide)) dX1_step_159 ?_
    refine lv_iconst (v := 5) hx hb dX1_step_160 (by decide) ?_
    refine lv_icmp_ne (tgt := 176) hx hb dX1_step_161 (by decide) (fun c161 => ?_) (fun c161 => absurd (ho.symm.trans c161) (by decide))
    refine lv_aload_n hx hb dX1_step_176 rfl (lv_at hl 2 rfl) ?_
    refine g1_mo hc hw dX1_step_177 ?_
    refine lv_iload_n hx hb dX1_step_180 rfl (lv_at hl 3 rfl) ?_
    refine l1_mo (j := q) hc hw (pf_ixn hq (by decide)) dX1_step_181 ?_
    refine lv_bipush (v := 6) hx hb dX1_step_182 (by decide) ?_
    refine lv_icmp_ne (tgt := 207) hx hb dX1_step_184 (by decide) (fun c184 => ?_) (fun c184 => absurd (ho.symm.trans c184) (by decide))
    refine lv_aload_n hx hb dX1_step_207 rfl (lv_at hl 2 rfl) ?_
    refine g1_mo hc hw dX1_step_208 ?_
    refine lv_iload_n hx hb dX1_step_211 rfl (lv_at hl 3 rfl) ?_
    refine l1_mo (j := q) hc hw (pf_ixn hq (by decide)) dX1_step_212 ?_
    refine lv_bipush (v := 7) hx hb dX1_step_213 (by decide) ?_
    refine lv_icmp_ne (tgt := 238) hx hb dX1_step_215 (by decide) (fun c215 => ?_) (fun c215 => absurd (ho.symm.trans c215) (by decide))
    refine lv_aload_n hx hb dX1_step_238 rfl (lv_at hl 2 rfl) ?_
    refine g1_mo hc hw dX1_step_239 ?_
    refine lv_iload_n hx hb dX1_step_242 rfl (lv_at hl 3 rfl) ?_
    refine l1_mo (j := q) hc hw (pf_ixn hq (by decide)) dX1_step_243 ?_
    refine lv_bipush (v := 8) hx hb dX1_step_244 (by decide) ?_
    refine lv_icmp_ne (tgt := 264) hx hb dX1_step_246 (by decide) (fun c246 => absurd ho c246) (fun c246 => ?_)
    refine lv_aload_n hx hb dX1_step_249 rfl (lv_at hl 2 rfl) ?_
    refine g1_mr hc hw dX1_step_250 ?_
    refine lv_iload_n hx hb dX1_step_253 rfl (lv_at hl 1 rfl) ?_
    refine l1_mr (j := (pf_n (mx q))) hc hw (pf_ixs (pf_okx hok (by rw [ho]; decide) (by rw [ho]; decide))) dX1_step_254 ?_
    refine lv_if_gt (tgt := 264) hx hb dX1_step_255 (by decide) (fun c255 => ?_) (fun c255 => ?_)
    · refine lv_aload_n hx hb dX1_step_264 rfl (lv_at hl 2 rfl) ?_
      refine g1_mo hc hw dX1_step_265 ?_
      refine lv_iload_n hx hb dX1_step_268 rfl (lv_at hl 3 rfl) ?_
      refine l1_mo (j := q) hc hw (pf_ixn hq (by decide)) dX1_step_269 ?_
      refine lv_bipush (v := 9) hx hb dX1_step_270 (by decide) ?_
      refine lv_icmp_ne (tgt := 282) hx hb dX1_step_272 (by decide) (fun c272 => ?_) (fun c272 => absurd (ho.symm.trans c272) (by decide))
      refine lv_aload_n hx hb dX1_step_282 rfl (lv_at hl 2 rfl) ?_
      refine g1_mo hc hw dX1_step_283 ?_
      refine lv_iload_n hx hb dX1_step_286 rfl (lv_at hl 3 rfl) ?_
      refine l1_mo (j := q) hc hw (pf_ixn hq (by decide)) dX1_step_287 ?_
      refine lv_bipush (v := 10) hx hb dX1_step_288 (by decide) ?_
      refine lv_icmp_ne (tgt := 326) hx hb dX1_step_290 (by decide) (fun c290 => ?_) (fun c290 => absurd (ho.symm.trans c290) (by decide))
      refine lv_iload_n hx hb dX1_step_326 rfl (lv_at hl 3 rfl) ?_
      refine lv_iconst (v := 1) hx hb dX1_step_327 (by decide) ?_
      refine lv_iadd hx hb dX1_step_328 ?_
      exact pf_retI hc (mc, mr, ml) hw hr hlk (by simp [pf_mret, pf_mcel, pf_mreg, pf_mlef, pf_n, ho, c255]) dX1_step_329
    · refine lv_iload_n hx hb dX1_step_258 rfl (lv_at hl 3 rfl) ?_
      refine lv_iload_n hx hb dX1_step_259 rfl (lv_at hl 0 rfl) ?_
      refine lv_iadd hx hb dX1_step_260 ?_
      refine lv_iconst (v := 1) hx hb dX1_step_261 (by decide) ?_
      refine lv_iadd hx hb dX1_step_262 ?_
      exact pf_retI hc (mc, mr, ml) hw hr hlk (by simp [pf_mret, pf_mcel, pf_mreg, pf_mlef, pf_n, ho, c255]) dX1_step_263
  · refine lv_aload_n hx hb dX1_step_0 rfl (lv_at hl 0 rfl) ?_
    refine g1_mx hc hw dX1_step_1 ?_
    refine lv_iload_n hx hb dX1_step_4 rfl (lv_at hl 1 rfl) ?_
    refine l1_mx (j := q) hc hw (pf_ixn hq (by decide)) dX1_step_5 ?_
    refine lv_istore_n (lv' := [(2, .int (mx q)), (0, .ref (a 0)), (1, .int (nI q))]) hx hb dX1_step_6 rfl hl (by decide) rfl (fun ls hl => ?_)
    refine lv_aload_n hx hb dX1_step_7 rfl (lv_at hl 1 rfl) ?_
    refine g1_my hc hw dX1_step_8 ?_
    refine lv_iload_n hx hb dX1_step_11 rfl (lv_at hl 2 rfl) ?_
    refine l1_my (j := q) hc hw (pf_ixn hq (by decide)) dX1_step_12 ?_
    refine lv_istore_n (lv' := [(3, .int (my q)), (2, .int (mx q)), (0, .ref (a 0)), (1, .int (nI q))]) hx hb dX1_step_13 rfl hl (by decide) rfl (fun ls hl => ?_)
    refine lv_aload_n hx hb dX1_step_14 rfl (lv_at hl 2 rfl) ?_
    refine g1_mo hc hw dX1_step_15 ?_
    refine lv_iload_n hx hb dX1_step_18 rfl (lv_at hl 3 rfl) ?_
    refine l1_mo (j := q) hc hw (pf_ixn hq (by decide)) dX1_step_19 ?_
    refine lv_if_ne (tgt := 30) hx hb dX1_step_20 (by decide) (fun c20 => ?_) (fun c20 => absurd (ho.symm.trans c20) (by decide))
    refine lv_aload_n hx hb dX1_step_30 rfl (lv_at hl 2 rfl) ?_
    refine g1_mo hc hw dX1_step_31 ?_
    refine lv_iload_n hx hb dX1_step_34 rfl (lv_at hl 3 rfl) ?_
    refine l1_mo (j := q) hc hw (pf_ixn hq (by decide)) dX1_step_35 ?_
    refine lv_iconst (v := 1) hx hb dX1_step_36 (by decide) ?_
    refine lv_icmp_ne (tgt := 64) hx hb dX1_step_37 (by decide) (fun c37 => ?_) (fun c37 => absurd (ho.symm.trans c37) (by decide))
    refine lv_aload_n hx hb dX1_step_64 rfl (lv_at hl 2 rfl) ?_
    refine g1_mo hc hw dX1_step_65 ?_
    refine lv_iload_n hx hb dX1_step_68 rfl (lv_at hl 3 rfl) ?_
    refine l1_mo (j := q) hc hw (pf_ixn hq (by decide)) dX1_step_69 ?_
    refine lv_iconst (v := 2) hx hb dX1_step_70 (by decide) ?_
    refine lv_icmp_ne (tgt := 98) hx hb dX1_step_71 (by decide) (fun c71 => ?_) (fun c71 => absurd (ho.symm.trans c71) (by decide))
    refine lv_aload_n hx hb dX1_step_98 rfl (lv_at hl 2 rfl) ?_
    refine g1_mo hc hw dX1_step_99 ?_
    refine lv_iload_n hx hb dX1_step_102 rfl (lv_at hl 3 rfl) ?_
    refine l1_mo (j := q) hc hw (pf_ixn hq (by decide)) dX1_step_103 ?_
    refine lv_iconst (v := 3) hx hb dX1_step_104 (by decide) ?_
    refine lv_icmp_ne (tgt := 132) hx hb dX1_step_105 (by decide) (fun c105 => ?_) (fun c105 => absurd (ho.symm.trans c105) (by decide))
    refine lv_aload_n hx hb dX1_step_132 rfl (lv_at hl 2 rfl) ?_
    refine g1_mo hc hw dX1_step_133 ?_
    refine lv_iload_n hx hb dX1_step_136 rfl (lv_at hl 3 rfl) ?_
    refine l1_mo (j := q) hc hw (pf_ixn hq (by decide)) dX1_step_137 ?_
    refine lv_iconst (v := 4) hx hb dX1_step_138 (by decide) ?_
    refine lv_icmp_ne (tgt := 154) hx hb dX1_step_139 (by decide) (fun c139 => ?_) (fun c139 => absurd (ho.symm.trans c139) (by decide))
    refine lv_aload_n hx hb dX1_step_154 rfl (lv_at hl 2 rfl) ?_
    refine g1_mo hc hw dX1_step_155 ?_
    refine lv_iload_n hx hb dX1_step_158 rfl (lv_at hl 3 rfl) ?_
    refine l1_mo (j := q) hc hw (pf_ixn hq (by decide)) dX1_step_159 ?_
    refine lv_iconst (v := 5) hx hb dX1_step_160 (by decide) ?_
    refine lv_icmp_ne (tgt := 176) hx hb dX1_step_161 (by decide) (fun c161 => ?_) (fun c161 => absurd (ho.symm.trans c161) (by decide))
    refine lv_aload_n hx hb dX1_step_176 rfl (lv_at hl 2 rfl) ?_
    refine g1_mo hc hw dX1_step_177 ?_
    refine lv_iload_n hx hb dX1_step_180 rfl (lv_at hl 3 rfl) ?_
    refine l1_mo (j := q) hc hw (pf_ixn hq (by decide)) dX1_step_181 ?_
    refine lv_bipush (v := 6) hx hb dX1_step_182 (by decide) ?_
    refine lv_icmp_ne (tgt := 207) hx hb dX1_step_184 (by decide) (fun c184 => ?_) (fun c184 => absurd (ho.symm.trans c184) (by decide))
    refine lv_aload_n hx hb dX1_step_207 rfl (lv_at hl 2 rfl) ?_
    refine g1_mo hc hw dX1_step_208 ?_
    refine lv_iload_n hx hb dX1_step_211 rfl (lv_at hl 3 rfl) ?_
    refine l1_mo (j := q) hc hw (pf_ixn hq (by decide)) dX1_step_212 ?_
    refine lv_bipush (v := 7) hx hb dX1_step_213 (by decide) ?_
    refine lv_icmp_ne (tgt := 238) hx hb dX1_step_215 (by decide) (fun c215 => ?_) (fun c215 => absurd (ho.symm.trans c215) (by decide))
    refine lv_aload_n hx hb dX1_step_238 rfl (lv_at hl 2 rfl) ?_
    refine g1_mo hc hw dX1_step_239 ?_
    refine lv_iload_n hx hb dX1_step_242 rfl (lv_at hl 3 rfl) ?_
    refine l1_mo (j := q) hc hw (pf_ixn hq (by decide)) dX1_step_243 ?_
    refine lv_bipush (v := 8) hx hb dX1_step_244 (by decide) ?_
    refine lv_icmp_ne (tgt := 264) hx hb dX1_step_246 (by decide) (fun c246 => ?_) (fun c246 => absurd (ho.symm.trans c246) (by decide))
    refine lv_aload_n hx hb dX1_step_264 rfl (lv_at hl 2 rfl) ?_
    refine g1_mo hc hw dX1_step_265 ?_
    refine lv_iload_n hx hb dX1_step_268 rfl (lv_at hl 3 rfl) ?_
    refine l1_mo (j := q) hc hw (pf_ixn hq (by decide)) dX1_step_269 ?_
    refine lv_bipush (v := 9) hx hb dX1_step_270 (by decide) ?_
    refine lv_icmp_ne (tgt := 282) hx hb dX1_step_272 (by decide) (fun c272 => absurd ho c272) (fun c272 => ?_)
    refine lv_aload_n hx hb dX1_step_275 rfl (lv_at hl 2 rfl) ?_
    refine g1_ml hc hw dX1_step_276 ?_
    refine lv_iload_n hx hb dX1_step_279 rfl (lv_at hl 3 rfl) ?_
    refine lv_iload_n hx hb dX1_step_280 rfl (lv_at hl 1 rfl) ?_
    refine s1_ml (j := q) hc hw (pf_ixn hq (by decide)) dX1_step_281 (fun H locs hw => ?_)
    refine lv_aload_n hx hb dX1_step_282 rfl (lv_at hl 2 rfl) ?_
    refine g1_mo hc hw dX1_step_283 ?_
    refine lv_iload_n hx hb dX1_step_286 rfl (lv_at hl 3 rfl) ?_
    refine l1_mo (j := q) hc hw (pf_ixn hq (by decide)) dX1_step_287 ?_
    refine lv_bipush (v := 10) hx hb dX1_step_288 (by decide) ?_
    refine lv_icmp_ne (tgt := 326) hx hb dX1_step_290 (by decide) (fun c290 => ?_) (fun c290 => absurd (ho.symm.trans c290) (by decide))
    refine lv_iload_n hx hb dX1_step_326 rfl (lv_at hl 3 rfl) ?_
    refine lv_iconst (v := 1) hx hb dX1_step_327 (by decide) ?_
    refine lv_iadd hx hb dX1_step_328 ?_
    exact pf_retI hc (mc, mr, (upd ml q (mx q))) hw hr hlk (by simp [pf_mret, pf_mcel, pf_mreg, pf_mlef, pf_n, ho]) dX1_step_329
  · refine lv_aload_n hx hb dX1_step_0 rfl (lv_at hl 0 rfl) ?_
    refine g1_mx hc hw dX1_step_1 ?_
    refine lv_iload_n hx hb dX1_step_4 rfl (lv_at hl 1 rfl) ?_
    refine l1_mx (j := q) hc hw (pf_ixn hq (by decide)) dX1_step_5 ?_
    refine lv_istore_n (lv' := [(2, .int (mx q)), (0, .ref (a 0)), (1, .int (nI q))]) hx hb dX1_step_6 rfl hl (by decide) rfl (fun ls hl => ?_)
    refine lv_aload_n hx hb dX1_step_7 rfl (lv_at hl 1 rfl) ?_
    refine g1_my hc hw dX1_step_8 ?_
    refine lv_iload_n hx hb dX1_step_11 rfl (lv_at hl 2 rfl) ?_
    refine l1_my (j := q) hc hw (pf_ixn hq (by decide)) dX1_step_12 ?_
    refine lv_istore_n (lv' := [(3, .int (my q)), (2, .int (mx q)), (0, .ref (a 0)), (1, .int (nI q))]) hx hb dX1_step_13 rfl hl (by decide) rfl (fun ls hl => ?_)
    refine lv_aload_n hx hb dX1_step_14 rfl (lv_at hl 2 rfl) ?_
    refine g1_mo hc hw dX1_step_15 ?_
    refine lv_iload_n hx hb dX1_step_18 rfl (lv_at hl 3 rfl) ?_
    refine l1_mo (j := q) hc hw (pf_ixn hq (by decide)) dX1_step_19 ?_
    refine lv_if_ne (tgt := 30) hx hb dX1_step_20 (by decide) (fun c20 => ?_) (fun c20 => absurd (ho.symm.trans c20) (by decide))
    refine lv_aload_n hx hb dX1_step_30 rfl (lv_at hl 2 rfl) ?_
    refine g1_mo hc hw dX1_step_31 ?_
    refine lv_iload_n hx hb dX1_step_34 rfl (lv_at hl 3 rfl) ?_
    refine l1_mo (j := q) hc hw (pf_ixn hq (by decide)) dX1_step_35 ?_
    refine lv_iconst (v := 1) hx hb dX1_step_36 (by decide) ?_
    refine lv_icmp_ne (tgt := 64) hx hb dX1_step_37 (by decide) (fun c37 => ?_) (fun c37 => absurd (ho.symm.trans c37) (by decide))
    refine lv_aload_n hx hb dX1_step_64 rfl (lv_at hl 2 rfl) ?_
    refine g1_mo hc hw dX1_step_65 ?_
    refine lv_iload_n hx hb dX1_step_68 rfl (lv_at hl 3 rfl) ?_
    refine l1_mo (j := q) hc hw (pf_ixn hq (by decide)) dX1_step_69 ?_
    refine lv_iconst (v := 2) hx hb dX1_step_70 (by decide) ?_
    refine lv_icmp_ne (tgt := 98) hx hb dX1_step_71 (by decide) (fun c71 => ?_) (fun c71 => absurd (ho.symm.trans c71) (by decide))
    refine lv_aload_n hx hb dX1_step_98 rfl (lv_at hl 2 rfl) ?_
    refine g1_mo hc hw dX1_step_99 ?_
    refine lv_iload_n hx hb dX1_step_102 rfl (lv_at hl 3 rfl) ?_
    refine l1_mo (j := q) hc hw (pf_ixn hq (by decide)) dX1_step_103 ?_
    refine lv_iconst (v := 3) hx hb dX1_step_104 (by decide) ?_
    refine lv_icmp_ne (tgt := 132) hx hb dX1_step_105 (by decide) (fun c105 => ?_) (fun c105 => absurd (ho.symm.trans c105) (by decide))
    refine lv_aload_n hx hb dX1_step_132 rfl (lv_at hl 2 rfl) ?_
    refine g1_mo hc hw dX1_step_133 ?_
    refine lv_iload_n hx hb dX1_step_136 rfl (lv_at hl 3 rfl) ?_
    refine l1_mo (j := q) hc hw (pf_ixn hq (by decide)) dX1_step_137 ?_
    refine lv_iconst (v := 4) hx hb dX1_step_138 (by decide) ?_
    refine lv_icmp_ne (tgt := 154) hx hb dX1_step_139 (by decide) (fun c139 => ?_) (fun c139 => absurd (ho.symm.trans c139) (by decide))
    refine lv_aload_n hx hb dX1_step_154 rfl (lv_at hl 2 rfl) ?_
    refine g1_mo hc hw dX1_step_155 ?_
    refine lv_iload_n hx hb dX1_step_158 rfl (lv_at hl 3 rfl) ?_
    refine l1_mo (j := q) hc hw (pf_ixn hq (by decide)) dX1_step_159 ?_
    refine lv_iconst (v := 5) hx hb dX1_step_160 (by decide) ?_
    refine lv_icmp_ne (tgt := 176) hx hb dX1_step_161 (by decide) (fun c161 => ?_) (fun c161 => absurd (ho.symm.trans c161) (by decide))
    refine lv_aload_n hx hb dX1_step_176 rfl (lv_at hl 2 rfl) ?_
    refine g1_mo hc hw dX1_step_177 ?_
    refine lv_iload_n hx hb dX1_step_180 rfl (lv_at hl 3 rfl) ?_
    refine l1_mo (j := q) hc hw (pf_ixn hq (by decide)) dX1_step_181 ?_
    refine lv_bipush (v := 6) hx hb dX1_step_182 (by decide) ?_
    refine lv_icmp_ne (tgt := 207) hx hb dX1_step_184 (by decide) (fun c184 => ?_) (fun c184 => absurd (ho.symm.trans c184) (by decide))
    refine lv_aload_n hx hb dX1_step_207 rfl (lv_at hl 2 rfl) ?_
    refine g1_mo hc hw dX1_step_208 ?_
    refine lv_iload_n hx hb dX1_step_211 rfl (lv_at hl 3 rfl) ?_
    refine l1_mo (j := q) hc hw (pf_ixn hq (by decide)) dX1_step_212 ?_
    refine lv_bipush (v := 7) hx hb dX1_step_213 (by decide) ?_
    refine lv_icmp_ne (tgt := 238) hx hb dX1_step_215 (by decide) (fun c215 => ?_) (fun c215 => absurd (ho.symm.trans c215) (by decide))
    refine lv_aload_n hx hb dX1_step_238 rfl (lv_at hl 2 rfl) ?_
    refine g1_mo hc hw dX1_step_239 ?_
    refine lv_iload_n hx hb dX1_step_242 rfl (lv_at hl 3 rfl) ?_
    refine l1_mo (j := q) hc hw (pf_ixn hq (by decide)) dX1_step_243 ?_
    refine lv_bipush (v := 8) hx hb dX1_step_244 (by decide) ?_
    refine lv_icmp_ne (tgt := 264) hx hb dX1_step_246 (by decide) (fun c246 => ?_) (fun c246 => absurd (ho.symm.trans c246) (by decide))
    refine lv_aload_n hx hb dX1_step_264 rfl (lv_at hl 2 rfl) ?_
    refine g1_mo hc hw dX1_step_265 ?_
    refine lv_iload_n hx hb dX1_step_268 rfl (lv_at hl 3 rfl) ?_
    refine l1_mo (j := q) hc hw (pf_ixn hq (by decide)) dX1_step_269 ?_
    refine lv_bipush (v := 9) hx hb dX1_step_270 (by decide) ?_
    refine lv_icmp_ne (tgt := 282) hx hb dX1_step_272 (by decide) (fun c272 => ?_) (fun c272 => absurd (ho.symm.trans c272) (by decide))
    refine lv_aload_n hx hb dX1_step_282 rfl (lv_at hl 2 rfl) ?_
    refine g1_mo hc hw dX1_step_283 ?_
    refine lv_iload_n hx hb dX1_step_286 rfl (lv_at hl 3 rfl) ?_
    refine l1_mo (j := q) hc hw (pf_ixn hq (by decide)) dX1_step_287 ?_
    refine lv_bipush (v := 10) hx hb dX1_step_288 (by decide) ?_
    refine lv_icmp_ne (tgt := 326) hx hb dX1_step_290 (by decide) (fun c290 => absurd ho c290) (fun c290 => ?_)
    refine lv_aload_n hx hb dX1_step_293 rfl (lv_at hl 2 rfl) ?_
    refine lv_iload_n hx hb dX1_step_294 rfl (lv_at hl 3 rfl) ?_
    refine pf_callI [.int (nI q)] hc hw hA (k1_openerOf l D a d mo mx my mz mc mr ml nn q s0 hq (hop ho)) (cwV 1 hc.1.2.2.2.2 (lw_V q257 q259 qs20 q23 q260) rfl rfl rfl (by decide +kernel) ⟨Nat.le_of_ble_eq_true rfl, Nat.le_of_ble_eq_true rfl⟩) (ci := 1) (T := TX1) (N := 8) rfl rfl rfl hl.1 rfl (Nat.le_of_ble_eq_true rfl) dX1_step_295 ⟨Nat.zero_le _, Nat.zero_le _⟩ (fun ro _ H locs hp295 hw => ?_)
    subst hp295
    refine lv_istore (lv' := [(4, .int (nI s0)), (3, .int (my q)), (2, .int (mx q)), (0, .ref (a 0)), (1, .int (nI q))]) hx hb dX1_step_298 hl (by decide) rfl (fun ls hl => ?_)
    refine lv_aload_n hx hb dX1_step_300 rfl (lv_at hl 3 rfl) ?_
    refine g1_ml hc hw dX1_step_301 ?_
    refine lv_iload hx hb dX1_step_304 (lv_at hl 0 rfl) ?_
    refine lv_dup2_11 hx hb dX1_step_306 rfl rfl ?_
    refine l1_ml (j := s0) hc hw (pf_ixn (Nat.lt_of_le_of_lt (hop ho).1 hq) (by decide)) dX1_step_307 ?_
    refine lv_iconst (v := 1) hx hb dX1_step_308 (by decide) ?_
    refine lv_isub hx hb dX1_step_309 ?_
    refine s1_ml (j := s0) hc hw (pf_ixn (Nat.lt_of_le_of_lt (hop ho).1 hq) (by decide)) dX1_step_310 (fun H locs hw => ?_)
    refine lv_aload_n hx hb dX1_step_311 rfl (lv_at hl 3 rfl) ?_
    refine g1_ml hc hw dX1_step_312 ?_
    refine lv_iload hx hb dX1_step_315 (lv_at hl 0 rfl) ?_
    refine l1_ml (j := s0) hc hw (pf_ixn (Nat.lt_of_le_of_lt (hop ho).1 hq) (by decide)) dX1_step_317 ?_
    refine pf_top (ml s0 - 1) pk_us ?_
    refine lv_if_le (tgt := 326) hx hb dX1_step_318 (by decide) (fun c318 => ?_) (fun c318 => ?_)
    · refine lv_iload_n hx hb dX1_step_326 rfl (lv_at hl 4 rfl) ?_
      refine lv_iconst (v := 1) hx hb dX1_step_327 (by decide) ?_
      refine lv_iadd hx hb dX1_step_328 ?_
      exact pf_retI hc (mc, mr, (upd ml s0 ((ml s0) - 1))) hw hr hlk (by simp [pf_mret, pf_mcel, pf_mreg, pf_mlef, pf_n, ho, c318]) dX1_step_329
    · refine lv_iload hx hb dX1_step_321 (lv_at hl 0 rfl) ?_
      refine lv_iconst (v := 1) hx hb dX1_step_323 (by decide) ?_
      refine lv_iadd hx hb dX1_step_324 ?_
      exact pf_retI hc (mc, mr, (upd ml s0 ((ml s0) - 1))) hw hr hlk (by simp [pf_mret, pf_mcel, pf_mreg, pf_mlef, pf_n, ho, c318]) dX1_step_325
end
section
set_option maxRecDepth 100000
set_option maxHeartbeats 4000000 in
/-- PowerFailCore() -/
theorem k0_init (l : Launch) (D : va_G) (h0 sz : Nat) : Met l yX0_init (ws_ yX0_init cX0_init 1 none) { frames := 1, cells := 10, slots := 168, locals := 12 } (va_Pc [.ref h0] (pf_pre D [] sz [(h0, .inr (0, [.int 0, .null, .null, .null, .null, .null, .null, .null, .null, .int 0, .int 0, .int 0, .null, .null, .int 0, .int 0, .int 0, .int 0, .int 0]))])) (va_Qv (fun u : (Nat → Nat) × (Nat → ClassId) => u.1 0 = h0) (fun u t => pf_at D (tyC u.2) (va_A [(h0, .inr (0, [.int 0, .null, .null, .null, .null, .null, .null, .null, .null, .int 0, .int 0, .int 0, .null, .null, .int 0, .int 0, .int 0, .int 0, .int 0]))] sz) (wC u.1 u.2 0 (fun _ => 0) (fun _ => 0) (fun _ => 0) (fun _ => 0) (fun _ => 0) (fun _ => 0) (fun _ => 0) (fun _ => 0) 0 0 0 (fun _ => 0) (fun _ => 0) 0 0 0 0 0) t) (va_A [(h0, .inr (0, [.int 0, .null, .null, .null, .null, .null, .null, .null, .null, .int 0, .int 0, .int 0, .null, .null, .int 0, .int 0, .int 0, .int 0, .int 0]))] sz)) 10 168 (va_A [(h0, .inr (0, [.int 0, .null, .null, .null, .null, .null, .null, .null, .null, .int 0, .int 0, .int 0, .null, .null, .int 0, .int 0, .int 0, .int 0, .int 0]))] sz) := by
  refine Met.ofW (cc := cX0_init) (maxL := 1) (ret := none) (by decide) rfl ?_
  intro p e s m args below meth c s₁ B hml hv
  obtain ⟨rfl, hsz, hP, hK, hD0⟩ := hv
  have hx := B.exec
  have hb := B.bytes
  have hr := B.returns
  have hts := atoms_spec (ws := ws_ yX0_init cX0_init 1 none) B.pre
  have hts : ∀ w ∈ lw_all, w.before _ s = true := fun w h => hts w (List.mem_cons_of_mem _ h)
  have hown : s.vm.findClass RX0 = some m.cls := findClass_of_methodNamed B.named
  have hlocks := B.notSynchronized
  have hin : meth.name = "<init>" := (name_of_methodNamed B.named B.method).1
  subst hsz
  have hD := hD0.self (sz := s.heap.size)
  generalize hAe : va_A [(h0, .inr (0, [.int 0, .null, .null, .null, .null, .null, .null, .null, .null, .int 0, .int 0, .int 0, .null, .null, .int 0, .int 0, .int 0, .int 0, .int 0]))] s.heap.size = A at hD ⊢
  have hA : ∀ q : Nat, s.heap.size ≤ q → A q := fun q h => by rw [← hAe]; exact Or.inr h
  have hS : va_S A s.heap s.heap [] := va_S.rf
  have hl := lv_entry ([.ref h0]) (n := 1) (Nat.le_of_ble_eq_true rfl)
  rw [lg_entry_eq]
  generalize (lg_sl ([.ref h0]) ++ List.replicate (1 - (lg_sl ([.ref h0])).length) Slot.unset).toArray = ls at hl ⊢
  have hl : lv_has ls 1 [(0, .ref h0)] := hl
  refine lv_aload_n hx hb dX0_init_0 rfl (lv_at hl 0 rfl) ?_
  refine W.objInit hx hb hown (hts _ q29) (hts _ q30) (hts _ q31) rfl (by rw [hml]; exact hl.1) rfl dX0_init_1 (Nat.le_of_ble_eq_true rfl) (Nat.le_of_ble_eq_true rfl) ?_
  refine W.eq (g2 := F0 m 4 ls []) rfl ?_
  refine lv_aload_n hx hb dX0_init_4 rfl (lv_at hl 0 rfl) ?_
  refine lv_bipush (v := 30) hx hb dX0_init_5 (by decide) ?_
  refine va_newa (atype := .byte) (ty := .byte) (a0 := (30, .inl (fun _ => 0))) (N' := 30) hx hb (hts _ q90) rfl hK hP hD hS hA (fun _ => rfl) (by decide) (by decide) (by decide) (by decide) (by decide) dX0_init_7 (fun q1 c1 H hK hP hD hS => ?_)
  refine W.widen (k := 1) (n := 30) (by decide) (by decide) ?_
  have hP : va_P D vwCl [(h0, .inr (0, [.int 0, .null, .null, .null, .null, .null, .null, .null, .null, .int 0, .int 0, .int 0, .null, .null, .int 0, .int 0, .int 0, .int 0, .int 0])), (q1, .inl (c1, 30, .inl (fun _ => 0)))] H := hP
  have hD : va_D A [(h0, .inr (0, [.int 0, .null, .null, .null, .null, .null, .null, .null, .null, .int 0, .int 0, .int 0, .null, .null, .int 0, .int 0, .int 0, .int 0, .int 0])), (q1, .inl (c1, 30, .inl (fun _ => 0)))] := hD
  have hK : va_K D vwCl [(c1, .byte)] s := hK
  refine va_putF (D := D) (ci := 0) (v := .ref q1) (ty := (.array .byte)) (C := RX0) (T := TX0) (N := 19) hx hb hts in_X0 tyX0 tyX0_ok nmX0 hown hK hP hD hS 0 rfl rfl 1 (by decide) (hts _ q33) (fun _ h9 => h9) rfl hin rfl (by decide +kernel) rfl rfl (Nat.le_of_ble_eq_true rfl) dX0_init_9 (fun H locs hP hD hS => ?_)
  have hP : va_P D vwCl [(h0, .inr (0, [.int 0, .ref q1, .null, .null, .null, .null, .null, .null, .null, .int 0, .int 0, .int 0, .null, .null, .int 0, .int 0, .int 0, .int 0, .int 0])), (q1, .inl (c1, 30, .inl (fun _ => 0)))] H := hP
  have hD : va_D A [(h0, .inr (0, [.int 0, .ref q1, .null, .null, .null, .null, .null, .null, .null, .int 0, .int 0, .int 0, .null, .null, .int 0, .int 0, .int 0, .int 0, .int 0])), (q1, .inl (c1, 30, .inl (fun _ => 0)))] := hD
  refine lv_aload_n hx hb dX0_init_12 rfl (lv_at hl 0 rfl) ?_
  refine lv_bipush (v := 30) hx hb dX0_init_13 (by decide) ?_
  refine va_newa (atype := .byte) (ty := .byte) (a0 := (30, .inl (fun _ => 0))) (N' := 30) hx hb (hts _ q90) rfl hK hP hD hS hA (fun _ => rfl) (by decide) (by decide) (by decide) (by decide) (by decide) dX0_init_15 (fun q2 c2 H hK hP hD hS => ?_)
  refine W.widen (k := 2) (n := 60) (by decide) (by decide) ?_
  have hP : va_P D vwCl [(h0, .inr (0, [.int 0, .ref q1, .null, .null, .null, .null, .null, .null, .null, .int 0, .int 0, .int 0, .null, .null, .int 0, .int 0, .int 0, .int 0, .int 0])), (q1, .inl (c1, 30, .inl (fun _ => 0))), (q2, .inl (c2, 30, .inl (fun _ => 0)))] H := hP
  have hD : va_D A [(h0, .inr (0, [.int 0, .ref q1, .null, .null, .null, .null, .null, .null, .null, .int 0, .int 0, .int 0, .null, .null, .int 0, .int 0, .int 0, .int 0, .int 0])), (q1, .inl (c1, 30, .inl (fun _ => 0))), (q2, .inl (c2, 30, .inl (fun _ => 0)))] := hD
  have hK : va_K D vwCl [(c1, .byte), (c2, .byte)] s := hK
  refine va_putF (D := D) (ci := 0) (v := .ref q2) (ty := (.array .byte)) (C := RX0) (T := TX0) (N := 19) hx hb hts in_X0 tyX0 tyX0_ok nmX0 hown hK hP hD hS 0 rfl rfl 2 (by decide) (hts _ q34) (fun _ h9 => h9) rfl hin rfl (by decide +kernel) rfl rfl (Nat.le_of_ble_eq_true rfl) dX0_init_17 (fun H locs hP hD hS => ?_)
  have hP : va_P D vwCl [(h0, .inr (0, [.int 0, .ref q1, .ref q2, .null, .null, .null, .null, .null, .null, .int 0, .int 0, .int 0, .null, .null, .int 0, .int 0, .int 0, .int 0, .int 0])), (q1, .inl (c1, 30, .inl (fun _ => 0))), (q2, .inl (c2, 30, .inl (fun _ => 0)))] H := hP
  have hD : va_D A [(h0, .inr (0, [.int 0, .ref q1, .ref q2, .null, .null, .null, .null, .null, .null, .int 0, .int 0, .int 0, .null, .null, .int 0, .int 0, .int 0, .int 0, .int 0])), (q1, .inl (c1, 30, .inl (fun _ => 0))), (q2, .inl (c2, 30, .inl (fun _ => 0)))] := hD
  refine lv_aload_n hx hb dX0_init_20 rfl (lv_at hl 0 rfl) ?_
  refine lv_bipush (v := 30) hx hb dX0_init_21 (by decide) ?_
  refine va_newa (atype := .int) (ty := .int) (a0 := (30, .inl (fun _ => 0))) (N' := 30) hx hb (hts _ q91) rfl hK hP hD hS hA (fun _ => rfl) (by decide) (by decide) (by decide) (by decide) (by decide) dX0_init_23 (fun q3 c3 H hK hP hD hS => ?_)
  refine W.widen (k := 3) (n := 90) (by decide) (by decide) ?_
  have hP : va_P D vwCl [(h0, .inr (0, [.int 0, .ref q1, .ref q2, .null, .null, .null, .null, .null, .null, .int 0, .int 0, .int 0, .null, .null, .int 0, .int 0, .int 0, .int 0, .int 0])), (q1, .inl (c1, 30, .inl (fun _ => 0))), (q2, .inl (c2, 30, .inl (fun _ => 0))), (q3, .inl (c3, 30, .inl (fun _ => 0)))] H := hP
  have hD : va_D A [(h0, .inr (0, [.int 0, .ref q1, .ref q2, .null, .null, .null, .null, .null, .null, .int 0, .int 0, .int 0, .null, .null, .int 0, .int 0, .int 0, .int 0, .int 0])), (q1, .inl (c1, 30, .inl (fun _ => 0))), (q2, .inl (c2, 30, .inl (fun _ => 0))), (q3, .inl (c3, 30, .inl (fun _ => 0)))] := hD
  have hK : va_K D vwCl [(c1, .byte), (c2, .byte), (c3, .int)] s := hK
  refine va_putF (D := D) (ci := 0) (v := .ref q3) (ty := (.array .int)) (C := RX0) (T := TX0) (N := 19) hx hb hts in_X0 tyX0 tyX0_ok nmX0 hown hK hP hD hS 0 rfl rfl 3 (by decide) (hts _ q35) (fun _ h9 => h9) rfl hin rfl (by decide +kernel) rfl rfl (Nat.le_of_ble_eq_true rfl) dX0_init_25 (fun H locs hP hD hS => ?_)
  have hP : va_P D vwCl [(h0, .inr (0, [.int 0, .ref q1, .ref q2, .ref q3, .null, .null, .null, .null, .null, .int 0, .int 0, .int 0, .null, .null, .int 0, .int 0, .int 0, .int 0, .int 0])), (q1, .inl (c1, 30, .inl (fun _ => 0))), (q2, .inl (c2, 30, .inl (fun _ => 0))), (q3, .inl (c3, 30, .inl (fun _ => 0)))] H := hP
  have hD : va_D A [(h0, .inr (0, [.int 0, .ref q1, .ref q2, .ref q3, .null, .null, .null, .null, .null, .int 0, .int 0, .int 0, .null, .null, .int 0, .int 0, .int 0, .int 0, .int 0])), (q1, .inl (c1, 30, .inl (fun _ => 0))), (q2, .inl (c2, 30, .inl (fun _ => 0))), (q3, .inl (c3, 30, .inl (fun _ => 0)))] := hD
  refine lv_aload_n hx hb dX0_init_28 rfl (lv_at hl 0 rfl) ?_
  refine lv_bipush (v := 30) hx hb dX0_init_29 (by decide) ?_
  refine va_newa (atype := .byte) (ty := .byte) (a0 := (30, .inl (fun _ => 0))) (N' := 30) hx hb (hts _ q90) rfl hK hP hD hS hA (fun _ => rfl) (by decide) (by decide) (by decide) (by decide) (by decide) dX0_init_31 (fun q4 c4 H hK hP hD hS => ?_)
  refine W.widen (k := 4) (n := 120) (by decide) (by decide) ?_
  have hP : va_P D vwCl [(h0, .inr (0, [.int 0, .ref q1, .ref q2, .ref q3, .null, .null, .null, .null, .null, .int 0, .int 0, .int 0, .null, .null, .int 0, .int 0, .int 0, .int 0, .int 0])), (q1, .inl (c1, 30, .inl (fun _ => 0))), (q2, .inl (c2, 30, .inl (fun _ => 0))), (q3, .inl (c3, 30, .inl (fun _ => 0))), (q4, .inl (c4, 30, .inl (fun _ => 0)))] H := hP
  have hD : va_D A [(h0, .inr (0, [.int 0, .ref q1, .ref q2, .ref q3, .null, .null, .null, .null, .null, .int 0, .int 0, .int 0, .null, .null, .int 0, .int 0, .int 0, .int 0, .int 0])), (q1, .inl (c1, 30, .inl (fun _ => 0))), (q2, .inl (c2, 30, .inl (fun _ => 0))), (q3, .inl (c3, 30, .inl (fun _ => 0))), (q4, .inl (c4, 30, .inl (fun _ => 0)))] := hD
  have hK : va_K D vwCl [(c1, .byte), (c2, .byte), (c3, .int), (c4, .byte)] s := hK
  refine va_putF (D := D) (ci := 0) (v := .ref q4) (ty := (.array .byte)) (C := RX0) (T := TX0) (N := 19) hx hb hts in_X0 tyX0 tyX0_ok nmX0 hown hK hP hD hS 0 rfl rfl 4 (by decide) (hts _ q36) (fun _ h9 => h9) rfl hin rfl (by decide +kernel) rfl rfl (Nat.le_of_ble_eq_true rfl) dX0_init_33 (fun H locs hP hD hS => ?_)
  have hP : va_P D vwCl [(h0, .inr (0, [.int 0, .ref q1, .ref q2, .ref q3, .ref q4, .null, .null, .null, .null, .int 0, .int 0, .int 0, .null, .null, .int 0, .int 0, .int 0, .int 0, .int 0])), (q1, .inl (c1, 30, .inl (fun _ => 0))), (q2, .inl (c2, 30, .inl (fun _ => 0))), (q3, .inl (c3, 30, .inl (fun _ => 0))), (q4, .inl (c4, 30, .inl (fun _ => 0)))] H := hP
  have hD : va_D A [(h0, .inr (0, [.int 0, .ref q1, .ref q2, .ref q3, .ref q4, .null, .null, .null, .null, .int 0, .int 0, .int 0, .null, .null, .int 0, .int 0, .int 0, .int 0, .int 0])), (q1, .inl (c1, 30, .inl (fun _ => 0))), (q2, .inl (c2, 30, .inl (fun _ => 0))), (q3, .inl (c3, 30, .inl (fun _ => 0))), (q4, .inl (c4, 30, .inl (fun _ => 0)))] := hD
  refine lv_aload_n hx hb dX0_init_36 rfl (lv_at hl 0 rfl) ?_
  refine lv_bipush (v := 12) hx hb dX0_init_37 (by decide) ?_
  refine va_newa (atype := .int) (ty := .int) (a0 := (12, .inl (fun _ => 0))) (N' := 12) hx hb (hts _ q91) rfl hK hP hD hS hA (fun _ => rfl) (by decide) (by decide) (by decide) (by decide) (by decide) dX0_init_39 (fun q5 c5 H hK hP hD hS => ?_)
  refine W.widen (k := 5) (n := 132) (by decide) (by decide) ?_
  have hP : va_P D vwCl [(h0, .inr (0, [.int 0, .ref q1, .ref q2, .ref q3, .ref q4, .null, .null, .null, .null, .int 0, .int 0, .int 0, .null, .null, .int 0, .int 0, .int 0, .int 0, .int 0])), (q1, .inl (c1, 30, .inl (fun _ => 0))), (q2, .inl (c2, 30, .inl (fun _ => 0))), (q3, .inl (c3, 30, .inl (fun _ => 0))), (q4, .inl (c4, 30, .inl (fun _ => 0))), (q5, .inl (c5, 12, .inl (fun _ => 0)))] H := hP
  have hD : va_D A [(h0, .inr (0, [.int 0, .ref q1, .ref q2, .ref q3, .ref q4, .null, .null, .null, .null, .int 0, .int 0, .int 0, .null, .null, .int 0, .int 0, .int 0, .int 0, .int 0])), (q1, .inl (c1, 30, .inl (fun _ => 0))), (q2, .inl (c2, 30, .inl (fun _ => 0))), (q3, .inl (c3, 30, .inl (fun _ => 0))), (q4, .inl (c4, 30, .inl (fun _ => 0))), (q5, .inl (c5, 12, .inl (fun _ => 0)))] := hD
  have hK : va_K D vwCl [(c1, .byte), (c2, .byte), (c3, .int), (c4, .byte), (c5, .int)] s := hK
  refine va_putF (D := D) (ci := 0) (v := .ref q5) (ty := (.array .int)) (C := RX0) (T := TX0) (N := 19) hx hb hts in_X0 tyX0 tyX0_ok nmX0 hown hK hP hD hS 0 rfl rfl 5 (by decide) (hts _ q37) (fun _ h9 => h9) rfl hin rfl (by decide +kernel) rfl rfl (Nat.le_of_ble_eq_true rfl) dX0_init_41 (fun H locs hP hD hS => ?_)
  have hP : va_P D vwCl [(h0, .inr (0, [.int 0, .ref q1, .ref q2, .ref q3, .ref q4, .ref q5, .null, .null, .null, .int 0, .int 0, .int 0, .null, .null, .int 0, .int 0, .int 0, .int 0, .int 0])), (q1, .inl (c1, 30, .inl (fun _ => 0))), (q2, .inl (c2, 30, .inl (fun _ => 0))), (q3, .inl (c3, 30, .inl (fun _ => 0))), (q4, .inl (c4, 30, .inl (fun _ => 0))), (q5, .inl (c5, 12, .inl (fun _ => 0)))] H := hP
  have hD : va_D A [(h0, .inr (0, [.int 0, .ref q1, .ref q2, .ref q3, .ref q4, .ref q5, .null, .null, .null, .int 0, .int 0, .int 0, .null, .null, .int 0, .int 0, .int 0, .int 0, .int 0])), (q1, .inl (c1, 30, .inl (fun _ => 0))), (q2, .inl (c2, 30, .inl (fun _ => 0))), (q3, .inl (c3, 30, .inl (fun _ => 0))), (q4, .inl (c4, 30, .inl (fun _ => 0))), (q5, .inl (c5, 12, .inl (fun _ => 0)))] := hD
  refine lv_aload_n hx hb dX0_init_44 rfl (lv_at hl 0 rfl) ?_
  refine lv_bipush (v := 24) hx hb dX0_init_45 (by decide) ?_
  refine va_newa (atype := .int) (ty := .int) (a0 := (24, .inl (fun _ => 0))) (N' := 24) hx hb (hts _ q91) rfl hK hP hD hS hA (fun _ => rfl) (by decide) (by decide) (by decide) (by decide) (by decide) dX0_init_47 (fun q6 c6 H hK hP hD hS => ?_)
  refine W.widen (k := 6) (n := 156) (by decide) (by decide) ?_
  have hP : va_P D vwCl [(h0, .inr (0, [.int 0, .ref q1, .ref q2, .ref q3, .ref q4, .ref q5, .null, .null, .null, .int 0, .int 0, .int 0, .null, .null, .int 0, .int 0, .int 0, .int 0, .int 0])), (q1, .inl (c1, 30, .inl (fun _ => 0))), (q2, .inl (c2, 30, .inl (fun _ => 0))), (q3, .inl (c3, 30, .inl (fun _ => 0))), (q4, .inl (c4, 30, .inl (fun _ => 0))), (q5, .inl (c5, 12, .inl (fun _ => 0))), (q6, .inl (c6, 24, .inl (fun _ => 0)))] H := hP
  have hD : va_D A [(h0, .inr (0, [.int 0, .ref q1, .ref q2, .ref q3, .ref q4, .ref q5, .null, .null, .null, .int 0, .int 0, .int 0, .null, .null, .int 0, .int 0, .int 0, .int 0, .int 0])), (q1, .inl (c1, 30, .inl (fun _ => 0))), (q2, .inl (c2, 30, .inl (fun _ => 0))), (q3, .inl (c3, 30, .inl (fun _ => 0))), (q4, .inl (c4, 30, .inl (fun _ => 0))), (q5, .inl (c5, 12, .inl (fun _ => 0))), (q6, .inl (c6, 24, .inl (fun _ => 0)))] := hD
  have hK : va_K D vwCl [(c1, .byte), (c2, .byte), (c3, .int), (c4, .byte), (c5, .int), (c6, .int)] s := hK
  refine va_putF (D := D) (ci := 0) (v := .ref q6) (ty := (.array .int)) (C := RX0) (T := TX0) (N := 19) hx hb hts in_X0 tyX0 tyX0_ok nmX0 hown hK hP hD hS 0 rfl rfl 6 (by decide) (hts _ q38) (fun _ h9 => h9) rfl hin rfl (by decide +kernel) rfl rfl (Nat.le_of_ble_eq_true rfl) dX0_init_49 (fun H locs hP hD hS => ?_)
  have hP : va_P D vwCl [(h0, .inr (0, [.int 0, .ref q1, .ref q2, .ref q3, .ref q4, .ref q5, .ref q6, .null, .null, .int 0, .int 0, .int 0, .null, .null, .int 0, .int 0, .int 0, .int 0, .int 0])), (q1, .inl (c1, 30, .inl (fun _ => 0))), (q2, .inl (c2, 30, .inl (fun _ => 0))), (q3, .inl (c3, 30, .inl (fun _ => 0))), (q4, .inl (c4, 30, .inl (fun _ => 0))), (q5, .inl (c5, 12, .inl (fun _ => 0))), (q6, .inl (c6, 24, .inl (fun _ => 0)))] H := hP
  have hD : va_D A [(h0, .inr (0, [.int 0, .ref q1, .ref q2, .ref q3, .ref q4, .ref q5, .ref q6, .null, .null, .int 0, .int 0, .int 0, .null, .null, .int 0, .int 0, .int 0, .int 0, .int 0])), (q1, .inl (c1, 30, .inl (fun _ => 0))), (q2, .inl (c2, 30, .inl (fun _ => 0))), (q3, .inl (c3, 30, .inl (fun _ => 0))), (q4, .inl (c4, 30, .inl (fun _ => 0))), (q5, .inl (c5, 12, .inl (fun _ => 0))), (q6, .inl (c6, 24, .inl (fun _ => 0)))] := hD
  refine lv_aload_n hx hb dX0_init_52 rfl (lv_at hl 0 rfl) ?_
  refine lv_iconst (v := 4) hx hb dX0_init_53 (by decide) ?_
  refine va_newa (atype := .int) (ty := .int) (a0 := (4, .inl (fun _ => 0))) (N' := 4) hx hb (hts _ q91) rfl hK hP hD hS hA (fun _ => rfl) (by decide) (by decide) (by decide) (by decide) (by decide) dX0_init_54 (fun q7 c7 H hK hP hD hS => ?_)
  refine W.widen (k := 7) (n := 160) (by decide) (by decide) ?_
  have hP : va_P D vwCl [(h0, .inr (0, [.int 0, .ref q1, .ref q2, .ref q3, .ref q4, .ref q5, .ref q6, .null, .null, .int 0, .int 0, .int 0, .null, .null, .int 0, .int 0, .int 0, .int 0, .int 0])), (q1, .inl (c1, 30, .inl (fun _ => 0))), (q2, .inl (c2, 30, .inl (fun _ => 0))), (q3, .inl (c3, 30, .inl (fun _ => 0))), (q4, .inl (c4, 30, .inl (fun _ => 0))), (q5, .inl (c5, 12, .inl (fun _ => 0))), (q6, .inl (c6, 24, .inl (fun _ => 0))), (q7, .inl (c7, 4, .inl (fun _ => 0)))] H := hP
  have hD : va_D A [(h0, .inr (0, [.int 0, .ref q1, .ref q2, .ref q3, .ref q4, .ref q5, .ref q6, .null, .null, .int 0, .int 0, .int 0, .null, .null, .int 0, .int 0, .int 0, .int 0, .int 0])), (q1, .inl (c1, 30, .inl (fun _ => 0))), (q2, .inl (c2, 30, .inl (fun _ => 0))), (q3, .inl (c3, 30, .inl (fun _ => 0))), (q4, .inl (c4, 30, .inl (fun _ => 0))), (q5, .inl (c5, 12, .inl (fun _ => 0))), (q6, .inl (c6, 24, .inl (fun _ => 0))), (q7, .inl (c7, 4, .inl (fun _ => 0)))] := hD
  have hK : va_K D vwCl [(c1, .byte), (c2, .byte), (c3, .int), (c4, .byte), (c5, .int), (c6, .int), (c7, .int)] s := hK
  refine va_putF (D := D) (ci := 0) (v := .ref q7) (ty := (.array .int)) (C := RX0) (T := TX0) (N := 19) hx hb hts in_X0 tyX0 tyX0_ok nmX0 hown hK hP hD hS 0 rfl rfl 7 (by decide) (hts _ q39) (fun _ h9 => h9) rfl hin rfl (by decide +kernel) rfl rfl (Nat.le_of_ble_eq_true rfl) dX0_init_56 (fun H locs hP hD hS => ?_)
  have hP : va_P D vwCl [(h0, .inr (0, [.int 0, .ref q1, .ref q2, .ref q3, .ref q4, .ref q5, .ref q6, .ref q7, .null, .int 0, .int 0, .int 0, .null, .null, .int 0, .int 0, .int 0, .int 0, .int 0])), (q1, .inl (c1, 30, .inl (fun _ => 0))), (q2, .inl (c2, 30, .inl (fun _ => 0))), (q3, .inl (c3, 30, .inl (fun _ => 0))), (q4, .inl (c4, 30, .inl (fun _ => 0))), (q5, .inl (c5, 12, .inl (fun _ => 0))), (q6, .inl (c6, 24, .inl (fun _ => 0))), (q7, .inl (c7, 4, .inl (fun _ => 0)))] H := hP
  have hD : va_D A [(h0, .inr (0, [.int 0, .ref q1, .ref q2, .ref q3, .ref q4, .ref q5, .ref q6, .ref q7, .null, .int 0, .int 0, .int 0, .null, .null, .int 0, .int 0, .int 0, .int 0, .int 0])), (q1, .inl (c1, 30, .inl (fun _ => 0))), (q2, .inl (c2, 30, .inl (fun _ => 0))), (q3, .inl (c3, 30, .inl (fun _ => 0))), (q4, .inl (c4, 30, .inl (fun _ => 0))), (q5, .inl (c5, 12, .inl (fun _ => 0))), (q6, .inl (c6, 24, .inl (fun _ => 0))), (q7, .inl (c7, 4, .inl (fun _ => 0)))] := hD
  refine lv_aload_n hx hb dX0_init_59 rfl (lv_at hl 0 rfl) ?_
  refine lv_iconst (v := 4) hx hb dX0_init_60 (by decide) ?_
  refine va_newa (atype := .int) (ty := .int) (a0 := (4, .inl (fun _ => 0))) (N' := 4) hx hb (hts _ q91) rfl hK hP hD hS hA (fun _ => rfl) (by decide) (by decide) (by decide) (by decide) (by decide) dX0_init_61 (fun q8 c8 H hK hP hD hS => ?_)
  refine W.widen (k := 8) (n := 164) (by decide) (by decide) ?_
  have hP : va_P D vwCl [(h0, .inr (0, [.int 0, .ref q1, .ref q2, .ref q3, .ref q4, .ref q5, .ref q6, .ref q7, .null, .int 0, .int 0, .int 0, .null, .null, .int 0, .int 0, .int 0, .int 0, .int 0])), (q1, .inl (c1, 30, .inl (fun _ => 0))), (q2, .inl (c2, 30, .inl (fun _ => 0))), (q3, .inl (c3, 30, .inl (fun _ => 0))), (q4, .inl (c4, 30, .inl (fun _ => 0))), (q5, .inl (c5, 12, .inl (fun _ => 0))), (q6, .inl (c6, 24, .inl (fun _ => 0))), (q7, .inl (c7, 4, .inl (fun _ => 0))), (q8, .inl (c8, 4, .inl (fun _ => 0)))] H := hP
  have hD : va_D A [(h0, .inr (0, [.int 0, .ref q1, .ref q2, .ref q3, .ref q4, .ref q5, .ref q6, .ref q7, .null, .int 0, .int 0, .int 0, .null, .null, .int 0, .int 0, .int 0, .int 0, .int 0])), (q1, .inl (c1, 30, .inl (fun _ => 0))), (q2, .inl (c2, 30, .inl (fun _ => 0))), (q3, .inl (c3, 30, .inl (fun _ => 0))), (q4, .inl (c4, 30, .inl (fun _ => 0))), (q5, .inl (c5, 12, .inl (fun _ => 0))), (q6, .inl (c6, 24, .inl (fun _ => 0))), (q7, .inl (c7, 4, .inl (fun _ => 0))), (q8, .inl (c8, 4, .inl (fun _ => 0)))] := hD
  have hK : va_K D vwCl [(c1, .byte), (c2, .byte), (c3, .int), (c4, .byte), (c5, .int), (c6, .int), (c7, .int), (c8, .int)] s := hK
  refine va_putF (D := D) (ci := 0) (v := .ref q8) (ty := (.array .int)) (C := RX0) (T := TX0) (N := 19) hx hb hts in_X0 tyX0 tyX0_ok nmX0 hown hK hP hD hS 0 rfl rfl 8 (by decide) (hts _ q40) (fun _ h9 => h9) rfl hin rfl (by decide +kernel) rfl rfl (Nat.le_of_ble_eq_true rfl) dX0_init_63 (fun H locs hP hD hS => ?_)
  have hP : va_P D vwCl [(h0, .inr (0, [.int 0, .ref q1, .ref q2, .ref q3, .ref q4, .ref q5, .ref q6, .ref q7, .ref q8, .int 0, .int 0, .int 0, .null, .null, .int 0, .int 0, .int 0, .int 0, .int 0])), (q1, .inl (c1, 30, .inl (fun _ => 0))), (q2, .inl (c2, 30, .inl (fun _ => 0))), (q3, .inl (c3, 30, .inl (fun _ => 0))), (q4, .inl (c4, 30, .inl (fun _ => 0))), (q5, .inl (c5, 12, .inl (fun _ => 0))), (q6, .inl (c6, 24, .inl (fun _ => 0))), (q7, .inl (c7, 4, .inl (fun _ => 0))), (q8, .inl (c8, 4, .inl (fun _ => 0)))] H := hP
  have hD : va_D A [(h0, .inr (0, [.int 0, .ref q1, .ref q2, .ref q3, .ref q4, .ref q5, .ref q6, .ref q7, .ref q8, .int 0, .int 0, .int 0, .null, .null, .int 0, .int 0, .int 0, .int 0, .int 0])), (q1, .inl (c1, 30, .inl (fun _ => 0))), (q2, .inl (c2, 30, .inl (fun _ => 0))), (q3, .inl (c3, 30, .inl (fun _ => 0))), (q4, .inl (c4, 30, .inl (fun _ => 0))), (q5, .inl (c5, 12, .inl (fun _ => 0))), (q6, .inl (c6, 24, .inl (fun _ => 0))), (q7, .inl (c7, 4, .inl (fun _ => 0))), (q8, .inl (c8, 4, .inl (fun _ => 0)))] := hD
  refine lv_aload_n hx hb dX0_init_66 rfl (lv_at hl 0 rfl) ?_
  refine lv_iconst (v := 2) hx hb dX0_init_67 (by decide) ?_
  refine va_newa (atype := .int) (ty := .int) (a0 := (2, .inl (fun _ => 0))) (N' := 2) hx hb (hts _ q91) rfl hK hP hD hS hA (fun _ => rfl) (by decide) (by decide) (by decide) (by decide) (by decide) dX0_init_68 (fun q9 c9 H hK hP hD hS => ?_)
  refine W.widen (k := 9) (n := 166) (by decide) (by decide) ?_
  have hP : va_P D vwCl [(h0, .inr (0, [.int 0, .ref q1, .ref q2, .ref q3, .ref q4, .ref q5, .ref q6, .ref q7, .ref q8, .int 0, .int 0, .int 0, .null, .null, .int 0, .int 0, .int 0, .int 0, .int 0])), (q1, .inl (c1, 30, .inl (fun _ => 0))), (q2, .inl (c2, 30, .inl (fun _ => 0))), (q3, .inl (c3, 30, .inl (fun _ => 0))), (q4, .inl (c4, 30, .inl (fun _ => 0))), (q5, .inl (c5, 12, .inl (fun _ => 0))), (q6, .inl (c6, 24, .inl (fun _ => 0))), (q7, .inl (c7, 4, .inl (fun _ => 0))), (q8, .inl (c8, 4, .inl (fun _ => 0))), (q9, .inl (c9, 2, .inl (fun _ => 0)))] H := hP
  have hD : va_D A [(h0, .inr (0, [.int 0, .ref q1, .ref q2, .ref q3, .ref q4, .ref q5, .ref q6, .ref q7, .ref q8, .int 0, .int 0, .int 0, .null, .null, .int 0, .int 0, .int 0, .int 0, .int 0])), (q1, .inl (c1, 30, .inl (fun _ => 0))), (q2, .inl (c2, 30, .inl (fun _ => 0))), (q3, .inl (c3, 30, .inl (fun _ => 0))), (q4, .inl (c4, 30, .inl (fun _ => 0))), (q5, .inl (c5, 12, .inl (fun _ => 0))), (q6, .inl (c6, 24, .inl (fun _ => 0))), (q7, .inl (c7, 4, .inl (fun _ => 0))), (q8, .inl (c8, 4, .inl (fun _ => 0))), (q9, .inl (c9, 2, .inl (fun _ => 0)))] := hD
  have hK : va_K D vwCl [(c1, .byte), (c2, .byte), (c3, .int), (c4, .byte), (c5, .int), (c6, .int), (c7, .int), (c8, .int), (c9, .int)] s := hK
  refine va_putF (D := D) (ci := 0) (v := .ref q9) (ty := (.array .int)) (C := RX0) (T := TX0) (N := 19) hx hb hts in_X0 tyX0 tyX0_ok nmX0 hown hK hP hD hS 0 rfl rfl 12 (by decide) (hts _ q44) (fun _ h9 => h9) rfl hin rfl (by decide +kernel) rfl rfl (Nat.le_of_ble_eq_true rfl) dX0_init_70 (fun H locs hP hD hS => ?_)
  have hP : va_P D vwCl [(h0, .inr (0, [.int 0, .ref q1, .ref q2, .ref q3, .ref q4, .ref q5, .ref q6, .ref q7, .ref q8, .int 0, .int 0, .int 0, .ref q9, .null, .int 0, .int 0, .int 0, .int 0, .int 0])), (q1, .inl (c1, 30, .inl (fun _ => 0))), (q2, .inl (c2, 30, .inl (fun _ => 0))), (q3, .inl (c3, 30, .inl (fun _ => 0))), (q4, .inl (c4, 30, .inl (fun _ => 0))), (q5, .inl (c5, 12, .inl (fun _ => 0))), (q6, .inl (c6, 24, .inl (fun _ => 0))), (q7, .inl (c7, 4, .inl (fun _ => 0))), (q8, .inl (c8, 4, .inl (fun _ => 0))), (q9, .inl (c9, 2, .inl (fun _ => 0)))] H := hP
  have hD : va_D A [(h0, .inr (0, [.int 0, .ref q1, .ref q2, .ref q3, .ref q4, .ref q5, .ref q6, .ref q7, .ref q8, .int 0, .int 0, .int 0, .ref q9, .null, .int 0, .int 0, .int 0, .int 0, .int 0])), (q1, .inl (c1, 30, .inl (fun _ => 0))), (q2, .inl (c2, 30, .inl (fun _ => 0))), (q3, .inl (c3, 30, .inl (fun _ => 0))), (q4, .inl (c4, 30, .inl (fun _ => 0))), (q5, .inl (c5, 12, .inl (fun _ => 0))), (q6, .inl (c6, 24, .inl (fun _ => 0))), (q7, .inl (c7, 4, .inl (fun _ => 0))), (q8, .inl (c8, 4, .inl (fun _ => 0))), (q9, .inl (c9, 2, .inl (fun _ => 0)))] := hD
  refine lv_aload_n hx hb dX0_init_73 rfl (lv_at hl 0 rfl) ?_
  refine lv_iconst (v := 2) hx hb dX0_init_74 (by decide) ?_
  refine va_newa (atype := .int) (ty := .int) (a0 := (2, .inl (fun _ => 0))) (N' := 2) hx hb (hts _ q91) rfl hK hP hD hS hA (fun _ => rfl) (by decide) (by decide) (by decide) (by decide) (by decide) dX0_init_75 (fun q10 c10 H hK hP hD hS => ?_)
  refine W.widen (k := 10) (n := 168) (by decide) (by decide) ?_
  have hP : va_P D vwCl [(h0, .inr (0, [.int 0, .ref q1, .ref q2, .ref q3, .ref q4, .ref q5, .ref q6, .ref q7, .ref q8, .int 0, .int 0, .int 0, .ref q9, .null, .int 0, .int 0, .int 0, .int 0, .int 0])), (q1, .inl (c1, 30, .inl (fun _ => 0))), (q2, .inl (c2, 30, .inl (fun _ => 0))), (q3, .inl (c3, 30, .inl (fun _ => 0))), (q4, .inl (c4, 30, .inl (fun _ => 0))), (q5, .inl (c5, 12, .inl (fun _ => 0))), (q6, .inl (c6, 24, .inl (fun _ => 0))), (q7, .inl (c7, 4, .inl (fun _ => 0))), (q8, .inl (c8, 4, .inl (fun _ => 0))), (q9, .inl (c9, 2, .inl (fun _ => 0))), (q10, .inl (c10, 2, .inl (fun _ => 0)))] H := hP
  have hD : va_D A [(h0, .inr (0, [.int 0, .ref q1, .ref q2, .ref q3, .ref q4, .ref q5, .ref q6, .ref q7, .ref q8, .int 0, .int 0, .int 0, .ref q9, .null, .int 0, .int 0, .int 0, .int 0, .int 0])), (q1, .inl (c1, 30, .inl (fun _ => 0))), (q2, .inl (c2, 30, .inl (fun _ => 0))), (q3, .inl (c3, 30, .inl (fun _ => 0))), (q4, .inl (c4, 30, .inl (fun _ => 0))), (q5, .inl (c5, 12, .inl (fun _ => 0))), (q6, .inl (c6, 24, .inl (fun _ => 0))), (q7, .inl (c7, 4, .inl (fun _ => 0))), (q8, .inl (c8, 4, .inl (fun _ => 0))), (q9, .inl (c9, 2, .inl (fun _ => 0))), (q10, .inl (c10, 2, .inl (fun _ => 0)))] := hD
  have hK : va_K D vwCl [(c1, .byte), (c2, .byte), (c3, .int), (c4, .byte), (c5, .int), (c6, .int), (c7, .int), (c8, .int), (c9, .int), (c10, .int)] s := hK
  refine va_putF (D := D) (ci := 0) (v := .ref q10) (ty := (.array .int)) (C := RX0) (T := TX0) (N := 19) hx hb hts in_X0 tyX0 tyX0_ok nmX0 hown hK hP hD hS 0 rfl rfl 13 (by decide) (hts _ q45) (fun _ h9 => h9) rfl hin rfl (by decide +kernel) rfl rfl (Nat.le_of_ble_eq_true rfl) dX0_init_77 (fun H locs hP hD hS => ?_)
  have hP : va_P D vwCl [(h0, .inr (0, [.int 0, .ref q1, .ref q2, .ref q3, .ref q4, .ref q5, .ref q6, .ref q7, .ref q8, .int 0, .int 0, .int 0, .ref q9, .ref q10, .int 0, .int 0, .int 0, .int 0, .int 0])), (q1, .inl (c1, 30, .inl (fun _ => 0))), (q2, .inl (c2, 30, .inl (fun _ => 0))), (q3, .inl (c3, 30, .inl (fun _ => 0))), (q4, .inl (c4, 30, .inl (fun _ => 0))), (q5, .inl (c5, 12, .inl (fun _ => 0))), (q6, .inl (c6, 24, .inl (fun _ => 0))), (q7, .inl (c7, 4, .inl (fun _ => 0))), (q8, .inl (c8, 4, .inl (fun _ => 0))), (q9, .inl (c9, 2, .inl (fun _ => 0))), (q10, .inl (c10, 2, .inl (fun _ => 0)))] H := hP
  have hD : va_D A [(h0, .inr (0, [.int 0, .ref q1, .ref q2, .ref q3, .ref q4, .ref q5, .ref q6, .ref q7, .ref q8, .int 0, .int 0, .int 0, .ref q9, .ref q10, .int 0, .int 0, .int 0, .int 0, .int 0])), (q1, .inl (c1, 30, .inl (fun _ => 0))), (q2, .inl (c2, 30, .inl (fun _ => 0))), (q3, .inl (c3, 30, .inl (fun _ => 0))), (q4, .inl (c4, 30, .inl (fun _ => 0))), (q5, .inl (c5, 12, .inl (fun _ => 0))), (q6, .inl (c6, 24, .inl (fun _ => 0))), (q7, .inl (c7, 4, .inl (fun _ => 0))), (q8, .inl (c8, 4, .inl (fun _ => 0))), (q9, .inl (c9, 2, .inl (fun _ => 0))), (q10, .inl (c10, 2, .inl (fun _ => 0)))] := hD
  exact W.vret hx hb hr (fun t ht hW => ⟨⟨((fun k => ([h0, q1, q2, q3, q4, q5, q6, q7, q8, q9, q10] : List Nat).getD k 0), (fun k => ([c1, c1, c2, c3, c4, c5, c6, c7, c8, c9, c10] : List ClassId).getD k c1)), rfl, rfl, by rw [ht]; exact hP, va_K.moved hW.alike hK, hD⟩, hS.F ht⟩) hS.2.2 dX0_init_80
set_option maxHeartbeats 4000000 in
/-- PowerFailCoreModel() -/
theorem k1_init (l : Launch) (D : va_G) (h0 sz : Nat) : Met l yX1_init (ws_ yX1_init cX1_init 1 none) { frames := 1, cells := 7, slots := 166, locals := 12 } (va_Pc [.ref h0] (pf_pre D [] sz [(h0, .inr (1, [.int 0, .null, .null, .null, .null, .null, .null, .null]))])) (va_Qv (fun u : (Nat → Nat) × (Nat → ClassId) => u.1 0 = h0) (fun u t => pf_at D (tyM u.2) (va_A [(h0, .inr (1, [.int 0, .null, .null, .null, .null, .null, .null, .null]))] sz) (wM u.1 u.2 0 (fun _ => 0) (fun _ => 0) (fun _ => 0) (fun _ => 0) (fun _ => 0) (fun _ => 0) (fun _ => 0)) t) (va_A [(h0, .inr (1, [.int 0, .null, .null, .null, .null, .null, .null, .null]))] sz)) 7 166 (va_A [(h0, .inr (1, [.int 0, .null, .null, .null, .null, .null, .null, .null]))] sz) := by
  refine Met.ofW (cc := cX1_init) (maxL := 1) (ret := none) (by decide) rfl ?_
  intro p e s m args below meth c s₁ B hml hv
  obtain ⟨rfl, hsz, hP, hK, hD0⟩ := hv
  have hx := B.exec
  have hb := B.bytes
  have hr := B.returns
  have hts := atoms_spec (ws := ws_ yX1_init cX1_init 1 none) B.pre
  have hts : ∀ w ∈ lw_all, w.before _ s = true := fun w h => hts w (List.mem_cons_of_mem _ h)
  have hown : s.vm.findClass RX1 = some m.cls := findClass_of_methodNamed B.named
  have hlocks := B.notSynchronized
  have hin : meth.name = "<init>" := (name_of_methodNamed B.named B.method).1
  subst hsz
  have hD := hD0.self (sz := s.heap.size)
  generalize hAe : va_A [(h0, .inr (1, [.int 0, .null, .null, .null, .null, .null, .null, .null]))] s.heap.size = A at hD ⊢
  have hA : ∀ q : Nat, s.heap.size ≤ q → A q := fun q h => by rw [← hAe]; exact Or.inr h
  have hS : va_S A s.heap s.heap [] := va_S.rf
  have hl := lv_entry ([.ref h0]) (n := 1) (Nat.le_of_ble_eq_true rfl)
  rw [lg_entry_eq]
  generalize (lg_sl ([.ref h0]) ++ List.replicate (1 - (lg_sl ([.ref h0])).length) Slot.unset).toArray = ls at hl ⊢
  have hl : lv_has ls 1 [(0, .ref h0)] := hl
  refine lv_aload_n hx hb dX1_init_0 rfl (lv_at hl 0 rfl) ?_
  refine W.objInit hx hb hown (hts _ q194) (hts _ q30) (hts _ q31) rfl (by rw [hml]; exact hl.1) rfl dX1_init_1 (Nat.le_of_ble_eq_true rfl) (Nat.le_of_ble_eq_true rfl) ?_
  refine W.eq (g2 := F0 m 4 ls []) rfl ?_
  refine lv_aload_n hx hb dX1_init_4 rfl (lv_at hl 0 rfl) ?_
  refine lv_iconst (v := 0) hx hb dX1_init_5 (by decide) ?_
  refine va_put (D := D) (ci := 1) (v := .int 0) (ty := .int) (C := RX1) (T := TX1) (N := 8) hx hb hts in_X1 tyX1 tyX1_ok nmX1 hown hK hP hD hS 0 rfl rfl 0 (by decide) (hts _ q195) (fun _ h9 => h9) rfl (by decide +kernel) rfl rfl (Nat.le_of_ble_eq_true rfl) dX1_init_6 (fun H locs hP hD hS => ?_)
  have hP : va_P D vwCl [(h0, .inr (1, [.int 0, .null, .null, .null, .null, .null, .null, .null]))] H := hP
  have hD : va_D A [(h0, .inr (1, [.int 0, .null, .null, .null, .null, .null, .null, .null]))] := hD
  refine lv_aload_n hx hb dX1_init_9 rfl (lv_at hl 0 rfl) ?_
  refine lv_bipush (v := 30) hx hb dX1_init_10 (by decide) ?_
  refine va_newa (atype := .int) (ty := .int) (a0 := (30, .inl (fun _ => 0))) (N' := 30) hx hb (hts _ q91) rfl hK hP hD hS hA (fun _ => rfl) (by decide) (by decide) (by decide) (by decide) (by decide) dX1_init_12 (fun q1 c1 H hK hP hD hS => ?_)
  refine W.widen (k := 1) (n := 30) (by decide) (by decide) ?_
  have hP : va_P D vwCl [(h0, .inr (1, [.int 0, .null, .null, .null, .null, .null, .null, .null])), (q1, .inl (c1, 30, .inl (fun _ => 0)))] H := hP
  have hD : va_D A [(h0, .inr (1, [.int 0, .null, .null, .null, .null, .null, .null, .null])), (q1, .inl (c1, 30, .inl (fun _ => 0)))] := hD
  have hK : va_K D vwCl [(c1, .int)] s := hK
  refine va_put (D := D) (ci := 1) (v := .ref q1) (ty := (.array .int)) (C := RX1) (T := TX1) (N := 8) hx hb hts in_X1 tyX1 tyX1_ok nmX1 hown hK hP hD hS 0 rfl rfl 1 (by decide) (hts _ q196) (fun _ h9 => h9) rfl (by decide +kernel) rfl rfl (Nat.le_of_ble_eq_true rfl) dX1_init_14 (fun H locs hP hD hS => ?_)
  have hP : va_P D vwCl [(h0, .inr (1, [.int 0, .ref q1, .null, .null, .null, .null, .null, .null])), (q1, .inl (c1, 30, .inl (fun _ => 0)))] H := hP
  have hD : va_D A [(h0, .inr (1, [.int 0, .ref q1, .null, .null, .null, .null, .null, .null])), (q1, .inl (c1, 30, .inl (fun _ => 0)))] := hD
  refine lv_aload_n hx hb dX1_init_17 rfl (lv_at hl 0 rfl) ?_
  refine lv_bipush (v := 30) hx hb dX1_init_18 (by decide) ?_
  refine va_newa (atype := .int) (ty := .int) (a0 := (30, .inl (fun _ => 0))) (N' := 30) hx hb (hts _ q91) rfl hK hP hD hS hA (fun _ => rfl) (by decide) (by decide) (by decide) (by decide) (by decide) dX1_init_20 (fun q2 c2 H hK hP hD hS => ?_)
  refine W.widen (k := 2) (n := 60) (by decide) (by decide) ?_
  have hP : va_P D vwCl [(h0, .inr (1, [.int 0, .ref q1, .null, .null, .null, .null, .null, .null])), (q1, .inl (c1, 30, .inl (fun _ => 0))), (q2, .inl (c2, 30, .inl (fun _ => 0)))] H := hP
  have hD : va_D A [(h0, .inr (1, [.int 0, .ref q1, .null, .null, .null, .null, .null, .null])), (q1, .inl (c1, 30, .inl (fun _ => 0))), (q2, .inl (c2, 30, .inl (fun _ => 0)))] := hD
  have hK : va_K D vwCl [(c1, .int), (c2, .int)] s := hK
  refine va_put (D := D) (ci := 1) (v := .ref q2) (ty := (.array .int)) (C := RX1) (T := TX1) (N := 8) hx hb hts in_X1 tyX1 tyX1_ok nmX1 hown hK hP hD hS 0 rfl rfl 2 (by decide) (hts _ q197) (fun _ h9 => h9) rfl (by decide +kernel) rfl rfl (Nat.le_of_ble_eq_true rfl) dX1_init_22 (fun H locs hP hD hS => ?_)
  have hP : va_P D vwCl [(h0, .inr (1, [.int 0, .ref q1, .ref q2, .null, .null, .null, .null, .null])), (q1, .inl (c1, 30, .inl (fun _ => 0))), (q2, .inl (c2, 30, .inl (fun _ => 0)))] H := hP
  have hD : va_D A [(h0, .inr (1, [.int 0, .ref q1, .ref q2, .null, .null, .null, .null, .null])), (q1, .inl (c1, 30, .inl (fun _ => 0))), (q2, .inl (c2, 30, .inl (fun _ => 0)))] := hD
  refine lv_aload_n hx hb dX1_init_25 rfl (lv_at hl 0 rfl) ?_
  refine lv_bipush (v := 30) hx hb dX1_init_26 (by decide) ?_
  refine va_newa (atype := .int) (ty := .int) (a0 := (30, .inl (fun _ => 0))) (N' := 30) hx hb (hts _ q91) rfl hK hP hD hS hA (fun _ => rfl) (by decide) (by decide) (by decide) (by decide) (by decide) dX1_init_28 (fun q3 c3 H hK hP hD hS => ?_)
  refine W.widen (k := 3) (n := 90) (by decide) (by decide) ?_
  have hP : va_P D vwCl [(h0, .inr (1, [.int 0, .ref q1, .ref q2, .null, .null, .null, .null, .null])), (q1, .inl (c1, 30, .inl (fun _ => 0))), (q2, .inl (c2, 30, .inl (fun _ => 0))), (q3, .inl (c3, 30, .inl (fun _ => 0)))] H := hP
  have hD : va_D A [(h0, .inr (1, [.int 0, .ref q1, .ref q2, .null, .null, .null, .null, .null])), (q1, .inl (c1, 30, .inl (fun _ => 0))), (q2, .inl (c2, 30, .inl (fun _ => 0))), (q3, .inl (c3, 30, .inl (fun _ => 0)))] := hD
  have hK : va_K D vwCl [(c1, .int), (c2, .int), (c3, .int)] s := hK
  refine va_put (D := D) (ci := 1) (v := .ref q3) (ty := (.array .int)) (C := RX1) (T := TX1) (N := 8) hx hb hts in_X1 tyX1 tyX1_ok nmX1 hown hK hP hD hS 0 rfl rfl 3 (by decide) (hts _ q198) (fun _ h9 => h9) rfl (by decide +kernel) rfl rfl (Nat.le_of_ble_eq_true rfl) dX1_init_30 (fun H locs hP hD hS => ?_)
  have hP : va_P D vwCl [(h0, .inr (1, [.int 0, .ref q1, .ref q2, .ref q3, .null, .null, .null, .null])), (q1, .inl (c1, 30, .inl (fun _ => 0))), (q2, .inl (c2, 30, .inl (fun _ => 0))), (q3, .inl (c3, 30, .inl (fun _ => 0)))] H := hP
  have hD : va_D A [(h0, .inr (1, [.int 0, .ref q1, .ref q2, .ref q3, .null, .null, .null, .null])), (q1, .inl (c1, 30, .inl (fun _ => 0))), (q2, .inl (c2, 30, .inl (fun _ => 0))), (q3, .inl (c3, 30, .inl (fun _ => 0)))] := hD
  refine lv_aload_n hx hb dX1_init_33 rfl (lv_at hl 0 rfl) ?_
  refine lv_bipush (v := 30) hx hb dX1_init_34 (by decide) ?_
  refine va_newa (atype := .int) (ty := .int) (a0 := (30, .inl (fun _ => 0))) (N' := 30) hx hb (hts _ q91) rfl hK hP hD hS hA (fun _ => rfl) (by decide) (by decide) (by decide) (by decide) (by decide) dX1_init_36 (fun q4 c4 H hK hP hD hS => ?_)
  refine W.widen (k := 4) (n := 120) (by decide) (by decide) ?_
  have hP : va_P D vwCl [(h0, .inr (1, [.int 0, .ref q1, .ref q2, .ref q3, .null, .null, .null, .null])), (q1, .inl (c1, 30, .inl (fun _ => 0))), (q2, .inl (c2, 30, .inl (fun _ => 0))), (q3, .inl (c3, 30, .inl (fun _ => 0))), (q4, .inl (c4, 30, .inl (fun _ => 0)))] H := hP
  have hD : va_D A [(h0, .inr (1, [.int 0, .ref q1, .ref q2, .ref q3, .null, .null, .null, .null])), (q1, .inl (c1, 30, .inl (fun _ => 0))), (q2, .inl (c2, 30, .inl (fun _ => 0))), (q3, .inl (c3, 30, .inl (fun _ => 0))), (q4, .inl (c4, 30, .inl (fun _ => 0)))] := hD
  have hK : va_K D vwCl [(c1, .int), (c2, .int), (c3, .int), (c4, .int)] s := hK
  refine va_put (D := D) (ci := 1) (v := .ref q4) (ty := (.array .int)) (C := RX1) (T := TX1) (N := 8) hx hb hts in_X1 tyX1 tyX1_ok nmX1 hown hK hP hD hS 0 rfl rfl 4 (by decide) (hts _ q199) (fun _ h9 => h9) rfl (by decide +kernel) rfl rfl (Nat.le_of_ble_eq_true rfl) dX1_init_38 (fun H locs hP hD hS => ?_)
  have hP : va_P D vwCl [(h0, .inr (1, [.int 0, .ref q1, .ref q2, .ref q3, .ref q4, .null, .null, .null])), (q1, .inl (c1, 30, .inl (fun _ => 0))), (q2, .inl (c2, 30, .inl (fun _ => 0))), (q3, .inl (c3, 30, .inl (fun _ => 0))), (q4, .inl (c4, 30, .inl (fun _ => 0)))] H := hP
  have hD : va_D A [(h0, .inr (1, [.int 0, .ref q1, .ref q2, .ref q3, .ref q4, .null, .null, .null])), (q1, .inl (c1, 30, .inl (fun _ => 0))), (q2, .inl (c2, 30, .inl (fun _ => 0))), (q3, .inl (c3, 30, .inl (fun _ => 0))), (q4, .inl (c4, 30, .inl (fun _ => 0)))] := hD
  refine lv_aload_n hx hb dX1_init_41 rfl (lv_at hl 0 rfl) ?_
  refine lv_bipush (v := 12) hx hb dX1_init_42 (by decide) ?_
  refine va_newa (atype := .int) (ty := .int) (a0 := (12, .inl (fun _ => 0))) (N' := 12) hx hb (hts _ q91) rfl hK hP hD hS hA (fun _ => rfl) (by decide) (by decide) (by decide) (by decide) (by decide) dX1_init_44 (fun q5 c5 H hK hP hD hS => ?_)
  refine W.widen (k := 5) (n := 132) (by decide) (by decide) ?_
  have hP : va_P D vwCl [(h0, .inr (1, [.int 0, .ref q1, .ref q2, .ref q3, .ref q4, .null, .null, .null])), (q1, .inl (c1, 30, .inl (fun _ => 0))), (q2, .inl (c2, 30, .inl (fun _ => 0))), (q3, .inl (c3, 30, .inl (fun _ => 0))), (q4, .inl (c4, 30, .inl (fun _ => 0))), (q5, .inl (c5, 12, .inl (fun _ => 0)))] H := hP
  have hD : va_D A [(h0, .inr (1, [.int 0, .ref q1, .ref q2, .ref q3, .ref q4, .null, .null, .null])), (q1, .inl (c1, 30, .inl (fun _ => 0))), (q2, .inl (c2, 30, .inl (fun _ => 0))), (q3, .inl (c3, 30, .inl (fun _ => 0))), (q4, .inl (c4, 30, .inl (fun _ => 0))), (q5, .inl (c5, 12, .inl (fun _ => 0)))] := hD
  have hK : va_K D vwCl [(c1, .int), (c2, .int), (c3, .int), (c4, .int), (c5, .int)] s := hK
  refine va_put (D := D) (ci := 1) (v := .ref q5) (ty := (.array .int)) (C := RX1) (T := TX1) (N := 8) hx hb hts in_X1 tyX1 tyX1_ok nmX1 hown hK hP hD hS 0 rfl rfl 5 (by decide) (hts _ q200) (fun _ h9 => h9) rfl (by decide +kernel) rfl rfl (Nat.le_of_ble_eq_true rfl) dX1_init_46 (fun H locs hP hD hS => ?_)
  have hP : va_P D vwCl [(h0, .inr (1, [.int 0, .ref q1, .ref q2, .ref q3, .ref q4, .ref q5, .null, .null])), (q1, .inl (c1, 30, .inl (fun _ => 0))), (q2, .inl (c2, 30, .inl (fun _ => 0))), (q3, .inl (c3, 30, .inl (fun _ => 0))), (q4, .inl (c4, 30, .inl (fun _ => 0))), (q5, .inl (c5, 12, .inl (fun _ => 0)))] H := hP
  have hD : va_D A [(h0, .inr (1, [.int 0, .ref q1, .ref q2, .ref q3, .ref q4, .ref q5, .null, .null])), (q1, .inl (c1, 30, .inl (fun _ => 0))), (q2, .inl (c2, 30, .inl (fun _ => 0))), (q3, .inl (c3, 30, .inl (fun _ => 0))), (q4, .inl (c4, 30, .inl (fun _ => 0))), (q5, .inl (c5, 12, .inl (fun _ => 0)))] := hD
  refine lv_aload_n hx hb dX1_init_49 rfl (lv_at hl 0 rfl) ?_
  refine lv_iconst (v := 4) hx hb dX1_init_50 (by decide) ?_
  refine va_newa (atype := .int) (ty := .int) (a0 := (4, .inl (fun _ => 0))) (N' := 4) hx hb (hts _ q91) rfl hK hP hD hS hA (fun _ => rfl) (by decide) (by decide) (by decide) (by decide) (by decide) dX1_init_51 (fun q6 c6 H hK hP hD hS => ?_)
  refine W.widen (k := 6) (n := 136) (by decide) (by decide) ?_
  have hP : va_P D vwCl [(h0, .inr (1, [.int 0, .ref q1, .ref q2, .ref q3, .ref q4, .ref q5, .null, .null])), (q1, .inl (c1, 30, .inl (fun _ => 0))), (q2, .inl (c2, 30, .inl (fun _ => 0))), (q3, .inl (c3, 30, .inl (fun _ => 0))), (q4, .inl (c4, 30, .inl (fun _ => 0))), (q5, .inl (c5, 12, .inl (fun _ => 0))), (q6, .inl (c6, 4, .inl (fun _ => 0)))] H := hP
  have hD : va_D A [(h0, .inr (1, [.int 0, .ref q1, .ref q2, .ref q3, .ref q4, .ref q5, .null, .null])), (q1, .inl (c1, 30, .inl (fun _ => 0))), (q2, .inl (c2, 30, .inl (fun _ => 0))), (q3, .inl (c3, 30, .inl (fun _ => 0))), (q4, .inl (c4, 30, .inl (fun _ => 0))), (q5, .inl (c5, 12, .inl (fun _ => 0))), (q6, .inl (c6, 4, .inl (fun _ => 0)))] := hD
  have hK : va_K D vwCl [(c1, .int), (c2, .int), (c3, .int), (c4, .int), (c5, .int), (c6, .int)] s := hK
  refine va_put (D := D) (ci := 1) (v := .ref q6) (ty := (.array .int)) (C := RX1) (T := TX1) (N := 8) hx hb hts in_X1 tyX1 tyX1_ok nmX1 hown hK hP hD hS 0 rfl rfl 6 (by decide) (hts _ q201) (fun _ h9 => h9) rfl (by decide +kernel) rfl rfl (Nat.le_of_ble_eq_true rfl) dX1_init_53 (fun H locs hP hD hS => ?_)
  have hP : va_P D vwCl [(h0, .inr (1, [.int 0, .ref q1, .ref q2, .ref q3, .ref q4, .ref q5, .ref q6, .null])), (q1, .inl (c1, 30, .inl (fun _ => 0))), (q2, .inl (c2, 30, .inl (fun _ => 0))), (q3, .inl (c3, 30, .inl (fun _ => 0))), (q4, .inl (c4, 30, .inl (fun _ => 0))), (q5, .inl (c5, 12, .inl (fun _ => 0))), (q6, .inl (c6, 4, .inl (fun _ => 0)))] H := hP
  have hD : va_D A [(h0, .inr (1, [.int 0, .ref q1, .ref q2, .ref q3, .ref q4, .ref q5, .ref q6, .null])), (q1, .inl (c1, 30, .inl (fun _ => 0))), (q2, .inl (c2, 30, .inl (fun _ => 0))), (q3, .inl (c3, 30, .inl (fun _ => 0))), (q4, .inl (c4, 30, .inl (fun _ => 0))), (q5, .inl (c5, 12, .inl (fun _ => 0))), (q6, .inl (c6, 4, .inl (fun _ => 0)))] := hD
  refine lv_aload_n hx hb dX1_init_56 rfl (lv_at hl 0 rfl) ?_
  refine lv_bipush (v := 30) hx hb dX1_init_57 (by decide) ?_
  refine va_newa (atype := .int) (ty := .int) (a0 := (30, .inl (fun _ => 0))) (N' := 30) hx hb (hts _ q91) rfl hK hP hD hS hA (fun _ => rfl) (by decide) (by decide) (by decide) (by decide) (by decide) dX1_init_59 (fun q7 c7 H hK hP hD hS => ?_)
  refine W.widen (k := 7) (n := 166) (by decide) (by decide) ?_
  have hP : va_P D vwCl [(h0, .inr (1, [.int 0, .ref q1, .ref q2, .ref q3, .ref q4, .ref q5, .ref q6, .null])), (q1, .inl (c1, 30, .inl (fun _ => 0))), (q2, .inl (c2, 30, .inl (fun _ => 0))), (q3, .inl (c3, 30, .inl (fun _ => 0))), (q4, .inl (c4, 30, .inl (fun _ => 0))), (q5, .inl (c5, 12, .inl (fun _ => 0))), (q6, .inl (c6, 4, .inl (fun _ => 0))), (q7, .inl (c7, 30, .inl (fun _ => 0)))] H := hP
  have hD : va_D A [(h0, .inr (1, [.int 0, .ref q1, .ref q2, .ref q3, .ref q4, .ref q5, .ref q6, .null])), (q1, .inl (c1, 30, .inl (fun _ => 0))), (q2, .inl (c2, 30, .inl (fun _ => 0))), (q3, .inl (c3, 30, .inl (fun _ => 0))), (q4, .inl (c4, 30, .inl (fun _ => 0))), (q5, .inl (c5, 12, .inl (fun _ => 0))), (q6, .inl (c6, 4, .inl (fun _ => 0))), (q7, .inl (c7, 30, .inl (fun _ => 0)))] := hD
  have hK : va_K D vwCl [(c1, .int), (c2, .int), (c3, .int), (c4, .int), (c5, .int), (c6, .int), (c7, .int)] s := hK
  refine va_put (D := D) (ci := 1) (v := .ref q7) (ty := (.array .int)) (C := RX1) (T := TX1) (N := 8) hx hb hts in_X1 tyX1 tyX1_ok nmX1 hown hK hP hD hS 0 rfl rfl 7 (by decide) (hts _ q202) (fun _ h9 => h9) rfl (by decide +kernel) rfl rfl (Nat.le_of_ble_eq_true rfl) dX1_init_61 (fun H locs hP hD hS => ?_)
  have hP : va_P D vwCl [(h0, .inr (1, [.int 0, .ref q1, .ref q2, .ref q3, .ref q4, .ref q5, .ref q6, .ref q7])), (q1, .inl (c1, 30, .inl (fun _ => 0))), (q2, .inl (c2, 30, .inl (fun _ => 0))), (q3, .inl (c3, 30, .inl (fun _ => 0))), (q4, .inl (c4, 30, .inl (fun _ => 0))), (q5, .inl (c5, 12, .inl (fun _ => 0))), (q6, .inl (c6, 4, .inl (fun _ => 0))), (q7, .inl (c7, 30, .inl (fun _ => 0)))] H := hP
  have hD : va_D A [(h0, .inr (1, [.int 0, .ref q1, .ref q2, .ref q3, .ref q4, .ref q5, .ref q6, .ref q7])), (q1, .inl (c1, 30, .inl (fun _ => 0))), (q2, .inl (c2, 30, .inl (fun _ => 0))), (q3, .inl (c3, 30, .inl (fun _ => 0))), (q4, .inl (c4, 30, .inl (fun _ => 0))), (q5, .inl (c5, 12, .inl (fun _ => 0))), (q6, .inl (c6, 4, .inl (fun _ => 0))), (q7, .inl (c7, 30, .inl (fun _ => 0)))] := hD
  exact W.vret hx hb hr (fun t ht hW => ⟨⟨((fun k => ([h0, q1, q2, q3, q4, q5, q6, q7] : List Nat).getD k 0), (fun k => ([c1, c1, c2, c3, c4, c5, c6, c7] : List ClassId).getD k c1)), rfl, rfl, by rw [ht]; exact hP, va_K.moved hW.alike hK, hD⟩, hS.F ht⟩) hS.2.2 dX1_init_64
end
section
/-! the plain machine: its steps, well-formedness, and how many steps it takes -/
set_option maxRecDepth 100000
/-- the state of the plain machine: registers, place, open loops, their starts, what is left of them, cells -/
abbrev pfA : Type := (Nat → Int32) × Nat × Nat × (Nat → Nat) × (Nat → Nat) × (Nat → Int32)
abbrev a_rg (s : pfA) := s.1
abbrev a_p (s : pfA) := s.2.1
abbrev a_k (s : pfA) := s.2.2.1
abbrev a_S (s : pfA) := s.2.2.2.1
abbrev a_L (s : pfA) := s.2.2.2.2.1
abbrev a_ce (s : pfA) := s.2.2.2.2.2
def pf_val (o y z rg : Nat → Int32) (p : Nat) : Int32 := if o p = 0 then y p else if o p = 1 then rg (pf_n (y p)) + rg (pf_n (z p)) else if o p = 2 then rg (pf_n (y p)) - rg (pf_n (z p)) else rg (pf_n (y p)) * rg (pf_n (z p))
def pf_ast (o x y z : Nat → Int32) (s : pfA) : pfA :=
  if o (a_p s) < 8 then
    if o (a_p s) < 4 then (upd (a_rg s) (pf_n (x (a_p s))) (pf_val o y z (a_rg s) (a_p s)), a_p s + 1, a_k s, a_S s, a_L s, a_ce s)
    else if o (a_p s) = 5 ∨ o (a_p s) = 7 then (a_rg s, a_p s + 1, a_k s, a_S s, a_L s, upd (a_ce s) (pf_n (pf_cell o y (a_rg s) (a_p s))) (a_rg s (pf_n (x (a_p s)))))
    else (upd (a_rg s) (pf_n (x (a_p s))) (a_ce s (pf_n (pf_cell o y (a_rg s) (a_p s)))), a_p s + 1, a_k s, a_S s, a_L s, a_ce s)
  else if o (a_p s) = 8 then (a_rg s, if 0 < a_rg s (pf_n (x (a_p s))) then a_p s + 1 else a_p s + 1 + pf_n (y (a_p s)), a_k s, a_S s, a_L s, a_ce s)
  else if o (a_p s) = 9 then (a_rg s, a_p s + 1, a_k s + 1, va_up (a_S s) (a_k s) (a_p s), va_up (a_L s) (a_k s) (pf_n (x (a_p s))), a_ce s)
  else if a_L s (a_k s - 1) - 1 = 0 then (a_rg s, a_p s + 1, a_k s - 1, a_S s, va_up (a_L s) (a_k s - 1) (a_L s (a_k s - 1) - 1), a_ce s)
  else (a_rg s, a_S s (a_k s - 1) + 1, a_k s, a_S s, va_up (a_L s) (a_k s - 1) (a_L s (a_k s - 1) - 1), a_ce s)
/-- a program: n instructions that fit, sound -/
def pf_prog (n : Nat) (o x y z : Nat → Int32) : Prop := n ≤ 30 ∧ (∀ p, p < n → pf_ok (o p) (x p) (y p) (z p)) ∧ pf_sound n o y
theorem pf_up_s {α : Type} {f : Nat → α} {k : Nat} {x : α} : va_up f k x k = x := if_pos rfl
theorem pf_up_n {α : Type} {f : Nat → α} {k j : Nat} {x : α} (h : j ≠ k) : va_up f k x j = f j := if_neg h
theorem pf_dep_9 {o : Nat → Int32} {p : Nat} (h : o p = 9) : pf_dep o (p + 1) = pf_dep o p + 1 := by
  show pf_dep o p + _ - _ = _
  rw [if_pos h, if_neg (by rw [h]; decide)]
  omega
theorem pf_dep_10 {o : Nat → Int32} {p : Nat} (h : o p = 10) : pf_dep o (p + 1) = pf_dep o p - 1 := by
  show pf_dep o p + _ - _ = _
  rw [if_neg (by rw [h]; decide), if_pos h]
  omega
theorem pf_dep_n {o : Nat → Int32} {p : Nat} (h9 : ¬ o p = 9) (h10 : ¬ o p = 10) : pf_dep o (p + 1) = pf_dep o p := by
  show pf_dep o p + _ - _ = _
  rw [if_neg h9, if_neg h10]
  omega
theorem pf_dep_le {n : Nat} {o y : Nat → Int32} (h : pf_sound n o y) {p : Nat} (hp : p ≤ n) : 0 ≤ pf_dep o p ∧ pf_dep o p ≤ 2 := by
  cases p with
  | zero => exact ⟨Int.le_refl _, by show (0 : Int) ≤ 2; decide⟩
  | succ p => exact ⟨(h.1 p (by omega)).1, (h.1 p (by omega)).2.1⟩
/-- no LOOP and no END from a on up to b: the depth stays -/
theorem pf_dep_flat {o : Nat → Int32} {a : Nat} : ∀ {b : Nat}, a ≤ b → (∀ j, a ≤ j → j < b → ¬ o j = 9 ∧ ¬ o j = 10) → pf_dep o b = pf_dep o a := by
  intro b
  induction b with
  | zero => intro h _; rw [show a = 0 by omega]
  | succ b ih =>
    intro h hj
    rcases Nat.lt_or_ge b a with q | q
    · rw [show a = b + 1 by omega]
    · rw [pf_dep_n (hj b q (by omega)).1 (hj b q (by omega)).2]
      exact ih q (fun j h1 h2 => hj j h1 (by omega))
def pf_wfa (n : Nat) (o : Nat → Int32) (s : pfA) : Prop := a_p s ≤ n ∧ pf_dep o (a_p s) = (a_k s : Int) ∧ ∀ d, d < a_k s → (a_S s d < a_p s ∧ o (a_S s d) = 9 ∧ pf_dep o (a_S s d) = (d : Int) ∧ (∀ q, a_S s d < q → q ≤ a_p s → (d : Int) < pf_dep o q) ∧ 1 ≤ a_L s d ∧ a_L s d ≤ 6)
theorem pf_lt8 {o : Int32} (h : o < 8) : ¬ o = 9 ∧ ¬ o = 10 := ⟨fun e => by rw [e] at h; exact absurd h (by decide), fun e => by rw [e] at h; exact absurd h (by decide)⟩
/-- a step that stays in its loops and goes on to p' with no LOOP or END between -/
theorem pf_wfa_go {n : Nat} {o : Nat → Int32} {s : pfA} {p' : Nat} {rg ce : Nat → Int32} (h : pf_wfa n o s) (h1 : a_p s ≤ p') (h2 : p' ≤ n) (hf : ∀ j, a_p s ≤ j → j < p' → ¬ o j = 9 ∧ ¬ o j = 10) : pf_wfa n o (rg, p', a_k s, a_S s, a_L s, ce) := by
  obtain ⟨g1, g2, g3⟩ := h
  refine ⟨h2, ?_, ?_⟩
  · show pf_dep o p' = _
    rw [pf_dep_flat h1 hf]; exact g2
  · intro d hd
    obtain ⟨e1, e2, e3, e4, e5⟩ := g3 d hd
    refine ⟨Nat.lt_of_lt_of_le e1 h1, e2, e3, ?_, e5⟩
    intro q hq1 hq2
    rcases Nat.lt_or_ge (a_p s) q with hq | hq
    · rw [pf_dep_flat (b := q) (a := a_p s) (by omega) (fun j j1 j2 => hf j j1 (Nat.lt_of_lt_of_le j2 hq2)), g2]
      have : d < a_k s := hd
      omega
    · exact e4 q hq1 hq
theorem pf_ok9 {o x y z : Int32} (h : pf_ok o x y z) (h9 : o = 9) : ∃ j : Nat, x = nI j ∧ 1 ≤ j ∧ j ≤ 6 ∧ pf_n x = j := by
  subst h9
  have h2 := h.2
  unfold pf_fits at h2
  rw [if_neg (by decide), if_pos rfl] at h2
  have h1 := h2.1
  have h3 := h2.2
  rw [Int32.lt_iff_toInt_lt] at h1 h3
  have e1 : (1 : Int32).toInt = 1 := by decide
  have e6 : (6 : Int32).toInt = 6 := by decide
  have e0 : (0 : Int32).toInt = 0 := by decide
  obtain ⟨j, hj, rfl⟩ := nI_of2 (M := 6) (n := 6) (by decide) (x := x) (by rw [Int32.lt_iff_toInt_lt]; omega) (by rw [Int32.le_iff_toInt_le]; omega)
  rw [nI_toInt (by omega)] at h1
  exact ⟨j, rfl, by omega, hj, nI_clamp (by omega)⟩
theorem pf_wfa_step {n : Nat} {o x y z : Nat → Int32} {s : pfA} (hP : pf_prog n o x y z) (h : pf_wfa n o s) (hp : a_p s < n) : pf_wfa n o (pf_ast o x y z s) := by
  obtain ⟨hn, hok, hsd⟩ := hP
  have hk := hok _ hp
  have hso := hsd.1 _ hp
  unfold pf_ast
  split
  · rename_i h8
    have h910 := pf_lt8 h8
    have go : ∀ rg ce, pf_wfa n o (rg, a_p s + 1, a_k s, a_S s, a_L s, ce) := fun rg ce => pf_wfa_go h (Nat.le_succ _) hp (fun j j1 j2 => by rw [show j = a_p s by omega]; exact h910)
    split
    · exact go _ _
    · split
      · exact go _ _
      · exact go _ _
  · rename_i h8
    split
    · rename_i e8
      have hsk : pf_skip n o (a_p s) (pf_n (y (a_p s))) := hso.2.2 e8
      split
      · exact pf_wfa_go h (Nat.le_succ _) hp (fun j j1 j2 => by rw [show j = a_p s by omega, e8]; decide)
      · refine pf_wfa_go h (by omega) (by have := hsk.1; omega) (fun j j1 j2 => ?_)
        rcases Nat.eq_or_lt_of_le j1 with e | e
        · rw [← e, e8]; decide
        · exact hsk.2 j e (by omega)
    · split
      · rename_i e8 e9
        obtain ⟨g1, g2, g3⟩ := h
        have hd := pf_dep_9 e9
        obtain ⟨j, hj1, hj2, hj3, hj4⟩ := pf_ok9 hk e9
        refine ⟨hp, ?_, ?_⟩
        · show pf_dep o (a_p s + 1) = ((a_k s + 1 : Nat) : Int)
          rw [hd, g2]; omega
        · intro d hdk
          have hdk : d < a_k s + 1 := hdk
          rcases Nat.lt_or_ge d (a_k s) with q | q
          · obtain ⟨e1, e2, e3, e4, e5⟩ := g3 d q
            show va_up (a_S s) (a_k s) (a_p s) d < a_p s + 1 ∧ o (va_up (a_S s) (a_k s) (a_p s) d) = 9 ∧ pf_dep o (va_up (a_S s) (a_k s) (a_p s) d) = (d : Int) ∧ (∀ q, va_up (a_S s) (a_k s) (a_p s) d < q → q ≤ a_p s + 1 → (d : Int) < pf_dep o q) ∧ 1 ≤ va_up (a_L s) (a_k s) (pf_n (x (a_p s))) d ∧ va_up (a_L s) (a_k s) (pf_n (x (a_p s))) d ≤ 6
            rw [pf_up_n (by omega), pf_up_n (by omega)]
            refine ⟨by omega, e2, e3, ?_, e5⟩
            intro r hr1 hr2
            rcases Nat.lt_or_ge (a_p s) r with hr | hr
            · rw [show r = a_p s + 1 by omega, hd, g2]; omega
            · exact e4 r hr1 hr
          · obtain rfl : d = a_k s := by omega
            show va_up (a_S s) (a_k s) (a_p s) (a_k s) < a_p s + 1 ∧ o (va_up (a_S s) (a_k s) (a_p s) (a_k s)) = 9 ∧ pf_dep o (va_up (a_S s) (a_k s) (a_p s) (a_k s)) = (a_k s : Int) ∧ (∀ q, va_up (a_S s) (a_k s) (a_p s) (a_k s) < q → q ≤ a_p s + 1 → (a_k s : Int) < pf_dep o q) ∧ 1 ≤ va_up (a_L s) (a_k s) (pf_n (x (a_p s))) (a_k s) ∧ va_up (a_L s) (a_k s) (pf_n (x (a_p s))) (a_k s) ≤ 6
            rw [pf_up_s, pf_up_s, hj4]
            refine ⟨by omega, e9, g2, ?_, hj2, hj3⟩
            intro r hr1 hr2
            rw [show r = a_p s + 1 by omega, hd, g2]; omega
      · rename_i e8 e9
        have e10 := pf_ok10 hk h8 e8 e9
        obtain ⟨g1, g2, g3⟩ := h
        have hd := pf_dep_10 e10
        have hk1 : 1 ≤ a_k s := by have := hso.1; omega
        split
        · refine ⟨hp, ?_, ?_⟩
          · show pf_dep o (a_p s + 1) = ((a_k s - 1 : Nat) : Int)
            rw [hd, g2]; omega
          · intro d hdk
            have hdk : d < a_k s - 1 := hdk
            obtain ⟨e1, e2, e3, e4, e5⟩ := g3 d (by omega)
            show a_S s d < a_p s + 1 ∧ o (a_S s d) = 9 ∧ pf_dep o (a_S s d) = (d : Int) ∧ (∀ q, a_S s d < q → q ≤ a_p s + 1 → (d : Int) < pf_dep o q) ∧ 1 ≤ va_up (a_L s) (a_k s - 1) (a_L s (a_k s - 1) - 1) d ∧ va_up (a_L s) (a_k s - 1) (a_L s (a_k s - 1) - 1) d ≤ 6
            rw [pf_up_n (by omega)]
            refine ⟨by omega, e2, e3, ?_, e5⟩
            intro r hr1 hr2
            rcases Nat.lt_or_ge (a_p s) r with hr | hr
            · rw [show r = a_p s + 1 by omega, hd, g2]; omega
            · exact e4 r hr1 hr
        · rename_i hL
          obtain ⟨t1, t2, t3, t4, t5, t6⟩ := g3 (a_k s - 1) (by omega)
          refine ⟨?_, ?_, ?_⟩
          · show a_S s (a_k s - 1) + 1 ≤ n
            omega
          · show pf_dep o (a_S s (a_k s - 1) + 1) = (a_k s : Int)
            rw [pf_dep_9 t2, t3]; omega
          · intro d hdk
            have hdk : d < a_k s := hdk
            obtain ⟨e1, e2, e3, e4, e5⟩ := g3 d hdk
            show a_S s d < a_S s (a_k s - 1) + 1 ∧ o (a_S s d) = 9 ∧ pf_dep o (a_S s d) = (d : Int) ∧ (∀ q, a_S s d < q → q ≤ a_S s (a_k s - 1) + 1 → (d : Int) < pf_dep o q) ∧ 1 ≤ va_up (a_L s) (a_k s - 1) (a_L s (a_k s - 1) - 1) d ∧ va_up (a_L s) (a_k s - 1) (a_L s (a_k s - 1) - 1) d ≤ 6
            refine ⟨?_, e2, e3, fun r r1 r2 => e4 r r1 (by omega), ?_⟩
            · rcases Nat.lt_or_ge (a_S s (a_k s - 1)) (a_S s d) with q | q
              · have := t4 _ q (Nat.le_of_lt e1)
                rw [e3] at this
                omega
              · omega
            · by_cases hde : d = a_k s - 1
              · rw [hde, pf_up_s]; omega
              · rw [pf_up_n hde]; exact e5
/-- the END at the place closes the loop that began at the last start -/
theorem pf_wfa_opener {n : Nat} {o x y z : Nat → Int32} {s : pfA} (hP : pf_prog n o x y z) (h : pf_wfa n o s) (hp : a_p s < n) (e10 : o (a_p s) = 10) : 1 ≤ a_k s ∧ pf_opener o (a_p s) (a_S s (a_k s - 1)) := by
  obtain ⟨hn, hok, hsd⟩ := hP
  have hso := hsd.1 _ hp
  obtain ⟨g1, g2, g3⟩ := h
  have hd := pf_dep_10 e10
  have hk1 : 1 ≤ a_k s := by have := hso.1; omega
  obtain ⟨t1, t2, t3, t4, t5, t6⟩ := g3 (a_k s - 1) (by omega)
  refine ⟨hk1, Nat.le_of_lt t1, by rw [t3, hd, g2]; omega, fun j j1 j2 => ?_, fun j hj => pf_dep_le hsd (by omega)⟩
  have := t4 j j1 j2
  rw [hd, g2]
  omega
/-! ===== how many steps ===== -/
def pf_dn (o : Nat → Int32) (p : Nat) : Nat := (pf_dep o p).toNat
/-- what one pass from p on to the end of the block at depth d may take -/
def pf_remf (o : Nat → Int32) (d : Nat) : Nat → Nat → Nat
  | 0, _ => 0
  | f + 1, p => if o p = 10 ∧ pf_dn o p = d then 1 else 6 ^ (pf_dn o p - d) + pf_remf o d f (p + 1)
/-- what comes behind that block, at depth d - 1 -/
def pf_aftf (o : Nat → Int32) (d : Nat) : Nat → Nat → Nat
  | 0, _ => 0
  | f + 1, p => if o p = 10 ∧ pf_dn o p = d then pf_remf o (d - 1) f (p + 1) else pf_aftf o d f (p + 1)
def pf_rem (n : Nat) (o : Nat → Int32) (d p : Nat) : Nat := pf_remf o d (n - p) p
def pf_aft (n : Nat) (o : Nat → Int32) (d p : Nat) : Nat := pf_aftf o d (n - p) p
theorem pf_rem_s {n : Nat} {o : Nat → Int32} {d p : Nat} (hp : p < n) (h : ¬ (o p = 10 ∧ pf_dn o p = d)) : pf_rem n o d p = 6 ^ (pf_dn o p - d) + pf_rem n o d (p + 1) := by
  unfold pf_rem
  rw [show n - p = (n - (p + 1)) + 1 by omega]
  exact if_neg h
theorem pf_rem_e {n : Nat} {o : Nat → Int32} {d p : Nat} (hp : p < n) (h : o p = 10 ∧ pf_dn o p = d) : pf_rem n o d p = 1 := by
  unfold pf_rem
  rw [show n - p = (n - (p + 1)) + 1 by omega]
  exact if_pos h
theorem pf_aft_s {n : Nat} {o : Nat → Int32} {d p : Nat} (hp : p < n) (h : ¬ (o p = 10 ∧ pf_dn o p = d)) : pf_aft n o d p = pf_aft n o d (p + 1) := by
  unfold pf_aft
  rw [show n - p = (n - (p + 1)) + 1 by omega]
  exact if_neg h
theorem pf_aft_e {n : Nat} {o : Nat → Int32} {d p : Nat} (hp : p < n) (h : o p = 10 ∧ pf_dn o p = d) : pf_aft n o d p = pf_rem n o (d - 1) (p + 1) := by
  unfold pf_aft pf_rem
  rw [show n - p = (n - (p + 1)) + 1 by omega]
  exact if_pos h
theorem pf_aft_flat {n : Nat} {o : Nat → Int32} {d a : Nat} : ∀ {b : Nat}, a ≤ b → b ≤ n → (∀ j, a ≤ j → j < b → ¬ (o j = 10 ∧ pf_dn o j = d)) → pf_aft n o d a = pf_aft n o d b := by
  intro b
  induction b with
  | zero => intro h _ _; rw [show a = 0 by omega]
  | succ b ih =>
    intro h hb hj
    rcases Nat.lt_or_ge b a with q | q
    · rw [show a = b + 1 by omega]
    · rw [ih q (by omega) (fun j h1 h2 => hj j h1 (by omega)), pf_aft_s hb (hj b q (by omega))]
theorem pf_dn_s {n : Nat} {o y : Nat → Int32} (hs : pf_sound n o y) {p : Nat} (hp : p < n) : pf_dn o (p + 1) + (if o p = 10 then 1 else 0) = pf_dn o p + (if o p = 9 then 1 else 0) := by
  have h0 := (pf_dep_le hs (Nat.le_of_lt hp)).1
  have h1 := (pf_dep_le hs (p := p + 1) hp).1
  unfold pf_dn
  by_cases h10 : o p = 10
  · rw [if_pos h10, if_neg (by rw [h10]; decide)]
    have := pf_dep_10 h10
    omega
  · by_cases h9 : o p = 9
    · rw [if_neg h10, if_pos h9]
      have := pf_dep_9 h9
      omega
    · rw [if_neg h10, if_neg h9]
      have := pf_dep_n h9 h10
      omega
theorem pf_rem_up {n : Nat} {o y : Nat → Int32} (hs : pf_sound n o y) (d : Nat) : ∀ (f p : Nat), p + f = n → d + 1 ≤ pf_dn o p → pf_rem n o d p = 6 * pf_rem n o (d + 1) p + pf_aft n o (d + 1) p := by
  intro f
  induction f with
  | zero =>
    intro p hp hd
    rw [show p = n by omega] at hd
    unfold pf_dn at hd
    rw [hs.2] at hd
    exact absurd hd (by simp)
  | succ f ih =>
    intro p hp hd
    have hpn : p < n := by omega
    have hdn := pf_dn_s hs hpn
    rw [pf_rem_s (d := d) hpn (fun h => by omega)]
    by_cases h : o p = 10 ∧ pf_dn o p = d + 1
    · rw [pf_rem_e hpn h, pf_aft_e hpn h, h.2, show d + 1 - d = 1 by omega]
      rfl
    · rw [pf_rem_s hpn h, pf_aft_s hpn h, ih (p + 1) (by omega) ?_]
      · rw [show pf_dn o p - d = (pf_dn o p - (d + 1)) + 1 by omega, Nat.pow_succ]
        omega
      · by_cases h10 : o p = 10
        · have : ¬ pf_dn o p = d + 1 := fun e => h ⟨h10, e⟩
          rw [if_pos h10, if_neg (by rw [h10]; decide)] at hdn
          omega
        · rw [if_neg h10] at hdn
          omega
theorem pf_rem_flat {n : Nat} {o y : Nat → Int32} (hs : pf_sound n o y) {d a : Nat} : ∀ {b : Nat}, a ≤ b → b ≤ n → pf_dn o a = d → (∀ j, a ≤ j → j < b → ¬ o j = 9 ∧ ¬ o j = 10) → pf_rem n o d a = (b - a) + pf_rem n o d b := by
  intro b
  induction b with
  | zero => intro h _ _ _; rw [show a = 0 by omega]; omega
  | succ b ih =>
    intro h hb hd hj
    rcases Nat.lt_or_ge b a with q | q
    · rw [show a = b + 1 by omega]; omega
    · have hdb : pf_dn o b = d := by
        unfold pf_dn at hd ⊢
        rw [pf_dep_flat q (fun j h1 h2 => hj j h1 (by omega))]
        exact hd
      rw [ih q (by omega) hd (fun j h1 h2 => hj j h1 (by omega)), pf_rem_s hb (fun h => (hj b q (by omega)).2 h.1), hdb, Nat.sub_self]
      simp only [Nat.pow_zero]
      omega
/-- what the open loops still hold -/
def pf_tail (n : Nat) (o : Nat → Int32) (S L : Nat → Nat) (p : Nat) : Nat → Nat
  | 0 => 0
  | d + 1 => pf_tail n o S L p d + ((L d - 1) * pf_rem n o (d + 1) (S d + 1) + pf_aft n o (d + 1) p)
theorem pf_tail_eq {n : Nat} {o : Nat → Int32} {S L S' L' : Nat → Nat} {p p' : Nat} : ∀ {k : Nat}, (∀ d, d < k → S' d = S d ∧ L' d = L d ∧ pf_aft n o (d + 1) p' = pf_aft n o (d + 1) p) → pf_tail n o S' L' p' k = pf_tail n o S L p k := by
  intro k
  induction k with
  | zero => intro _; rfl
  | succ k ih =>
    intro h
    show pf_tail n o S' L' p' k + _ = pf_tail n o S L p k + _
    rw [ih (fun d hd => h d (by omega)), (h k (by omega)).1, (h k (by omega)).2.1, (h k (by omega)).2.2]
def pf_pot (n : Nat) (o : Nat → Int32) (s : pfA) : Nat := pf_rem n o (a_k s) (a_p s) + pf_tail n o (a_S s) (a_L s) (a_p s) (a_k s)
theorem pf_pot_go {n : Nat} {o y : Nat → Int32} (hs : pf_sound n o y) {s : pfA} {p' : Nat} {rg ce : Nat → Int32} (h : pf_wfa n o s) (h1 : a_p s < p') (h2 : p' ≤ n) (hf : ∀ j, a_p s ≤ j → j < p' → ¬ o j = 9 ∧ ¬ o j = 10) : pf_pot n o (rg, p', a_k s, a_S s, a_L s, ce) + 1 ≤ pf_pot n o s := by
  have hdn : pf_dn o (a_p s) = a_k s := by unfold pf_dn; rw [h.2.1]; rfl
  have e1 := pf_rem_flat hs (d := a_k s) (Nat.le_of_lt h1) h2 hdn hf
  have e2 : pf_tail n o (a_S s) (a_L s) p' (a_k s) = pf_tail n o (a_S s) (a_L s) (a_p s) (a_k s) := pf_tail_eq (fun d hd => ⟨rfl, rfl, (pf_aft_flat (Nat.le_of_lt h1) h2 (fun j j1 j2 q => (hf j j1 j2).2 q.1)).symm⟩)
  show pf_rem n o (a_k s) p' + pf_tail n o (a_S s) (a_L s) p' (a_k s) + 1 ≤ pf_rem n o (a_k s) (a_p s) + pf_tail n o (a_S s) (a_L s) (a_p s) (a_k s)
  omega
theorem pf_pot_step {n : Nat} {o x y z : Nat → Int32} {s : pfA} (hP : pf_prog n o x y z) (h : pf_wfa n o s) (hp : a_p s < n) : pf_pot n o (pf_ast o x y z s) + 1 ≤ pf_pot n o s := by
  obtain ⟨hn, hok, hsd⟩ := hP
  have hk := hok _ hp
  have hso := hsd.1 _ hp
  have hdn : pf_dn o (a_p s) = a_k s := by unfold pf_dn; rw [h.2.1]; rfl
  have hdns := pf_dn_s hsd hp
  unfold pf_ast
  split
  · rename_i h8
    have h910 := pf_lt8 h8
    have go : ∀ rg ce, pf_pot n o (rg, a_p s + 1, a_k s, a_S s, a_L s, ce) + 1 ≤ pf_pot n o s := fun rg ce => pf_pot_go hsd h (Nat.lt_succ_self _) hp (fun j j1 j2 => by rw [show j = a_p s by omega]; exact h910)
    split
    · exact go _ _
    · split
      · exact go _ _
      · exact go _ _
  · rename_i h8
    split
    · rename_i e8
      have hsk : pf_skip n o (a_p s) (pf_n (y (a_p s))) := hso.2.2 e8
      split
      · exact pf_pot_go hsd h (Nat.lt_succ_self _) hp (fun j j1 j2 => by rw [show j = a_p s by omega, e8]; decide)
      · refine pf_pot_go hsd h (by omega) (by have := hsk.1; omega) (fun j j1 j2 => ?_)
        rcases Nat.eq_or_lt_of_le j1 with e | e
        · rw [← e, e8]; decide
        · exact hsk.2 j e (by omega)
    · split
      · rename_i e8 e9
        obtain ⟨j, hj1, hj2, hj3, hj4⟩ := pf_ok9 hk e9
        have n10 : ¬ o (a_p s) = 10 := by rw [e9]; decide
        rw [if_neg n10, if_pos e9] at hdns
        have r1 := pf_rem_s (d := a_k s) hp (fun q => n10 q.1)
        rw [hdn, Nat.sub_self, Nat.pow_zero] at r1
        have r2 := pf_rem_up hsd (a_k s) (n - (a_p s + 1)) (a_p s + 1) (by omega) (by omega)
        have r3 : pf_tail n o (va_up (a_S s) (a_k s) (a_p s)) (va_up (a_L s) (a_k s) (pf_n (x (a_p s)))) (a_p s + 1) (a_k s) = pf_tail n o (a_S s) (a_L s) (a_p s) (a_k s) := pf_tail_eq (fun d hd => ⟨pf_up_n (by omega), pf_up_n (by omega), (pf_aft_s hp (fun q => n10 q.1)).symm⟩)
        show pf_rem n o (a_k s + 1) (a_p s + 1) + (pf_tail n o (va_up (a_S s) (a_k s) (a_p s)) (va_up (a_L s) (a_k s) (pf_n (x (a_p s)))) (a_p s + 1) (a_k s) + ((va_up (a_L s) (a_k s) (pf_n (x (a_p s))) (a_k s) - 1) * pf_rem n o (a_k s + 1) (va_up (a_S s) (a_k s) (a_p s) (a_k s) + 1) + pf_aft n o (a_k s + 1) (a_p s + 1))) + 1 ≤ pf_rem n o (a_k s) (a_p s) + pf_tail n o (a_S s) (a_L s) (a_p s) (a_k s)
        rw [r3, pf_up_s, pf_up_s, hj4, r1, r2]
        have m1 : (j - 1) * pf_rem n o (a_k s + 1) (a_p s + 1) ≤ 5 * pf_rem n o (a_k s + 1) (a_p s + 1) := Nat.mul_le_mul_right _ (by omega)
        omega
      · rename_i e8 e9
        have e10 := pf_ok10 hk h8 e8 e9
        obtain ⟨hk1, hop⟩ := pf_wfa_opener ⟨hn, hok, hsd⟩ h hp e10
        obtain ⟨t1, t2, t3, t4, t5, t6⟩ := h.2.2 (a_k s - 1) (by omega)
        obtain ⟨j, hj⟩ : ∃ j, a_k s = j + 1 := ⟨a_k s - 1, by omega⟩
        have hj' : a_k s - 1 = j := by omega
        rw [hj'] at t1 t2 t3 t4 t5 t6
        have r1 : pf_rem n o (j + 1) (a_p s) = 1 := pf_rem_e hp ⟨e10, by omega⟩
        have r0 : pf_pot n o s = 1 + (pf_tail n o (a_S s) (a_L s) (a_p s) j + ((a_L s j - 1) * pf_rem n o (j + 1) (a_S s j + 1) + pf_aft n o (j + 1) (a_p s))) := by
          show pf_rem n o (a_k s) (a_p s) + pf_tail n o (a_S s) (a_L s) (a_p s) (a_k s) = _
          rw [hj, r1]
          rfl
        split
        · rename_i hL
          rw [hj'] at hL
          have r2 : pf_aft n o (j + 1) (a_p s) = pf_rem n o j (a_p s + 1) := pf_aft_e hp ⟨e10, by omega⟩
          have r3 : pf_tail n o (a_S s) (va_up (a_L s) j (a_L s j - 1)) (a_p s + 1) j = pf_tail n o (a_S s) (a_L s) (a_p s) j := pf_tail_eq (fun d hd => ⟨rfl, pf_up_n (by omega), (pf_aft_s hp (fun q => by omega)).symm⟩)
          rw [r0, hj']
          show pf_rem n o j (a_p s + 1) + pf_tail n o (a_S s) (va_up (a_L s) j (a_L s j - 1)) (a_p s + 1) j + 1 ≤ _
          rw [r3, r2, hL]
          omega
        · rename_i hL
          rw [hj'] at hL
          have af : ∀ d, d ≤ j → pf_aft n o (d + 1) (a_S s j + 1) = pf_aft n o (d + 1) (a_p s) := by
            intro d hd
            refine pf_aft_flat (by omega) (by omega) (fun i i1 i2 q => ?_)
            have q1 := t4 (i + 1) (by omega) (by omega)
            have q2 := pf_dn_s hsd (p := i) (by omega)
            rw [if_pos q.1, if_neg (by rw [q.1]; decide)] at q2
            have q3 := (pf_dep_le hsd (p := i + 1) (by omega)).1
            have q4 : pf_dn o (i + 1) = (pf_dep o (i + 1)).toNat := rfl
            omega
          have r3 : pf_tail n o (a_S s) (va_up (a_L s) j (a_L s j - 1)) (a_S s j + 1) j = pf_tail n o (a_S s) (a_L s) (a_p s) j := pf_tail_eq (fun d hd => ⟨rfl, pf_up_n (by omega), af d (by omega)⟩)
          rw [r0, hj']
          show pf_rem n o (a_k s) (a_S s j + 1) + pf_tail n o (a_S s) (va_up (a_L s) j (a_L s j - 1)) (a_S s j + 1) (a_k s) + 1 ≤ _
          rw [hj]
          show pf_rem n o (j + 1) (a_S s j + 1) + (pf_tail n o (a_S s) (va_up (a_L s) j (a_L s j - 1)) (a_S s j + 1) j + ((va_up (a_L s) j (a_L s j - 1) j - 1) * pf_rem n o (j + 1) (a_S s j + 1) + pf_aft n o (j + 1) (a_S s j + 1))) + 1 ≤ _
          rw [r3, pf_up_s, af j (Nat.le_refl _)]
          obtain ⟨i, hi⟩ : ∃ i, a_L s j - 1 = i + 1 := ⟨a_L s j - 1 - 1, by omega⟩
          rw [hi, Nat.add_sub_cancel, Nat.succ_mul]
          omega
theorem pf_rem_bound {n : Nat} {o y : Nat → Int32} (hs : pf_sound n o y) : ∀ (f p : Nat), p + f = n → pf_rem n o 0 p ≤ 36 * f := by
  intro f
  induction f with
  | zero =>
    intro p hp
    unfold pf_rem
    rw [show n - p = 0 by omega]
    exact Nat.zero_le _
  | succ f ih =>
    intro p hp
    have hpn : p < n := by omega
    have h1 := ih (p + 1) (by omega)
    by_cases h : o p = 10 ∧ pf_dn o p = 0
    · rw [pf_rem_e hpn h]; omega
    · rw [pf_rem_s hpn h]
      have h2 := pf_dep_le hs (Nat.le_of_lt hpn)
      have h3 : pf_dn o p ≤ 2 := by unfold pf_dn; omega
      have h4 : 6 ^ (pf_dn o p - 0) ≤ 6 ^ 2 := Nat.pow_le_pow_right (by decide) (by omega)
      omega
def pf_ini (ce : Nat → Int32) : pfA := (fun _ => 0, 0, 0, fun _ => 0, fun _ => 0, ce)
/-- the plain machine's states -/
def pf_tr (o x y z : Nat → Int32) (ce : Nat → Int32) : Nat → pfA
  | 0 => pf_ini ce
  | i + 1 => pf_ast o x y z (pf_tr o x y z ce i)
/-- N steps, and the end is reached -/
def pf_ends (n : Nat) (o x y z ce : Nat → Int32) (N : Nat) : Prop := N ≤ 1080 ∧ a_p (pf_tr o x y z ce N) = n ∧ (∀ i, i < N → a_p (pf_tr o x y z ce i) < n) ∧ (∀ i, i ≤ N → pf_wfa n o (pf_tr o x y z ce i))
theorem pf_tr_wf {n : Nat} {o x y z ce : Nat → Int32} (hP : pf_prog n o x y z) : ∀ i, (∀ j, j < i → a_p (pf_tr o x y z ce j) < n) → pf_wfa n o (pf_tr o x y z ce i) ∧ pf_pot n o (pf_tr o x y z ce i) + i ≤ 1080 := by
  intro i
  induction i with
  | zero =>
    intro _
    refine ⟨⟨Nat.zero_le _, rfl, fun d hd => absurd hd (Nat.not_lt_zero d)⟩, ?_⟩
    have h1 := pf_rem_bound hP.2.2 n 0 (by omega)
    have h2 := hP.1
    show pf_rem n o 0 0 + 0 + 0 ≤ 1080
    omega
  | succ i ih =>
    intro h
    obtain ⟨h1, h2⟩ := ih (fun j hj => h j (by omega))
    have h3 := h i (Nat.lt_succ_self _)
    refine ⟨pf_wfa_step hP h1 h3, ?_⟩
    have h4 := pf_pot_step hP h1 h3
    show pf_pot n o (pf_ast o x y z (pf_tr o x y z ce i)) + (i + 1) ≤ 1080
    omega
theorem pf_ends_ex {n : Nat} {o x y z : Nat → Int32} (ce : Nat → Int32) (hP : pf_prog n o x y z) : ∃ N, pf_ends n o x y z ce N := by
  have ex : ∃ k, ¬ a_p (pf_tr o x y z ce k) < n := by
    refine Classical.byContradiction fun hn => ?_
    have h := pf_tr_wf (ce := ce) hP 1081 (fun j _ => Classical.byContradiction fun q => hn ⟨j, q⟩)
    omega
  obtain ⟨N, h1, h2⟩ := pk_least _ ex
  have h3 : ∀ i, i < N → a_p (pf_tr o x y z ce i) < n := fun i hi => Classical.byContradiction fun q => h2 i hi q
  have h4 := pf_tr_wf (ce := ce) hP N h3
  refine ⟨N, by omega, ?_, h3, fun i hi => (pf_tr_wf hP i (fun j hj => h3 j (by omega))).1⟩
  have := h4.1.1
  omega
end
section
/-! bits (rows of laws/BITS.to-paste), then the run under failures against the plain machine -/
set_option maxRecDepth 100000
def bt (x : Int32) (i : Nat) : Bool := x.toBitVec.getLsbD i
theorem b_ext {x y : Int32} (h : ∀ i, i < 32 → bt x i = bt y i) : x = y := Int32.toBitVec_inj.mp (BitVec.eq_of_getLsbD_eq (fun i hi => h i hi))
theorem b_or (x y : Int32) (i : Nat) : bt (x ||| y) i = (bt x i || bt y i) := by unfold bt; rw [Int32.toBitVec_or, BitVec.getLsbD_or]
theorem b_and (x y : Int32) (i : Nat) : bt (x &&& y) i = (bt x i && bt y i) := by unfold bt; rw [Int32.toBitVec_and, BitVec.getLsbD_and]
theorem b_xor (x y : Int32) (i : Nat) : bt (x ^^^ y) i = (bt x i ^^ bt y i) := by unfold bt; rw [Int32.toBitVec_xor, BitVec.getLsbD_xor]
theorem b_big {x : Int32} {i : Nat} (h : 32 ≤ i) : bt x i = false := BitVec.getLsbD_of_ge _ _ h
theorem b_0 (i : Nat) : bt 0 i = false := BitVec.getLsbD_zero
theorem s_l : ∀ n, n < 32 → ((nI n &&& 31).toBitVec.smod 32).toNat = n := by decide +kernel
theorem s_u : ∀ n, n < 32 → (((nI n).toUInt32 &&& Int32.toUInt32 31).toBitVec % 32).toNat = n := by decide +kernel
theorem b_shl (n : Nat) (hn : n < 32) (x : Int32) {i : Nat} (hi : i < 32) : bt (x <<< (nI n &&& 31)) i = (decide (n ≤ i) && bt x (i - n)) := by
  unfold bt
  rw [Int32.toBitVec_shiftLeft]
  show (x.toBitVec <<< ((nI n &&& 31).toBitVec.smod 32).toNat).getLsbD i = _
  rw [s_l n hn, BitVec.getLsbD_shiftLeft]
  rcases Nat.lt_or_ge i n with h | h
  · simp [h, Nat.not_le.mpr h]
  · simp [hi, h, Nat.not_lt.mpr h]
theorem b_sshr (n : Nat) (hn : n < 32) (x : Int32) {i : Nat} (hi : i < 32) : bt (x >>> (nI n &&& 31)) i = if n + i < 32 then bt x (n + i) else bt x 31 := by
  unfold bt
  rw [Int32.toBitVec_shiftRight]
  show (x.toBitVec.sshiftRight ((nI n &&& 31).toBitVec.smod 32).toNat).getLsbD i = _
  rw [s_l n hn, BitVec.getLsbD_sshiftRight, BitVec.msb_eq_getLsbD_last]
  simp [hi]
theorem pf_b1 : ∀ i, i < 32 → bt 1 i = decide (i = 0) := by decide +kernel
theorem pf_bit0 {x : Int32} {j : Nat} (hj : j < 12) : pf_bit x (nI j) = 0 ↔ bt x j = false := by
  unfold pf_bit
  constructor
  · intro h
    have h1 : bt ((x >>> (nI j &&& 31)) &&& 1) 0 = bt 0 0 := by rw [h]
    rw [b_and, b_sshr j (by omega) x (by omega), if_pos (by omega), pf_b1 0 (by omega), b_0] at h1
    simpa using h1
  · intro h
    apply b_ext
    intro i hi
    rw [b_and, pf_b1 i hi, b_0]
    by_cases e : i = 0
    · subst e
      rw [b_sshr j (by omega) x (by omega), if_pos (by omega)]
      simp [h]
    · simp [e]
theorem pf_with_bt {x : Int32} {j i : Nat} (hj : j < 12) (hi : i < 12) : bt (pf_with x (nI j)) i = (bt x i || decide (i = j)) := by
  unfold pf_with
  rw [b_or, b_shl j (by omega) 1 (by omega)]
  rcases Nat.lt_or_ge i j with h | h
  · rw [decide_eq_false (by omega), decide_eq_false (by omega)]
    simp
  · rw [decide_eq_true h, pf_b1 (i - j) (by omega)]
    by_cases e : i = j
    · rw [decide_eq_true e, decide_eq_true (by omega)]
      simp
    · rw [decide_eq_false e, decide_eq_false (by omega)]
      simp
/-! ===== what a step reads and writes ===== -/
def pf_isw (o : Nat → Int32) (s : pfA) : Prop := o (a_p s) = 5 ∨ o (a_p s) = 7
def pf_isr (o : Nat → Int32) (s : pfA) : Prop := o (a_p s) = 4 ∨ o (a_p s) = 6
def pf_cl (o y : Nat → Int32) (s : pfA) : Nat := pf_n (pf_cell o y (a_rg s) (a_p s))
def pf_w (o y : Nat → Int32) (s : pfA) (c : Nat) : Prop := pf_isw o s ∧ pf_cl o y s = c
def pf_r (o y : Nat → Int32) (s : pfA) (c : Nat) : Prop := pf_isr o s ∧ pf_cl o y s = c
theorem pf_wr_no {o : Nat → Int32} {s : pfA} (h1 : pf_isw o s) (h2 : pf_isr o s) : False := by
  rcases h1 with h1 | h1 <;> rcases h2 with h2 | h2 <;> rw [h1] at h2 <;> exact absurd h2 (by decide)
/-- from step k on the cell c is written before it is read -/
def pf_dead (o x y z ce : Nat → Int32) (N k c : Nat) : Prop := ∃ j, k ≤ j ∧ j < N ∧ pf_w o y (pf_tr o x y z ce j) c ∧ ∀ t, k ≤ t → t < j → ¬ pf_w o y (pf_tr o x y z ce t) c ∧ ¬ pf_r o y (pf_tr o x y z ce t) c
def pf_mrel (v : pfV) (s : pfA) : Prop := (∀ r, r < 4 → v_rg v r = a_rg s r) ∧ v_pl v = nI (a_p s) ∧ v_ol v = nI (a_k s) ∧ (∀ d, d < 2 → v_lS v d = nI (a_S s d)) ∧ (∀ d, d < 2 → v_lL v d = nI (a_L s d))
/-- the valid save holds the state s behind k steps -/
def pf_SV (sv : Nat → Int32) (s : pfA) (k : Nat) : Prop := (∀ r, r < 4 → sv (pf_va sv + r) = a_rg s r) ∧ sv (pf_va sv + 4) = nI (a_p s) ∧ sv (pf_va sv + 5) = nI k ∧ sv (pf_va sv + 6) = nI (a_k s) ∧ (∀ d, d < 2 → sv (pf_va sv + 7 + d) = nI (a_S s d)) ∧ (∀ d, d < 2 → sv (pf_va sv + 9 + d) = nI (a_L s d)) ∧ ∃ nv, 1 ≤ nv ∧ nv ≤ k + 1 ∧ sv (pf_va sv + 11) = nI nv ∧ sv (12 - pf_va sv + 11) = nI (nv - 1)
def pf_cells (o x y z ce : Nat → Int32) (N k i : Nat) (v : pfV) : Prop := ∀ c, c < 12 →
  (bt (v_rd v) c = true → v_ce v c = a_ce (pf_tr o x y z ce k) c ∧ a_ce (pf_tr o x y z ce i) c = a_ce (pf_tr o x y z ce k) c) ∧
  (bt (v_wr v) c = true → v_ce v c = a_ce (pf_tr o x y z ce i) c ∧ pf_dead o x y z ce N k c) ∧
  (bt (v_rd v) c = false → bt (v_wr v) c = false → a_ce (pf_tr o x y z ce i) c = a_ce (pf_tr o x y z ce k) c ∧ (∀ t, k ≤ t → t < i → ¬ pf_w o y (pf_tr o x y z ce t) c ∧ ¬ pf_r o y (pf_tr o x y z ce t) c) ∧ (v_ce v c = a_ce (pf_tr o x y z ce k) c ∨ pf_dead o x y z ce N k c))
def pf_OUT (o x y z ce : Nat → Int32) (N k : Nat) (v : pfV) : Prop := k ≤ N ∧ pf_SV (v_sv v) (pf_tr o x y z ce k) k ∧ ∀ c, c < 12 → v_ce v c = a_ce (pf_tr o x y z ce k) c ∨ pf_dead o x y z ce N k c
/-- within a period that began at the save k0; the stretch began at k; i steps are done -/
def pf_IN (o x y z ce : Nat → Int32) (N k0 k i t : Nat) (v : pfV) : Prop := (k0 ≤ k ∧ k ≤ i ∧ i ≤ N ∧ i ≤ k + 10 ∧ t ≤ 100 ∧ (k = k0 → 28 ≤ t + (i - k))) ∧ pf_mrel v (pf_tr o x y z ce i) ∧ (v_ct v = nI i ∧ v_fl v = 0 ∧ v_sr v = nI (i - k) ∧ v_tl v = nI t) ∧ (i = k → v_rd v = 0) ∧ pf_SV (v_sv v) (pf_tr o x y z ce k) k ∧ pf_cells o x y z ce N k i v
theorem pf_cells_now {o x y z ce : Nat → Int32} {N k i : Nat} {v : pfV} (h : pf_cells o x y z ce N k i v) (hki : k ≤ i) {c : Nat} (hc : c < 12) : v_ce v c = a_ce (pf_tr o x y z ce i) c ∨ pf_dead o x y z ce N i c := by
  obtain ⟨h1, h2, h3⟩ := h c hc
  cases e1 : bt (v_rd v) c with
  | true => exact Or.inl ((h1 e1).1.trans (h1 e1).2.symm)
  | false =>
    cases e2 : bt (v_wr v) c with
    | true => exact Or.inl (h2 e2).1
    | false =>
      obtain ⟨g1, g2, g3⟩ := h3 e1 e2
      rcases g3 with g3 | ⟨j, j1, j2, j3, j4⟩
      · exact Or.inl (g3.trans g1.symm)
      · refine Or.inr ⟨j, ?_, j2, j3, fun t t1 t2 => j4 t (by omega) t2⟩
        rcases Nat.lt_or_ge j i with q | q
        · exact absurd j3 (g2 j j1 q).1
        · exact q
theorem pf_cells_back {o x y z ce : Nat → Int32} {N k i : Nat} {v : pfV} (h : pf_cells o x y z ce N k i v) {c : Nat} (hc : c < 12) : v_ce v c = a_ce (pf_tr o x y z ce k) c ∨ pf_dead o x y z ce N k c := by
  obtain ⟨h1, h2, h3⟩ := h c hc
  cases e1 : bt (v_rd v) c with
  | true => exact Or.inl (h1 e1).1
  | false =>
    cases e2 : bt (v_wr v) c with
    | true => exact Or.inr (h2 e2).2
    | false => exact (h3 e1 e2).2.2
theorem pf_cells_read {o x y z ce : Nat → Int32} {N k i : Nat} {v : pfV} (h : pf_cells o x y z ce N k i v) (hki : k ≤ i) {c : Nat} (hc : c < 12) (hr : pf_r o y (pf_tr o x y z ce i) c) : v_ce v c = a_ce (pf_tr o x y z ce i) c := by
  rcases pf_cells_now h hki hc with e | ⟨j, j1, j2, j3, j4⟩
  · exact e
  · exfalso
    rcases Nat.eq_or_lt_of_le j1 with e | e
    · subst e; exact pf_wr_no j3.1 hr.1
    · exact (j4 i (Nat.le_refl _) e).2 hr
/-- a new stretch: nothing read, nothing written -/
theorem pf_cells_new {o x y z ce : Nat → Int32} {N k : Nat} {v : pfV} (h0 : v_rd v = 0) (h1 : v_wr v = 0) (h : ∀ c, c < 12 → v_ce v c = a_ce (pf_tr o x y z ce k) c ∨ pf_dead o x y z ce N k c) : pf_cells o x y z ce N k k v := by
  intro c hc
  refine ⟨fun e => ?_, fun e => ?_, fun _ _ => ⟨rfl, fun t t1 t2 => absurd t2 (by omega), h c hc⟩⟩
  · rw [h0, b_0] at e; cases e
  · rw [h1, b_0] at e; cases e
theorem pf_cells_none {o x y z ce : Nat → Int32} {N k i : Nat} {v u : pfV} (h : pf_cells o x y z ce N k i v) (h1 : v_ce u = v_ce v) (h2 : v_rd u = v_rd v) (h3 : v_wr u = v_wr v) (ha : a_ce (pf_tr o x y z ce (i + 1)) = a_ce (pf_tr o x y z ce i)) (hw : ¬ pf_isw o (pf_tr o x y z ce i)) (hr : ¬ pf_isr o (pf_tr o x y z ce i)) : pf_cells o x y z ce N k (i + 1) u := by
  intro c hc
  obtain ⟨g1, g2, g3⟩ := h c hc
  rw [h1, h2, h3, ha]
  refine ⟨g1, g2, fun e1 e2 => ?_⟩
  obtain ⟨q1, q2, q3⟩ := g3 e1 e2
  refine ⟨q1, fun t t1 t2 => ?_, q3⟩
  rcases Nat.lt_or_ge t i with q | q
  · exact q2 t t1 q
  · rw [show t = i by omega]
    exact ⟨fun a => hw a.1, fun a => hr a.1⟩
theorem pf_cells_load {o x y z ce : Nat → Int32} {N k i c0 : Nat} {v u : pfV} (h : pf_cells o x y z ce N k i v) (hki : k ≤ i) (hc0 : c0 < 12) (h1 : v_ce u = v_ce v) (h2 : v_rd u = if pf_bit (v_wr v) (nI c0) = 0 then pf_with (v_rd v) (nI c0) else v_rd v) (h3 : v_wr u = v_wr v) (ha : a_ce (pf_tr o x y z ce (i + 1)) = a_ce (pf_tr o x y z ce i)) (hr : pf_r o y (pf_tr o x y z ce i) c0) : pf_cells o x y z ce N k (i + 1) u := by
  have hnw : ∀ c, ¬ pf_w o y (pf_tr o x y z ce i) c := fun c q => pf_wr_no q.1 hr.1
  have hread := pf_cells_read h hki hc0 hr
  intro c hc
  obtain ⟨g1, g2, g3⟩ := h c hc
  rw [h1, h3, ha]
  refine ⟨fun e => ?_, g2, fun e1 e2 => ?_⟩
  · rw [h2] at e
    by_cases hb : pf_bit (v_wr v) (nI c0) = 0
    · rw [if_pos hb, pf_with_bt hc0 hc] at e
      rw [pf_bit0 hc0] at hb
      cases e1 : bt (v_rd v) c with
      | true => exact g1 e1
      | false =>
        rw [e1] at e
        have ec : c = c0 := by simpa using e
        subst ec
        have q := g3 e1 hb
        exact ⟨hread.trans q.1, q.1⟩
    · rw [if_neg hb] at e
      exact g1 e
  · have hcc : bt (v_rd v) c = false ∧ c ≠ c0 := by
      rw [h2] at e1
      by_cases hb : pf_bit (v_wr v) (nI c0) = 0
      · rw [if_pos hb, pf_with_bt hc0 hc] at e1
        simpa using e1
      · rw [if_neg hb] at e1
        refine ⟨e1, fun q => ?_⟩
        subst q
        rw [pf_bit0 hc0] at hb
        exact hb e2
    obtain ⟨q1, q2, q3⟩ := g3 hcc.1 e2
    refine ⟨q1, fun t t1 t2 => ?_, q3⟩
    rcases Nat.lt_or_ge t i with q | q
    · exact q2 t t1 q
    · rw [show t = i by omega]
      exact ⟨hnw c, fun a => hcc.2 (a.2.symm.trans hr.2)⟩
theorem pf_cells_store {o x y z ce : Nat → Int32} {N k i c0 : Nat} {w : Int32} {v u : pfV} (h : pf_cells o x y z ce N k i v) (hki : k ≤ i) (hiN : i < N) (hc0 : c0 < 12) (hb : bt (v_rd v) c0 = false) (h1 : v_ce u = upd (v_ce v) c0 w) (h2 : v_rd u = v_rd v) (h3 : v_wr u = pf_with (v_wr v) (nI c0)) (ha : a_ce (pf_tr o x y z ce (i + 1)) = upd (a_ce (pf_tr o x y z ce i)) c0 w) (hw : pf_w o y (pf_tr o x y z ce i) c0) : pf_cells o x y z ce N k (i + 1) u := by
  have hnr : ∀ c, ¬ pf_r o y (pf_tr o x y z ce i) c := fun c q => pf_wr_no hw.1 q.1
  intro c hc
  obtain ⟨g1, g2, g3⟩ := h c hc
  rw [h1, h2, h3, ha]
  by_cases ec : c = c0
  · subst ec
    rw [pk_us, pk_us]
    refine ⟨fun e => (by rw [hb] at e; cases e), fun _ => ⟨rfl, ?_⟩, fun e1 e2 => ?_⟩
    · cases e2 : bt (v_wr v) c with
      | true => exact (g2 e2).2
      | false =>
        obtain ⟨q1, q2, q3⟩ := g3 hb e2
        exact ⟨i, hki, hiN, hw, fun t t1 t2 => q2 t t1 t2⟩
    · rw [pf_with_bt hc0 hc] at e2
      simp at e2
  · rw [pk_un ec, pk_un ec]
    refine ⟨g1, fun e => ?_, fun e1 e2 => ?_⟩
    · rw [pf_with_bt hc0 hc] at e
      exact g2 (by simpa [ec] using e)
    · rw [pf_with_bt hc0 hc] at e2
      obtain ⟨q1, q2, q3⟩ := g3 e1 (by simpa [ec] using e2)
      refine ⟨q1, fun t t1 t2 => ?_, q3⟩
      rcases Nat.lt_or_ge t i with q | q
      · exact q2 t t1 q
      · rw [show t = i by omega]
        exact ⟨fun a => ec (a.2.symm.trans hw.2), hnr c⟩
end
section
/-! a step of the component against a step of the plain machine; saving, waking, failing -/
set_option maxRecDepth 100000
theorem pf_vp4 {a : Int32} {n : Nat} (h : vp_in a n) : pf_n a < n := Nat.not_le.mp fun q => h (Or.inr q)
theorem pf_cell_eq {o x y z rg rg' : Nat → Int32} {p : Nat} (hok : pf_ok (o p) (x p) (y p) (z p)) (h8 : o p < 8) (h : ∀ r, r < 4 → rg r = rg' r) : pf_cell o y rg p = pf_cell o y rg' p := by
  unfold pf_cell
  split
  · rename_i h5
    rw [h _ (pf_vp4 (pf_oky hok h5 h8))]
  · rfl
theorem pf_val_eq {o x y z rg rg' : Nat → Int32} {p : Nat} (hok : pf_ok (o p) (x p) (y p) (z p)) (h4 : o p < 4) (h : ∀ r, r < 4 → rg r = rg' r) : pf_val o y z rg p = pf_val o y z rg' p := by
  unfold pf_val
  by_cases h0 : o p = 0
  · rw [if_pos h0, if_pos h0]
  · obtain ⟨h1, h2⟩ := pf_okz hok h0 h4
    rw [h _ (pf_vp4 h1), h _ (pf_vp4 h2)]
theorem pf_upd_eq {f g : Nat → Int32} {n k : Nat} {a b : Int32} (h : ∀ r, r < n → f r = g r) (e : a = b) : ∀ r, r < n → upd f k a r = upd g k b r := by
  intro r hr
  by_cases q : r = k
  · subst q; rw [pk_us, pk_us, e]
  · rw [pk_un q, pk_un q]; exact h r hr
theorem pf_isw_lt {o : Nat → Int32} {s : pfA} (h : pf_isw o s) : o (a_p s) < 8 ∧ ¬ o (a_p s) < 4 := by
  rcases h with h | h <;> rw [h] <;> decide
theorem pf_isr_lt {o : Nat → Int32} {s : pfA} (h : pf_isr o s) : o (a_p s) < 8 ∧ ¬ o (a_p s) < 4 := by
  rcases h with h | h <;> rw [h] <;> decide
theorem pf_cl_in {o x y z : Nat → Int32} {s : pfA} (hok : pf_ok (o (a_p s)) (x (a_p s)) (y (a_p s)) (z (a_p s))) (h4 : ¬ o (a_p s) < 4) (h8 : o (a_p s) < 8) : pf_cl o y s < 12 ∧ pf_cell o y (a_rg s) (a_p s) = nI (pf_cl o y s) := by
  have h := pf_okc (rg := a_rg s) hok h4 h8
  obtain ⟨j, hj, e⟩ := vp_in_of h (by decide)
  have e2 : pf_cl o y s = j := by unfold pf_cl; rw [e]; exact nI_clamp (by omega)
  rw [e2]
  exact ⟨hj, e⟩
/-- what one instruction does, on both sides -/
theorem pf_exec_rel {n : Nat} {o x y z : Nat → Int32} {v : pfV} {s : pfA} (hP : pf_prog n o x y z) (hwf : pf_wfa n o s) (hp : a_p s < n) (hm : pf_mrel v s) (hrd : pf_isr o s → v_ce v (pf_cl o y s) = a_ce s (pf_cl o y s)) :
    pf_mrel (pf_exec o x y z (a_p s) (a_k s) v) (pf_ast o x y z s) ∧ (v_ct (pf_exec o x y z (a_p s) (a_k s) v) = v_ct v + 1 ∧ v_fl (pf_exec o x y z (a_p s) (a_k s) v) = v_fl v ∧ v_sr (pf_exec o x y z (a_p s) (a_k s) v) = v_sr v + 1 ∧ v_tl (pf_exec o x y z (a_p s) (a_k s) v) = v_tl v ∧ v_sv (pf_exec o x y z (a_p s) (a_k s) v) = v_sv v) ∧
    (pf_isw o s → v_ce (pf_exec o x y z (a_p s) (a_k s) v) = upd (v_ce v) (pf_cl o y s) (a_rg s (pf_n (x (a_p s)))) ∧ v_rd (pf_exec o x y z (a_p s) (a_k s) v) = v_rd v ∧ v_wr (pf_exec o x y z (a_p s) (a_k s) v) = pf_with (v_wr v) (nI (pf_cl o y s)) ∧ a_ce (pf_ast o x y z s) = upd (a_ce s) (pf_cl o y s) (a_rg s (pf_n (x (a_p s))))) ∧
    (pf_isr o s → v_ce (pf_exec o x y z (a_p s) (a_k s) v) = v_ce v ∧ v_rd (pf_exec o x y z (a_p s) (a_k s) v) = (if pf_bit (v_wr v) (nI (pf_cl o y s)) = 0 then pf_with (v_rd v) (nI (pf_cl o y s)) else v_rd v) ∧ v_wr (pf_exec o x y z (a_p s) (a_k s) v) = v_wr v ∧ a_ce (pf_ast o x y z s) = a_ce s) ∧
    (¬ pf_isw o s → ¬ pf_isr o s → v_ce (pf_exec o x y z (a_p s) (a_k s) v) = v_ce v ∧ v_rd (pf_exec o x y z (a_p s) (a_k s) v) = v_rd v ∧ v_wr (pf_exec o x y z (a_p s) (a_k s) v) = v_wr v ∧ a_ce (pf_ast o x y z s) = a_ce s) := by
  obtain ⟨m1, m2, m3, m4, m5⟩ := hm
  have hok := hP.2.1 _ hp
  have hn := hP.1
  have hnx : v_pl v + 1 = nI (a_p s + 1) := by rw [m2]; exact nI_1 _
  have hdl := pf_dep_le hP.2.2 (Nat.le_of_lt hp)
  have hdk := hwf.2.1
  have hk2 : a_k s ≤ 2 := by omega
  by_cases h8 : o (a_p s) < 8
  · have h910 := pf_lt8 h8
    have hx4 := pf_vp4 (pf_okx hok h910.2 h910.1)
    by_cases h4 : o (a_p s) < 4
    · have e1 : pf_exec o x y z (a_p s) (a_k s) v = pf_comp o x y z (a_p s) (pf_next v) := by unfold pf_exec; rw [if_pos h8, if_pos h4]
      have e2 : pf_ast o x y z s = (upd (a_rg s) (pf_n (x (a_p s))) (pf_val o y z (a_rg s) (a_p s)), a_p s + 1, a_k s, a_S s, a_L s, a_ce s) := by unfold pf_ast; rw [if_pos h8, if_pos h4]
      rw [e1, e2]
      refine ⟨⟨pf_upd_eq m1 (pf_val_eq hok h4 m1), hnx, m3, m4, m5⟩, ⟨rfl, rfl, rfl, rfl, rfl⟩, fun q => absurd h4 (pf_isw_lt q).2, fun q => absurd h4 (pf_isr_lt q).2, fun _ _ => ⟨rfl, rfl, rfl, rfl⟩⟩
    · have hce := pf_cell_eq hok h8 m1
      obtain ⟨hc1, hc2⟩ := pf_cl_in hok h4 h8
      by_cases h57 : o (a_p s) = 5 ∨ o (a_p s) = 7
      · have e1 : pf_exec o x y z (a_p s) (a_k s) v = (upd (v_ce v) (pf_n (pf_cell o y (v_rg v) (a_p s))) (v_rg v (pf_n (x (a_p s)))), v_sv v, v_rg v, v_pl v + 1, v_ct v + 1, v_ol v, v_lS v, v_lL v, v_rd v, pf_with (v_wr v) (pf_cell o y (v_rg v) (a_p s)), v_sr v + 1, v_tl v, v_fl v) := by unfold pf_exec pf_move; rw [if_pos h8, if_neg h4, if_pos h57]; rfl
        have e2 : pf_ast o x y z s = (a_rg s, a_p s + 1, a_k s, a_S s, a_L s, upd (a_ce s) (pf_n (pf_cell o y (a_rg s) (a_p s))) (a_rg s (pf_n (x (a_p s))))) := by unfold pf_ast; rw [if_pos h8, if_neg h4, if_pos h57]
        rw [e1, e2]
        refine ⟨⟨m1, hnx, m3, m4, m5⟩, ⟨rfl, rfl, rfl, rfl, rfl⟩, fun q => ⟨?_, rfl, ?_, rfl⟩, fun q => absurd q (fun q => pf_wr_no h57 q), fun q => absurd h57 q⟩
        · show upd (v_ce v) (pf_n (pf_cell o y (v_rg v) (a_p s))) (v_rg v (pf_n (x (a_p s)))) = _
          rw [hce, m1 _ hx4]
          rfl
        · show pf_with (v_wr v) (pf_cell o y (v_rg v) (a_p s)) = _
          rw [hce, hc2]
      · have h46 : pf_isr o s := by
          rcases pf_ops hok.1 with e | e | e | e | e | e | e | e | e | e | e
          · exact absurd (by rw [e]; decide) h4
          · exact absurd (by rw [e]; decide) h4
          · exact absurd (by rw [e]; decide) h4
          · exact absurd (by rw [e]; decide) h4
          · exact Or.inl e
          · exact absurd (Or.inl e) h57
          · exact Or.inr e
          · exact absurd (Or.inr e) h57
          · rw [e] at h8; exact absurd h8 (by decide)
          · rw [e] at h8; exact absurd h8 (by decide)
          · rw [e] at h8; exact absurd h8 (by decide)
        have e1 : pf_exec o x y z (a_p s) (a_k s) v = (v_ce v, v_sv v, upd (v_rg v) (pf_n (x (a_p s))) (v_ce v (pf_n (pf_cell o y (v_rg v) (a_p s)))), v_pl v + 1, v_ct v + 1, v_ol v, v_lS v, v_lL v, if pf_bit (v_wr v) (pf_cell o y (v_rg v) (a_p s)) = 0 then pf_with (v_rd v) (pf_cell o y (v_rg v) (a_p s)) else v_rd v, v_wr v, v_sr v + 1, v_tl v, v_fl v) := by unfold pf_exec pf_move; rw [if_pos h8, if_neg h4, if_neg h57]; rfl
        have e2 : pf_ast o x y z s = (upd (a_rg s) (pf_n (x (a_p s))) (a_ce s (pf_n (pf_cell o y (a_rg s) (a_p s)))), a_p s + 1, a_k s, a_S s, a_L s, a_ce s) := by unfold pf_ast; rw [if_pos h8, if_neg h4, if_neg h57]
        rw [e1, e2]
        refine ⟨⟨?_, hnx, m3, m4, m5⟩, ⟨rfl, rfl, rfl, rfl, rfl⟩, fun q => absurd q h57, fun q => ⟨rfl, ?_, rfl, rfl⟩, fun _ q => absurd h46 q⟩
        · refine pf_upd_eq m1 ?_
          rw [hce]
          exact hrd h46
        · show (if pf_bit (v_wr v) (pf_cell o y (v_rg v) (a_p s)) = 0 then pf_with (v_rd v) (pf_cell o y (v_rg v) (a_p s)) else v_rd v) = _
          rw [hce, hc2]
  · have nw : ¬ pf_isw o s := fun q => h8 (pf_isw_lt q).1
    have nr : ¬ pf_isr o s := fun q => h8 (pf_isr_lt q).1
    have e0 : pf_exec o x y z (a_p s) (a_k s) v = pf_ctl o x y (a_p s) (a_k s) (pf_next v) := by unfold pf_exec; rw [if_neg h8]
    by_cases e8 : o (a_p s) = 8
    · have e1 : pf_exec o x y z (a_p s) (a_k s) v = (v_ce v, v_sv v, v_rg v, if 0 < v_rg v (pf_n (x (a_p s))) then v_pl v + 1 else v_pl v + 1 + y (a_p s), v_ct v + 1, v_ol v, v_lS v, v_lL v, v_rd v, v_wr v, v_sr v + 1, v_tl v, v_fl v) := by rw [e0]; unfold pf_ctl; rw [if_pos e8]; rfl
      have e2 : pf_ast o x y z s = (a_rg s, if 0 < a_rg s (pf_n (x (a_p s))) then a_p s + 1 else a_p s + 1 + pf_n (y (a_p s)), a_k s, a_S s, a_L s, a_ce s) := by unfold pf_ast; rw [if_neg h8, if_pos e8]
      rw [e1, e2]
      have hx4 := pf_vp4 (pf_okx hok (by rw [e8]; decide) (by rw [e8]; decide))
      obtain ⟨j, hj1, hj2, hj3⟩ := pf_ok8 hok e8
      refine ⟨⟨m1, ?_, m3, m4, m5⟩, ⟨rfl, rfl, rfl, rfl, rfl⟩, fun q => absurd q nw, fun q => absurd q nr, fun _ _ => ⟨rfl, rfl, rfl, rfl⟩⟩
      show (if 0 < v_rg v (pf_n (x (a_p s))) then v_pl v + 1 else v_pl v + 1 + y (a_p s)) = nI (if 0 < a_rg s (pf_n (x (a_p s))) then a_p s + 1 else a_p s + 1 + pf_n (y (a_p s)))
      rw [m1 _ hx4]
      split
      · exact hnx
      · rw [hnx]
        show nI (a_p s + 1) + y (a_p s) = nI (a_p s + 1 + (y (a_p s)).toNatClampNeg)
        rw [hj3, hj1, nI_add]
    · by_cases e9 : o (a_p s) = 9
      · have e1 : pf_exec o x y z (a_p s) (a_k s) v = (v_ce v, v_sv v, v_rg v, v_pl v + 1, v_ct v + 1, v_ol v + 1, upd (v_lS v) (a_k s) (nI (a_p s)), upd (v_lL v) (a_k s) (x (a_p s)), v_rd v, v_wr v, v_sr v + 1, v_tl v, v_fl v) := by rw [e0]; unfold pf_ctl; rw [if_neg e8, if_pos e9]; rfl
        have e2 : pf_ast o x y z s = (a_rg s, a_p s + 1, a_k s + 1, va_up (a_S s) (a_k s) (a_p s), va_up (a_L s) (a_k s) (pf_n (x (a_p s))), a_ce s) := by unfold pf_ast; rw [if_neg h8, if_neg e8, if_pos e9]
        rw [e1, e2]
        obtain ⟨j, hj1, hj2, hj3, hj4⟩ := pf_ok9 hok e9
        refine ⟨⟨m1, hnx, ?_, ?_, ?_⟩, ⟨rfl, rfl, rfl, rfl, rfl⟩, fun q => absurd q nw, fun q => absurd q nr, fun _ _ => ⟨rfl, rfl, rfl, rfl⟩⟩
        · show v_ol v + 1 = nI (a_k s + 1)
          rw [m3]; exact nI_1 _
        · intro d hd
          show upd (v_lS v) (a_k s) (nI (a_p s)) d = nI (va_up (a_S s) (a_k s) (a_p s) d)
          by_cases q : d = a_k s
          · subst q; rw [pk_us, pf_up_s]
          · rw [pk_un q, pf_up_n q]; exact m4 d hd
        · intro d hd
          show upd (v_lL v) (a_k s) (x (a_p s)) d = nI (va_up (a_L s) (a_k s) (pf_n (x (a_p s))) d)
          by_cases q : d = a_k s
          · subst q; rw [pk_us, pf_up_s, hj4, hj1]
          · rw [pk_un q, pf_up_n q]; exact m5 d hd
      · have e10 := pf_ok10 hok h8 e8 e9
        obtain ⟨hk1, hop⟩ := pf_wfa_opener hP hwf hp e10
        obtain ⟨t1, t2, t3, t4, t5, t6⟩ := hwf.2.2 (a_k s - 1) (by omega)
        have hL : v_lL v (a_k s - 1) - 1 = nI (a_L s (a_k s - 1) - 1) := by rw [m5 _ (by omega)]; exact pk_sub t5
        have hcond : v_lL v (a_k s - 1) - 1 ≤ 0 ↔ a_L s (a_k s - 1) - 1 = 0 := by
          rw [hL]
          have h := nI_leI (a := a_L s (a_k s - 1) - 1) (b := 0) (by omega) (by decide)
          constructor
          · intro q; have := h.mp q; omega
          · intro q; exact h.mpr (by omega)
        have hLu : ∀ d, d < 2 → upd (v_lL v) (a_k s - 1) (v_lL v (a_k s - 1) - 1) d = nI (va_up (a_L s) (a_k s - 1) (a_L s (a_k s - 1) - 1) d) := by
          intro d hd
          by_cases q : d = a_k s - 1
          · rw [q, pk_us, pf_up_s]; exact hL
          · rw [pk_un q, pf_up_n q]; exact m5 d hd
        by_cases hc : v_lL v (a_k s - 1) - 1 ≤ 0
        · have e1 : pf_exec o x y z (a_p s) (a_k s) v = (v_ce v, v_sv v, v_rg v, v_pl v + 1, v_ct v + 1, nI (a_k s - 1), v_lS v, upd (v_lL v) (a_k s - 1) (v_lL v (a_k s - 1) - 1), v_rd v, v_wr v, v_sr v + 1, v_tl v, v_fl v) := by rw [e0]; unfold pf_ctl; rw [if_neg e8, if_neg e9]; exact if_pos hc
          have e2 : pf_ast o x y z s = (a_rg s, a_p s + 1, a_k s - 1, a_S s, va_up (a_L s) (a_k s - 1) (a_L s (a_k s - 1) - 1), a_ce s) := by unfold pf_ast; rw [if_neg h8, if_neg e8, if_neg e9, if_pos (hcond.mp hc)]
          rw [e1, e2]
          exact ⟨⟨m1, hnx, rfl, m4, hLu⟩, ⟨rfl, rfl, rfl, rfl, rfl⟩, fun q => absurd q nw, fun q => absurd q nr, fun _ _ => ⟨rfl, rfl, rfl, rfl⟩⟩
        · have e1 : pf_exec o x y z (a_p s) (a_k s) v = (v_ce v, v_sv v, v_rg v, v_lS v (a_k s - 1) + 1, v_ct v + 1, v_ol v, v_lS v, upd (v_lL v) (a_k s - 1) (v_lL v (a_k s - 1) - 1), v_rd v, v_wr v, v_sr v + 1, v_tl v, v_fl v) := by rw [e0]; unfold pf_ctl; rw [if_neg e8, if_neg e9]; exact if_neg hc
          have e2 : pf_ast o x y z s = (a_rg s, a_S s (a_k s - 1) + 1, a_k s, a_S s, va_up (a_L s) (a_k s - 1) (a_L s (a_k s - 1) - 1), a_ce s) := by unfold pf_ast; rw [if_neg h8, if_neg e8, if_neg e9, if_neg (fun q => hc (hcond.mpr q))]
          rw [e1, e2]
          refine ⟨⟨m1, ?_, m3, m4, hLu⟩, ⟨rfl, rfl, rfl, rfl, rfl⟩, fun q => absurd q nw, fun q => absurd q nr, fun _ _ => ⟨rfl, rfl, rfl, rfl⟩⟩
          show v_lS v (a_k s - 1) + 1 = nI (a_S s (a_k s - 1) + 1)
          rw [m4 _ (by omega)]; exact nI_1 _
/-- a step that needs no save, and has a tick -/
theorem pf_IN_exec {n : Nat} {o x y z ce : Nat → Int32} {N k0 k i t : Nat} {v v2 : pfV} (hP : pf_prog n o x y z) (hE : pf_ends n o x y z ce N) (h : pf_IN o x y z ce N k0 k i (t + 1) v) (hi : i < N) (hn : ¬ pf_need o y (a_p (pf_tr o x y z ce i)) v) (h2 : v2 = (v_ce v, v_sv v, v_rg v, v_pl v, v_ct v, v_ol v, v_lS v, v_lL v, v_rd v, v_wr v, v_sr v, v_tl v - 1, v_fl v)) : pf_IN o x y z ce N k0 k (i + 1) t (pf_exec o x y z (a_p (pf_tr o x y z ce i)) (a_k (pf_tr o x y z ce i)) v2) := by
  obtain ⟨⟨i1, i2, i3, i4, i5, i6⟩, hm, ⟨c1, c2, c3, c4⟩, h0, hsv, hce⟩ := h
  have hp := hE.2.2.1 i hi
  have hwf := hE.2.2.2 i i3
  have hok := hP.2.1 _ hp
  have hm2 : pf_mrel v2 (pf_tr o x y z ce i) := by subst h2; exact hm
  have hce2 : pf_cells o x y z ce N k i v2 := by subst h2; exact hce
  have hrd : pf_isr o (pf_tr o x y z ce i) → v_ce v2 (pf_cl o y (pf_tr o x y z ce i)) = a_ce (pf_tr o x y z ce i) (pf_cl o y (pf_tr o x y z ce i)) := fun q => pf_cells_read hce2 i2 (pf_cl_in hok (pf_isr_lt q).2 (pf_isr_lt q).1).1 ⟨q, rfl⟩
  obtain ⟨r1, ⟨r2, r3, r4, r5, r6⟩, rw_, rr_, rn_⟩ := pf_exec_rel hP hwf hp hm2 hrd
  have hik : i - k ≠ 10 := by
    intro q
    refine hn (Or.inl ?_)
    rw [c3, q]; rfl
  refine ⟨⟨i1, by omega, hi, by omega, by omega, fun q => by have := i6 q; omega⟩, r1, ⟨?_, ?_, ?_, ?_⟩, fun q => absurd q (by omega), ?_, ?_⟩
  · rw [r2, h2]; show v_ct v + 1 = _; rw [c1]; exact nI_1 _
  · rw [r3, h2]; exact c2
  · rw [r4, h2]; show v_sr v + 1 = _; rw [c3, show i + 1 - k = (i - k) + 1 by omega]; exact nI_1 _
  · rw [r5, h2]; show v_tl v - 1 = _; rw [c4]; exact nI_pred _
  · rw [r6, h2]; exact hsv
  · by_cases hw : pf_isw o (pf_tr o x y z ce i)
    · obtain ⟨g1, g2, g3, g4⟩ := rw_ hw
      obtain ⟨q1, q2⟩ := pf_cl_in hok (pf_isw_lt hw).2 (pf_isw_lt hw).1
      refine pf_cells_store (c0 := pf_cl o y (pf_tr o x y z ce i)) hce2 i2 hi q1 ?_ g1 g2 g3 g4 ⟨hw, rfl⟩
      have hb : pf_bit (v_rd v) (nI (pf_cl o y (pf_tr o x y z ce i))) = 0 := by
        refine Classical.byContradiction fun q => hn (Or.inr ⟨hw, ?_⟩)
        rw [pf_cell_eq hok (pf_isw_lt hw).1 hm.1, q2]
        exact q
      rw [h2]
      exact (pf_bit0 q1).mp hb
    · by_cases hr : pf_isr o (pf_tr o x y z ce i)
      · obtain ⟨g1, g2, g3, g4⟩ := rr_ hr
        obtain ⟨q1, q2⟩ := pf_cl_in hok (pf_isr_lt hr).2 (pf_isr_lt hr).1
        exact pf_cells_load (c0 := pf_cl o y (pf_tr o x y z ce i)) hce2 i2 q1 g1 g2 g3 g4 ⟨hr, rfl⟩
      · obtain ⟨g1, g2, g3, g4⟩ := rn_ hw hr
        exact pf_cells_none hce2 g1 g2 g3 g4 hw hr
theorem pf_va_01 (sv : Nat → Int32) : pf_va sv = 0 ∨ pf_va sv = 12 := by unfold pf_va; split <;> simp
/-- a save that stands -/
theorem pf_SV_save {o x y z ce : Nat → Int32} {N k0 k i t : Nat} {v : pfV} {sv' : Nat → Int32} (h : pf_IN o x y z ce N k0 k i t v) (hN : N ≤ 1080) (hki : k < i)
    (s1 : ∀ w, w < 12 → sv' (pf_va (v_sv v) + w) = v_sv v (pf_va (v_sv v) + w)) (s2 : ∀ w, w < 11 → sv' (12 - pf_va (v_sv v) + w) = pf_word v w) (s3 : sv' (12 - pf_va (v_sv v) + 11) = v_sv v (pf_va (v_sv v) + 11) + 1) : pf_SV sv' (pf_tr o x y z ce i) i := by
  obtain ⟨⟨i1, i2, i3, i4, i5, i6⟩, ⟨m1, m2, m3, m4, m5⟩, ⟨c1, c2, c3, c4⟩, h0, hsv, hce⟩ := h
  obtain ⟨a1, a2, a3, a4, a5, a6, nv, n1, n2, n3, n4⟩ := hsv
  have hva := pf_va_01 (v_sv v)
  have e11 := s1 11 (by omega)
  have hva' : pf_va sv' = 12 - pf_va (v_sv v) := by
    rcases hva with q | q
    · rw [q] at s3 e11 n3 ⊢
      have g1 : sv' 23 = nI (nv + 1) := by
        have := s3; rw [n3] at this; exact this.trans (nI_1 _)
      have g2 : sv' 11 = nI nv := by
        have := e11; rw [n3] at this; exact this
      unfold pf_va
      rw [g1, g2, if_neg (nI_nlt (by omega) (by omega))]
    · rw [q] at s3 e11 n3 ⊢
      have g1 : sv' 11 = nI (nv + 1) := by
        have := s3; rw [n3] at this; exact this.trans (nI_1 _)
      have g2 : sv' 23 = nI nv := by
        have := e11; rw [n3] at this; exact this
      unfold pf_va
      rw [g1, g2, if_pos (nI_lt (by omega) (by omega))]
  unfold pf_SV
  rw [hva']
  refine ⟨fun r hr => ?_, ?_, ?_, ?_, fun d hd => ?_, fun d hd => ?_, nv + 1, by omega, by omega, ?_, ?_⟩
  · rw [s2 r (by omega)]; unfold pf_word; rw [if_pos hr]; exact m1 r hr
  · rw [s2 4 (by omega)]; exact m2
  · rw [s2 5 (by omega)]; exact c1
  · rw [s2 6 (by omega)]; exact m3
  · rw [Nat.add_assoc, s2 (7 + d) (by omega)]; unfold pf_word
    rw [if_neg (by omega), if_neg (by omega), if_neg (by omega), if_neg (by omega), if_pos (by omega), show 7 + d - 7 = d by omega]; exact m4 d hd
  · rw [Nat.add_assoc, s2 (9 + d) (by omega)]; unfold pf_word
    rw [if_neg (by omega), if_neg (by omega), if_neg (by omega), if_neg (by omega), if_neg (by omega), show 9 + d - 9 = d by omega]; exact m5 d hd
  · rw [s3, n3]; exact nI_1 _
  · rw [show 12 - (12 - pf_va (v_sv v)) + 11 = pf_va (v_sv v) + 11 by omega, e11, n3]; rfl
/-- the valid save is untouched -/
theorem pf_SV_keep {sv sv' : Nat → Int32} {s : pfA} {k : Nat} (h : pf_SV sv s k) (s1 : ∀ w, w < 12 → sv' (pf_va sv + w) = sv (pf_va sv + w)) (s2 : sv' (12 - pf_va sv + 11) = sv (12 - pf_va sv + 11)) : pf_SV sv' s k := by
  obtain ⟨a1, a2, a3, a4, a5, a6, nv, n1, n2, n3, n4⟩ := h
  have hva := pf_va_01 sv
  have e11 := s1 11 (by omega)
  have hva' : pf_va sv' = pf_va sv := by
    rcases hva with q | q
    · have g0 := q
      rw [q] at s2 e11 ⊢
      have g1 : sv' 23 = sv 23 := s2
      have g2 : sv' 11 = sv 11 := e11
      rw [← g0]
      unfold pf_va
      rw [g1, g2]
    · have g0 := q
      rw [q] at s2 e11 ⊢
      have g1 : sv' 11 = sv 11 := s2
      have g2 : sv' 23 = sv 23 := e11
      rw [← g0]
      unfold pf_va
      rw [g1, g2]
  unfold pf_SV
  rw [hva']
  refine ⟨fun r hr => ?_, ?_, ?_, ?_, fun d hd => ?_, fun d hd => ?_, nv, n1, n2, ?_, ?_⟩
  · rw [s1 r (by omega)]; exact a1 r hr
  · rw [s1 4 (by omega)]; exact a2
  · rw [s1 5 (by omega)]; exact a3
  · rw [s1 6 (by omega)]; exact a4
  · rw [Nat.add_assoc, s1 (7 + d) (by omega), ← Nat.add_assoc]; exact a5 d hd
  · rw [Nat.add_assoc, s1 (9 + d) (by omega), ← Nat.add_assoc]; exact a6 d hd
  · rw [e11]; exact n3
  · rw [s2]; exact n4
/-- failing: back to the save k -/
theorem pf_OUT_lost {o x y z ce : Nat → Int32} {N k0 k i t : Nat} {v u : pfV} (h : pf_IN o x y z ce N k0 k i t v) (hl : v_ce u = v_ce v) (hs : pf_SV (v_sv u) (pf_tr o x y z ce k) k) : pf_OUT o x y z ce N k u := by
  obtain ⟨⟨i1, i2, i3, i4, i5, i6⟩, hm, hc, h0, hsv, hce⟩ := h
  exact ⟨by omega, hs, fun c hc => by rw [hl]; exact pf_cells_back hce hc⟩
theorem pf_IN_save {o x y z ce : Nat → Int32} {N k0 k i t : Nat} {v u : pfV} (h : pf_IN o x y z ce N k0 k i t v) (hN : N ≤ 1080) (hki : k < i) (hs : pf_saveOk v t u) : pf_IN o x y z ce N k0 i i (t - 12) u := by
  obtain ⟨ht, sv', hu, s1, s2, s3⟩ := hs
  have hsv := pf_SV_save h hN hki s1 s2 s3
  obtain ⟨⟨i1, i2, i3, i4, i5, i6⟩, hm, ⟨c1, c2, c3, c4⟩, h0, hsv0, hce⟩ := h
  subst hu
  refine ⟨⟨by omega, Nat.le_refl _, i3, by omega, by omega, fun q => absurd q (by omega)⟩, hm, ⟨c1, c2, by rw [Nat.sub_self]; rfl, rfl⟩, fun _ => rfl, hsv, ?_⟩
  exact pf_cells_new rfl rfl (fun c hc => pf_cells_now hce i2 hc)
/-- one step of the component -/
theorem pf_IN_step {n : Nat} {o x y z ce : Nat → Int32} {N k0 k i t : Nat} {v u : pfV} (hP : pf_prog n o x y z) (hE : pf_ends n o x y z ce N) (h : pf_IN o x y z ce N k0 k i t v) (hi : i < N) (hs : pf_step o x y z (a_p (pf_tr o x y z ce i)) (a_k (pf_tr o x y z ce i)) t v u) :
    (∃ k' t', pf_IN o x y z ce N k0 k' (i + 1) t' u) ∨ (v_fl u = 1 ∧ ∃ k', k0 < k' ∧ pf_OUT o x y z ce N k' u) := by
  obtain ⟨v1, h1, h2⟩ := hs
  have hh := h
  obtain ⟨⟨i1, i2, i3, i4, i5, i6⟩, hm, ⟨c1, c2, c3, c4⟩, h0, hsv, hce⟩ := h
  have hN := hE.1
  -- the part behind the save, from any state within the run
  have tail : ∀ (k' t1 : Nat), pf_IN o x y z ce N k0 k' i t1 v1 → (k' = k0 → 1 ≤ t1) → ¬ pf_need o y (a_p (pf_tr o x y z ce i)) v1 → ∀ r v2, pf_tick v1 r v2 → ((r = 0 ∧ u = v2) ∨ (r = 1 ∧ u = pf_exec o x y z (a_p (pf_tr o x y z ce i)) (a_k (pf_tr o x y z ce i)) v2)) → (∃ k' t', pf_IN o x y z ce N k0 k' (i + 1) t' u) ∨ (v_fl u = 1 ∧ ∃ k', k0 < k' ∧ pf_OUT o x y z ce N k' u) := by
    intro k' t1 hin hk0 hnn r v2 htk hru
    have htl : v_tl v1 = nI t1 := hin.2.2.1.2.2.2
    rcases htk with ⟨g1, g2, g3⟩ | ⟨g1, g2, g3⟩
    · rcases hru with ⟨q1, q2⟩ | ⟨q1, q2⟩
      · rw [g2] at q1; exact absurd q1 (by decide)
      · obtain ⟨t2, ht2⟩ : ∃ t2, t1 = t2 + 1 := by
          cases t1 with
          | zero => exact absurd (htl.trans nI_0) g1
          | succ t2 => exact ⟨t2, rfl⟩
        subst ht2
        rw [q2]
        exact Or.inl ⟨k', t2, pf_IN_exec hP hE hin hi hnn g3⟩
    · rcases hru with ⟨q1, q2⟩ | ⟨q1, q2⟩
      · subst q2
        obtain ⟨l1, l2, l3⟩ := g3
        have ht0 : t1 = 0 := (nI_eq (by have := hin.1.2.2.2.2.1; omega) (by decide)).mp (htl.symm.trans g1)
        have hkk : k0 < k' := by
          have := hin.1.1
          rcases Nat.eq_or_lt_of_le this with q | q
          · have := hk0 q.symm; omega
          · exact q
        exact Or.inr ⟨l1, k', hkk, pf_OUT_lost hin l2 (by rw [l3]; exact hin.2.2.2.2.1)⟩
      · rw [g2] at q1; exact absurd q1 (by decide)
  rcases h1 with ⟨hnn, rfl⟩ | ⟨hnd, hsave⟩
  · -- no save
    rcases h2 with ⟨q1, -⟩ | ⟨-, r, v2, htk, hru⟩
    · rw [c2] at q1; exact absurd q1 (by decide)
    · exact tail k t hh (fun q => by have := i6 q; omega) hnn r v2 htk hru
  · have hki : k < i := by
      rcases Nat.eq_or_lt_of_le i2 with q | q
      · exfalso
        rcases hnd with e | ⟨ew, e⟩
        · rw [c3, q, Nat.sub_self] at e
          exact absurd e (by decide)
        · have hp := hE.2.2.1 i hi
          have hok := hP.2.1 _ hp
          have hw : pf_isw o (pf_tr o x y z ce i) := ew
          obtain ⟨q1, q2⟩ := pf_cl_in hok (pf_isw_lt hw).2 (pf_isw_lt hw).1
          rw [pf_cell_eq hok (pf_isw_lt hw).1 hm.1, q2, h0 q.symm] at e
          exact e ((pf_bit0 q1).mpr (b_0 _))
      · exact q
    rcases hsave with hok | hno
    · have hin := pf_IN_save hh hN hki hok
      have hnn : ¬ pf_need o y (a_p (pf_tr o x y z ce i)) v1 := by
        obtain ⟨-, sv', rfl, -⟩ := hok
        intro e
        rcases e with e | ⟨ew, e⟩
        · exact absurd (show (0 : Int32) = 10 from e) (by decide)
        · have hp := hE.2.2.1 i hi
          have hok := hP.2.1 _ hp
          have hw : pf_isw o (pf_tr o x y z ce i) := ew
          obtain ⟨q1, q2⟩ := pf_cl_in hok (pf_isw_lt hw).2 (pf_isw_lt hw).1
          have e : ¬ pf_bit 0 (pf_cell o y (v_rg v) (a_p (pf_tr o x y z ce i))) = 0 := e
          rw [pf_cell_eq hok (pf_isw_lt hw).1 hm.1, q2] at e
          exact e ((pf_bit0 q1).mpr (b_0 _))
      rcases h2 with ⟨q1, -⟩ | ⟨-, r, v2, htk, hru⟩
      · rw [hin.2.2.1.2.1] at q1; exact absurd q1 (by decide)
      · exact tail i (t - 12) hin (fun q => absurd q (by omega)) hnn r v2 htk hru
    · obtain ⟨n1, n2, n3, n4, n5⟩ := hno
      have hkk : k0 < k := by
        rcases Nat.eq_or_lt_of_le i1 with q | q
        · have := i6 q.symm; omega
        · exact q
      rcases h2 with ⟨q1, q2⟩ | ⟨q1, -⟩
      · subst q2
        exact Or.inr ⟨n2, k, hkk, pf_OUT_lost hh n3 (pf_SV_keep hsv n4 n5)⟩
      · rw [n2] at q1; exact absurd q1 (by decide)
/-- the last save, at the end of the program -/
theorem pf_IN_end {n : Nat} {o x y z ce : Nat → Int32} {N k0 k i t : Nat} {v u : pfV} (hE : pf_ends n o x y z ce N) (h : pf_IN o x y z ce N k0 k i t v) (hi : i = N) (hs : pf_save v t u) :
    (v_fl u = 0 ∧ v_ct u = nI N ∧ (∀ r, r < 4 → v_rg u r = a_rg (pf_tr o x y z ce N) r) ∧ (∀ c, c < 12 → v_ce u c = a_ce (pf_tr o x y z ce N) c)) ∨ (v_fl u = 1 ∧ ∃ k', k0 < k' ∧ pf_OUT o x y z ce N k' u) := by
  subst hi
  have hh := h
  obtain ⟨⟨i1, i2, i3, i4, i5, i6⟩, hm, ⟨c1, c2, c3, c4⟩, h0, hsv, hce⟩ := h
  rcases hs with ⟨ht, sv', hu, -, -, -⟩ | ⟨n1, n2, n3, n4, n5⟩
  · subst hu
    refine Or.inl ⟨c2, c1, hm.1, fun c hc => ?_⟩
    rcases pf_cells_now hce i2 hc with e | ⟨j, j1, j2, -⟩
    · exact e
    · exact absurd j2 (by omega)
  · have hkk : k0 < k := by
      rcases Nat.eq_or_lt_of_le i1 with q | q
      · have := i6 q.symm; omega
      · exact q
    exact Or.inr ⟨n2, k, hkk, pf_OUT_lost hh n3 (pf_SV_keep hsv n4 n5)⟩
/-- waking up -/
theorem pf_IN_wake {n : Nat} {o x y z ce : Nat → Int32} {N k t : Nat} {v u : pfV} (h : pf_OUT o x y z ce N k v) (ht : 40 ≤ t) (ht2 : t ≤ 100) (hf : v_fl v = 0) (hw : pf_wake v t u) : pf_IN o x y z ce N k k k (t - 12) u := by
  obtain ⟨hk, hsv, hce⟩ := h
  obtain ⟨rg, lS, lL, hu, w1, w2, w3⟩ := hw
  subst hu
  have hs := hsv
  obtain ⟨a1, a2, a3, a4, a5, a6, -⟩ := hsv
  refine ⟨⟨Nat.le_refl _, Nat.le_refl _, hk, by omega, by omega, fun _ => by omega⟩, ⟨fun r hr => ?_, a2, a4, fun d hd => ?_, fun d hd => ?_⟩, ⟨a3, hf, by rw [Nat.sub_self]; rfl, rfl⟩, fun _ => rfl, hs, pf_cells_new rfl rfl hce⟩
  · show rg r = _
    rw [w1 r hr]; exact a1 r hr
  · show lS d = _
    rw [w2 d hd]; exact a5 d hd
  · show lL d = _
    rw [w3 d hd]; exact a6 d hd
/-- the beginning -/
theorem pf_OUT_0 {o x y z : Nat → Int32} {N : Nat} {v : pfV} (h : ∀ j, j < 24 → v_sv v j = if j = 11 then 1 else 0) : pf_OUT o x y z (v_ce v) N 0 v := by
  have hva : pf_va (v_sv v) = 0 := by
    unfold pf_va
    rw [h 23 (by decide), h 11 (by decide), if_pos (by decide)]
  refine ⟨Nat.zero_le _, ?_, fun c hc => Or.inl rfl⟩
  unfold pf_SV
  rw [hva]
  refine ⟨fun r hr => ?_, ?_, ?_, ?_, fun d hd => ?_, fun d hd => ?_, 1, by omega, by omega, ?_, ?_⟩
  · rw [h _ (by omega), if_neg (by omega)]; rfl
  · rw [h _ (by omega), if_neg (by omega)]; rfl
  · rw [h _ (by omega), if_neg (by omega)]; rfl
  · rw [h _ (by omega), if_neg (by omega)]; rfl
  · rw [h _ (by omega), if_neg (by omega)]; rfl
  · rw [h _ (by omega), if_neg (by omega)]; rfl
  · rw [h _ (by omega), if_pos (by omega)]; rfl
  · rw [h _ (by omega), if_neg (by omega)]; rfl
end
section
set_option maxRecDepth 100000
theorem pf_nneg {x : Int32} (h : 40 ≤ x) : ¬ x < 0 := by
  rw [Int32.le_iff_toInt_le] at h
  rw [Int32.lt_iff_toInt_lt]
  have e0 : (0 : Int32).toInt = 0 := by decide
  have e1 : (40 : Int32).toInt = 40 := by decide
  omega
theorem pf_step_pre {n : Nat} {o x y z : Nat → Int32} {s : pfA} (hP : pf_prog n o x y z) (h : pf_wfa n o s) (hp : a_p s < n) : a_p s < 30 ∧ a_k s ≤ 2 ∧ pf_ok (o (a_p s)) (x (a_p s)) (y (a_p s)) (z (a_p s)) ∧ (o (a_p s) = 9 → a_k s < 2) ∧ (o (a_p s) = 10 → 0 < a_k s) := by
  have h1 := hP.1
  have h2 := pf_dep_le hP.2.2 (Nat.le_of_lt hp)
  have h3 := h.2.1
  refine ⟨by omega, by omega, hP.2.1 _ hp, fun e => ?_, fun e => (pf_wfa_opener hP h hp e).1⟩
  have h4 := pf_dep_9 e
  have h5 := pf_dep_le hP.2.2 (p := a_p s + 1) hp
  omega
set_option maxHeartbeats 4000000 in
/-- run(x) -/
theorem k0_run (l : Launch) (D : va_G) (a : Nat → Nat) (d : Nat → ClassId) (oc fx fy fz fi : Nat → Int32) (ln : Int32) (v : pfV) (x : Int32) (n0 : Nat) (hn : n0 ≤ 30) (hln : ln = nI n0) (hwf : ∀ p, p < n0 → pf_ok (oc p) (fx p) (fy p) (fz p)) : pf_KI l D (tyC d) yX0_run cX0_run 5 (some .int) 4 87 [.ref (a 0), .int x] (wV a d ln oc fx fy fz fi v) (S := pfV × (Nat → Int32)) (fun r u => (¬ pf_sound n0 oc fy ∧ r = -3 ∧ v_ce u.1 = (v_ce v) ∧ u.2 = fi) ∨ (pf_sound n0 oc fy ∧ ∃ N, pf_ends n0 oc fx fy fz (v_ce v) N ∧ r = nI N ∧ (∀ c, c < 12 → v_ce u.1 c = a_ce (pf_tr oc fx fy fz (v_ce v) N) c) ∧ (∀ j, j < 4 → u.2 j = a_rg (pf_tr oc fx fy fz (v_ce v) N) j))) (fun u => wV a d ln oc fx fy fz u.2 u.1) := by
  subst hln
  obtain ⟨ce, sv, rg, pl, ct, ol, lS, lL, rd, wr, sr, tl, fl⟩ := v
  refine pf_entI RX0 (by decide) rfl (Nat.le_of_ble_eq_true rfl) ?_
  intro p e s m below meth c A ls hc hw hA hr hlk hl
  have hx := hc.1.1
  have hb := hc.1.2.1
  have hl : lv_has ls 5 [(0, .ref (a 0)), (1, .int x)] := hl
  have hw : pf_H D A s (wC a d (nI n0) oc fx fy fz ce sv fi rg pl ct ol lS lL rd wr sr tl fl) s.heap [] := hw
  refine lv_aload_n hx hb dX0_run_0 rfl (lv_at hl 0 rfl) ?_
  refine pf_callI [] hc hw hA (k0_sound l D a d oc fx fy fz ce sv fi rg lS lL (nI n0) pl ct ol rd wr sr tl fl n0 hn rfl hwf) (cwV 0 hc.1.2.2.2.2 (lw_V q124 q109 q110 q22 q111) rfl rfl rfl (by decide +kernel) ⟨Nat.le_of_ble_eq_true rfl, Nat.le_of_ble_eq_true rfl⟩) (ci := 0) (T := TX0) (N := 19) rfl rfl rfl hl.1 rfl (Nat.le_of_ble_eq_true rfl) dX0_run_1 ⟨Nat.zero_le _, Nat.zero_le _⟩ (fun r1 _ H locs hp1 hw => ?_)
  refine lv_if_ne (tgt := 10) hx hb dX0_run_4 (by decide) (fun c4 => ?_) (fun c4 => ?_)
  · have hsnd := pf_tf_yes hp1 c4
    have hprog : pf_prog n0 oc fx fy fz := ⟨hn, hwf, hsnd⟩
    obtain ⟨N, hE⟩ := pf_ends_ex ce hprog
    have hN := hE.1
    have L34 : ∀ (T : Nat) (H : Heap) (locs : List Loc) (ls : Array Slot), 40 ≤ T → T ≤ 100 → pf_H D A s (wC a d (nI n0) oc fx fy fz ce sv fi rg pl ct ol lS lL rd wr sr tl fl) H locs → lv_has ls 5 [(2, .int (nI T)), (1, .int x), (0, .ref (a 0))] → W p l e { frames := 4, cells := 0, slots := 0, locals := 87 } s m ([.ref (a 0), .int x] : List Value).toArray below meth c H locs 0 0 (MQ below (va_Qi (S := pfV × (Nat → Int32)) (fun r u => (¬ pf_sound n0 oc fy ∧ r = -3 ∧ v_ce u.1 = ce ∧ u.2 = fi) ∨ (pf_sound n0 oc fy ∧ ∃ N, pf_ends n0 oc fx fy fz ce N ∧ r = nI N ∧ (∀ c, c < 12 → v_ce u.1 c = a_ce (pf_tr oc fx fy fz ce N) c) ∧ (∀ j, j < 4 → u.2 j = a_rg (pf_tr oc fx fy fz ce N) j))) (fun u t => pf_at D (tyC d) A ((fun u => wV a d (nI n0) oc fx fy fz u.2 u.1) u) t) A) ([.ref (a 0), .int x] : List Value).toArray s 0 0 A) (F0 m 34 ls []) := by
      intro T H locs ls hT1 hT2 hw hl
      have LO : ∀ (mm k : Nat) (ce1 sv1 rg1 lS1 lL1 : Nat → Int32) (pl1 ct1 ol1 rd1 wr1 sr1 tl1 fl1 : Int32) (H : Heap) (locs : List Loc) (ls : Array Slot), N < k + mm → pf_OUT oc fx fy fz ce N k (ce1, sv1, rg1, pl1, ct1, ol1, lS1, lL1, rd1, wr1, sr1, tl1, fl1) → pf_H D A s (wC a d (nI n0) oc fx fy fz ce1 sv1 fi rg1 pl1 ct1 ol1 lS1 lL1 rd1 wr1 sr1 tl1 fl1) H locs → lv_has ls 5 [(3, .int 0), (2, .int (nI T)), (1, .int x), (0, .ref (a 0))] → W p l e { frames := 4, cells := 0, slots := 0, locals := 87 } s m ([.ref (a 0), .int x] : List Value).toArray below meth c H locs 0 0 (MQ below (va_Qi (S := pfV × (Nat → Int32)) (fun r u => (¬ pf_sound n0 oc fy ∧ r = -3 ∧ v_ce u.1 = ce ∧ u.2 = fi) ∨ (pf_sound n0 oc fy ∧ ∃ N, pf_ends n0 oc fx fy fz ce N ∧ r = nI N ∧ (∀ c, c < 12 → v_ce u.1 c = a_ce (pf_tr oc fx fy fz ce N) c) ∧ (∀ j, j < 4 → u.2 j = a_rg (pf_tr oc fx fy fz ce N) j))) (fun u t => pf_at D (tyC d) A ((fun u => wV a d (nI n0) oc fx fy fz u.2 u.1) u) t) A) ([.ref (a 0), .int x] : List Value).toArray s 0 0 A) (F0 m 40 ls []) := by
        intro mm
        induction mm with
        | zero =>
          intro k ce1 sv1 rg1 lS1 lL1 pl1 ct1 ol1 rd1 wr1 sr1 tl1 fl1 H locs ls hk hO hw hl
          have := hO.1
          exact absurd hk (by omega)
        | succ mm ihO =>
          intro k ce1 sv1 rg1 lS1 lL1 pl1 ct1 ol1 rd1 wr1 sr1 tl1 fl1 H locs ls hk hO hw hl
          refine lv_iload_n hx hb dX0_run_40 rfl (lv_at hl 0 rfl) ?_
          refine lv_if_ne (tgt := 110) hx hb dX0_run_41 (by decide) (fun c41 => absurd rfl c41) (fun c41 => ?_)
          refine lv_aload_n hx hb dX0_run_44 rfl (lv_at hl 3 rfl) ?_
          refine lv_iload_n hx hb dX0_run_45 rfl (lv_at hl 1 rfl) ?_
          refine p0_tl hc hw dX0_run_46 (fun H locs hw => ?_)
          refine lv_aload_n hx hb dX0_run_49 rfl (lv_at hl 3 rfl) ?_
          refine lv_iconst (v := 0) hx hb dX0_run_50 (by decide) ?_
          refine p0_fl (by decide) hc hw dX0_run_51 (fun H locs hw => ?_)
          refine lv_aload_n hx hb dX0_run_54 rfl (lv_at hl 3 rfl) ?_
          refine pf_callV [] hc hw hA (k0_wakeUp l D a d oc fx fy fz fi (nI n0) (ce1, sv1, rg1, pl1, ct1, ol1, lS1, lL1, rd1, wr1, sr1, nI T, 0) T (by omega) (by omega) rfl) (cwV 0 hc.1.2.2.2.2 (lw_V q129 q131 qs4 q22 q132) rfl rfl rfl (by decide +kernel) ⟨Nat.le_of_ble_eq_true rfl, Nat.le_of_ble_eq_true rfl⟩) (ci := 0) (T := TX0) (N := 19) rfl rfl rfl hl.1 rfl (Nat.le_of_ble_eq_true rfl) dX0_run_55 ⟨Nat.zero_le _, Nat.zero_le _⟩ (fun u2 H locs hp55 hw => ?_)
          have hI0 := pf_IN_wake (n := n0) (v := (ce1, sv1, rg1, pl1, ct1, ol1, lS1, lL1, rd1, wr1, sr1, nI T, 0)) hO hT1 hT2 rfl hp55
          obtain ⟨ce2, sv2, rg2, pl2, ct2, ol2, lS2, lL2, rd2, wr2, sr2, tl2, fl2⟩ := u2
          have hw : pf_H D A s (wC a d (nI n0) oc fx fy fz ce2 sv2 fi rg2 pl2 ct2 ol2 lS2 lL2 rd2 wr2 sr2 tl2 fl2) H locs := hw
          have LI : ∀ (mi i k1 t1 : Nat) (ce3 sv3 rg3 lS3 lL3 : Nat → Int32) (pl3 ct3 ol3 rd3 wr3 sr3 tl3 fl3 : Int32) (H : Heap) (locs : List Loc) (ls : Array Slot), i + mi = N → pf_IN oc fx fy fz ce N k k1 i t1 (ce3, sv3, rg3, pl3, ct3, ol3, lS3, lL3, rd3, wr3, sr3, tl3, fl3) → pf_H D A s (wC a d (nI n0) oc fx fy fz ce3 sv3 fi rg3 pl3 ct3 ol3 lS3 lL3 rd3 wr3 sr3 tl3 fl3) H locs → lv_has ls 5 [(3, .int 0), (2, .int (nI T)), (1, .int x), (0, .ref (a 0))] → W p l e { frames := 4, cells := 0, slots := 0, locals := 87 } s m ([.ref (a 0), .int x] : List Value).toArray below meth c H locs 0 0 (MQ below (va_Qi (S := pfV × (Nat → Int32)) (fun r u => (¬ pf_sound n0 oc fy ∧ r = -3 ∧ v_ce u.1 = ce ∧ u.2 = fi) ∨ (pf_sound n0 oc fy ∧ ∃ N, pf_ends n0 oc fx fy fz ce N ∧ r = nI N ∧ (∀ c, c < 12 → v_ce u.1 c = a_ce (pf_tr oc fx fy fz ce N) c) ∧ (∀ j, j < 4 → u.2 j = a_rg (pf_tr oc fx fy fz ce N) j))) (fun u t => pf_at D (tyC d) A ((fun u => wV a d (nI n0) oc fx fy fz u.2 u.1) u) t) A) ([.ref (a 0), .int x] : List Value).toArray s 0 0 A) (F0 m 58 ls []) := by
            intro mi
            induction mi with
            | zero =>
              intro i k1 t1 ce3 sv3 rg3 lS3 lL3 pl3 ct3 ol3 rd3 wr3 sr3 tl3 fl3 H locs ls hi hI hw hl
              have hfl : fl3 = 0 := hI.2.2.1.2.1
              have hpl : pl3 = nI (a_p (pf_tr oc fx fy fz ce i)) := hI.2.1.2.1
              have htl : tl3 = nI t1 := hI.2.2.1.2.2.2
              have ht100 : t1 ≤ 100 := hI.1.2.2.2.2.1
              have hiN : i = N := by omega
              have hpn : a_p (pf_tr oc fx fy fz ce i) = n0 := by rw [hiN]; exact hE.2.1
              refine lv_aload_n hx hb dX0_run_58 rfl (lv_at hl 3 rfl) ?_
              refine g0_fl hc hw dX0_run_59 ?_
              refine lv_if_ne (tgt := 83) hx hb dX0_run_62 (by decide) (fun c62 => absurd hfl c62) (fun c62 => ?_)
              refine lv_aload_n hx hb dX0_run_65 rfl (lv_at hl 3 rfl) ?_
              refine g0_pl hc hw dX0_run_66 ?_
              refine lv_aload_n hx hb dX0_run_69 rfl (lv_at hl 3 rfl) ?_
              refine g0_ln hc hw dX0_run_70 ?_
              refine lv_icmp_ge (tgt := 83) hx hb dX0_run_73 (by decide) (fun c73 => ?_) (fun c73 => absurd (by rw [hpl, hpn]; exact Int32.le_refl _) c73)
              refine lv_aload_n hx hb dX0_run_83 rfl (lv_at hl 3 rfl) ?_
              refine g0_fl hc hw dX0_run_84 ?_
              refine lv_if_ne (tgt := 94) hx hb dX0_run_87 (by decide) (fun c87 => absurd hfl c87) (fun c87 => ?_)
              refine lv_aload_n hx hb dX0_run_90 rfl (lv_at hl 3 rfl) ?_
              refine pf_callV [] hc hw hA (k0_save l D a d oc fx fy fz fi (nI n0) (ce3, sv3, rg3, pl3, ct3, ol3, lS3, lL3, rd3, wr3, sr3, tl3, fl3) t1 (by omega) htl) (cwV 0 hc.1.2.2.2.2 (lw_V q157 q159 qs11 q22 q160) rfl rfl rfl (by decide +kernel) ⟨Nat.le_of_ble_eq_true rfl, Nat.le_of_ble_eq_true rfl⟩) (ci := 0) (T := TX0) (N := 19) rfl rfl rfl hl.1 rfl (Nat.le_of_ble_eq_true rfl) dX0_run_91 ⟨Nat.zero_le _, Nat.zero_le _⟩ (fun u5 H locs hp91 hw => ?_)
              have hend := pf_IN_end hE hI hiN hp91
              obtain ⟨ce5, sv5, rg5, pl5, ct5, ol5, lS5, lL5, rd5, wr5, sr5, tl5, fl5⟩ := u5
              have hw : pf_H D A s (wC a d (nI n0) oc fx fy fz ce5 sv5 fi rg5 pl5 ct5 ol5 lS5 lL5 rd5 wr5 sr5 tl5 fl5) H locs := hw
              rcases hend with ⟨hf5, hct, hrg, hce5⟩ | ⟨hf5, k2, hk2, hO2⟩
              · have hf5 : fl5 = 0 := hf5
                refine lv_aload_n hx hb dX0_run_94 rfl (lv_at hl 3 rfl) ?_
                refine g0_fl hc hw dX0_run_95 ?_
                refine lv_if_ne (tgt := 105) hx hb dX0_run_98 (by decide) (fun c98 => absurd hf5 c98) (fun c98 => ?_)
                refine lv_iconst (v := 1) hx hb dX0_run_101 (by decide) ?_
                refine lv_goto (tgt := 106) hx hb dX0_run_102 (by decide) ?_
                refine lv_istore_n (lv' := [(3, .int 1), (2, .int (nI T)), (1, .int x), (0, .ref (a 0))]) hx hb dX0_run_106 rfl hl (by decide) rfl (fun ls hl => ?_)
                refine lv_goto (tgt := 40) hx hb dX0_run_107 (by decide) ?_
                refine lv_iload_n hx hb dX0_run_40 rfl (lv_at hl 0 rfl) ?_
                refine lv_if_ne (tgt := 110) hx hb dX0_run_41 (by decide) (fun c41 => ?_) (fun c41 => absurd c41 (by decide))
                refine lv_iconst (v := 0) hx hb dX0_run_110 (by decide) ?_
                refine lv_istore (lv' := [(4, .int 0), (3, .int 1), (2, .int (nI T)), (1, .int x), (0, .ref (a 0))]) hx hb dX0_run_111 hl (by decide) rfl (fun ls hl => ?_)
                have LF : ∀ (nn kk : Nat) (g : Nat → Int32) (H : Heap) (locs : List Loc) (ls : Array Slot), kk + nn = 4 → (∀ j, j < kk → g j = rg5 j) → pf_H D A s (wC a d (nI n0) oc fx fy fz ce5 sv5 g rg5 pl5 ct5 ol5 lS5 lL5 rd5 wr5 sr5 tl5 fl5) H locs → lv_has ls 5 [(4, .int (nI kk)), (3, .int 1), (2, .int (nI T)), (1, .int x), (0, .ref (a 0))] → W p l e { frames := 4, cells := 0, slots := 0, locals := 87 } s m ([.ref (a 0), .int x] : List Value).toArray below meth c H locs 0 0 (MQ below (va_Qi (S := pfV × (Nat → Int32)) (fun r u => (¬ pf_sound n0 oc fy ∧ r = -3 ∧ v_ce u.1 = ce ∧ u.2 = fi) ∨ (pf_sound n0 oc fy ∧ ∃ N, pf_ends n0 oc fx fy fz ce N ∧ r = nI N ∧ (∀ c, c < 12 → v_ce u.1 c = a_ce (pf_tr oc fx fy fz ce N) c) ∧ (∀ j, j < 4 → u.2 j = a_rg (pf_tr oc fx fy fz ce N) j))) (fun u t => pf_at D (tyC d) A ((fun u => wV a d (nI n0) oc fx fy fz u.2 u.1) u) t) A) ([.ref (a 0), .int x] : List Value).toArray s 0 0 A) (F0 m 113 ls []) := by
                  intro nn
                  induction nn with
                  | zero =>
                    intro kk g H locs ls hkk hg hw hl
                    obtain rfl : kk = 4 := by omega
                    refine lv_iload hx hb dX0_run_113 (lv_at hl 0 rfl) ?_
                    refine lv_iconst (v := 4) hx hb dX0_run_115 (by decide) ?_
                    refine lv_icmp_ge (tgt := 139) hx hb dX0_run_116 (by decide) (fun c116 => ?_) (fun c116 => absurd (Int32.le_refl _) c116)
                    refine lv_aload_n hx hb dX0_run_139 rfl (lv_at hl 4 rfl) ?_
                    refine g0_ct hc hw dX0_run_140 ?_
                    exact pf_retI hc ((ce5, sv5, rg5, pl5, ct5, ol5, lS5, lL5, rd5, wr5, sr5, tl5, fl5), g) hw hr hlk (Or.inr ⟨hsnd, N, hE, hct, hce5, fun j hj => (hg j hj).trans (hrg j hj)⟩) dX0_run_143
                  | succ nn ihF =>
                    intro kk g H locs ls hkk hg hw hl
                    refine lv_iload hx hb dX0_run_113 (lv_at hl 0 rfl) ?_
                    refine lv_iconst (v := 4) hx hb dX0_run_115 (by decide) ?_
                    refine lv_icmp_ge (tgt := 139) hx hb dX0_run_116 (by decide) (fun c116 => absurd ((nI_leI (a := 4) (b := kk) (by decide) (by omega)).mp c116) (by omega)) (fun c116 => ?_)
                    refine lv_aload_n hx hb dX0_run_119 rfl (lv_at hl 4 rfl) ?_
                    refine g0_fi hc hw dX0_run_120 ?_
                    refine lv_iload hx hb dX0_run_123 (lv_at hl 0 rfl) ?_
                    refine lv_aload_n hx hb dX0_run_125 rfl (lv_at hl 4 rfl) ?_
                    refine g0_rg hc hw dX0_run_126 ?_
                    refine lv_iload hx hb dX0_run_129 (lv_at hl 0 rfl) ?_
                    refine l0_rg (j := kk) hc hw (pf_ixn (by omega) (by decide)) dX0_run_131 ?_
                    refine s0_fi (j := kk) hc hw (pf_ixn (by omega) (by decide)) dX0_run_132 (fun H locs hw => ?_)
                    refine lv_iinc (v := nI (kk + 1)) (lv' := [(4, .int (nI (kk + 1))), (3, .int 1), (2, .int (nI T)), (1, .int x), (0, .ref (a 0))]) hx hb dX0_run_133 hl (k := 0) rfl (nI_1 _) (by decide) rfl (fun ls hl => ?_)
                    refine lv_goto (tgt := 113) hx hb dX0_run_136 (by decide) ?_
                    exact ihF (kk + 1) (upd g kk (rg5 kk)) _ _ ls (by omega) (lt_s (fun j hj => (pk_un (Nat.ne_of_lt hj)).trans (hg j hj)) pk_us) hw (lv_sub hl [0, 1, 2, 3, 4] rfl)
                exact LF 4 0 _ _ _ ls rfl lt_0 hw (lv_sub hl [0, 1, 2, 3, 4] rfl)
              · have fl5_f : fl5 = 1 := hf5
                refine lv_aload_n hx hb dX0_run_94 rfl (lv_at hl 3 rfl) ?_
                refine g0_fl hc hw dX0_run_95 ?_
                refine lv_if_ne (tgt := 105) hx hb dX0_run_98 (by decide) (fun c98 => ?_) (fun c98 => absurd fl5_f (by rw [c98]; decide))
                refine lv_iconst (v := 0) hx hb dX0_run_105 (by decide) ?_
                refine lv_istore_n (lv' := [(3, .int 0), (2, .int (nI T)), (1, .int x), (0, .ref (a 0))]) hx hb dX0_run_106 rfl hl (by decide) rfl (fun ls hl => ?_)
                refine lv_goto (tgt := 40) hx hb dX0_run_107 (by decide) ?_
                exact ihO _ ce5 sv5 rg5 lS5 lL5 pl5 ct5 ol5 rd5 wr5 sr5 tl5 fl5 _ _ ls (by omega) hO2 hw (lv_sub hl [0, 1, 2, 3] rfl)
            | succ mi ih =>
              intro i k1 t1 ce3 sv3 rg3 lS3 lL3 pl3 ct3 ol3 rd3 wr3 sr3 tl3 fl3 H locs ls hi hI hw hl
              have hfl : fl3 = 0 := hI.2.2.1.2.1
              have hpl : pl3 = nI (a_p (pf_tr oc fx fy fz ce i)) := hI.2.1.2.1
              have htl : tl3 = nI t1 := hI.2.2.1.2.2.2
              have ht100 : t1 ≤ 100 := hI.1.2.2.2.2.1
              have hiN : i < N := by omega
              have hpn := hE.2.2.1 i hiN
              obtain ⟨g1, g2, g3, g4, g5⟩ := pf_step_pre hprog (hE.2.2.2 i (by omega)) hpn
              refine lv_aload_n hx hb dX0_run_58 rfl (lv_at hl 3 rfl) ?_
              refine g0_fl hc hw dX0_run_59 ?_
              refine lv_if_ne (tgt := 83) hx hb dX0_run_62 (by decide) (fun c62 => absurd hfl c62) (fun c62 => ?_)
              refine lv_aload_n hx hb dX0_run_65 rfl (lv_at hl 3 rfl) ?_
              refine g0_pl hc hw dX0_run_66 ?_
              refine lv_aload_n hx hb dX0_run_69 rfl (lv_at hl 3 rfl) ?_
              refine g0_ln hc hw dX0_run_70 ?_
              refine lv_icmp_ge (tgt := 83) hx hb dX0_run_73 (by decide) (fun c73 => absurd ((nI_leI (a := n0) (b := a_p (pf_tr oc fx fy fz ce i)) (by omega) (by omega)).mp (by rw [hpl] at c73; exact c73)) (by omega)) (fun c73 => ?_)
              refine lv_aload_n hx hb dX0_run_76 rfl (lv_at hl 3 rfl) ?_
              refine pf_callV [] hc hw hA (k0_step l D a d oc fx fy fz fi (nI n0) (ce3, sv3, rg3, pl3, ct3, ol3, lS3, lL3, rd3, wr3, sr3, tl3, fl3) (a_p (pf_tr oc fx fy fz ce i)) (a_k (pf_tr oc fx fy fz ce i)) t1 g1 g2 (by omega) hpl hI.2.1.2.2.1 htl hfl g3 g4 g5) (cwV 0 hc.1.2.2.2.2 (lw_V q149 q151 qs9 q22 q152) rfl rfl rfl (by decide +kernel) ⟨Nat.le_of_ble_eq_true rfl, Nat.le_of_ble_eq_true rfl⟩) (ci := 0) (T := TX0) (N := 19) rfl rfl rfl hl.1 rfl (Nat.le_of_ble_eq_true rfl) dX0_run_77 ⟨Nat.zero_le _, Nat.zero_le _⟩ (fun u4 H locs hp77 hw => ?_)
              have hst := pf_IN_step hprog hE hI hiN hp77
              obtain ⟨ce4, sv4, rg4, pl4, ct4, ol4, lS4, lL4, rd4, wr4, sr4, tl4, fl4⟩ := u4
              have hw : pf_H D A s (wC a d (nI n0) oc fx fy fz ce4 sv4 fi rg4 pl4 ct4 ol4 lS4 lL4 rd4 wr4 sr4 tl4 fl4) H locs := hw
              rcases hst with ⟨k2, t2, hI2⟩ | ⟨hf4, k2, hk2, hO2⟩
              · refine lv_goto (tgt := 58) hx hb dX0_run_80 (by decide) ?_
                exact ih (i + 1) k2 t2 ce4 sv4 rg4 lS4 lL4 pl4 ct4 ol4 rd4 wr4 sr4 tl4 fl4 _ _ ls (by omega) hI2 hw (lv_sub hl [0, 1, 2, 3] rfl)
              · have fl4_f : fl4 = 1 := hf4
                refine lv_goto (tgt := 58) hx hb dX0_run_80 (by decide) ?_
                refine lv_aload_n hx hb dX0_run_58 rfl (lv_at hl 3 rfl) ?_
                refine g0_fl hc hw dX0_run_59 ?_
                refine lv_if_ne (tgt := 83) hx hb dX0_run_62 (by decide) (fun c62 => ?_) (fun c62 => absurd fl4_f (by rw [c62]; decide))
                refine lv_aload_n hx hb dX0_run_83 rfl (lv_at hl 3 rfl) ?_
                refine g0_fl hc hw dX0_run_84 ?_
                refine lv_if_ne (tgt := 94) hx hb dX0_run_87 (by decide) (fun c87 => ?_) (fun c87 => absurd fl4_f (by rw [c87]; decide))
                refine lv_aload_n hx hb dX0_run_94 rfl (lv_at hl 3 rfl) ?_
                refine g0_fl hc hw dX0_run_95 ?_
                refine lv_if_ne (tgt := 105) hx hb dX0_run_98 (by decide) (fun c98 => ?_) (fun c98 => absurd fl4_f (by rw [c98]; decide))
                refine lv_iconst (v := 0) hx hb dX0_run_105 (by decide) ?_
                refine lv_istore_n (lv' := [(3, .int 0), (2, .int (nI T)), (1, .int x), (0, .ref (a 0))]) hx hb dX0_run_106 rfl hl (by decide) rfl (fun ls hl => ?_)
                refine lv_goto (tgt := 40) hx hb dX0_run_107 (by decide) ?_
                exact ihO _ ce4 sv4 rg4 lS4 lL4 pl4 ct4 ol4 rd4 wr4 sr4 tl4 fl4 _ _ ls (by omega) hO2 hw (lv_sub hl [0, 1, 2, 3] rfl)
          exact LI (N - k) k k (T - 12) ce2 sv2 rg2 lS2 lL2 pl2 ct2 ol2 rd2 wr2 sr2 tl2 fl2 _ _ ls (by have := hO.1; omega) hI0 hw (lv_sub hl [0, 1, 2, 3] rfl)
      refine lv_aload_n hx hb dX0_run_34 rfl (lv_at hl 2 rfl) ?_
      refine pf_callV [] hc hw hA (k0_startFromNothing l D a d oc fx fy fz ce sv fi rg lS lL (nI n0) pl ct ol rd wr sr tl fl) (cwV 0 hc.1.2.2.2.2 (lw_V q125 q127 qs3 q22 q128) rfl rfl rfl (by decide +kernel) ⟨Nat.le_of_ble_eq_true rfl, Nat.le_of_ble_eq_true rfl⟩) (ci := 0) (T := TX0) (N := 19) rfl rfl rfl hl.1 rfl (Nat.le_of_ble_eq_true rfl) dX0_run_35 ⟨Nat.zero_le _, Nat.zero_le _⟩ (fun sv0 H locs hp35 hw => ?_)
      refine lv_iconst (v := 0) hx hb dX0_run_38 (by decide) ?_
      refine lv_istore_n (lv' := [(3, .int 0), (2, .int (nI T)), (1, .int x), (0, .ref (a 0))]) hx hb dX0_run_39 rfl hl (by decide) rfl (fun ls hl => ?_)
      exact LO (N + 1) 0 ce sv0 rg lS lL pl ct ol rd wr sr tl fl _ _ ls (by omega) (pf_OUT_0 (v := (ce, sv0, rg, pl, ct, ol, lS, lL, rd, wr, sr, tl, fl)) hp35) hw (lv_sub hl [0, 1, 2, 3] rfl)
    refine lv_iload_n hx hb dX0_run_10 rfl (lv_at hl 1 rfl) ?_
    refine lv_bipush (v := 40) hx hb dX0_run_11 (by decide) ?_
    refine lv_icmp_ge (tgt := 21) hx hb dX0_run_13 (by decide) (fun c13 => ?_) (fun c13 => ?_)
    · have c13 : 40 ≤ x := c13
      refine lv_iload_n hx hb dX0_run_21 rfl (lv_at hl 1 rfl) ?_
      refine lv_bipush (v := 100) hx hb dX0_run_22 (by decide) ?_
      refine lv_icmp_le (tgt := 32) hx hb dX0_run_24 (by decide) (fun c24 => ?_) (fun c24 => ?_)
      · refine lv_iload_n hx hb dX0_run_32 rfl (lv_at hl 1 rfl) ?_
        refine lv_istore_n (lv' := [(2, .int x), (0, .ref (a 0)), (1, .int x)]) hx hb dX0_run_33 rfl hl (by decide) rfl (fun ls hl => ?_)
        obtain ⟨j, hj, ej⟩ := nI_of2 (M := 100) (n := 100) (by decide) (x := x) (pf_nneg c13) c24
        have hj40 : 40 ≤ j := (nI_leI (a := 40) (b := j) (by decide) (by omega)).mp (by rw [← ej]; exact c13)
        exact L34 j _ _ ls hj40 hj hw (by rw [← ej]; exact lv_sub hl [0, 2, 1] rfl)
      · refine lv_bipush (v := 100) hx hb dX0_run_27 (by decide) ?_
        refine lv_goto (tgt := 33) hx hb dX0_run_29 (by decide) ?_
        refine lv_istore_n (lv' := [(2, .int 100), (0, .ref (a 0)), (1, .int x)]) hx hb dX0_run_33 rfl hl (by decide) rfl (fun ls hl => ?_)
        exact L34 100 _ _ ls (by decide) (by decide) hw (lv_sub hl [0, 2, 1] rfl)
    · refine lv_bipush (v := 40) hx hb dX0_run_16 (by decide) ?_
      refine lv_goto (tgt := 33) hx hb dX0_run_18 (by decide) ?_
      refine lv_istore_n (lv' := [(2, .int 40), (0, .ref (a 0)), (1, .int x)]) hx hb dX0_run_33 rfl hl (by decide) rfl (fun ls hl => ?_)
      exact L34 40 _ _ ls (by decide) (by decide) hw (lv_sub hl [0, 2, 1] rfl)
  · have hsnd := pf_tf_no hp1 c4
    refine lv_bipush (v := (-3)) hx hb dX0_run_7 (by decide) ?_
    exact pf_retI hc ((ce, sv, rg, pl, ct, ol, lS, lL, rd, wr, sr, tl, fl), fi) hw hr hlk (Or.inl ⟨hsnd, rfl, rfl, rfl⟩) dX0_run_9
end
section
set_option maxRecDepth 100000
/-- the reference's arrays hold the plain machine's state -/
def pf_mm (mr mc ml : Nat → Int32) (s : pfA) : Prop := (∀ r, r < 4 → mr r = a_rg s r) ∧ (∀ c, c < 12 → mc c = a_ce s c) ∧ (∀ d, d < a_k s → ml (a_S s d) = nI (a_L s d))
theorem pf_mm_step {n : Nat} {o x y z mr mc ml : Nat → Int32} {s : pfA} (hP : pf_prog n o x y z) (hwf : pf_wfa n o s) (hp : a_p s < n) (hm : pf_mm mr mc ml s) : pf_mm (pf_mreg o x y z (a_p s) mc mr) (pf_mcel o x y (a_p s) mc mr) (pf_mlef o x (a_p s) (a_S s (a_k s - 1)) ml) (pf_ast o x y z s) ∧ pf_mret o x y (a_p s) (a_S s (a_k s - 1)) mr ml = nI (a_p (pf_ast o x y z s)) := by
  obtain ⟨m1, m2, m3⟩ := hm
  have hok := hP.2.1 _ hp
  have hn := hP.1
  have hdl := pf_dep_le hP.2.2 (Nat.le_of_lt hp)
  have hdk := hwf.2.1
  by_cases h8 : o (a_p s) < 8
  · have h910 := pf_lt8 h8
    have n8 : ¬ o (a_p s) = 8 := by intro e; rw [e] at h8; exact absurd h8 (by decide)
    have hx4 := pf_vp4 (pf_okx hok h910.2 h910.1)
    have el : pf_mlef o x (a_p s) (a_S s (a_k s - 1)) ml = ml := by unfold pf_mlef; rw [if_neg h910.1, if_neg h910.2]
    have er : pf_mret o x y (a_p s) (a_S s (a_k s - 1)) mr ml = nI (a_p s + 1) := by unfold pf_mret; rw [if_neg n8, if_neg h910.2]; exact nI_1 _
    rw [el, er]
    by_cases h4 : o (a_p s) < 4
    · have e2 : pf_ast o x y z s = (upd (a_rg s) (pf_n (x (a_p s))) (pf_val o y z (a_rg s) (a_p s)), a_p s + 1, a_k s, a_S s, a_L s, a_ce s) := by unfold pf_ast; rw [if_pos h8, if_pos h4]
      have ec : pf_mcel o x y (a_p s) mc mr = mc := by unfold pf_mcel; rw [if_neg (by intro e; rw [e] at h4; exact absurd h4 (by decide)), if_neg (by intro e; rw [e] at h4; exact absurd h4 (by decide))]
      have eg : pf_mreg o x y z (a_p s) mc mr = upd mr (pf_n (x (a_p s))) (pf_val o y z mr (a_p s)) := by
        unfold pf_mreg pf_val
        rcases pf_ops hok.1 with e | e | e | e | e | e | e | e | e | e | e
        · rw [if_pos e, if_pos e]
        · rw [if_neg (by rw [e]; decide), if_pos e, if_neg (by rw [e]; decide), if_pos e]
        · rw [if_neg (by rw [e]; decide), if_neg (by rw [e]; decide), if_pos e, if_neg (by rw [e]; decide), if_neg (by rw [e]; decide), if_pos e]
        · rw [if_neg (by rw [e]; decide), if_neg (by rw [e]; decide), if_neg (by rw [e]; decide), if_pos e, if_neg (by rw [e]; decide), if_neg (by rw [e]; decide), if_neg (by rw [e]; decide)]
        all_goals (rw [e] at h4; exact absurd h4 (by decide))
      rw [ec, eg, e2]
      exact ⟨⟨pf_upd_eq m1 (pf_val_eq hok h4 m1), m2, m3⟩, rfl⟩
    · have hce := pf_cell_eq hok h8 m1
      obtain ⟨hc1, hc2⟩ := pf_cl_in hok h4 h8
      by_cases h57 : o (a_p s) = 5 ∨ o (a_p s) = 7
      · have e2 : pf_ast o x y z s = (a_rg s, a_p s + 1, a_k s, a_S s, a_L s, upd (a_ce s) (pf_n (pf_cell o y (a_rg s) (a_p s))) (a_rg s (pf_n (x (a_p s))))) := by unfold pf_ast; rw [if_pos h8, if_neg h4, if_pos h57]
        have eg : pf_mreg o x y z (a_p s) mc mr = mr := by
          unfold pf_mreg
          rcases h57 with e | e <;> rw [if_neg (by rw [e]; decide), if_neg (by rw [e]; decide), if_neg (by rw [e]; decide), if_neg (by rw [e]; decide), if_neg (by rw [e]; decide), if_neg (by rw [e]; decide)]
        have ec : pf_mcel o x y (a_p s) mc mr = upd mc (pf_n (pf_cell o y mr (a_p s))) (mr (pf_n (x (a_p s)))) := by
          unfold pf_mcel pf_cell
          rcases h57 with e | e
          · rw [if_pos e, if_neg (by rw [e]; decide)]
          · rw [if_neg (by rw [e]; decide), if_pos e, if_pos (by rw [e]; decide)]
        rw [ec, eg, e2]
        refine ⟨⟨m1, ?_, m3⟩, rfl⟩
        rw [hce]
        exact pf_upd_eq m2 (m1 _ hx4)
      · have h46 : o (a_p s) = 4 ∨ o (a_p s) = 6 := by
          rcases pf_ops hok.1 with e | e | e | e | e | e | e | e | e | e | e
          · exact absurd (by rw [e]; decide) h4
          · exact absurd (by rw [e]; decide) h4
          · exact absurd (by rw [e]; decide) h4
          · exact absurd (by rw [e]; decide) h4
          · exact Or.inl e
          · exact absurd (Or.inl e) h57
          · exact Or.inr e
          · exact absurd (Or.inr e) h57
          · rw [e] at h8; exact absurd h8 (by decide)
          · rw [e] at h8; exact absurd h8 (by decide)
          · rw [e] at h8; exact absurd h8 (by decide)
        have e2 : pf_ast o x y z s = (upd (a_rg s) (pf_n (x (a_p s))) (a_ce s (pf_n (pf_cell o y (a_rg s) (a_p s)))), a_p s + 1, a_k s, a_S s, a_L s, a_ce s) := by unfold pf_ast; rw [if_pos h8, if_neg h4, if_neg h57]
        have ec : pf_mcel o x y (a_p s) mc mr = mc := by unfold pf_mcel; rw [if_neg (fun e => h57 (Or.inl e)), if_neg (fun e => h57 (Or.inr e))]
        have eg : pf_mreg o x y z (a_p s) mc mr = upd mr (pf_n (x (a_p s))) (mc (pf_n (pf_cell o y mr (a_p s)))) := by
          unfold pf_mreg pf_cell
          rcases h46 with e | e
          · rw [if_neg (by rw [e]; decide), if_neg (by rw [e]; decide), if_neg (by rw [e]; decide), if_neg (by rw [e]; decide), if_pos e, if_neg (by rw [e]; decide)]
          · rw [if_neg (by rw [e]; decide), if_neg (by rw [e]; decide), if_neg (by rw [e]; decide), if_neg (by rw [e]; decide), if_neg (by rw [e]; decide), if_pos e, if_pos (by rw [e]; decide)]
        rw [ec, eg, e2]
        refine ⟨⟨?_, m2, m3⟩, rfl⟩
        rw [hce]
        exact pf_upd_eq m1 (m2 _ hc1)
  · have nlo : ∀ j : Int32, j < 8 → ¬ o (a_p s) = j := fun j hj e => h8 (by rw [e]; exact hj)
    have eg : pf_mreg o x y z (a_p s) mc mr = mr := by
      unfold pf_mreg
      rw [if_neg (nlo 0 (by decide)), if_neg (nlo 1 (by decide)), if_neg (nlo 2 (by decide)), if_neg (nlo 3 (by decide)), if_neg (nlo 4 (by decide)), if_neg (nlo 6 (by decide))]
    have ec : pf_mcel o x y (a_p s) mc mr = mc := by
      unfold pf_mcel
      rw [if_neg (nlo 5 (by decide)), if_neg (nlo 7 (by decide))]
    rw [eg, ec]
    by_cases e8 : o (a_p s) = 8
    · have e2 : pf_ast o x y z s = (a_rg s, if 0 < a_rg s (pf_n (x (a_p s))) then a_p s + 1 else a_p s + 1 + pf_n (y (a_p s)), a_k s, a_S s, a_L s, a_ce s) := by unfold pf_ast; rw [if_neg h8, if_pos e8]
      have el : pf_mlef o x (a_p s) (a_S s (a_k s - 1)) ml = ml := by unfold pf_mlef; rw [if_neg (by rw [e8]; decide), if_neg (by rw [e8]; decide)]
      have hx4 := pf_vp4 (pf_okx hok (by rw [e8]; decide) (by rw [e8]; decide))
      obtain ⟨j, hj1, hj2, hj3⟩ := pf_ok8 hok e8
      rw [el, e2]
      refine ⟨⟨m1, m2, m3⟩, ?_⟩
      unfold pf_mret
      rw [if_pos e8, m1 _ hx4]
      show _ = nI (if 0 < a_rg s (pf_n (x (a_p s))) then a_p s + 1 else a_p s + 1 + pf_n (y (a_p s)))
      split
      · exact nI_1 _
      · show nI (a_p s) + y (a_p s) + 1 = nI (a_p s + 1 + (y (a_p s)).toNatClampNeg)
        rw [hj3, hj1, nI_add, nI_1]
        congr 1
        omega
    · by_cases e9 : o (a_p s) = 9
      · have e2 : pf_ast o x y z s = (a_rg s, a_p s + 1, a_k s + 1, va_up (a_S s) (a_k s) (a_p s), va_up (a_L s) (a_k s) (pf_n (x (a_p s))), a_ce s) := by unfold pf_ast; rw [if_neg h8, if_neg e8, if_pos e9]
        have el : pf_mlef o x (a_p s) (a_S s (a_k s - 1)) ml = upd ml (a_p s) (x (a_p s)) := by unfold pf_mlef; rw [if_pos e9]
        have er : pf_mret o x y (a_p s) (a_S s (a_k s - 1)) mr ml = nI (a_p s + 1) := by unfold pf_mret; rw [if_neg e8, if_neg (by rw [e9]; decide)]; exact nI_1 _
        obtain ⟨j, hj1, hj2, hj3, hj4⟩ := pf_ok9 hok e9
        rw [el, er, e2]
        refine ⟨⟨m1, m2, ?_⟩, rfl⟩
        intro d hd
        have hd : d < a_k s + 1 := hd
        show upd ml (a_p s) (x (a_p s)) (va_up (a_S s) (a_k s) (a_p s) d) = nI (va_up (a_L s) (a_k s) (pf_n (x (a_p s))) d)
        by_cases q : d = a_k s
        · subst q; rw [pf_up_s, pk_us, pf_up_s, hj4, hj1]
        · have := (hwf.2.2 d (by omega)).1
          rw [pf_up_n q, pf_up_n q, pk_un (by omega)]
          exact m3 d (by omega)
      · have e10 := pf_ok10 hok h8 e8 e9
        obtain ⟨hk1, hop⟩ := pf_wfa_opener hP hwf hp e10
        obtain ⟨t1, t2, t3, t4, t5, t6⟩ := hwf.2.2 (a_k s - 1) (by omega)
        have el : pf_mlef o x (a_p s) (a_S s (a_k s - 1)) ml = upd ml (a_S s (a_k s - 1)) (ml (a_S s (a_k s - 1)) - 1) := by unfold pf_mlef; rw [if_neg e9, if_pos e10]
        have er : pf_mret o x y (a_p s) (a_S s (a_k s - 1)) mr ml = if ml (a_S s (a_k s - 1)) - 1 ≤ 0 then nI (a_p s) + 1 else nI (a_S s (a_k s - 1)) + 1 := by unfold pf_mret; rw [if_neg e8, if_pos e10]
        have hL : ml (a_S s (a_k s - 1)) - 1 = nI (a_L s (a_k s - 1) - 1) := by rw [m3 _ (by omega)]; exact pk_sub t5
        have hcond : ml (a_S s (a_k s - 1)) - 1 ≤ 0 ↔ a_L s (a_k s - 1) - 1 = 0 := by
          rw [hL]
          have h := nI_leI (a := a_L s (a_k s - 1) - 1) (b := 0) (by omega) (by decide)
          constructor
          · intro q; have := h.mp q; omega
          · intro q; exact h.mpr (by omega)
        have hLu : ∀ d, d < a_k s → upd ml (a_S s (a_k s - 1)) (ml (a_S s (a_k s - 1)) - 1) (a_S s d) = nI (va_up (a_L s) (a_k s - 1) (a_L s (a_k s - 1) - 1) d) := by
          intro d hd
          by_cases q : d = a_k s - 1
          · rw [q, pk_us, pf_up_s]; exact hL
          · have ne : a_S s d ≠ a_S s (a_k s - 1) := by
              intro e
              have e3 := (hwf.2.2 d hd).2.2.1
              rw [e, t3] at e3
              omega
            rw [pk_un ne, pf_up_n q]; exact m3 d hd
        rw [el, er]
        by_cases hc : ml (a_S s (a_k s - 1)) - 1 ≤ 0
        · have e2 : pf_ast o x y z s = (a_rg s, a_p s + 1, a_k s - 1, a_S s, va_up (a_L s) (a_k s - 1) (a_L s (a_k s - 1) - 1), a_ce s) := by unfold pf_ast; rw [if_neg h8, if_neg e8, if_neg e9, if_pos (hcond.mp hc)]
          rw [e2, if_pos hc]
          exact ⟨⟨m1, m2, fun d hd => hLu d (by have hd : d < a_k s - 1 := hd; omega)⟩, nI_1 _⟩
        · have e2 : pf_ast o x y z s = (a_rg s, a_S s (a_k s - 1) + 1, a_k s, a_S s, va_up (a_L s) (a_k s - 1) (a_L s (a_k s - 1) - 1), a_ce s) := by unfold pf_ast; rw [if_neg h8, if_neg e8, if_neg e9, if_neg (fun q => hc (hcond.mpr q))]
          rw [e2, if_neg hc]
          exact ⟨⟨m1, m2, hLu⟩, nI_1 _⟩
set_option maxHeartbeats 4000000 in
/-- run(x) -/
theorem k1_run (l : Launch) (D : va_G) (a : Nat → Nat) (d : Nat → ClassId) (mo mx my mz mc mr ml : Nat → Int32) (nn : Int32) (x : Int32) (n0 : Nat) (hn : n0 ≤ 30) (hln : nn = nI n0) (hwf : ∀ p, p < n0 → pf_ok (mo p) (mx p) (my p) (mz p)) : pf_KI l D (tyM d) yX1_run cX1_run 5 (some .int) 2 47 [.ref (a 0), .int x] (wM a d nn mo mx my mz mc mr ml) (S := (Nat → Int32) × (Nat → Int32) × (Nat → Int32)) (fun r u => (¬ pf_sound n0 mo my ∧ r = -3 ∧ u.1 = mc ∧ u.2.1 = mr) ∨ (pf_sound n0 mo my ∧ ∃ N, pf_ends n0 mo mx my mz mc N ∧ r = nI N ∧ (∀ c, c < 12 → u.1 c = a_ce (pf_tr mo mx my mz mc N) c) ∧ (∀ j, j < 4 → u.2.1 j = a_rg (pf_tr mo mx my mz mc N) j))) (fun u => wM a d nn mo mx my mz u.1 u.2.1 u.2.2) := by
  subst hln
  refine pf_entI RX1 (by decide) rfl (Nat.le_of_ble_eq_true rfl) ?_
  intro p e s m below meth c A ls hc hw hA hr hlk hl
  have hx := hc.1.1
  have hb := hc.1.2.1
  have hl : lv_has ls 5 [(0, .ref (a 0)), (1, .int x)] := hl
  refine lv_aload_n hx hb dX1_run_0 rfl (lv_at hl 0 rfl) ?_
  refine pf_callI [] hc hw hA (k1_sound l D a d mo mx my mz mc mr ml (nI n0) n0 hn rfl hwf) (cwV 0 hc.1.2.2.2.2 (lw_V q252 q237 q238 q23 q239) rfl rfl rfl (by decide +kernel) ⟨Nat.le_of_ble_eq_true rfl, Nat.le_of_ble_eq_true rfl⟩) (ci := 1) (T := TX1) (N := 8) rfl rfl rfl hl.1 rfl (Nat.le_of_ble_eq_true rfl) dX1_run_1 ⟨Nat.zero_le _, Nat.zero_le _⟩ (fun r1 _ H locs hp1 hw => ?_)
  refine lv_if_ne (tgt := 10) hx hb dX1_run_4 (by decide) (fun c4 => ?_) (fun c4 => ?_)
  · have hsnd := pf_tf_yes hp1 c4
    have hprog : pf_prog n0 mo mx my mz := ⟨hn, hwf, hsnd⟩
    obtain ⟨N, hE⟩ := pf_ends_ex mc hprog
    have hN := hE.1
    refine lv_iconst (v := 0) hx hb dX1_run_10 (by decide) ?_
    refine lv_istore_n (lv' := [(2, .int 0), (0, .ref (a 0)), (1, .int x)]) hx hb dX1_run_11 rfl hl (by decide) rfl (fun ls hl => ?_)
    have lp1 : ∀ (n k : Nat) (g : Nat → Int32) (H : Heap) (locs : List Loc) (ls : Array Slot), k + n = 4 → (∀ j, j < k → g j = 0) → pf_H D A s (wM a d (nI n0) mo mx my mz mc g ml) H locs → lv_has ls 5 [(2, .int (nI k)), (0, .ref (a 0)), (1, .int x)] → W p l e { frames := 2, cells := 0, slots := 0, locals := 47 } s m ([.ref (a 0), .int x] : List Value).toArray below meth c H locs 0 0 (MQ below (va_Qi (S := (Nat → Int32) × (Nat → Int32) × (Nat → Int32)) (fun r u => (¬ pf_sound n0 mo my ∧ r = -3 ∧ u.1 = mc ∧ u.2.1 = mr) ∨ (pf_sound n0 mo my ∧ ∃ N, pf_ends n0 mo mx my mz mc N ∧ r = nI N ∧ (∀ c, c < 12 → u.1 c = a_ce (pf_tr mo mx my mz mc N) c) ∧ (∀ j, j < 4 → u.2.1 j = a_rg (pf_tr mo mx my mz mc N) j))) (fun u t => pf_at D (tyM d) A ((fun u => wM a d (nI n0) mo mx my mz u.1 u.2.1 u.2.2) u) t) A) ([.ref (a 0), .int x] : List Value).toArray s 0 0 A) (F0 m 12 ls []) := by
      intro n
      induction n with
      | zero =>
        intro k g H locs ls hk hg hw hl
        obtain rfl : k = 4 := by omega
        refine lv_iload_n hx hb dX1_run_12 rfl (lv_at hl 0 rfl) ?_
        refine lv_iconst (v := 4) hx hb dX1_run_13 (by decide) ?_
        refine lv_icmp_ge (tgt := 30) hx hb dX1_run_14 (by decide) (fun c14 => ?_) (fun c14 => absurd (Int32.le_refl _) c14)
        refine lv_iconst (v := 0) hx hb dX1_run_30 (by decide) ?_
        refine lv_istore_n (lv' := [(2, .int 0), (0, .ref (a 0)), (1, .int x)]) hx hb dX1_run_31 rfl hl (by decide) rfl (fun ls hl => ?_)
        refine lv_iconst (v := 0) hx hb dX1_run_32 (by decide) ?_
        refine lv_istore_n (lv' := [(3, .int 0), (2, .int 0), (0, .ref (a 0)), (1, .int x)]) hx hb dX1_run_33 rfl hl (by decide) rfl (fun ls hl => ?_)
        refine lv_iconst (v := 0) hx hb dX1_run_34 (by decide) ?_
        refine lv_istore (lv' := [(4, .int 0), (3, .int 0), (2, .int 0), (0, .ref (a 0)), (1, .int x)]) hx hb dX1_run_35 hl (by decide) rfl (fun ls hl => ?_)
        have LM : ∀ (mi i : Nat) (mc3 mr3 ml3 : Nat → Int32) (H : Heap) (locs : List Loc) (ls : Array Slot), i + mi = N → pf_mm mr3 mc3 ml3 (pf_tr mo mx my mz mc i) → pf_H D A s (wM a d (nI n0) mo mx my mz mc3 mr3 ml3) H locs → lv_has ls 5 [(4, .int (nI i)), (3, .int (nI i)), (2, .int (nI (a_p (pf_tr mo mx my mz mc i)))), (1, .int x), (0, .ref (a 0))] → W p l e { frames := 2, cells := 0, slots := 0, locals := 47 } s m ([.ref (a 0), .int x] : List Value).toArray below meth c H locs 0 0 (MQ below (va_Qi (S := (Nat → Int32) × (Nat → Int32) × (Nat → Int32)) (fun r u => (¬ pf_sound n0 mo my ∧ r = -3 ∧ u.1 = mc ∧ u.2.1 = mr) ∨ (pf_sound n0 mo my ∧ ∃ N, pf_ends n0 mo mx my mz mc N ∧ r = nI N ∧ (∀ c, c < 12 → u.1 c = a_ce (pf_tr mo mx my mz mc N) c) ∧ (∀ j, j < 4 → u.2.1 j = a_rg (pf_tr mo mx my mz mc N) j))) (fun u t => pf_at D (tyM d) A ((fun u => wM a d (nI n0) mo mx my mz u.1 u.2.1 u.2.2) u) t) A) ([.ref (a 0), .int x] : List Value).toArray s 0 0 A) (F0 m 37 ls []) := by
          intro mi
          induction mi with
          | zero =>
            intro i mc3 mr3 ml3 H locs ls hi hm hw hl
            obtain rfl : i = N := by omega
            refine lv_iload hx hb dX1_run_37 (lv_at hl 0 rfl) ?_
            refine lv_sipush (v := 1080) hx hb dX1_run_39 (by decide) ?_
            refine lv_icmp_ge (tgt := 68) hx hb dX1_run_42 (by decide) (fun c42 => ?_) (fun c42 => ?_)
            · refine lv_iload_n hx hb dX1_run_68 rfl (lv_at hl 1 rfl) ?_
              exact pf_retI hc (mc3, mr3, ml3) hw hr hlk (Or.inr ⟨hsnd, i, hE, rfl, hm.2.1, hm.1⟩) dX1_run_69
            · refine lv_iload_n hx hb dX1_run_45 rfl (lv_at hl 2 rfl) ?_
              refine lv_aload_n hx hb dX1_run_46 rfl (lv_at hl 4 rfl) ?_
              refine g1_nn hc hw dX1_run_47 ?_
              refine lv_icmp_ge (tgt := 68) hx hb dX1_run_50 (by decide) (fun c50 => ?_) (fun c50 => absurd (by rw [hE.2.1]; exact Int32.le_refl _) c50)
              refine lv_iload_n hx hb dX1_run_68 rfl (lv_at hl 1 rfl) ?_
              exact pf_retI hc (mc3, mr3, ml3) hw hr hlk (Or.inr ⟨hsnd, i, hE, rfl, hm.2.1, hm.1⟩) dX1_run_69
          | succ mi ih =>
            intro i mc3 mr3 ml3 H locs ls hi hm hw hl
            have hiN : i < N := by omega
            have hpn := hE.2.2.1 i hiN
            have hwfi := hE.2.2.2 i (by omega)
            obtain ⟨g1, g2, g3, g4, g5⟩ := pf_step_pre hprog hwfi hpn
            refine lv_iload hx hb dX1_run_37 (lv_at hl 0 rfl) ?_
            refine lv_sipush (v := 1080) hx hb dX1_run_39 (by decide) ?_
            refine lv_icmp_ge (tgt := 68) hx hb dX1_run_42 (by decide) (fun c42 => absurd ((nI_leI (a := 1080) (b := i) (by decide) (by omega)).mp c42) (by omega)) (fun c42 => ?_)
            refine lv_iload_n hx hb dX1_run_45 rfl (lv_at hl 2 rfl) ?_
            refine lv_aload_n hx hb dX1_run_46 rfl (lv_at hl 4 rfl) ?_
            refine g1_nn hc hw dX1_run_47 ?_
            refine lv_icmp_ge (tgt := 68) hx hb dX1_run_50 (by decide) (fun c50 => absurd ((nI_leI (a := n0) (b := a_p (pf_tr mo mx my mz mc i)) (by omega) (by omega)).mp c50) (by omega)) (fun c50 => ?_)
            refine lv_aload_n hx hb dX1_run_53 rfl (lv_at hl 4 rfl) ?_
            refine lv_iload_n hx hb dX1_run_54 rfl (lv_at hl 2 rfl) ?_
            refine pf_callI [.int (nI (a_p (pf_tr mo mx my mz mc i)))] hc hw hA (k1_step l D a d mo mx my mz mc3 mr3 ml3 (nI n0) (a_p (pf_tr mo mx my mz mc i)) (a_S (pf_tr mo mx my mz mc i) (a_k (pf_tr mo mx my mz mc i) - 1)) g1 g3 (fun e => (pf_wfa_opener hprog hwfi hpn e).2)) (cwV 1 hc.1.2.2.2.2 (lw_V q253 q255 qs19 q23 q256) rfl rfl rfl (by decide +kernel) ⟨Nat.le_of_ble_eq_true rfl, Nat.le_of_ble_eq_true rfl⟩) (ci := 1) (T := TX1) (N := 8) rfl rfl rfl hl.1 rfl (Nat.le_of_ble_eq_true rfl) dX1_run_55 ⟨Nat.zero_le _, Nat.zero_le _⟩ (fun r5 u5 H locs hp55 hw => ?_)
            obtain ⟨hr5, hu5⟩ := hp55
            subst hu5
            have hm2 := pf_mm_step hprog hwfi hpn hm
            have hw : pf_H D A s (wM a d (nI n0) mo mx my mz (pf_mcel mo mx my (a_p (pf_tr mo mx my mz mc i)) mc3 mr3) (pf_mreg mo mx my mz (a_p (pf_tr mo mx my mz mc i)) mc3 mr3) (pf_mlef mo mx (a_p (pf_tr mo mx my mz mc i)) (a_S (pf_tr mo mx my mz mc i) (a_k (pf_tr mo mx my mz mc i) - 1)) ml3)) H locs := hw
            refine pf_top (nI (a_p (pf_tr mo mx my mz mc (i + 1)))) (hr5.trans hm2.2) ?_
            refine lv_istore_n (lv' := [(2, .int (nI (a_p (pf_tr mo mx my mz mc (i + 1))))), (4, .int (nI i)), (3, .int (nI i)), (1, .int x), (0, .ref (a 0))]) hx hb dX1_run_58 rfl hl (by decide) rfl (fun ls hl => ?_)
            refine lv_iinc (v := nI (i + 1)) (lv' := [(3, .int (nI (i + 1))), (2, .int (nI (a_p (pf_tr mo mx my mz mc (i + 1))))), (4, .int (nI i)), (1, .int x), (0, .ref (a 0))]) hx hb dX1_run_59 hl (k := 2) rfl (nI_1 _) (by decide) rfl (fun ls hl => ?_)
            refine lv_iinc (v := nI (i + 1)) (lv' := [(4, .int (nI (i + 1))), (3, .int (nI (i + 1))), (2, .int (nI (a_p (pf_tr mo mx my mz mc (i + 1))))), (1, .int x), (0, .ref (a 0))]) hx hb dX1_run_62 hl (k := 2) rfl (nI_1 _) (by decide) rfl (fun ls hl => ?_)
            refine lv_goto (tgt := 37) hx hb dX1_run_65 (by decide) ?_
            exact ih (i + 1) _ _ _ _ _ ls (by omega) hm2.1 hw (lv_sub hl [0, 1, 2, 3, 4] rfl)
        exact LM N 0 _ _ _ _ _ ls (by omega) ⟨hg, fun c hc => rfl, fun d hd => absurd hd (Nat.not_lt_zero _)⟩ hw (lv_sub hl [0, 1, 2, 4, 3] rfl)
      | succ n ih =>
        intro k g H locs ls hk hg hw hl
        refine lv_iload_n hx hb dX1_run_12 rfl (lv_at hl 0 rfl) ?_
        refine lv_iconst (v := 4) hx hb dX1_run_13 (by decide) ?_
        refine lv_icmp_ge (tgt := 30) hx hb dX1_run_14 (by decide) (fun c14 => absurd ((nI_leI (a := 4) (b := k) (by decide) (by omega)).mp c14) (by omega)) (fun c14 => ?_)
        refine lv_aload_n hx hb dX1_run_17 rfl (lv_at hl 1 rfl) ?_
        refine g1_mr hc hw dX1_run_18 ?_
        refine lv_iload_n hx hb dX1_run_21 rfl (lv_at hl 0 rfl) ?_
        refine lv_iconst (v := 0) hx hb dX1_run_22 (by decide) ?_
        refine s1_mr (j := k) hc hw (pf_ixn (by omega) (by decide)) dX1_run_23 (fun H locs hw => ?_)
        refine lv_iinc (v := nI (k + 1)) (lv' := [(2, .int (nI (k + 1))), (0, .ref (a 0)), (1, .int x)]) hx hb dX1_run_24 hl (k := 0) rfl (nI_1 _) (by decide) rfl (fun ls hl => ?_)
        refine lv_goto (tgt := 12) hx hb dX1_run_27 (by decide) ?_
        exact ih (k + 1) _ _ _ ls (by omega) (lt_s (fun j hj => (pk_un (Nat.ne_of_lt hj)).trans (hg j hj)) pk_us) hw (lv_sub hl [0, 1, 2] rfl)
    exact lp1 4 0 _ _ _ ls rfl lt_0 hw (lv_sub hl [0, 1, 2] rfl)
  · have hsnd := pf_tf_no hp1 c4
    refine lv_bipush (v := (-3)) hx hb dX1_run_7 (by decide) ?_
    exact pf_retI hc (mc, mr, ml) hw hr hlk (Or.inl ⟨hsnd, rfl, rfl, rfl⟩) dX1_run_9
end
section
/-! the component's state against the reference's: programs that agree, equal runs, what the law keeps -/
set_option maxRecDepth 100000
theorem pf_fit_iff {o x y z : Int32} : pf_fitm o x y z ↔ pf_ok o x y z := by
  by_cases h : pf_in o 10
  · have h1 : ¬ (o < 0 ∨ 10 < o) := fun q => by rcases q with q | q; (exact h.1 q); exact h.2 q
    unfold pf_ok
    have e : (pf_in o 10 ∧ pf_fits o x y z) ↔ pf_fits o x y z := ⟨fun q => q.2, fun q => ⟨h, q⟩⟩
    rw [e]
    unfold pf_fitm pf_fits
    rw [if_neg h1]
    rcases pf_ops h with e | e | e | e | e | e | e | e | e | e | e <;> subst e
    · rw [if_neg (by decide), if_neg (by decide), if_neg (by decide), if_neg (by decide), if_neg (by decide), if_neg (by decide), if_neg (by decide), if_neg (by decide), if_pos rfl]
    · rw [if_neg (by decide), if_neg (by decide), if_pos (by decide), if_neg (by decide), if_neg (by decide), if_neg (by decide), if_neg (by decide), if_neg (by decide)]
      exact ⟨fun q => ⟨q.1, q.2.1, Or.inr q.2.2⟩, fun q => ⟨q.1, q.2.1, q.2.2.resolve_left (by decide)⟩⟩
    · rw [if_neg (by decide), if_neg (by decide), if_pos (by decide), if_neg (by decide), if_neg (by decide), if_neg (by decide), if_neg (by decide), if_neg (by decide)]
      exact ⟨fun q => ⟨q.1, q.2.1, Or.inr q.2.2⟩, fun q => ⟨q.1, q.2.1, q.2.2.resolve_left (by decide)⟩⟩
    · rw [if_neg (by decide), if_neg (by decide), if_pos (by decide), if_neg (by decide), if_neg (by decide), if_neg (by decide), if_neg (by decide), if_neg (by decide)]
      exact ⟨fun q => ⟨q.1, q.2.1, Or.inr q.2.2⟩, fun q => ⟨q.1, q.2.1, q.2.2.resolve_left (by decide)⟩⟩
    · rw [if_neg (by decide), if_neg (by decide), if_neg (by decide), if_pos (by decide), if_neg (by decide), if_neg (by decide), if_neg (by decide), if_pos (by decide)]
      exact Iff.rfl
    · rw [if_neg (by decide), if_neg (by decide), if_neg (by decide), if_pos (by decide), if_neg (by decide), if_neg (by decide), if_neg (by decide), if_pos (by decide)]
      exact Iff.rfl
    · rw [if_neg (by decide), if_neg (by decide), if_neg (by decide), if_neg (by decide), if_pos (by decide), if_neg (by decide), if_neg (by decide), if_neg (by decide), if_neg (by decide), if_neg (by decide)]
      exact ⟨fun q => ⟨q.1, q.2, Or.inl (by decide)⟩, fun q => ⟨q.1, q.2.1⟩⟩
    · rw [if_neg (by decide), if_neg (by decide), if_neg (by decide), if_neg (by decide), if_pos (by decide), if_neg (by decide), if_neg (by decide), if_neg (by decide), if_neg (by decide), if_neg (by decide)]
      exact ⟨fun q => ⟨q.1, q.2, Or.inl (by decide)⟩, fun q => ⟨q.1, q.2.1⟩⟩
    · rw [if_neg (by decide), if_neg (by decide), if_neg (by decide), if_neg (by decide), if_neg (by decide), if_pos rfl, if_neg (by decide), if_neg (by decide), if_neg (by decide), if_neg (by decide), if_pos rfl]
    · rw [if_neg (by decide), if_pos rfl, if_neg (by decide), if_pos rfl]
    · rw [if_pos rfl, if_pos rfl]
  · have h1 : o < 0 ∨ 10 < o := Classical.byContradiction fun q => h ⟨fun a => q (Or.inl a), fun a => q (Or.inr a)⟩
    unfold pf_fitm
    rw [if_pos h1]
    exact ⟨fun q => q.elim, fun q => h q.1⟩
theorem pf_byte_n : ∀ j, j < 101 → (nI j).toInt8.toInt32 = nI j := by decide +kernel
theorem pf_byte {x t : Int32} {n : Nat} (ht : t.toInt = (n : Int)) (hn : n ≤ 100) (h0 : ¬ x < 0) (h1 : ¬ t < x) : x.toInt8.toInt32 = x := by
  obtain ⟨j, hj, rfl⟩ := nI_of2 (M := t) (n := n) ht h0 (by rw [Int32.le_iff_toInt_le]; rw [Int32.lt_iff_toInt_lt] at h1; omega)
  exact pf_byte_n j (by omega)
theorem pf_1_0 {x : Int32} (h : ¬ x < 1) : ¬ x < 0 := by
  rw [Int32.lt_iff_toInt_lt] at h ⊢
  have e0 : (0 : Int32).toInt = 0 := by decide
  have e1 : (1 : Int32).toInt = 1 := by decide
  omega
/-- what is stored of an instruction that fits -/
theorem pf_ok_byte {o x y z : Int32} (h : pf_ok o x y z) : pf_ok o.toInt8.toInt32 x.toInt8.toInt32 y z.toInt8.toInt32 ∧ o.toInt8.toInt32 = o ∧ (¬ o = 10 → x.toInt8.toInt32 = x) ∧ ((o = 1 ∨ o = 2 ∨ o = 3) → z.toInt8.toInt32 = z) := by
  have ho : o.toInt8.toInt32 = o := pf_byte (t := 10) (n := 10) (by decide) (by decide) h.1.1 h.1.2
  have hx : ¬ o = 10 → x.toInt8.toInt32 = x := by
    intro h10
    by_cases h9 : o = 9
    · have h2 := h.2
      unfold pf_fits at h2
      rw [if_neg h10, if_pos h9] at h2
      exact pf_byte (t := 6) (n := 6) (by decide) (by decide) (pf_1_0 h2.1) h2.2
    · have h3 := pf_fx_ h.2 h10 h9
      exact pf_byte (t := 3) (n := 3) (by decide) (by decide) h3.1 h3.2
  have hz : (o = 1 ∨ o = 2 ∨ o = 3) → z.toInt8.toInt32 = z := by
    intro e
    have h2 := h.2
    unfold pf_fits at h2
    rw [if_neg (by rcases e with rfl | rfl | rfl <;> decide), if_neg (by rcases e with rfl | rfl | rfl <;> decide), if_neg (by rcases e with rfl | rfl | rfl <;> decide), if_neg (by rcases e with rfl | rfl | rfl <;> decide), if_neg (by rcases e with rfl | rfl | rfl <;> decide)] at h2
    have h3 := h2.2.2.resolve_left (by rcases e with rfl | rfl | rfl <;> decide)
    exact pf_byte (t := 3) (n := 3) (by decide) (by decide) h3.1 h3.2
  refine ⟨⟨by rw [ho]; exact h.1, ?_⟩, ho, hx, hz⟩
  rw [ho]
  by_cases h10 : o = 10
  · unfold pf_fits; rw [if_pos h10]; trivial
  · rw [hx h10]
    by_cases h9 : o = 9
    · have h2 := h.2
      unfold pf_fits at h2 ⊢
      rw [if_neg h10, if_pos h9] at h2 ⊢
      exact h2
    · by_cases e : o = 1 ∨ o = 2 ∨ o = 3
      · rw [hz e]; exact h.2
      · have h2 := h.2
        unfold pf_fits at h2 ⊢
        rw [if_neg h10, if_neg h9] at h2 ⊢
        by_cases a1 : o = 0
        · rw [if_pos a1] at h2 ⊢; exact h2
        · rw [if_neg a1] at h2 ⊢
          by_cases a2 : o = 4 ∨ o = 5
          · rw [if_pos a2] at h2 ⊢; exact h2
          · rw [if_neg a2] at h2 ⊢
            by_cases a3 : o = 8
            · rw [if_pos a3] at h2 ⊢; exact h2
            · rw [if_neg a3] at h2 ⊢
              refine ⟨h2.1, h2.2.1, Or.inl ?_⟩
              rcases pf_ops h.1 with q | q | q | q | q | q | q | q | q | q | q
              · exact absurd q a1
              · exact absurd (Or.inl q) e
              · exact absurd (Or.inr (Or.inl q)) e
              · exact absurd (Or.inr (Or.inr q)) e
              · exact absurd (Or.inl q) a2
              · exact absurd (Or.inr q) a2
              · rw [q]; decide
              · rw [q]; decide
              · exact absurd q a3
              · exact absurd q h9
              · exact absurd q h10
/-- the two programs agree up to n -/
def pf_agree (n : Nat) (o x y z o' x' y' z' : Nat → Int32) : Prop := ∀ p, p < n → o' p = o p ∧ y' p = y p ∧ (¬ o p = 10 → x' p = x p) ∧ ((o p = 1 ∨ o p = 2 ∨ o p = 3) → z' p = z p)
def pf_eqA (s s' : pfA) : Prop := (∀ r, r < 4 → a_rg s r = a_rg s' r) ∧ a_p s = a_p s' ∧ a_k s = a_k s' ∧ a_S s = a_S s' ∧ a_L s = a_L s' ∧ (∀ c, c < 12 → a_ce s c = a_ce s' c)
theorem pf_cell_agree {o o' y y' rg : Nat → Int32} {p : Nat} (h1 : o' p = o p) (h2 : y' p = y p) : pf_cell o' y' rg p = pf_cell o y rg p := by unfold pf_cell; rw [h1, h2]
theorem pf_ast_eq {n : Nat} {o x y z o' x' y' z' : Nat → Int32} {s s' : pfA} (hok : pf_ok (o (a_p s)) (x (a_p s)) (y (a_p s)) (z (a_p s))) (hg : pf_agree n o x y z o' x' y' z') (hp : a_p s < n) (h : pf_eqA s s') : pf_eqA (pf_ast o x y z s) (pf_ast o' x' y' z' s') := by
  obtain ⟨rg, p, k, S, L, ce⟩ := s
  obtain ⟨rg', p', k', S', L', ce'⟩ := s'
  obtain ⟨e1, e2, e3, e4, e5, e6⟩ := h
  obtain rfl : p = p' := e2
  obtain rfl : k = k' := e3
  obtain rfl : S = S' := e4
  obtain rfl : L = L' := e5
  have hp : p < n := hp
  have hok : pf_ok (o p) (x p) (y p) (z p) := hok
  have e1 : ∀ r, r < 4 → rg r = rg' r := e1
  have e6 : ∀ c, c < 12 → ce c = ce' c := e6
  obtain ⟨a1, a2, a3, a4⟩ := hg p hp
  by_cases h8 : o p < 8
  · have h910 := pf_lt8 h8
    have hx4 := pf_vp4 (pf_okx hok h910.2 h910.1)
    have ax := a3 h910.2
    have h8' : o' p < 8 := by rw [a1]; exact h8
    by_cases h4 : o p < 4
    · have h4' : o' p < 4 := by rw [a1]; exact h4
      have l1 : pf_ast o x y z (rg, p, k, S, L, ce) = (upd rg (pf_n (x p)) (pf_val o y z rg p), p + 1, k, S, L, ce) := by unfold pf_ast; rw [if_pos h8, if_pos h4]
      have l2 : pf_ast o' x' y' z' (rg', p, k, S, L, ce') = (upd rg' (pf_n (x' p)) (pf_val o' y' z' rg' p), p + 1, k, S, L, ce') := by unfold pf_ast; rw [if_pos h8', if_pos h4']
      rw [l1, l2, ax]
      refine ⟨pf_upd_eq e1 ?_, rfl, rfl, rfl, rfl, e6⟩
      rw [pf_val_eq hok h4 e1]
      unfold pf_val
      rw [a1, a2]
      by_cases h0 : o p = 0
      · rw [if_pos h0, if_pos h0]
      · have : o p = 1 ∨ o p = 2 ∨ o p = 3 := by
          rcases pf_ops hok.1 with q | q | q | q | q | q | q | q | q | q | q
          · exact absurd q h0
          · exact Or.inl q
          · exact Or.inr (Or.inl q)
          · exact Or.inr (Or.inr q)
          all_goals (rw [q] at h4; exact absurd h4 (by decide))
        rw [a4 this]
    · have h4' : ¬ o' p < 4 := by rw [a1]; exact h4
      have hc := pf_okc (rg := rg) hok h4 h8
      have hce := pf_cell_eq hok h8 e1
      have hca : pf_cell o' y' rg' p = pf_cell o y rg p := (pf_cell_agree a1 a2).trans hce.symm
      by_cases h57 : o p = 5 ∨ o p = 7
      · have h57' : o' p = 5 ∨ o' p = 7 := by rw [a1]; exact h57
        have l1 : pf_ast o x y z (rg, p, k, S, L, ce) = (rg, p + 1, k, S, L, upd ce (pf_n (pf_cell o y rg p)) (rg (pf_n (x p)))) := by unfold pf_ast; rw [if_pos h8, if_neg h4, if_pos h57]
        have l2 : pf_ast o' x' y' z' (rg', p, k, S, L, ce') = (rg', p + 1, k, S, L, upd ce' (pf_n (pf_cell o' y' rg' p)) (rg' (pf_n (x' p)))) := by unfold pf_ast; rw [if_pos h8', if_neg h4', if_pos h57']
        rw [l1, l2, hca, ax]
        exact ⟨e1, rfl, rfl, rfl, rfl, pf_upd_eq e6 (e1 _ hx4)⟩
      · have h57' : ¬ (o' p = 5 ∨ o' p = 7) := by rw [a1]; exact h57
        have l1 : pf_ast o x y z (rg, p, k, S, L, ce) = (upd rg (pf_n (x p)) (ce (pf_n (pf_cell o y rg p))), p + 1, k, S, L, ce) := by unfold pf_ast; rw [if_pos h8, if_neg h4, if_neg h57]
        have l2 : pf_ast o' x' y' z' (rg', p, k, S, L, ce') = (upd rg' (pf_n (x' p)) (ce' (pf_n (pf_cell o' y' rg' p))), p + 1, k, S, L, ce') := by unfold pf_ast; rw [if_pos h8', if_neg h4', if_neg h57']
        rw [l1, l2, hca, ax]
        exact ⟨pf_upd_eq e1 (e6 _ (pf_vp4 hc)), rfl, rfl, rfl, rfl, e6⟩
  · have h8' : ¬ o' p < 8 := by rw [a1]; exact h8
    by_cases e8 : o p = 8
    · have e8' : o' p = 8 := a1.trans e8
      have ax := a3 (by rw [e8]; decide)
      have hx4 := pf_vp4 (pf_okx hok (by rw [e8]; decide) (by rw [e8]; decide))
      have l1 : pf_ast o x y z (rg, p, k, S, L, ce) = (rg, if 0 < rg (pf_n (x p)) then p + 1 else p + 1 + pf_n (y p), k, S, L, ce) := by unfold pf_ast; rw [if_neg h8, if_pos e8]
      have l2 : pf_ast o' x' y' z' (rg', p, k, S, L, ce') = (rg', if 0 < rg' (pf_n (x' p)) then p + 1 else p + 1 + pf_n (y' p), k, S, L, ce') := by unfold pf_ast; rw [if_neg h8', if_pos e8']
      rw [l1, l2, ax, a2, e1 _ hx4]
      exact ⟨e1, rfl, rfl, rfl, rfl, e6⟩
    · have e8' : ¬ o' p = 8 := by rw [a1]; exact e8
      by_cases e9 : o p = 9
      · have e9' : o' p = 9 := a1.trans e9
        have ax := a3 (by rw [e9]; decide)
        have l1 : pf_ast o x y z (rg, p, k, S, L, ce) = (rg, p + 1, k + 1, va_up S k p, va_up L k (pf_n (x p)), ce) := by unfold pf_ast; rw [if_neg h8, if_neg e8, if_pos e9]
        have l2 : pf_ast o' x' y' z' (rg', p, k, S, L, ce') = (rg', p + 1, k + 1, va_up S k p, va_up L k (pf_n (x' p)), ce') := by unfold pf_ast; rw [if_neg h8', if_neg e8', if_pos e9']
        rw [l1, l2, ax]
        exact ⟨e1, rfl, rfl, rfl, rfl, e6⟩
      · have e9' : ¬ o' p = 9 := by rw [a1]; exact e9
        by_cases hL : L (k - 1) - 1 = 0
        · have l1 : pf_ast o x y z (rg, p, k, S, L, ce) = (rg, p + 1, k - 1, S, va_up L (k - 1) (L (k - 1) - 1), ce) := by unfold pf_ast; rw [if_neg h8, if_neg e8, if_neg e9, if_pos hL]
          have l2 : pf_ast o' x' y' z' (rg', p, k, S, L, ce') = (rg', p + 1, k - 1, S, va_up L (k - 1) (L (k - 1) - 1), ce') := by unfold pf_ast; rw [if_neg h8', if_neg e8', if_neg e9', if_pos hL]
          rw [l1, l2]
          exact ⟨e1, rfl, rfl, rfl, rfl, e6⟩
        · have l1 : pf_ast o x y z (rg, p, k, S, L, ce) = (rg, S (k - 1) + 1, k, S, va_up L (k - 1) (L (k - 1) - 1), ce) := by unfold pf_ast; rw [if_neg h8, if_neg e8, if_neg e9, if_neg hL]
          have l2 : pf_ast o' x' y' z' (rg', p, k, S, L, ce') = (rg', S (k - 1) + 1, k, S, va_up L (k - 1) (L (k - 1) - 1), ce') := by unfold pf_ast; rw [if_neg h8', if_neg e8', if_neg e9', if_neg hL]
          rw [l1, l2]
          exact ⟨e1, rfl, rfl, rfl, rfl, e6⟩
theorem pf_tr_eq {n : Nat} {o x y z o' x' y' z' ce ce' : Nat → Int32} (hok : ∀ p, p < n → pf_ok (o p) (x p) (y p) (z p)) (hg : pf_agree n o x y z o' x' y' z') (hc : ∀ c, c < 12 → ce c = ce' c) : ∀ i, (∀ j, j < i → a_p (pf_tr o x y z ce j) < n) → pf_eqA (pf_tr o x y z ce i) (pf_tr o' x' y' z' ce' i) := by
  intro i
  induction i with
  | zero => intro _; exact ⟨fun _ _ => rfl, rfl, rfl, rfl, rfl, hc⟩
  | succ i ih =>
    intro h
    have h1 := h i (Nat.lt_succ_self _)
    exact pf_ast_eq (hok _ h1) hg h1 (ih (fun j hj => h j (by omega)))
theorem pf_ends_eq {n : Nat} {o x y z o' x' y' z' ce ce' : Nat → Int32} {N N' : Nat} (hok : ∀ p, p < n → pf_ok (o p) (x p) (y p) (z p)) (hg : pf_agree n o x y z o' x' y' z') (hc : ∀ c, c < 12 → ce c = ce' c) (h : pf_ends n o x y z ce N) (h' : pf_ends n o' x' y' z' ce' N') : N = N' ∧ pf_eqA (pf_tr o x y z ce N) (pf_tr o' x' y' z' ce' N') := by
  have key := pf_tr_eq hok hg hc
  have e : N = N' := by
    rcases Nat.lt_or_ge N N' with q | q
    · have h1 := h'.2.2.1 N q
      have h2 := (key N h.2.2.1).2.1
      have h3 := h.2.1
      omega
    · rcases Nat.eq_or_lt_of_le q with q | q
      · exact q.symm
      · have h1 := h.2.2.1 N' q
        have h2 := (key N' (fun j hj => h.2.2.1 j (by omega))).2.1
        have h3 := h'.2.1
        omega
  subst e
  exact ⟨rfl, key N h.2.2.1⟩
theorem pf_dep_agree {o o' : Nat → Int32} : ∀ {p : Nat}, (∀ j, j < p → o' j = o j) → pf_dep o' p = pf_dep o p := by
  intro p
  induction p with
  | zero => intro _; rfl
  | succ p ih =>
    intro h
    show pf_dep o' p + _ - _ = pf_dep o p + _ - _
    rw [ih (fun j hj => h j (by omega)), h p (Nat.lt_succ_self _)]
theorem pf_sound_mp {n : Nat} {o y o' y' : Nat → Int32} (ho : ∀ p, p < n → o' p = o p) (hy : ∀ p, p < n → y' p = y p) (h : pf_sound n o y) : pf_sound n o' y' := by
  refine ⟨fun p hp => ?_, by rw [pf_dep_agree ho]; exact h.2⟩
  obtain ⟨h1, h2, h3⟩ := h.1 p hp
  rw [pf_dep_agree (fun j hj => ho j (by omega))]
  refine ⟨h1, h2, fun e => ?_⟩
  rw [ho p hp] at e
  rw [hy p hp]
  obtain ⟨g1, g2⟩ := h3 e
  exact ⟨g1, fun q q1 q2 => by rw [ho q (by omega)]; exact g2 q q1 q2⟩
/-- what the law keeps between its two objects -/
def pf_inv (n : Nat) (ln : Int32) (oc fx fy fz ce fi : Nat → Int32) (nn : Int32) (mo mx my mz mc mr : Nat → Int32) : Prop := n ≤ 30 ∧ ln = nI n ∧ nn = nI n ∧ (∀ p, p < n → pf_ok (oc p) (fx p) (fy p) (fz p)) ∧ (∀ p, p < n → pf_ok (mo p) (mx p) (my p) (mz p)) ∧ pf_agree n oc fx fy fz mo mx my mz ∧ (∀ c, c < 12 → ce c = mc c) ∧ (∀ j, j < 4 → fi j = mr j)
theorem pf_inv_0 {oc fx fy fz ce fi mo mx my mz mc mr : Nat → Int32} (h1 : ∀ c, c < 12 → ce c = 0) (h2 : ∀ c, c < 12 → mc c = 0) (h3 : ∀ j, j < 4 → fi j = 0) (h4 : ∀ j, j < 4 → mr j = 0) : pf_inv 0 0 oc fx fy fz ce fi 0 mo mx my mz mc mr := ⟨by decide, rfl, rfl, fun p h => absurd h (Nat.not_lt_zero _), fun p h => absurd h (Nat.not_lt_zero _), fun p h => absurd h (Nat.not_lt_zero _), fun c hc => (h1 c hc).trans (h2 c hc).symm, fun j hj => (h3 j hj).trans (h4 j hj).symm⟩
theorem pf_inv_sound {n : Nat} {ln nn : Int32} {oc fx fy fz ce fi mo mx my mz mc mr : Nat → Int32} (h : pf_inv n ln oc fx fy fz ce fi nn mo mx my mz mc mr) : pf_sound n oc fy ↔ pf_sound n mo my := by
  obtain ⟨-, -, -, -, -, h6, -, -⟩ := h
  exact ⟨pf_sound_mp (fun p hp => (h6 p hp).1) (fun p hp => (h6 p hp).2.1), pf_sound_mp (fun p hp => (h6 p hp).1.symm) (fun p hp => (h6 p hp).2.1.symm)⟩
/-- emit on both sides -/
theorem pf_inv_emit {n : Nat} {ln nn r1 r2 x y z q : Int32} {oc fx fy fz ce fi mo mx my mz mc mr : Nat → Int32} {u : Int32 × (Nat → Int32) × (Nat → Int32) × (Nat → Int32) × (Nat → Int32)} {w : Int32 × (Nat → Int32) × (Nat → Int32) × (Nat → Int32) × (Nat → Int32)} (h : pf_inv n ln oc fx fy fz ce fi nn mo mx my mz mc mr)
    (h1 : (n = 30 ∧ r1 = -2 ∧ u = (nI n, oc, fx, fy, fz)) ∨ (n < 30 ∧ ¬ pf_ok x y z q ∧ r1 = -1 ∧ u = (nI n, oc, fx, fy, fz)) ∨ (n < 30 ∧ pf_ok x y z q ∧ r1 = nI (n + 1) ∧ u = (nI (n + 1), upd oc n x.toInt8.toInt32, upd fx n y.toInt8.toInt32, upd fy n z, upd fz n q.toInt8.toInt32)))
    (h2 : (n = 30 ∧ r2 = -2 ∧ w = (nI n, mo, mx, my, mz)) ∨ (n < 30 ∧ ¬ pf_fitm x y z q ∧ r2 = -1 ∧ w = (nI n, mo, mx, my, mz)) ∨ (n < 30 ∧ pf_fitm x y z q ∧ r2 = nI (n + 1) ∧ w = (nI (n + 1), upd mo n x, upd mx n y, upd my n z, upd mz n q))) :
    r1 = r2 ∧ ∃ n', pf_inv n' u.1 u.2.1 u.2.2.1 u.2.2.2.1 u.2.2.2.2 ce fi w.1 w.2.1 w.2.2.1 w.2.2.2.1 w.2.2.2.2 mc mr := by
  have hh := h
  obtain ⟨g1, g2, g3, g4, g5, g6, g7, g8⟩ := h
  subst g2
  subst g3
  rw [pf_fit_iff] at h2
  rcases h1 with ⟨a1, a2, a3⟩ | ⟨a1, a2, a3, a4⟩ | ⟨a1, a2, a3, a4⟩ <;> rcases h2 with ⟨b1, b2, b3⟩ | ⟨b1, b2, b3, b4⟩ | ⟨b1, b2, b3, b4⟩
  · subst a3; subst b3; exact ⟨a2.trans b2.symm, n, hh⟩
  · omega
  · omega
  · omega
  · subst a4; subst b4; exact ⟨a3.trans b3.symm, n, hh⟩
  · exact absurd b2 a2
  · omega
  · exact absurd a2 b2
  · subst a4; subst b4
    refine ⟨a3.trans b3.symm, n + 1, by omega, rfl, rfl, ?_, ?_, ?_, g7, g8⟩
    · obtain ⟨k1, k2, k3, k4⟩ := pf_ok_byte a2
      refine lt_s (fun p hp => ?_) ?_
      · show pf_ok (upd oc n _ p) (upd fx n _ p) (upd fy n _ p) (upd fz n _ p)
        rw [pk_un (by omega), pk_un (by omega), pk_un (by omega), pk_un (by omega)]; exact g4 p hp
      · show pf_ok (upd oc n _ n) (upd fx n _ n) (upd fy n _ n) (upd fz n _ n)
        rw [pk_us, pk_us, pk_us, pk_us]; exact k1
    · refine lt_s (fun p hp => ?_) ?_
      · show pf_ok (upd mo n _ p) (upd mx n _ p) (upd my n _ p) (upd mz n _ p)
        rw [pk_un (by omega), pk_un (by omega), pk_un (by omega), pk_un (by omega)]; exact g5 p hp
      · show pf_ok (upd mo n _ n) (upd mx n _ n) (upd my n _ n) (upd mz n _ n)
        rw [pk_us, pk_us, pk_us, pk_us]; exact a2
    · obtain ⟨k1, k2, k3, k4⟩ := pf_ok_byte a2
      refine lt_s (fun p hp => ?_) ?_
      · show upd mo n _ p = upd oc n _ p ∧ upd my n _ p = upd fy n _ p ∧ (¬ upd oc n _ p = 10 → upd mx n _ p = upd fx n _ p) ∧ ((upd oc n _ p = 1 ∨ upd oc n _ p = 2 ∨ upd oc n _ p = 3) → upd mz n _ p = upd fz n _ p)
        rw [pk_un (by omega), pk_un (by omega), pk_un (by omega), pk_un (by omega), pk_un (by omega), pk_un (by omega), pk_un (by omega), pk_un (by omega)]; exact g6 p hp
      · show upd mo n _ n = upd oc n _ n ∧ upd my n _ n = upd fy n _ n ∧ (¬ upd oc n _ n = 10 → upd mx n _ n = upd fx n _ n) ∧ ((upd oc n _ n = 1 ∨ upd oc n _ n = 2 ∨ upd oc n _ n = 3) → upd mz n _ n = upd fz n _ n)
        rw [pk_us, pk_us, pk_us, pk_us, pk_us, pk_us, pk_us, pk_us, k2]
        exact ⟨rfl, rfl, fun e => (k3 e).symm, fun e => (k4 e).symm⟩
theorem pf_inv_retract {n : Nat} {ln nn r1 r2 u w : Int32} {oc fx fy fz ce fi mo mx my mz mc mr : Nat → Int32} (h : pf_inv n ln oc fx fy fz ce fi nn mo mx my mz mc mr) (h1 : (n = 0 ∧ r1 = -1 ∧ u = nI n) ∨ (0 < n ∧ r1 = nI (n - 1) ∧ u = nI (n - 1))) (h2 : (n = 0 ∧ r2 = -1 ∧ w = nI n) ∨ (0 < n ∧ r2 = nI (n - 1) ∧ w = nI (n - 1))) : r1 = r2 ∧ ∃ n', pf_inv n' u oc fx fy fz ce fi w mo mx my mz mc mr := by
  obtain ⟨g1, g2, g3, g4, g5, g6, g7, g8⟩ := h
  rcases h1 with ⟨a1, a2, a3⟩ | ⟨a1, a2, a3⟩ <;> rcases h2 with ⟨b1, b2, b3⟩ | ⟨b1, b2, b3⟩
  · exact ⟨a2.trans b2.symm, n, g1, a3, b3, g4, g5, g6, g7, g8⟩
  · omega
  · omega
  · exact ⟨a2.trans b2.symm, n - 1, by omega, a3, b3, fun p hp => g4 p (by omega), fun p hp => g5 p (by omega), fun p hp => g6 p (by omega), g7, g8⟩
theorem pf_inv_setCell {n : Nat} {ln nn r1 r2 x y : Int32} {oc fx fy fz ce fi mo mx my mz mc mr u w : Nat → Int32} (h : pf_inv n ln oc fx fy fz ce fi nn mo mx my mz mc mr) (h1 : (pf_in x 11 ∧ r1 = 1 ∧ u = upd ce (pf_n x) y) ∨ (¬ pf_in x 11 ∧ r1 = 0 ∧ u = ce)) (h2 : (pf_in x 11 ∧ r2 = 1 ∧ w = upd mc (pf_n x) y) ∨ (¬ pf_in x 11 ∧ r2 = 0 ∧ w = mc)) : r1 = r2 ∧ ∃ n', pf_inv n' ln oc fx fy fz u fi nn mo mx my mz w mr := by
  obtain ⟨g1, g2, g3, g4, g5, g6, g7, g8⟩ := h
  rcases h1 with ⟨a1, a2, a3⟩ | ⟨a1, a2, a3⟩ <;> rcases h2 with ⟨b1, b2, b3⟩ | ⟨b1, b2, b3⟩
  · subst a3; subst b3
    exact ⟨a2.trans b2.symm, n, g1, g2, g3, g4, g5, g6, pf_upd_eq g7 rfl, g8⟩
  · exact absurd a1 b1
  · exact absurd b1 a1
  · subst a3; subst b3
    exact ⟨a2.trans b2.symm, n, g1, g2, g3, g4, g5, g6, g7, g8⟩
theorem pf_inv_at {r1 r2 x t : Int32} {n : Nat} {f g : Nat → Int32} (ht : t.toInt + 1 = (n : Int)) (h : ∀ j, j < n → f j = g j) (h1 : (pf_in x t ∧ r1 = f (pf_n x)) ∨ (¬ pf_in x t ∧ r1 = 0)) (h2 : (pf_in x t ∧ r2 = g (pf_n x)) ∨ (¬ pf_in x t ∧ r2 = 0)) : r1 = r2 := by
  rcases h1 with ⟨a1, a2⟩ | ⟨a1, a2⟩ <;> rcases h2 with ⟨b1, b2⟩ | ⟨b1, b2⟩
  · rw [a2, b2]; exact h _ (pf_vp4 (pf_in_vp ht a1))
  · exact absurd a1 b1
  · exact absurd b1 a1
  · rw [a2, b2]
theorem pf_inv_run {n : Nat} {ln nn r1 r2 : Int32} {oc fx fy fz ce fi mo mx my mz mc mr : Nat → Int32} {u : pfV × (Nat → Int32)} {w : (Nat → Int32) × (Nat → Int32) × (Nat → Int32)} (h : pf_inv n ln oc fx fy fz ce fi nn mo mx my mz mc mr)
    (h1 : (¬ pf_sound n oc fy ∧ r1 = -3 ∧ v_ce u.1 = ce ∧ u.2 = fi) ∨ (pf_sound n oc fy ∧ ∃ N, pf_ends n oc fx fy fz ce N ∧ r1 = nI N ∧ (∀ c, c < 12 → v_ce u.1 c = a_ce (pf_tr oc fx fy fz ce N) c) ∧ (∀ j, j < 4 → u.2 j = a_rg (pf_tr oc fx fy fz ce N) j)))
    (h2 : (¬ pf_sound n mo my ∧ r2 = -3 ∧ w.1 = mc ∧ w.2.1 = mr) ∨ (pf_sound n mo my ∧ ∃ N, pf_ends n mo mx my mz mc N ∧ r2 = nI N ∧ (∀ c, c < 12 → w.1 c = a_ce (pf_tr mo mx my mz mc N) c) ∧ (∀ j, j < 4 → w.2.1 j = a_rg (pf_tr mo mx my mz mc N) j))) :
    r1 = r2 ∧ ∃ n', pf_inv n' ln oc fx fy fz (v_ce u.1) u.2 nn mo mx my mz w.1 w.2.1 := by
  have hs := pf_inv_sound h
  obtain ⟨g1, g2, g3, g4, g5, g6, g7, g8⟩ := h
  rcases h1 with ⟨a1, a2, a3, a4⟩ | ⟨a1, N, a2, a3, a4, a5⟩ <;> rcases h2 with ⟨b1, b2, b3, b4⟩ | ⟨b1, N', b2, b3, b4, b5⟩
  · exact ⟨a2.trans b2.symm, n, g1, g2, g3, g4, g5, g6, by rw [a3, b3]; exact g7, by rw [a4, b4]; exact g8⟩
  · exact absurd (hs.mpr b1) a1
  · exact absurd (hs.mp a1) b1
  · obtain ⟨e, q1, q2, q3, q4, q5, q6⟩ := pf_ends_eq g4 g6 g7 a2 b2
    exact ⟨by rw [a3, b3, e], n, g1, g2, g3, g4, g5, g6, fun c hc => by rw [a4 c hc, b4 c hc]; exact q6 c hc, fun j hj => by rw [a5 j hj, b5 j hj]; exact q1 j hj⟩
end
section
/-! the law's world: two worlds side by side, a call on the first of them -/
set_option maxRecDepth 100000
def pf_L (D : va_G) (A : Nat → Prop) (s : State) (w1 w2 : va_W) (H : Heap) (locs : List Loc) : Prop := va_P D vwCl w1 H ∧ va_P D vwCl w2 H ∧ va_D A w1 ∧ va_D A w2 ∧ (∀ (i j : Nat) (p q : Nat × va_E), w1[i]? = some p → w2[j]? = some q → p.1 ≠ q.1) ∧ va_S A s.heap H locs
theorem pf_L_swap {D : va_G} {A : Nat → Prop} {s : State} {w1 w2 : va_W} {H : Heap} {locs : List Loc} (h : pf_L D A s w1 w2 H locs) : pf_L D A s w2 w1 H locs := ⟨h.2.1, h.1, h.2.2.2.1, h.2.2.1, fun i j p q hp hq e => h.2.2.2.2.1 j i q p hq hp e.symm, h.2.2.2.2.2⟩
/-- one world cut in two -/
theorem pf_L_of {D : va_G} {A : Nat → Prop} {s : State} {w1 w2 : va_W} {H : Heap} {locs : List Loc} (hP : va_P D vwCl (w1 ++ w2) H) (hD : va_D A (w1 ++ w2)) (hS : va_S A s.heap H locs) : pf_L D A s w1 w2 H locs := by
  have l1 : ∀ {k : Nat} {q : Nat × va_E}, w1[k]? = some q → (w1 ++ w2)[k]? = some q := fun hk => by rw [List.getElem?_append_left (List.getElem?_eq_some_iff.mp hk).1]; exact hk
  have l2 : ∀ {k : Nat} {q : Nat × va_E}, w2[k]? = some q → (w1 ++ w2)[w1.length + k]? = some q := fun hk => by rw [List.getElem?_append_right (by omega), Nat.add_sub_cancel_left]; exact hk
  refine ⟨fun k q hk => hP k q (l1 hk), fun k q hk => hP _ q (l2 hk), ⟨fun i j p q hi hj e => hD.1 i j p q (l1 hi) (l1 hj) e, fun k q hk => hD.2 k q (l1 hk)⟩, ⟨fun i j p q hi hj e => ?_, fun k q hk => hD.2 _ q (l2 hk)⟩, fun i j p q hi hj e => ?_, hS⟩
  · have := hD.1 _ _ p q (l2 hi) (l2 hj) e
    omega
  · have h1 := hD.1 _ _ p q (l1 hi) (l2 hj) e
    have h2 := (List.getElem?_eq_some_iff.mp hi).1
    omega
theorem pf_L_fr {D : va_G} {A : Nat → Prop} {s : State} {w1 w2 : va_W} {H : Heap} {locs : List Loc} (h : pf_L D A s w1 w2 H locs) (hA : ∀ q, s.heap.size ≤ q → A q) : ∀ q, va_A w1 H.size q → A q := by
  intro q hq
  rcases hq with ⟨k, e, hq⟩ | hq
  · exact h.2.2.1.2 k _ hq
  · exact hA q (Nat.le_trans h.2.2.2.2.2.1 hq)
theorem pf_L_after {D : va_G} {A : Nat → Prop} {s : State} {w1 w2 wn : va_W} {H H1 : Heap} {locs locs1 : List Loc} (h : pf_L D A s w1 w2 H locs) (hA : ∀ q, s.heap.size ≤ q → A q) (hk : ∀ q : Nat, q < H.size → ¬ va_A w1 H.size q → H1[q]? = H[q]?) (hP : va_P D vwCl wn H1) (hD : va_D (va_A w1 H.size) wn) (hS : va_S A s.heap H1 locs1) : pf_L D A s wn w2 H1 locs1 := by
  have hF := pf_L_fr h hA
  obtain ⟨p1, p2, d1, d2, ap, -⟩ := h
  have out : ∀ (k : Nat) (q : Nat × va_E), w2[k]? = some q → q.1 < H.size ∧ ¬ va_A w1 H.size q.1 := by
    intro k q hq
    have hl := (p2 k q hq).lt
    refine ⟨hl, fun a => ?_⟩
    rcases a with ⟨j, e, hj⟩ | a
    · exact ap j k _ q hj hq rfl
    · omega
  refine ⟨hP, p2.kept (fun k q hq => hk q.1 (out k q hq).1 (out k q hq).2), hD.weaken (fun _ _ _ a => hF _ a), d2, fun i j p q hp hq e => ?_, hS⟩
  exact (out j q hq).2 (by rw [← e]; exact hD.2 i p hp)
section PFL
variable {p : Program} {l : Launch} {e : Env} {R : Room} {s : State} {m : MethodId} {args : Array Value} {below : List Frame} {meth : Method} {c : Code} {H : Heap} {locs : List Loc} {cells slots mc ms : Nat} {Q : State → Prop}
variable {cc : ByteArray} {nL pc : Nat} {ls : Array Slot} {rest st0 : List Value} {own : String} {D : va_G} {t1 tys : List (ClassId × FieldType)} {A : Nat → Prop} {w1 w2 : va_W} {S : Type} {Wf : S → va_W} {tf : S → List (ClassId × FieldType)} {ar : Array Value}
theorem pf_LrunI {post : Int32 → S → Prop} (hr : va_Run p l e R s m args below meth c H locs cells slots mc ms (F0 m pc ls st0) rest (va_Qi post (fun u t => pf_at D (tf u) (va_A w1 H.size) (Wf u) t) (va_A w1 H.size) ar) (va_A w1 H.size)) (hL : pf_L D A s w1 w2 H locs) (hA : ∀ q, s.heap.size ≤ q → A q)
    (kk : ∀ (r : Int32) (u : S) (H1 : Heap) (locs1 : List Loc), post r u → pf_L D A s (Wf u) w2 H1 locs1 → va_K D vwCl (tf u) s → W p l e R s m args below meth c H1 locs1 (cells + mc) (slots + ms) Q (F0 m (pc + 3) ls (.int r :: rest))) : W p l e R s m args below meth c H locs cells slots Q (F0 m pc ls st0) := by
  have hFc := pf_L_fr hL hA
  refine va_calli hr hL.2.2.2.2.2 (fun q _ h => hFc q h) hFc (fun r u t H1 locs1 ht hvm hp hB hz1 hk1 hS => ?_)
  exact kk r u H1 locs1 hp (pf_L_after hL hA hk1 (by rw [← ht]; exact hB.1) hB.2.2 hS) (va_K.moved hvm.symm hB.2.1)
theorem pf_LrunV {post : S → Prop} (hr : va_Run p l e R s m args below meth c H locs cells slots mc ms (F0 m pc ls st0) rest (va_Qv post (fun u t => pf_at D (tf u) (va_A w1 H.size) (Wf u) t) (va_A w1 H.size) ar) (va_A w1 H.size)) (hL : pf_L D A s w1 w2 H locs) (hA : ∀ q, s.heap.size ≤ q → A q)
    (kk : ∀ (u : S) (H1 : Heap) (locs1 : List Loc), post u → pf_L D A s (Wf u) w2 H1 locs1 → va_K D vwCl (tf u) s → W p l e R s m args below meth c H1 locs1 (cells + mc) (slots + ms) Q (F0 m (pc + 3) ls rest)) : W p l e R s m args below meth c H locs cells slots Q (F0 m pc ls st0) := by
  have hFc := pf_L_fr hL hA
  refine va_callv hr hL.2.2.2.2.2 (fun q _ h => hFc q h) hFc (fun u t H1 locs1 ht hvm hp hB hz1 hk1 hS => ?_)
  exact kk u H1 locs1 hp (pf_L_after hL hA hk1 (by rw [← ht]; exact hB.1) hB.2.2 hS) (va_K.moved hvm.symm hB.2.1)
variable {y : MethodName} {bytes : ByteArray} {maxL fr lo n index ci N : Nat} {T : u_T} {fs : List Value} {ret : Option FieldType} {b : Nat} {C : String}
theorem pf_lI {post : Int32 → S → Prop} (As : List Value) (hf : CallFix p m c cc nL s args lw_all own) (hK : va_K D vwCl t1 s) (hL : pf_L D A s w1 w2 H locs) (hA : ∀ q, s.heap.size ≤ q → A q) (hM : pf_KI l D t1 y bytes maxL ret fr lo (.ref b :: As) w1 post Wf)
    (cw : CallW R s args own C index y bytes maxL ret (ws_ y bytes maxL ret) { frames := fr, cells := 0, slots := 0, locals := lo } 0 0 n) (hcl : vwCl[ci]? = some (C, T, N)) (he : w1[0]? = some (b, .inr (ci, fs)))
    (hn : As.length = n) (hsz : ls.size = nL) (hst : st0 = As.reverse ++ .ref b :: rest) (hroom : (rest.map fun v => v.category).sum ≤ 8) (hdg : decode cc pc = .ok (.invokevirtual index, 3)) (hcs : cells ≤ R.cells ∧ slots ≤ R.slots)
    (kk : ∀ (r : Int32) (u : S) (H1 : Heap) (locs1 : List Loc), post r u → pf_L D A s (Wf u) w2 H1 locs1 → W p l e R s m args below meth c H1 locs1 cells slots Q (F0 m (pc + 3) ls (.int r :: rest))) : W p l e R s m args below meth c H locs cells slots Q (F0 m pc ls st0) := by
  refine pf_LrunI (tf := fun _ => t1) (va_runV (As := As) (rest := rest) hf (hM H.size) cw ⟨fun a U g mk q => by obtain ⟨q0, q1, qP, qK, qD⟩ := q; exact ⟨q0, q1, qP, va_K.moved (u := U) (U := U.calling g mk a) (Vm.Alike.refl U.vm) qK, qD⟩, va_recv hK hL.1 hcl he, fun U hU hW => ⟨rfl, by rw [hU], by rw [hU]; exact hL.1, va_K.moved hW.alike hK, hL.2.2.1.weaken (fun _ _ _ _ => trivial)⟩⟩ rfl hn hsz hst (lv_room hroom) hdg hcs) hL hA (fun r u H1 locs1 hp hL1 _ => ?_)
  exact kk r u H1 locs1 hp hL1
theorem pf_lV {post : S → Prop} (As : List Value) (hf : CallFix p m c cc nL s args lw_all own) (hK : va_K D vwCl t1 s) (hL : pf_L D A s w1 w2 H locs) (hA : ∀ q, s.heap.size ≤ q → A q) (hM : pf_KV l D t1 y bytes maxL fr lo (.ref b :: As) w1 post Wf)
    (cw : CallW R s args own C index y bytes maxL none (ws_ y bytes maxL none) { frames := fr, cells := 0, slots := 0, locals := lo } 0 0 n) (hcl : vwCl[ci]? = some (C, T, N)) (he : w1[0]? = some (b, .inr (ci, fs)))
    (hn : As.length = n) (hsz : ls.size = nL) (hst : st0 = As.reverse ++ .ref b :: rest) (hroom : (rest.map fun v => v.category).sum ≤ 8) (hdg : decode cc pc = .ok (.invokevirtual index, 3)) (hcs : cells ≤ R.cells ∧ slots ≤ R.slots)
    (kk : ∀ (u : S) (H1 : Heap) (locs1 : List Loc), post u → pf_L D A s (Wf u) w2 H1 locs1 → W p l e R s m args below meth c H1 locs1 cells slots Q (F0 m (pc + 3) ls rest)) : W p l e R s m args below meth c H locs cells slots Q (F0 m pc ls st0) := by
  refine pf_LrunV (tf := fun _ => t1) (va_runV (As := As) (rest := rest) hf (hM H.size) cw ⟨fun a U g mk q => by obtain ⟨q0, q1, qP, qK, qD⟩ := q; exact ⟨q0, q1, qP, va_K.moved (u := U) (U := U.calling g mk a) (Vm.Alike.refl U.vm) qK, qD⟩, va_recv hK hL.1 hcl he, fun U hU hW => ⟨rfl, by rw [hU], by rw [hU]; exact hL.1, va_K.moved hW.alike hK, hL.2.2.1.weaken (fun _ _ _ _ => trivial)⟩⟩ rfl hn hsz hst (lv_room hroom) hdg hcs) hL hA (fun u H1 locs1 hp hL1 _ => ?_)
  exact kk u H1 locs1 hp hL1
theorem pf_sl {H0 : Heap} {bs L j : Nat} {xs : Nat → Int32} (hx : p.tables.exec = Jvm.exec) (hb : c.code = cc) (hX : va_X bs L xs s H0) (hbl : bs < H0.size) (hbA : ¬ A bs) (hS : va_S A H0 H locs) {i : Int32} (hi : pf_ix i j L) (hdg : decode cc pc = .ok (.iaload, 1))
    (kk : W p l e R s m args below meth c H locs cells slots Q (F0 m (pc + 1) ls (.int (xs j) :: rest))) : W p l e R s m args below meth c H locs cells slots Q (F0 m pc ls (.int i :: .ref bs :: rest)) := by
  obtain ⟨h1, rfl⟩ := hi
  exact va_sld hx hb hX hbl hbA hS h1 hdg kk
end PFL
/-! THE CLAIM OUT OF ONE WALK OF THE LAW'S BODY. Your part is whole_start (and what it stands on); all else here is the same for every law, but numbers. -/
def R_law : String := "PowerFailCoreLaw"
def lw_P (b : Addr) (xs : List Int32) (args : Array Value) (s : State) : Prop := args = #[.ref b] ∧ s.IntsAt b xs ∧ xs.length ≤ 320 ∧ (Jvm.Cond.and given_1 narrow_1).before args s = true
def lw_Q (_ : Array Value) (s : State) (o : Outcome) (t : State) : Prop := o = .returned (some (.int 1)) ∧ Framed s o t [] 600000 7290000
def lw_Z (below : List Frame) (a : Array Value) (s : State) : State → Prop := fun t => ∃ o, t.status = .running ∧ Ended t below o ∧ lw_Q a s o t
/-- the law's own end, with 1 on the stack, nothing written that was there before, its room as the claim has it -/
theorem lw_ret {p : Program} {l : Launch} {e : Env} {s : State} {m : MethodId} {below : List Frame} {meth : Method} {c : Code} {b : Nat} (hx : p.tables.exec = Jvm.exec) (hb : c.code = code) (hr : meth.sig.returnType = ret) (hlocks : meth.locks = false) {pc : Nat} {H : Heap} {ls : Array Slot} (hdg : decode code pc = .ok (.ireturn, 1)) : W p l e room_1 s m #[Value.ref b] below meth c H [] 600000 7290000 (lw_Z below #[Value.ref b] s) (F0 m pc ls [.int 1]) := by
  intro T hT X
  obtain ⟨fs, hret, hrun, hended, hW, hframe⟩ := X.leave (v := some (.int 1)) (hlocks := hlocks) (fun h => by rw [hr] at h; cases h)
  have hmeth' : T.vm.method? m = some meth := X.method'
  refine ⟨T.setFrames fs, ?_, .returned (some (.int 1)), hrun, hended, rfl, ⟨_, rfl⟩, hW, hframe⟩
  jvm_step X.here [X.here.top, hx, hb, hdg, hmeth', hr, ret, narrow_b1]
  (try refine ⟨rfl, ?_⟩); (try refine ⟨rfl, ?_⟩)
  first | (intro acts; rw [hret _ acts rfl rfl rfl]) | rw [hret _ _ rfl rfl rfl]
  exact Steps.refl _
/-- what holds at the law's entry: the machine, the code, the tables' words (any of lw_tbl by 'hts w (by decide +kernel)'), the script of L ints xs at the cell b, what the Statement gives of the start (any of its parts by flat_of_before) -/
def lw_At (p : Program) (s : State) (m : MethodId) (meth : Method) (c : Code) (b L : Nat) (xs : Nat → Int32) : Prop :=
  p.tables.exec = Jvm.exec ∧ c.code = code ∧ meth.sig.returnType = ret ∧ c.maxLocals = 4 ∧ s.vm.findClass R_law = some m.cls ∧ (∀ w ∈ lw_tbl, w.before #[Value.ref b] s = true) ∧ va_X b L xs s s.heap ∧ b < s.heap.size ∧ meth.locks = false ∧ (Jvm.Cond.and given_1 narrow_1).before #[Value.ref b] s = true
end
section
set_option maxRecDepth 100000
theorem pf_law_go {L i : Nat} (hL : L ≤ 400) (hi : i ≤ 400) (h : ¬ Int32.ofNat L - 5 < nI i) : i + 5 ≤ L := by
  have h1 : (nI L - nI 5).toInt = (L : Int) - 5 := pk_sub_toInt (by omega) (by decide)
  have h : ¬ nI L - nI 5 < nI i := h
  rw [Int32.lt_iff_toInt_lt, h1, nI_toInt (by omega)] at h
  omega
set_option maxHeartbeats 8000000 in
/-- the law's loop at its head: i ints are read -/
theorem pf_loop {p : Program} {e : Env} {s : State} {m : MethodId} {below : List Frame} {meth : Method} {c : Code} {l : Launch} {b L : Nat} {xs : Nat → Int32} {D : va_G} {a a2 : Nat → Nat} {d d2 : Nat → ClassId} {A : Nat → Prop} (hL320 : L ≤ 320) (hf : CallFix p m c cL_law 4 s #[Value.ref b] lw_all R_law) (hr : meth.sig.returnType = ret) (hlocks : meth.locks = false) (hX : va_X b L xs s s.heap) (hbl : b < s.heap.size) (hbA : ¬ A b) (hA : ∀ q, s.heap.size ≤ q → A q) (hA2 : ∀ q, A q → s.heap.size ≤ q) (hK1 : va_K D vwCl (tyC d) s) (hK2 : va_K D vwCl (tyM d2) s) :
    ∀ (n i n0 : Nat) (oc fx fy fz ce sv fi rg lS lL : Nat → Int32) (ln pl ct ol rd wr sr tl fl : Int32) (mo mx my mz mc mr ml : Nat → Int32) (nn : Int32) (H : Heap) (locs : List Loc) (ls : Array Slot), L < i + n → i ≤ 400 → pf_inv n0 ln oc fx fy fz ce fi nn mo mx my mz mc mr → pf_L D A s (wC a d ln oc fx fy fz ce sv fi rg pl ct ol lS lL rd wr sr tl fl) (wM a2 d2 nn mo mx my mz mc mr ml) H locs → lv_has ls 4 [(0, .ref b), (1, .ref (a 0)), (2, .ref (a2 0)), (3, .int (nI i))] → W p l e room_1 s m #[Value.ref b] below meth c H locs 19 361 (lw_Z below #[Value.ref b] s) (F0 m 18 ls []) := by
  have hx := hf.1
  have hb := hf.2.1
  intro n
  induction n with
  | zero =>
    intro i n0 oc fx fy fz ce sv fi rg lS lL ln pl ct ol rd wr sr tl fl mo mx my mz mc mr ml nn H locs ls hn hi4 hi hL hl
    refine lv_iload_n hx hb dL_law_18 rfl (lv_at hl 3 rfl) ?_
    refine lv_aload_n hx hb dL_law_19 rfl (lv_at hl 0 rfl) ?_
    refine va_slen hx hb hX hbl hbA hL.2.2.2.2.2 dL_law_20 ?_
    refine lv_iconst (v := 5) hx hb dL_law_21 (by decide) ?_
    refine lv_isub hx hb dL_law_22 ?_
    refine lv_icmp_gt (tgt := 278) hx hb dL_law_23 (by decide) (fun c23 => ?_) (fun c23 => absurd (pf_law_go (by omega) (by omega) c23) (by omega))
    refine lv_iconst (v := 1) hx hb dL_law_278 (by decide) ?_
    refine va_forget (fun q hq => hA2 _ (hL.2.2.2.2.2.2.2 q hq)) ?_
    refine W.widen (k := 600000) (n := 7290000) (by decide) (by decide) ?_
    exact lw_ret hx hb hr hlocks dL_law_279
  | succ n ih =>
    intro i n0 oc fx fy fz ce sv fi rg lS lL ln pl ct ol rd wr sr tl fl mo mx my mz mc mr ml nn H locs ls hn hi4 hi hL hl
    refine lv_iload_n hx hb dL_law_18 rfl (lv_at hl 3 rfl) ?_
    refine lv_aload_n hx hb dL_law_19 rfl (lv_at hl 0 rfl) ?_
    refine va_slen hx hb hX hbl hbA hL.2.2.2.2.2 dL_law_20 ?_
    refine lv_iconst (v := 5) hx hb dL_law_21 (by decide) ?_
    refine lv_isub hx hb dL_law_22 ?_
    refine lv_icmp_gt (tgt := 278) hx hb dL_law_23 (by decide) (fun c23 => ?_) (fun c23 => ?_)
    · refine lv_iconst (v := 1) hx hb dL_law_278 (by decide) ?_
      refine va_forget (fun q hq => hA2 _ (hL.2.2.2.2.2.2.2 q hq)) ?_
      refine W.widen (k := 600000) (n := 7290000) (by decide) (by decide) ?_
      exact lw_ret hx hb hr hlocks dL_law_279
    · have hiL := pf_law_go (by omega) (by omega) c23
      refine lv_aload_n hx hb dL_law_26 rfl (lv_at hl 0 rfl) ?_
      refine lv_iload_n hx hb dL_law_27 rfl (lv_at hl 3 rfl) ?_
      refine pf_sl (j := i) hx hb hX hbl hbA hL.2.2.2.2.2 (pf_ixn (by omega) (by omega)) dL_law_28 ?_
      refine lv_bipush (v := 7) hx hb dL_law_29 (by decide) ?_
      refine lv_iand hx hb dL_law_31 ?_
      obtain ⟨j, hj, ej⟩ := pk_andE (xs i) (m := 7) 3 (by decide)
      refine pf_top (nI j) ej ?_
      have hj8 : j = 0 ∨ j = 1 ∨ j = 2 ∨ j = 3 ∨ j = 4 ∨ j = 5 ∨ j = 6 ∨ j = 7 := by have : j < 8 := hj; omega
      rcases hj8 with rfl | rfl | rfl | rfl | rfl | rfl | rfl | rfl
      · refine lv_tableIn (off := 48) (tgt := 80) hx hb dL_law_32 (by decide) (by decide) (by decide) (by decide) ?_
        refine lv_aload_n hx hb dL_law_80 rfl (lv_at hl 1 rfl) ?_
        refine lv_aload_n hx hb dL_law_81 rfl (lv_at hl 0 rfl) ?_
        refine lv_iload_n hx hb dL_law_82 rfl (lv_at hl 3 rfl) ?_
        refine lv_iconst (v := 1) hx hb dL_law_83 (by decide) ?_
        refine lv_iadd hx hb dL_law_84 ?_
        refine pf_top (nI (i + 1)) (nI_add i 1) ?_
        refine pf_sl (j := i + 1) hx hb hX hbl hbA hL.2.2.2.2.2 (pf_ixn (by omega) (by omega)) dL_law_85 ?_
        refine lv_aload_n hx hb dL_law_86 rfl (lv_at hl 0 rfl) ?_
        refine lv_iload_n hx hb dL_law_87 rfl (lv_at hl 3 rfl) ?_
        refine lv_iconst (v := 2) hx hb dL_law_88 (by decide) ?_
        refine lv_iadd hx hb dL_law_89 ?_
        refine pf_top (nI (i + 2)) (nI_add i 2) ?_
        refine pf_sl (j := i + 2) hx hb hX hbl hbA hL.2.2.2.2.2 (pf_ixn (by omega) (by omega)) dL_law_90 ?_
        refine lv_aload_n hx hb dL_law_91 rfl (lv_at hl 0 rfl) ?_
        refine lv_iload_n hx hb dL_law_92 rfl (lv_at hl 3 rfl) ?_
        refine lv_iconst (v := 3) hx hb dL_law_93 (by decide) ?_
        refine lv_iadd hx hb dL_law_94 ?_
        refine pf_top (nI (i + 3)) (nI_add i 3) ?_
        refine pf_sl (j := i + 3) hx hb hX hbl hbA hL.2.2.2.2.2 (pf_ixn (by omega) (by omega)) dL_law_95 ?_
        refine lv_aload_n hx hb dL_law_96 rfl (lv_at hl 0 rfl) ?_
        refine lv_iload_n hx hb dL_law_97 rfl (lv_at hl 3 rfl) ?_
        refine lv_iconst (v := 4) hx hb dL_law_98 (by decide) ?_
        refine lv_iadd hx hb dL_law_99 ?_
        refine pf_top (nI (i + 4)) (nI_add i 4) ?_
        refine pf_sl (j := i + 4) hx hb hX hbl hbA hL.2.2.2.2.2 (pf_ixn (by omega) (by omega)) dL_law_100 ?_
        refine pf_lI [.int (xs (i + 1)), .int (xs (i + 2)), .int (xs (i + 3)), .int (xs (i + 4))] hf hK1 hL hA (k0_emit l D a d oc fx fy fz ce sv fi rg lS lL ln pl ct ol rd wr sr tl fl (xs (i + 1)) (xs (i + 2)) (xs (i + 3)) (xs (i + 4)) n0 hi.1 hi.2.1) (cwV 4 hf.2.2.2.2 (lw_V q92 q93 q94 q22 q95) rfl rfl rfl (by decide +kernel) ⟨Nat.le_of_ble_eq_true rfl, Nat.le_of_ble_eq_true rfl⟩) (ci := 0) (T := TX0) (N := 19) rfl rfl rfl hl.1 rfl (Nat.le_of_ble_eq_true rfl) dL_law_101 ⟨by decide, by decide⟩ (fun r101 u101 H locs hp101 hL => ?_)
        refine lv_aload_n hx hb dL_law_104 rfl (lv_at hl 2 rfl) ?_
        refine lv_aload_n hx hb dL_law_105 rfl (lv_at hl 0 rfl) ?_
        refine lv_iload_n hx hb dL_law_106 rfl (lv_at hl 3 rfl) ?_
        refine lv_iconst (v := 1) hx hb dL_law_107 (by decide) ?_
        refine lv_iadd hx hb dL_law_108 ?_
        refine pf_top (nI (i + 1)) (nI_add i 1) ?_
        refine pf_sl (j := i + 1) hx hb hX hbl hbA hL.2.2.2.2.2 (pf_ixn (by omega) (by omega)) dL_law_109 ?_
        refine lv_aload_n hx hb dL_law_110 rfl (lv_at hl 0 rfl) ?_
        refine lv_iload_n hx hb dL_law_111 rfl (lv_at hl 3 rfl) ?_
        refine lv_iconst (v := 2) hx hb dL_law_112 (by decide) ?_
        refine lv_iadd hx hb dL_law_113 ?_
        refine pf_top (nI (i + 2)) (nI_add i 2) ?_
        refine pf_sl (j := i + 2) hx hb hX hbl hbA hL.2.2.2.2.2 (pf_ixn (by omega) (by omega)) dL_law_114 ?_
        refine lv_aload_n hx hb dL_law_115 rfl (lv_at hl 0 rfl) ?_
        refine lv_iload_n hx hb dL_law_116 rfl (lv_at hl 3 rfl) ?_
        refine lv_iconst (v := 3) hx hb dL_law_117 (by decide) ?_
        refine lv_iadd hx hb dL_law_118 ?_
        refine pf_top (nI (i + 3)) (nI_add i 3) ?_
        refine pf_sl (j := i + 3) hx hb hX hbl hbA hL.2.2.2.2.2 (pf_ixn (by omega) (by omega)) dL_law_119 ?_
        refine lv_aload_n hx hb dL_law_120 rfl (lv_at hl 0 rfl) ?_
        refine lv_iload_n hx hb dL_law_121 rfl (lv_at hl 3 rfl) ?_
        refine lv_iconst (v := 4) hx hb dL_law_122 (by decide) ?_
        refine lv_iadd hx hb dL_law_123 ?_
        refine pf_top (nI (i + 4)) (nI_add i 4) ?_
        refine pf_sl (j := i + 4) hx hb hX hbl hbA hL.2.2.2.2.2 (pf_ixn (by omega) (by omega)) dL_law_124 ?_
        refine pf_lI [.int (xs (i + 1)), .int (xs (i + 2)), .int (xs (i + 3)), .int (xs (i + 4))] hf hK2 (pf_L_swap hL) hA (k1_emit l D a2 d2 mo mx my mz mc mr ml nn (xs (i + 1)) (xs (i + 2)) (xs (i + 3)) (xs (i + 4)) n0 hi.1 hi.2.2.1) (cwV 4 hf.2.2.2.2 (lw_V q220 q221 q222 q23 q223) rfl rfl rfl (by decide +kernel) ⟨Nat.le_of_ble_eq_true rfl, Nat.le_of_ble_eq_true rfl⟩) (ci := 1) (T := TX1) (N := 8) rfl rfl rfl hl.1 rfl (Nat.le_of_ble_eq_true rfl) dL_law_125 ⟨by decide, by decide⟩ (fun r125 u125 H locs hp125 hL => ?_)
        have hL := pf_L_swap hL
        have heq := pf_inv_emit hi hp101 hp125
        obtain ⟨n1, hi⟩ := heq.2
        have hL : pf_L D A s (wC a d (u101.1) (u101.2.1) (u101.2.2.1) (u101.2.2.2.1) (u101.2.2.2.2) ce sv fi rg pl ct ol lS lL rd wr sr tl fl) (wM a2 d2 (u125.1) (u125.2.1) (u125.2.2.1) (u125.2.2.2.1) (u125.2.2.2.2) mc mr ml) H locs := hL
        refine lv_icmp_eq (tgt := 272) hx hb dL_law_128 (by decide) (fun c128 => ?_) (fun c128 => absurd heq.1 c128)
        refine lv_iinc (v := nI (i + 5)) (lv' := [(3, .int (nI (i + 5))), (0, .ref b), (1, .ref (a 0)), (2, .ref (a2 0))]) hx hb dL_law_272 hl (k := 3) rfl (nI_add i 5) (by decide) rfl (fun ls hl => ?_)
        refine lv_goto (tgt := 18) hx hb dL_law_275 (by decide) ?_
        exact ih (i + 5) n1 (u101.2.1) (u101.2.2.1) (u101.2.2.2.1) (u101.2.2.2.2) ce sv fi rg lS lL (u101.1) pl ct ol rd wr sr tl fl (u125.2.1) (u125.2.2.1) (u125.2.2.2.1) (u125.2.2.2.2) mc mr ml (u125.1) _ _ ls (by omega) (by omega) hi hL (lv_sub hl [1, 2, 3, 0] rfl)
      · refine lv_tableIn (off := 101) (tgt := 133) hx hb dL_law_32 (by decide) (by decide) (by decide) (by decide) ?_
        refine lv_aload_n hx hb dL_law_133 rfl (lv_at hl 1 rfl) ?_
        refine pf_lI [] hf hK1 hL hA (k0_retract l D a d oc fx fy fz ce sv fi rg lS lL ln pl ct ol rd wr sr tl fl n0 hi.1 hi.2.1) (cwV 0 hf.2.2.2.2 (lw_V q104 q105 q106 q22 q107) rfl rfl rfl (by decide +kernel) ⟨Nat.le_of_ble_eq_true rfl, Nat.le_of_ble_eq_true rfl⟩) (ci := 0) (T := TX0) (N := 19) rfl rfl rfl hl.1 rfl (Nat.le_of_ble_eq_true rfl) dL_law_134 ⟨by decide, by decide⟩ (fun r134 u134 H locs hp134 hL => ?_)
        refine lv_aload_n hx hb dL_law_137 rfl (lv_at hl 2 rfl) ?_
        refine pf_lI [] hf hK2 (pf_L_swap hL) hA (k1_retract l D a2 d2 mo mx my mz mc mr ml nn n0 hi.1 hi.2.2.1) (cwV 0 hf.2.2.2.2 (lw_V q232 q233 q234 q23 q235) rfl rfl rfl (by decide +kernel) ⟨Nat.le_of_ble_eq_true rfl, Nat.le_of_ble_eq_true rfl⟩) (ci := 1) (T := TX1) (N := 8) rfl rfl rfl hl.1 rfl (Nat.le_of_ble_eq_true rfl) dL_law_138 ⟨by decide, by decide⟩ (fun r138 u138 H locs hp138 hL => ?_)
        have hL := pf_L_swap hL
        have heq := pf_inv_retract hi hp134 hp138
        obtain ⟨n1, hi⟩ := heq.2
        have hL : pf_L D A s (wC a d u134 oc fx fy fz ce sv fi rg pl ct ol lS lL rd wr sr tl fl) (wM a2 d2 u138 mo mx my mz mc mr ml) H locs := hL
        refine lv_icmp_eq (tgt := 272) hx hb dL_law_141 (by decide) (fun c141 => ?_) (fun c141 => absurd heq.1 c141)
        refine lv_iinc (v := nI (i + 5)) (lv' := [(3, .int (nI (i + 5))), (0, .ref b), (1, .ref (a 0)), (2, .ref (a2 0))]) hx hb dL_law_272 hl (k := 3) rfl (nI_add i 5) (by decide) rfl (fun ls hl => ?_)
        refine lv_goto (tgt := 18) hx hb dL_law_275 (by decide) ?_
        exact ih (i + 5) n1 oc fx fy fz ce sv fi rg lS lL u134 pl ct ol rd wr sr tl fl mo mx my mz mc mr ml u138 _ _ ls (by omega) (by omega) hi hL (lv_sub hl [1, 2, 3, 0] rfl)
      · refine lv_tableIn (off := 114) (tgt := 146) hx hb dL_law_32 (by decide) (by decide) (by decide) (by decide) ?_
        refine lv_aload_n hx hb dL_law_146 rfl (lv_at hl 1 rfl) ?_
        refine pf_lI [] hf hK1 hL hA (k0_sound l D a d oc fx fy fz ce sv fi rg lS lL ln pl ct ol rd wr sr tl fl n0 hi.1 hi.2.1 hi.2.2.2.1) (cwV 0 hf.2.2.2.2 (lw_V q108 q109 q110 q22 q111) rfl rfl rfl (by decide +kernel) ⟨Nat.le_of_ble_eq_true rfl, Nat.le_of_ble_eq_true rfl⟩) (ci := 0) (T := TX0) (N := 19) rfl rfl rfl hl.1 rfl (Nat.le_of_ble_eq_true rfl) dL_law_147 ⟨by decide, by decide⟩ (fun r147 u147 H locs hp147 hL => ?_)
        refine lv_aload_n hx hb dL_law_150 rfl (lv_at hl 2 rfl) ?_
        refine pf_lI [] hf hK2 (pf_L_swap hL) hA (k1_sound l D a2 d2 mo mx my mz mc mr ml nn n0 hi.1 hi.2.2.1 hi.2.2.2.2.1) (cwV 0 hf.2.2.2.2 (lw_V q236 q237 q238 q23 q239) rfl rfl rfl (by decide +kernel) ⟨Nat.le_of_ble_eq_true rfl, Nat.le_of_ble_eq_true rfl⟩) (ci := 1) (T := TX1) (N := 8) rfl rfl rfl hl.1 rfl (Nat.le_of_ble_eq_true rfl) dL_law_151 ⟨by decide, by decide⟩ (fun r151 u151 H locs hp151 hL => ?_)
        have hL := pf_L_swap hL
        have heq : r147 = r151 ∧ True := ⟨pf_tf_eq hp147 hp151 (pf_inv_sound hi), trivial⟩
        have hL : pf_L D A s (wC a d ln oc fx fy fz ce sv fi rg pl ct ol lS lL rd wr sr tl fl) (wM a2 d2 nn mo mx my mz mc mr ml) H locs := hL
        refine lv_icmp_eq (tgt := 272) hx hb dL_law_154 (by decide) (fun c154 => ?_) (fun c154 => absurd heq.1 c154)
        refine lv_iinc (v := nI (i + 5)) (lv' := [(3, .int (nI (i + 5))), (0, .ref b), (1, .ref (a 0)), (2, .ref (a2 0))]) hx hb dL_law_272 hl (k := 3) rfl (nI_add i 5) (by decide) rfl (fun ls hl => ?_)
        refine lv_goto (tgt := 18) hx hb dL_law_275 (by decide) ?_
        exact ih (i + 5) n0 oc fx fy fz ce sv fi rg lS lL ln pl ct ol rd wr sr tl fl mo mx my mz mc mr ml nn _ _ ls (by omega) (by omega) hi hL (lv_sub hl [1, 2, 3, 0] rfl)
      · refine lv_tableIn (off := 127) (tgt := 159) hx hb dL_law_32 (by decide) (by decide) (by decide) (by decide) ?_
        refine lv_aload_n hx hb dL_law_159 rfl (lv_at hl 1 rfl) ?_
        refine lv_aload_n hx hb dL_law_160 rfl (lv_at hl 0 rfl) ?_
        refine lv_iload_n hx hb dL_law_161 rfl (lv_at hl 3 rfl) ?_
        refine lv_iconst (v := 1) hx hb dL_law_162 (by decide) ?_
        refine lv_iadd hx hb dL_law_163 ?_
        refine pf_top (nI (i + 1)) (nI_add i 1) ?_
        refine pf_sl (j := i + 1) hx hb hX hbl hbA hL.2.2.2.2.2 (pf_ixn (by omega) (by omega)) dL_law_164 ?_
        refine lv_aload_n hx hb dL_law_165 rfl (lv_at hl 0 rfl) ?_
        refine lv_iload_n hx hb dL_law_166 rfl (lv_at hl 3 rfl) ?_
        refine lv_iconst (v := 2) hx hb dL_law_167 (by decide) ?_
        refine lv_iadd hx hb dL_law_168 ?_
        refine pf_top (nI (i + 2)) (nI_add i 2) ?_
        refine pf_sl (j := i + 2) hx hb hX hbl hbA hL.2.2.2.2.2 (pf_ixn (by omega) (by omega)) dL_law_169 ?_
        refine pf_lI [.int (xs (i + 1)), .int (xs (i + 2))] hf hK1 hL hA (k0_setCell l D a d oc fx fy fz ce sv fi rg lS lL ln pl ct ol rd wr sr tl fl (xs (i + 1)) (xs (i + 2))) (cwV 2 hf.2.2.2.2 (lw_V q116 q117 q118 q22 q119) rfl rfl rfl (by decide +kernel) ⟨Nat.le_of_ble_eq_true rfl, Nat.le_of_ble_eq_true rfl⟩) (ci := 0) (T := TX0) (N := 19) rfl rfl rfl hl.1 rfl (Nat.le_of_ble_eq_true rfl) dL_law_170 ⟨by decide, by decide⟩ (fun r170 u170 H locs hp170 hL => ?_)
        refine lv_aload_n hx hb dL_law_173 rfl (lv_at hl 2 rfl) ?_
        refine lv_aload_n hx hb dL_law_174 rfl (lv_at hl 0 rfl) ?_
        refine lv_iload_n hx hb dL_law_175 rfl (lv_at hl 3 rfl) ?_
        refine lv_iconst (v := 1) hx hb dL_law_176 (by decide) ?_
        refine lv_iadd hx hb dL_law_177 ?_
        refine pf_top (nI (i + 1)) (nI_add i 1) ?_
        refine pf_sl (j := i + 1) hx hb hX hbl hbA hL.2.2.2.2.2 (pf_ixn (by omega) (by omega)) dL_law_178 ?_
        refine lv_aload_n hx hb dL_law_179 rfl (lv_at hl 0 rfl) ?_
        refine lv_iload_n hx hb dL_law_180 rfl (lv_at hl 3 rfl) ?_
        refine lv_iconst (v := 2) hx hb dL_law_181 (by decide) ?_
        refine lv_iadd hx hb dL_law_182 ?_
        refine pf_top (nI (i + 2)) (nI_add i 2) ?_
        refine pf_sl (j := i + 2) hx hb hX hbl hbA hL.2.2.2.2.2 (pf_ixn (by omega) (by omega)) dL_law_183 ?_
        refine pf_lI [.int (xs (i + 1)), .int (xs (i + 2))] hf hK2 (pf_L_swap hL) hA (k1_setCell l D a2 d2 mo mx my mz mc mr ml nn (xs (i + 1)) (xs (i + 2))) (cwV 2 hf.2.2.2.2 (lw_V q244 q245 q246 q23 q247) rfl rfl rfl (by decide +kernel) ⟨Nat.le_of_ble_eq_true rfl, Nat.le_of_ble_eq_true rfl⟩) (ci := 1) (T := TX1) (N := 8) rfl rfl rfl hl.1 rfl (Nat.le_of_ble_eq_true rfl) dL_law_184 ⟨by decide, by decide⟩ (fun r184 u184 H locs hp184 hL => ?_)
        have hL := pf_L_swap hL
        have heq := pf_inv_setCell hi hp170 hp184
        obtain ⟨n1, hi⟩ := heq.2
        have hL : pf_L D A s (wC a d ln oc fx fy fz u170 sv fi rg pl ct ol lS lL rd wr sr tl fl) (wM a2 d2 nn mo mx my mz u184 mr ml) H locs := hL
        refine lv_icmp_eq (tgt := 272) hx hb dL_law_187 (by decide) (fun c187 => ?_) (fun c187 => absurd heq.1 c187)
        refine lv_iinc (v := nI (i + 5)) (lv' := [(3, .int (nI (i + 5))), (0, .ref b), (1, .ref (a 0)), (2, .ref (a2 0))]) hx hb dL_law_272 hl (k := 3) rfl (nI_add i 5) (by decide) rfl (fun ls hl => ?_)
        refine lv_goto (tgt := 18) hx hb dL_law_275 (by decide) ?_
        exact ih (i + 5) n1 oc fx fy fz u170 sv fi rg lS lL ln pl ct ol rd wr sr tl fl mo mx my mz u184 mr ml nn _ _ ls (by omega) (by omega) hi hL (lv_sub hl [1, 2, 3, 0] rfl)
      · refine lv_tableIn (off := 160) (tgt := 192) hx hb dL_law_32 (by decide) (by decide) (by decide) (by decide) ?_
        refine lv_aload_n hx hb dL_law_192 rfl (lv_at hl 1 rfl) ?_
        refine lv_aload_n hx hb dL_law_193 rfl (lv_at hl 0 rfl) ?_
        refine lv_iload_n hx hb dL_law_194 rfl (lv_at hl 3 rfl) ?_
        refine lv_iconst (v := 1) hx hb dL_law_195 (by decide) ?_
        refine lv_iadd hx hb dL_law_196 ?_
        refine pf_top (nI (i + 1)) (nI_add i 1) ?_
        refine pf_sl (j := i + 1) hx hb hX hbl hbA hL.2.2.2.2.2 (pf_ixn (by omega) (by omega)) dL_law_197 ?_
        refine pf_lI [.int (xs (i + 1))] hf hK1 hL hA (k0_run l D a d oc fx fy fz fi ln (ce, sv, rg, pl, ct, ol, lS, lL, rd, wr, sr, tl, fl) (xs (i + 1)) n0 hi.1 hi.2.1 hi.2.2.2.1) (cwV 1 hf.2.2.2.2 (lw_V q120 q121 q122 q22 q123) rfl rfl rfl (by decide +kernel) ⟨Nat.le_of_ble_eq_true rfl, Nat.le_of_ble_eq_true rfl⟩) (ci := 0) (T := TX0) (N := 19) rfl rfl rfl hl.1 rfl (Nat.le_of_ble_eq_true rfl) dL_law_198 ⟨by decide, by decide⟩ (fun r198 u198 H locs hp198 hL => ?_)
        refine lv_aload_n hx hb dL_law_201 rfl (lv_at hl 2 rfl) ?_
        refine lv_aload_n hx hb dL_law_202 rfl (lv_at hl 0 rfl) ?_
        refine lv_iload_n hx hb dL_law_203 rfl (lv_at hl 3 rfl) ?_
        refine lv_iconst (v := 1) hx hb dL_law_204 (by decide) ?_
        refine lv_iadd hx hb dL_law_205 ?_
        refine pf_top (nI (i + 1)) (nI_add i 1) ?_
        refine pf_sl (j := i + 1) hx hb hX hbl hbA hL.2.2.2.2.2 (pf_ixn (by omega) (by omega)) dL_law_206 ?_
        refine pf_lI [.int (xs (i + 1))] hf hK2 (pf_L_swap hL) hA (k1_run l D a2 d2 mo mx my mz mc mr ml nn (xs (i + 1)) n0 hi.1 hi.2.2.1 hi.2.2.2.2.1) (cwV 1 hf.2.2.2.2 (lw_V q248 q249 q250 q23 q251) rfl rfl rfl (by decide +kernel) ⟨Nat.le_of_ble_eq_true rfl, Nat.le_of_ble_eq_true rfl⟩) (ci := 1) (T := TX1) (N := 8) rfl rfl rfl hl.1 rfl (Nat.le_of_ble_eq_true rfl) dL_law_207 ⟨by decide, by decide⟩ (fun r207 u207 H locs hp207 hL => ?_)
        have hL := pf_L_swap hL
        have heq := pf_inv_run hi hp198 hp207
        obtain ⟨n1, hi⟩ := heq.2
        obtain ⟨⟨ce1, sv1, rg1, pl1, ct1, ol1, lS1, lL1, rd1, wr1, sr1, tl1, fl1⟩, fi1⟩ := u198
        obtain ⟨mc1, mr1, ml1⟩ := u207
        have hL : pf_L D A s (wC a d ln oc fx fy fz ce1 sv1 fi1 rg1 pl1 ct1 ol1 lS1 lL1 rd1 wr1 sr1 tl1 fl1) (wM a2 d2 nn mo mx my mz mc1 mr1 ml1) H locs := hL
        refine lv_icmp_eq (tgt := 272) hx hb dL_law_210 (by decide) (fun c210 => ?_) (fun c210 => absurd heq.1 c210)
        refine lv_iinc (v := nI (i + 5)) (lv' := [(3, .int (nI (i + 5))), (0, .ref b), (1, .ref (a 0)), (2, .ref (a2 0))]) hx hb dL_law_272 hl (k := 3) rfl (nI_add i 5) (by decide) rfl (fun ls hl => ?_)
        refine lv_goto (tgt := 18) hx hb dL_law_275 (by decide) ?_
        exact ih (i + 5) n1 oc fx fy fz ce1 sv1 fi1 rg1 lS1 lL1 ln pl1 ct1 ol1 rd1 wr1 sr1 tl1 fl1 mo mx my mz mc1 mr1 ml1 nn _ _ ls (by omega) (by omega) hi hL (lv_sub hl [1, 2, 3, 0] rfl)
      · refine lv_tableIn (off := 183) (tgt := 215) hx hb dL_law_32 (by decide) (by decide) (by decide) (by decide) ?_
        refine lv_aload_n hx hb dL_law_215 rfl (lv_at hl 1 rfl) ?_
        refine lv_aload_n hx hb dL_law_216 rfl (lv_at hl 0 rfl) ?_
        refine lv_iload_n hx hb dL_law_217 rfl (lv_at hl 3 rfl) ?_
        refine lv_iconst (v := 1) hx hb dL_law_218 (by decide) ?_
        refine lv_iadd hx hb dL_law_219 ?_
        refine pf_top (nI (i + 1)) (nI_add i 1) ?_
        refine pf_sl (j := i + 1) hx hb hX hbl hbA hL.2.2.2.2.2 (pf_ixn (by omega) (by omega)) dL_law_220 ?_
        refine pf_lI [.int (xs (i + 1))] hf hK1 hL hA (k0_cell l D a d oc fx fy fz ce sv fi rg lS lL ln pl ct ol rd wr sr tl fl (xs (i + 1))) (cwV 1 hf.2.2.2.2 (lw_V q177 q178 q179 q22 q180) rfl rfl rfl (by decide +kernel) ⟨Nat.le_of_ble_eq_true rfl, Nat.le_of_ble_eq_true rfl⟩) (ci := 0) (T := TX0) (N := 19) rfl rfl rfl hl.1 rfl (Nat.le_of_ble_eq_true rfl) dL_law_221 ⟨by decide, by decide⟩ (fun r221 u221 H locs hp221 hL => ?_)
        refine lv_aload_n hx hb dL_law_224 rfl (lv_at hl 2 rfl) ?_
        refine lv_aload_n hx hb dL_law_225 rfl (lv_at hl 0 rfl) ?_
        refine lv_iload_n hx hb dL_law_226 rfl (lv_at hl 3 rfl) ?_
        refine lv_iconst (v := 1) hx hb dL_law_227 (by decide) ?_
        refine lv_iadd hx hb dL_law_228 ?_
        refine pf_top (nI (i + 1)) (nI_add i 1) ?_
        refine pf_sl (j := i + 1) hx hb hX hbl hbA hL.2.2.2.2.2 (pf_ixn (by omega) (by omega)) dL_law_229 ?_
        refine pf_lI [.int (xs (i + 1))] hf hK2 (pf_L_swap hL) hA (k1_cell l D a2 d2 mo mx my mz mc mr ml nn (xs (i + 1))) (cwV 1 hf.2.2.2.2 (lw_V q261 q262 q263 q23 q264) rfl rfl rfl (by decide +kernel) ⟨Nat.le_of_ble_eq_true rfl, Nat.le_of_ble_eq_true rfl⟩) (ci := 1) (T := TX1) (N := 8) rfl rfl rfl hl.1 rfl (Nat.le_of_ble_eq_true rfl) dL_law_230 ⟨by decide, by decide⟩ (fun r230 u230 H locs hp230 hL => ?_)
        have hL := pf_L_swap hL
        have heq : r221 = r230 ∧ True := ⟨pf_inv_at (t := 11) (n := 12) (by decide) hi.2.2.2.2.2.2.1 hp221 hp230, trivial⟩
        have hL : pf_L D A s (wC a d ln oc fx fy fz ce sv fi rg pl ct ol lS lL rd wr sr tl fl) (wM a2 d2 nn mo mx my mz mc mr ml) H locs := hL
        refine lv_icmp_eq (tgt := 272) hx hb dL_law_233 (by decide) (fun c233 => ?_) (fun c233 => absurd heq.1 c233)
        refine lv_iinc (v := nI (i + 5)) (lv' := [(3, .int (nI (i + 5))), (0, .ref b), (1, .ref (a 0)), (2, .ref (a2 0))]) hx hb dL_law_272 hl (k := 3) rfl (nI_add i 5) (by decide) rfl (fun ls hl => ?_)
        refine lv_goto (tgt := 18) hx hb dL_law_275 (by decide) ?_
        exact ih (i + 5) n0 oc fx fy fz ce sv fi rg lS lL ln pl ct ol rd wr sr tl fl mo mx my mz mc mr ml nn _ _ ls (by omega) (by omega) hi hL (lv_sub hl [1, 2, 3, 0] rfl)
      · refine lv_tableIn (off := 206) (tgt := 238) hx hb dL_law_32 (by decide) (by decide) (by decide) (by decide) ?_
        refine lv_aload_n hx hb dL_law_238 rfl (lv_at hl 1 rfl) ?_
        refine lv_aload_n hx hb dL_law_239 rfl (lv_at hl 0 rfl) ?_
        refine lv_iload_n hx hb dL_law_240 rfl (lv_at hl 3 rfl) ?_
        refine lv_iconst (v := 1) hx hb dL_law_241 (by decide) ?_
        refine lv_iadd hx hb dL_law_242 ?_
        refine pf_top (nI (i + 1)) (nI_add i 1) ?_
        refine pf_sl (j := i + 1) hx hb hX hbl hbA hL.2.2.2.2.2 (pf_ixn (by omega) (by omega)) dL_law_243 ?_
        refine pf_lI [.int (xs (i + 1))] hf hK1 hL hA (k0_register l D a d oc fx fy fz ce sv fi rg lS lL ln pl ct ol rd wr sr tl fl (xs (i + 1))) (cwV 1 hf.2.2.2.2 (lw_V q181 q182 q183 q22 q184) rfl rfl rfl (by decide +kernel) ⟨Nat.le_of_ble_eq_true rfl, Nat.le_of_ble_eq_true rfl⟩) (ci := 0) (T := TX0) (N := 19) rfl rfl rfl hl.1 rfl (Nat.le_of_ble_eq_true rfl) dL_law_244 ⟨by decide, by decide⟩ (fun r244 u244 H locs hp244 hL => ?_)
        refine lv_aload_n hx hb dL_law_247 rfl (lv_at hl 2 rfl) ?_
        refine lv_aload_n hx hb dL_law_248 rfl (lv_at hl 0 rfl) ?_
        refine lv_iload_n hx hb dL_law_249 rfl (lv_at hl 3 rfl) ?_
        refine lv_iconst (v := 1) hx hb dL_law_250 (by decide) ?_
        refine lv_iadd hx hb dL_law_251 ?_
        refine pf_top (nI (i + 1)) (nI_add i 1) ?_
        refine pf_sl (j := i + 1) hx hb hX hbl hbA hL.2.2.2.2.2 (pf_ixn (by omega) (by omega)) dL_law_252 ?_
        refine pf_lI [.int (xs (i + 1))] hf hK2 (pf_L_swap hL) hA (k1_register l D a2 d2 mo mx my mz mc mr ml nn (xs (i + 1))) (cwV 1 hf.2.2.2.2 (lw_V q265 q266 q267 q23 q268) rfl rfl rfl (by decide +kernel) ⟨Nat.le_of_ble_eq_true rfl, Nat.le_of_ble_eq_true rfl⟩) (ci := 1) (T := TX1) (N := 8) rfl rfl rfl hl.1 rfl (Nat.le_of_ble_eq_true rfl) dL_law_253 ⟨by decide, by decide⟩ (fun r253 u253 H locs hp253 hL => ?_)
        have hL := pf_L_swap hL
        have heq : r244 = r253 ∧ True := ⟨pf_inv_at (t := 3) (n := 4) (by decide) hi.2.2.2.2.2.2.2 hp244 hp253, trivial⟩
        have hL : pf_L D A s (wC a d ln oc fx fy fz ce sv fi rg pl ct ol lS lL rd wr sr tl fl) (wM a2 d2 nn mo mx my mz mc mr ml) H locs := hL
        refine lv_icmp_eq (tgt := 272) hx hb dL_law_256 (by decide) (fun c256 => ?_) (fun c256 => absurd heq.1 c256)
        refine lv_iinc (v := nI (i + 5)) (lv' := [(3, .int (nI (i + 5))), (0, .ref b), (1, .ref (a 0)), (2, .ref (a2 0))]) hx hb dL_law_272 hl (k := 3) rfl (nI_add i 5) (by decide) rfl (fun ls hl => ?_)
        refine lv_goto (tgt := 18) hx hb dL_law_275 (by decide) ?_
        exact ih (i + 5) n0 oc fx fy fz ce sv fi rg lS lL ln pl ct ol rd wr sr tl fl mo mx my mz mc mr ml nn _ _ ls (by omega) (by omega) hi hL (lv_sub hl [1, 2, 3, 0] rfl)
      · refine lv_tableIn (off := 229) (tgt := 261) hx hb dL_law_32 (by decide) (by decide) (by decide) (by decide) ?_
        refine lv_aload_n hx hb dL_law_261 rfl (lv_at hl 1 rfl) ?_
        refine pf_lV [] hf hK1 hL hA (k0_clear l D a d oc fx fy fz ce sv fi rg lS lL ln pl ct ol rd wr sr tl fl ) (cwV 0 hf.2.2.2.2 (lw_V q185 q186 q187 q22 q188) rfl rfl rfl (by decide +kernel) ⟨Nat.le_of_ble_eq_true rfl, Nat.le_of_ble_eq_true rfl⟩) (ci := 0) (T := TX0) (N := 19) rfl rfl rfl hl.1 rfl (Nat.le_of_ble_eq_true rfl) dL_law_262 ⟨by decide, by decide⟩ (fun u262 H locs hp262 hL => ?_)
        refine lv_aload_n hx hb dL_law_265 rfl (lv_at hl 2 rfl) ?_
        refine pf_lV [] hf hK2 (pf_L_swap hL) hA (k1_clear l D a2 d2 mo mx my mz mc mr ml nn ) (cwV 0 hf.2.2.2.2 (lw_V q269 q270 q271 q23 q272) rfl rfl rfl (by decide +kernel) ⟨Nat.le_of_ble_eq_true rfl, Nat.le_of_ble_eq_true rfl⟩) (ci := 1) (T := TX1) (N := 8) rfl rfl rfl hl.1 rfl (Nat.le_of_ble_eq_true rfl) dL_law_266 ⟨by decide, by decide⟩ (fun u266 H locs hp266 hL => ?_)
        have hL := pf_L_swap hL
        have hi := pf_inv_0 (oc := oc) (fx := fx) (fy := fy) (fz := fz) (mo := mo) (mx := mx) (my := my) (mz := mz) hp262.1 hp266.1 hp262.2 hp266.2
        have hL : pf_L D A s (wC a d 0 oc fx fy fz u262.1 sv u262.2 rg pl ct ol lS lL rd wr sr tl fl) (wM a2 d2 0 mo mx my mz u266.1 u266.2 ml) H locs := hL
        refine lv_goto (tgt := 272) hx hb dL_law_269 (by decide) ?_
        refine lv_iinc (v := nI (i + 5)) (lv' := [(3, .int (nI (i + 5))), (0, .ref b), (1, .ref (a 0)), (2, .ref (a2 0))]) hx hb dL_law_272 hl (k := 3) rfl (nI_add i 5) (by decide) rfl (fun ls hl => ?_)
        refine lv_goto (tgt := 18) hx hb dL_law_275 (by decide) ?_
        exact ih (i + 5) 0 oc fx fy fz u262.1 sv u262.2 rg lS lL 0 pl ct ol rd wr sr tl fl mo mx my mz u266.1 u266.2 ml 0 _ _ ls (by omega) (by omega) hi hL (lv_sub hl [1, 2, 3, 0] rfl)
end
section
set_option maxRecDepth 100000
set_option maxHeartbeats 8000000 in
theorem whole_start {p : Program} {e : Env} {s : State} {m : MethodId} {below : List Frame} {meth : Method} {c : Code} (l : Launch) {b L : Nat} {xs : Nat → Int32} (hL320 : L ≤ 320) (C0 : lw_At p s m meth c b L xs) : W p l e room_1 s m #[Value.ref b] below meth c s.heap [] 0 0 (lw_Z below #[Value.ref b] s) (entryFrame m ([Value.ref b] : List Value).toArray 4) := by
  obtain ⟨hx, hb, hr, hml, hown, hts0, hX, hbl, hlocks, hgv⟩ := id C0
  have hts : ∀ w ∈ lw_all, w.before #[Value.ref b] s = true := fun w h => hts0 w (lw_all_tbl h)
  have hf : CallFix p m c cL_law 4 s #[Value.ref b] lw_all R_law := ⟨hx, hb, hml, hown, hts⟩
  obtain ⟨A, hAe⟩ : ∃ A : Nat → Prop, A = fun q : Nat => s.heap.size ≤ q := ⟨_, rfl⟩
  have hA : ∀ q : Nat, s.heap.size ≤ q → A q := fun q h => by rw [hAe]; exact h
  have hA2 : ∀ q : Nat, A q → s.heap.size ≤ q := fun q h => by rw [hAe] at h; exact h
  have hbA : ¬ A b := fun h => absurd (hA2 _ h) (Nat.not_le.mpr hbl)
  obtain ⟨c0_, iS0, hKn0⟩ := u_known (C := RX0) (T := TX0) (N := 19) (n := 19) hts in_X0 (hts _ q25)
  obtain ⟨c1_, iS1, hKn1⟩ := u_known (C := RX1) (T := TX1) (N := 8) (n := 8) hts in_X1 (hts _ q190)
  obtain ⟨D, hKc⟩ : ∃ D : va_G, ∀ (k : Nat) (q : vw_C), vwCl[k]? = some q → u_Kn s q.1 q.2.1 q.2.2 (D.1 k) (D.2 k) := by
    refine ⟨(fun k => if k = 0 then c0_ else c1_, fun k => if k = 0 then iS0 else iS1), ?_⟩
    intro k q hq
    match k, hq with
    | 0, hq => cases hq; exact hKn0
    | 1, hq => cases hq; exact hKn1
    | k + 2, hq => simp [vwCl] at hq
  have hS : va_S A s.heap s.heap [] := va_S.rf
  have hK : va_K D vwCl [] s := ⟨hKc, fun k q h => by simp at h⟩
  have hP : va_P D vwCl [] s.heap := fun k q h => by simp at h
  have hD : va_D A [] := ⟨fun i j p q h => by simp at h, fun k q h => by simp at h⟩
  have hl := lv_entry ([.ref b]) (n := 4) (Nat.le_of_ble_eq_true rfl)
  rw [lg_entry_eq]
  generalize (lg_sl ([.ref b]) ++ List.replicate (4 - (lg_sl ([.ref b])).length) Slot.unset).toArray = ls at hl ⊢
  have hl : lv_has ls 4 [(0, .ref b)] := hl
  refine va_new (ci := 0) (fs := [.int 0, .null, .null, .null, .null, .null, .null, .null, .null, .int 0, .int 0, .int 0, .null, .null, .int 0, .int 0, .int 0, .int 0, .int 0]) (C := RX0) (T := TX0) (N := 19) hx hb hts in_X0 tyX0 tyX0_ok hown (hts _ q24) (hts _ q25) (hts _ q22) hK hP hD hS hA rfl (fun j hj => by rcases (show j = 0 ∨ j = 1 ∨ j = 2 ∨ j = 3 ∨ j = 4 ∨ j = 5 ∨ j = 6 ∨ j = 7 ∨ j = 8 ∨ j = 9 ∨ j = 10 ∨ j = 11 ∨ j = 12 ∨ j = 13 ∨ j = 14 ∨ j = 15 ∨ j = 16 ∨ j = 17 ∨ j = 18 by omega) with rfl | rfl | rfl | rfl | rfl | rfl | rfl | rfl | rfl | rfl | rfl | rfl | rfl | rfl | rfl | rfl | rfl | rfl | rfl <;> rfl) (Nat.le_of_ble_eq_true rfl) (Nat.le_of_ble_eq_true rfl) dL_law_0 (fun h0 H hP hD hS => ?_)
  refine W.widen (k := 1) (n := 19) (by decide) (by decide) ?_
  have hL : pf_L D A s [(h0, .inr (0, [.int 0, .null, .null, .null, .null, .null, .null, .null, .null, .int 0, .int 0, .int 0, .null, .null, .int 0, .int 0, .int 0, .int 0, .int 0]))] [] H [] := pf_L_of (by rw [List.append_nil]; exact hP) (by rw [List.append_nil]; exact hD) hS
  refine lv_dup hx hb dL_law_3 rfl ?_
  refine pf_LrunV (tf := fun u : (Nat → Nat) × (Nat → ClassId) => tyC u.2) (Wf := fun u => wC u.1 u.2 0 (fun _ => 0) (fun _ => 0) (fun _ => 0) (fun _ => 0) (fun _ => 0) (fun _ => 0) (fun _ => 0) (fun _ => 0) 0 0 0 (fun _ => 0) (fun _ => 0) 0 0 0 0 0) (va_runI (As := []) (rest := [.ref h0]) hf (k0_init l D h0 H.size) (cwI 0 hts (lw_meth q28) rfl rfl rfl (hts _ q22) (hts _ q26) (hts _ q27) rfl (by decide +kernel) ⟨Nat.le_of_ble_eq_true rfl, Nat.le_of_ble_eq_true rfl⟩) ⟨fun a U g mk q => by obtain ⟨q0, q1, qP, qK, qD⟩ := q; exact ⟨q0, q1, qP, va_K.moved (u := U) (U := U.calling g mk a) (Vm.Alike.refl U.vm) qK, qD⟩, fun U hU hW => ⟨rfl, by rw [hU], by rw [hU]; exact hL.1, va_K.moved hW.alike hK, hL.2.2.1.weaken (fun _ _ _ _ => trivial)⟩⟩ rfl rfl hl.1 rfl (lv_room (Nat.le_of_ble_eq_true rfl)) dL_law_4 ⟨Nat.le_of_ble_eq_true rfl, Nat.le_of_ble_eq_true rfl⟩) hL hA (fun u H locs hu hLn hK1 => ?_)
  obtain ⟨a, d⟩ := u
  obtain rfl : a 0 = h0 := hu
  have hL : pf_L D A s (wC a d 0 (fun _ => 0) (fun _ => 0) (fun _ => 0) (fun _ => 0) (fun _ => 0) (fun _ => 0) (fun _ => 0) (fun _ => 0) 0 0 0 (fun _ => 0) (fun _ => 0) 0 0 0 0 0) [] H locs := hLn
  have hK1 : va_K D vwCl (tyC d) s := hK1
  refine W.widen (k := 11) (n := 187) (by decide) (by decide) ?_
  refine lv_astore_n (lv' := [(1, .ref (a 0)), (0, .ref b)]) hx hb dL_law_7 rfl hl (by decide) rfl (fun ls hl => ?_)
  refine va_new (ci := 1) (fs := [.int 0, .null, .null, .null, .null, .null, .null, .null]) (C := RX1) (T := TX1) (N := 8) hx hb hts in_X1 tyX1 tyX1_ok hown (hts _ q189) (hts _ q190) (hts _ q23) hK hL.1 hL.2.2.1 hL.2.2.2.2.2 hA rfl (fun j hj => by rcases (show j = 0 ∨ j = 1 ∨ j = 2 ∨ j = 3 ∨ j = 4 ∨ j = 5 ∨ j = 6 ∨ j = 7 by omega) with rfl | rfl | rfl | rfl | rfl | rfl | rfl | rfl <;> rfl) (Nat.le_of_ble_eq_true rfl) (Nat.le_of_ble_eq_true rfl) dL_law_8 (fun h1 H hP hD hS => ?_)
  refine W.widen (k := 12) (n := 195) (by decide) (by decide) ?_
  have hL := pf_L_swap (pf_L_of (w1 := wC a d 0 (fun _ => 0) (fun _ => 0) (fun _ => 0) (fun _ => 0) (fun _ => 0) (fun _ => 0) (fun _ => 0) (fun _ => 0) 0 0 0 (fun _ => 0) (fun _ => 0) 0 0 0 0 0) (w2 := [(h1, .inr (1, [.int 0, .null, .null, .null, .null, .null, .null, .null]))]) hP hD hS)
  refine lv_dup hx hb dL_law_11 rfl ?_
  refine pf_LrunV (tf := fun u : (Nat → Nat) × (Nat → ClassId) => tyM u.2) (Wf := fun u => wM u.1 u.2 0 (fun _ => 0) (fun _ => 0) (fun _ => 0) (fun _ => 0) (fun _ => 0) (fun _ => 0) (fun _ => 0)) (va_runI (As := []) (rest := [.ref h1]) hf (k1_init l D h1 H.size) (cwI 0 hts (lw_meth q193) rfl rfl rfl (hts _ q23) (hts _ q191) (hts _ q192) rfl (by decide +kernel) ⟨Nat.le_of_ble_eq_true rfl, Nat.le_of_ble_eq_true rfl⟩) ⟨fun a U g mk q => by obtain ⟨q0, q1, qP, qK, qD⟩ := q; exact ⟨q0, q1, qP, va_K.moved (u := U) (U := U.calling g mk a) (Vm.Alike.refl U.vm) qK, qD⟩, fun U hU hW => ⟨rfl, by rw [hU], by rw [hU]; exact hL.1, va_K.moved hW.alike hK, hL.2.2.1.weaken (fun _ _ _ _ => trivial)⟩⟩ rfl rfl hl.1 rfl (lv_room (Nat.le_of_ble_eq_true rfl)) dL_law_12 ⟨Nat.le_of_ble_eq_true rfl, Nat.le_of_ble_eq_true rfl⟩) hL hA (fun u H locs hu hLm hK2 => ?_)
  obtain ⟨a2, d2⟩ := u
  obtain rfl : a2 0 = h1 := hu
  have hL := pf_L_swap hLm
  have hK2 : va_K D vwCl (tyM d2) s := hK2
  refine W.widen (k := 19) (n := 361) (by decide) (by decide) ?_
  refine lv_astore_n (lv' := [(2, .ref (a2 0)), (1, .ref (a 0)), (0, .ref b)]) hx hb dL_law_15 rfl hl (by decide) rfl (fun ls hl => ?_)
  refine lv_iconst (v := 0) hx hb dL_law_16 (by decide) ?_
  refine lv_istore_n (lv' := [(3, .int 0), (2, .ref (a2 0)), (1, .ref (a 0)), (0, .ref b)]) hx hb dL_law_17 rfl hl (by decide) rfl (fun ls hl => ?_)
  exact pf_loop hL320 hf hr hlocks hX hbl hbA hA hA2 hK1 hK2 (L + 1) 0 0 (fun _ => 0) (fun _ => 0) (fun _ => 0) (fun _ => 0) (fun _ => 0) (fun _ => 0) (fun _ => 0) (fun _ => 0) (fun _ => 0) (fun _ => 0) 0 0 0 0 0 0 0 0 0 (fun _ => 0) (fun _ => 0) (fun _ => 0) (fun _ => 0) (fun _ => 0) (fun _ => 0) (fun _ => 0) 0 H locs ls (by omega) (by omega) (pf_inv_0 (fun _ _ => rfl) (fun _ _ => rfl) (fun _ _ => rfl) (fun _ _ => rfl)) hL (lv_sub hl [3, 2, 1, 0] rfl)
end
section
set_option maxHeartbeats 4000000 in
theorem lw_walk (l : Launch) (b : Addr) (xs : List Int32) : MetFree l x (headSpec (Jvm.Cond.code x code maxLocals ret :: tables_1) room_1) (lw_P b xs) (fun _ _ _ _ _ => True) lw_Q := by
  refine MetFree.of_bodyS (code := code) (maxLocals := maxLocals) (ret := ret) (by decide) ?_ ?_
  · intro args s m h hn
    obtain ⟨meth, c, h1, h2, h3, h4, h5, h6, -, -⟩ := Cond.code_spec hn (atoms_spec (ws := Jvm.Cond.code x code maxLocals ret :: tables_1) h _ List.mem_cons_self)
    exact ⟨meth, c, h1, h2, h3, h4, h5, h6⟩
  · intro p e s m args below meth c s₁ B hml0 hP _
    obtain ⟨rfl, hx, hbd, hgv⟩ := hP
    obtain ⟨scr, harrAt, hlist, hof, hsmall⟩ := hx
    obtain ⟨hcb, hkn, -, -⟩ := State.arrayAt?_spec harrAt
    have hown : s.vm.findClass R_law = some m.cls := findClass_of_methodNamed B.named
    have hts0 : ∀ c ∈ (Jvm.Cond.code x code maxLocals ret :: tables_1), c.before #[Value.ref b] s = true := atoms_spec (ws := Jvm.Cond.code x code maxLocals ret :: tables_1) B.pre
    have hts : ∀ w ∈ lw_tbl, w.before #[Value.ref b] s = true := k2_hts_sels lw_privs (fun w hw => hts0 w (List.mem_cons_of_mem _ hw)) lw_privs_ok
    have hml : c.maxLocals = 4 := B.maxLocals_eq (hts0 _ List.mem_cons_self)
    have X₀ : Stand p l e room_1 s m #[Value.ref b] below meth c s₁ [] 0 0 := Stand.of_body B
    have hh0 : s₁.heap = s.heap := by rw [B.state]; rfl
    have hsz : scr.slots.size = xs.length := by rw [← Array.length_toList, hlist, List.length_map]
    have hval : ∀ j : Nat, j < xs.length → scr.slots[j]? = some (.int (xs.getD j 0)) := fun j hj => by
      rw [← Array.getElem?_toList, hlist]
      simp [hj]
    have hbl : b < s.heap.size := (Array.getElem?_eq_some_iff.mp hcb).1
    have hX : va_X b xs.length (fun j => xs.getD j 0) s s.heap := ⟨scr, hcb, hof, hkn, hsz, hval⟩
    have K : W p l e room_1 s m #[Value.ref b] below meth c s₁.heap [] 0 0 (lw_Z below #[Value.ref b] s) (entryFrame m ([Value.ref b] : List Value).toArray 4) := by
      rw [hh0]
      exact whole_start l hbd ⟨B.exec, B.bytes, B.returns, hml, hown, hts, hX, hbl, B.notSynchronized, hgv⟩
    obtain ⟨t, a1, o, b1, b2, b3⟩ := K s₁ rfl X₀
    exact ⟨t, o, a1, b1, b2, b3⟩
theorem lw_pre_spec {args : Array Value} {s : State} (h : (Jvm.Cond.and given_1 narrow_1).before args s = true) (hr : rest_1_c.before args s = true) : ∃ (b : Addr) (xs : List Int32), lw_P b xs args s := by
  have hs := flat_of_before _ h
  have hq := flat_of_before _ hr
  have hc : (Cond.count 1).before args s = true := hs _ (by decide +kernel)
  have harr : (Cond.arrayOf (.arg 0) .int).before args s = true := hs _ (by decide +kernel)
  have hle : (Cond.le (.length (.arg 0)) (.int 320)).before args s = true := hs _ (by decide +kernel)
  have hlen : (Cond.isInt (.length (.arg 0))).before args s = true := hq _ (by decide +kernel)
  have hall : (Cond.all (.arg 0) (.isInt (.elem (.arg 0) (.index 0)))).before args s = true := hq _ (by decide +kernel)
  obtain ⟨b, xs, hb, hx⟩ := State.ints_of_pre rfl harr hlen hall
  have hsm : xs.length < 2 ^ 31 := hx.choose_spec.2.2.2
  have hev : (Term.length (.arg 0)).eval args s none [] s = some (.int xs.length.toInt32) := hx.length_eval hb
  have hv := Cond.le_ints hev (show (Term.int 320).eval args s none [] s = some (.int 320) from rfl)
  have hd : xs.length.toInt32 ≤ 320 := by
    simpa [Cond.before, Cond.holds, hv] using hle
  have hN : xs.length ≤ 320 := (Int32.ofNat_le_ofNat hsm (by decide)).mp (show Int32.ofNat xs.length ≤ Int32.ofNat 320 from hd)
  exact ⟨b, xs, Cond.one_arg hc (show args[0]? = some (.ref b) from hb), hx, hN, h⟩
theorem lw_comes (l : Launch) : Comes l x (Jvm.Cond.code x code maxLocals ret :: tables_1) room_1 (fun tb e args s => Calls_1 tb e args s ∧ rest_1 tb e args s ∧ Pre_1 tb e args s)
    (fun _ _ args s o t => lw_Q args s o t) := by
  intro p e ha hc hk s m args below hf hfit hheap happ hpre
  obtain ⟨b, xs, hP⟩ := lw_pre_spec hpre.2.2 hpre.2.1
  obtain ⟨k, o, h1, h2, h3, hQ⟩ := lw_walk l b xs p e ha hc hk s m args below hf ((Spec.applies_iff_loose hf).mp happ).1 hP trivial
  exact ⟨k, o, h1, h2, h3, hQ⟩
theorem lw_frame {s t : State} {o : Outcome} {args : Array Value} (h : Framed s o t [] 600000 7290000) :
    Framed s o t (fieldLocs frame_1_writes args s ++ arrayLocs frame_1_arrays args s ++ staticLocs frame_1_statics s) 600000 7290000 := h
theorem lw_limb (L : Cond) (hL : ∀ (args : Array Value) (s t : State), L.after args s (.returned (some (.int 1))) t = true) :
    ArmFor flags0 classFile x code maxLocals ret World_1 tables_1 room_1 Calls_1 rest_1 Pre_1
      (fun tb e a s o t => postC L tb e a s o t ∧ Framed s o t (fieldLocs frame_1_writes a s ++ arrayLocs frame_1_arrays a s ++ staticLocs frame_1_statics s) 600000 7290000) := by
  intro l _ _ _ p e ha hc hk s m args below hf hfit hheap happ hpre
  obtain ⟨k, o, h1, h2, h3, rfl, hF⟩ := lw_comes l p e ha hc hk s m args below hf hfit hheap happ hpre
  exact ⟨k, _, h1, h2, h3, hL args s _, lw_frame hF⟩
theorem i_vc : Claimed_1_1 ∧ Claimed_1_2 := ⟨lw_limb limb_1_1 (fun args s t => by simp [limb_1_1, Cond.after, Cond.holds, Cond.value]), lw_limb limb_1_2 (fun args s t => Cond.after_iff.mpr (by
  first | (rw [show limb_1_2 = Cond.eq .result (.int 1) from rfl, Cond.eq_ints (x := 1) (y := 1) rfl rfl]; simp; done) | (simp [limb_1_2, Cond.value, Term.eval]; done)))⟩
end
