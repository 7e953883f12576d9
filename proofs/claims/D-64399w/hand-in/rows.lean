section
/-- a private method of a class that the tables say can be made, by its rows of tables_1 -/
def lw_okq (q : MethodName × Nat) : Prop := (q.1.cls ≠ "java/lang/invoke/MethodHandle" ∧ q.1.cls ≠ "java/lang/invoke/VarHandle") ∧ Cond.instantiable q.1.cls q.2 ∈ tables_1 ∧ Cond.privateMethod q.1 ∈ tables_1 ∧ Cond.instanceMethod q.1 ∈ tables_1
set_option maxRecDepth 100000
theorem lw_t1 {w : Cond} (h : w ∈ tables_1_1) : w ∈ tables_1 := List.mem_append_left _ h
theorem lw_t2 {w : Cond} (h : w ∈ tables_1_2) : w ∈ tables_1 := List.mem_append_right _ h
theorem lw_p0 : lw_okq (⟨"GuardedCommands", "close", "()I"⟩, 4) := ⟨⟨by decide +kernel, by decide +kernel⟩, lw_t1 (List.mem_of_getElem? (i := 4) rfl), lw_t1 (List.mem_of_getElem? (i := 49) rfl), lw_t1 (List.mem_of_getElem? (i := 50) rfl)⟩
theorem lw_p1 : lw_okq (⟨"GuardedCommands", "isGood", "(I)Z"⟩, 4) := ⟨⟨by decide +kernel, by decide +kernel⟩, lw_t1 (List.mem_of_getElem? (i := 4) rfl), lw_t1 (List.mem_of_getElem? (i := 65) rfl), lw_t1 (List.mem_of_getElem? (i := 66) rfl)⟩
theorem lw_p2 : lw_okq (⟨"GuardedCommands", "imageOf", "(IJ)J"⟩, 4) := ⟨⟨by decide +kernel, by decide +kernel⟩, lw_t1 (List.mem_of_getElem? (i := 4) rfl), lw_t1 (List.mem_of_getElem? (i := 69) rfl), lw_t1 (List.mem_of_getElem? (i := 70) rfl)⟩
theorem lw_p3 : lw_okq (⟨"GuardedCommands", "step", "(III)J"⟩, 4) := ⟨⟨by decide +kernel, by decide +kernel⟩, lw_t1 (List.mem_of_getElem? (i := 4) rfl), lw_t1 (List.mem_of_getElem? (i := 80) rfl), lw_t1 (List.mem_of_getElem? (i := 81) rfl)⟩
theorem lw_p4 : lw_okq (⟨"GuardedCommands", "reached", "(III)J"⟩, 4) := ⟨⟨by decide +kernel, by decide +kernel⟩, lw_t1 (List.mem_of_getElem? (i := 4) rfl), lw_t1 (List.mem_of_getElem? (i := 88) rfl), lw_t1 (List.mem_of_getElem? (i := 89) rfl)⟩
theorem lw_p5 : lw_okq (⟨"GuardedCommands", "loopSure", "(IIJ)J"⟩, 4) := ⟨⟨by decide +kernel, by decide +kernel⟩, lw_t1 (List.mem_of_getElem? (i := 4) rfl), lw_t1 (List.mem_of_getElem? (i := 92) rfl), lw_t1 (List.mem_of_getElem? (i := 93) rfl)⟩
theorem lw_p6 : lw_okq (⟨"GuardedCommands", "weakOf", "(IJ)J"⟩, 4) := ⟨⟨by decide +kernel, by decide +kernel⟩, lw_t1 (List.mem_of_getElem? (i := 4) rfl), lw_t1 (List.mem_of_getElem? (i := 112) rfl), lw_t1 (List.mem_of_getElem? (i := 113) rfl)⟩
theorem lw_p7 : lw_okq (⟨"GuardedCommandsModel", "keep", "(IJ)I"⟩, 5) := ⟨⟨by decide +kernel, by decide +kernel⟩, lw_t1 (List.mem_of_getElem? (i := 136) rfl), lw_t1 (List.mem_of_getElem? (i := 162) rfl), lw_t1 (List.mem_of_getElem? (i := 163) rfl)⟩
theorem lw_p8 : lw_okq (⟨"GuardedCommandsModel", "size", "(J)I"⟩, 5) := ⟨⟨by decide +kernel, by decide +kernel⟩, lw_t1 (List.mem_of_getElem? (i := 136) rfl), lw_t1 (List.mem_of_getElem? (i := 166) rfl), lw_t1 (List.mem_of_getElem? (i := 167) rfl)⟩
theorem lw_p9 : lw_okq (⟨"GuardedCommandsModel", "in", "(JI)Z"⟩, 5) := ⟨⟨by decide +kernel, by decide +kernel⟩, lw_t1 (List.mem_of_getElem? (i := 136) rfl), lw_t1 (List.mem_of_getElem? (i := 170) rfl), lw_t1 (List.mem_of_getElem? (i := 171) rfl)⟩
theorem lw_p10 : lw_okq (⟨"GuardedCommandsModel", "worth", "(II)I"⟩, 5) := ⟨⟨by decide +kernel, by decide +kernel⟩, lw_t1 (List.mem_of_getElem? (i := 136) rfl), lw_t1 (List.mem_of_getElem? (i := 178) rfl), lw_t1 (List.mem_of_getElem? (i := 179) rfl)⟩
theorem lw_p11 : lw_okq (⟨"GuardedCommandsModel", "plain", "(Z)I"⟩, 5) := ⟨⟨by decide +kernel, by decide +kernel⟩, lw_t1 (List.mem_of_getElem? (i := 136) rfl), lw_t1 (List.mem_of_getElem? (i := 191) rfl), lw_t1 (List.mem_of_getElem? (i := 192) rfl)⟩
theorem lw_p12 : lw_okq (⟨"GuardedCommandsModel", "full", "()Z"⟩, 5) := ⟨⟨by decide +kernel, by decide +kernel⟩, lw_t1 (List.mem_of_getElem? (i := 136) rfl), lw_t1 (List.mem_of_getElem? (i := 195) rfl), lw_t1 (List.mem_of_getElem? (i := 196) rfl)⟩
theorem lw_p13 : lw_okq (⟨"GuardedCommandsModel", "bad", "(I)Z"⟩, 5) := ⟨⟨by decide +kernel, by decide +kernel⟩, lw_t1 (List.mem_of_getElem? (i := 136) rfl), lw_t1 (List.mem_of_getElem? (i := 211) rfl), lw_t1 (List.mem_of_getElem? (i := 212) rfl)⟩
theorem lw_p14 : lw_okq (⟨"GuardedCommandsModel", "from", "(IJ)J"⟩, 5) := ⟨⟨by decide +kernel, by decide +kernel⟩, lw_t1 (List.mem_of_getElem? (i := 136) rfl), lw_t1 (List.mem_of_getElem? (i := 215) rfl), lw_t1 (List.mem_of_getElem? (i := 216) rfl)⟩
theorem lw_p15 : lw_okq (⟨"GuardedCommandsModel", "part", "(JJ)Z"⟩, 5) := ⟨⟨by decide +kernel, by decide +kernel⟩, lw_t1 (List.mem_of_getElem? (i := 136) rfl), lw_t1 (List.mem_of_getElem? (i := 219) rfl), lw_t1 (List.mem_of_getElem? (i := 220) rfl)⟩
def lw_privs_1 : List (MethodName × Nat) := [(⟨"GuardedCommands", "close", "()I"⟩, 4), (⟨"GuardedCommands", "isGood", "(I)Z"⟩, 4), (⟨"GuardedCommands", "imageOf", "(IJ)J"⟩, 4), (⟨"GuardedCommands", "step", "(III)J"⟩, 4), (⟨"GuardedCommands", "reached", "(III)J"⟩, 4), (⟨"GuardedCommands", "loopSure", "(IIJ)J"⟩, 4), (⟨"GuardedCommands", "weakOf", "(IJ)J"⟩, 4), (⟨"GuardedCommandsModel", "keep", "(IJ)I"⟩, 5), (⟨"GuardedCommandsModel", "size", "(J)I"⟩, 5), (⟨"GuardedCommandsModel", "in", "(JI)Z"⟩, 5), (⟨"GuardedCommandsModel", "worth", "(II)I"⟩, 5), (⟨"GuardedCommandsModel", "plain", "(Z)I"⟩, 5), (⟨"GuardedCommandsModel", "full", "()Z"⟩, 5), (⟨"GuardedCommandsModel", "bad", "(I)Z"⟩, 5), (⟨"GuardedCommandsModel", "from", "(IJ)J"⟩, 5), (⟨"GuardedCommandsModel", "part", "(JJ)Z"⟩, 5)]
theorem lw_r1 : ∀ q ∈ lw_privs_1, lw_okq q := List.forall_mem_cons.mpr ⟨lw_p0, List.forall_mem_cons.mpr ⟨lw_p1, List.forall_mem_cons.mpr ⟨lw_p2, List.forall_mem_cons.mpr ⟨lw_p3, List.forall_mem_cons.mpr ⟨lw_p4, List.forall_mem_cons.mpr ⟨lw_p5, List.forall_mem_cons.mpr ⟨lw_p6, List.forall_mem_cons.mpr ⟨lw_p7, List.forall_mem_cons.mpr ⟨lw_p8, List.forall_mem_cons.mpr ⟨lw_p9, List.forall_mem_cons.mpr ⟨lw_p10, List.forall_mem_cons.mpr ⟨lw_p11, List.forall_mem_cons.mpr ⟨lw_p12, List.forall_mem_cons.mpr ⟨lw_p13, List.forall_mem_cons.mpr ⟨lw_p14, List.forall_mem_cons.mpr ⟨lw_p15, fun _ h => absurd h List.not_mem_nil⟩⟩⟩⟩⟩⟩⟩⟩⟩⟩⟩⟩⟩⟩⟩⟩
theorem lw_p16 : lw_okq (⟨"GuardedCommandsModel", "step", "(III)J"⟩, 5) := ⟨⟨by decide +kernel, by decide +kernel⟩, lw_t1 (List.mem_of_getElem? (i := 136) rfl), lw_t1 (List.mem_of_getElem? (i := 227) rfl), lw_t1 (List.mem_of_getElem? (i := 228) rfl)⟩
theorem lw_p17 : lw_okq (⟨"GuardedCommandsModel", "good", "(III)Z"⟩, 5) := ⟨⟨by decide +kernel, by decide +kernel⟩, lw_t1 (List.mem_of_getElem? (i := 136) rfl), lw_t1 (List.mem_of_getElem? (i := 231) rfl), lw_t1 (List.mem_of_getElem? (i := 232) rfl)⟩
theorem lw_p18 : lw_okq (⟨"GuardedCommandsModel", "met", "(III)J"⟩, 5) := ⟨⟨by decide +kernel, by decide +kernel⟩, lw_t1 (List.mem_of_getElem? (i := 136) rfl), lw_t1 (List.mem_of_getElem? (i := 239) rfl), lw_t2 (List.mem_of_getElem? (i := 0) rfl)⟩
theorem lw_p19 : lw_okq (⟨"GuardedCommandsModel", "resting", "(II)J"⟩, 5) := ⟨⟨by decide +kernel, by decide +kernel⟩, lw_t1 (List.mem_of_getElem? (i := 136) rfl), lw_t2 (List.mem_of_getElem? (i := 3) rfl), lw_t2 (List.mem_of_getElem? (i := 4) rfl)⟩
theorem lw_p20 : lw_okq (⟨"GuardedCommandsModel", "weak", "(IJ)J"⟩, 5) := ⟨⟨by decide +kernel, by decide +kernel⟩, lw_t1 (List.mem_of_getElem? (i := 136) rfl), lw_t2 (List.mem_of_getElem? (i := 23) rfl), lw_t2 (List.mem_of_getElem? (i := 24) rfl)⟩
def lw_privs_2 : List (MethodName × Nat) := [(⟨"GuardedCommandsModel", "step", "(III)J"⟩, 5), (⟨"GuardedCommandsModel", "good", "(III)Z"⟩, 5), (⟨"GuardedCommandsModel", "met", "(III)J"⟩, 5), (⟨"GuardedCommandsModel", "resting", "(II)J"⟩, 5), (⟨"GuardedCommandsModel", "weak", "(IJ)J"⟩, 5)]
theorem lw_r2 : ∀ q ∈ lw_privs_2, lw_okq q := List.forall_mem_cons.mpr ⟨lw_p16, List.forall_mem_cons.mpr ⟨lw_p17, List.forall_mem_cons.mpr ⟨lw_p18, List.forall_mem_cons.mpr ⟨lw_p19, List.forall_mem_cons.mpr ⟨lw_p20, fun _ h => absurd h List.not_mem_nil⟩⟩⟩⟩⟩
def lw_privs : List (MethodName × Nat) := lw_privs_1 ++ (lw_privs_2)
def lw_tbl : List Cond := k2_sels lw_privs ++ tables_1
theorem lw_privs_ok : ∀ q ∈ lw_privs, lw_okq q := by
  show ∀ q ∈ lw_privs_1 ++ (lw_privs_2), lw_okq q
  exact List.forall_mem_append.mpr ⟨lw_r1, lw_r2⟩
-- ===== ONE list of words for every method: the tables' words that hold all through a run =====
def lw_all : List Cond := lw_tbl.filter goodWord
/-- a word of the tables by its place: claim/WORDS.tsv -/
theorem lw_w {w : Cond} (i : Nat) (h : lw_tbl[i]? = some w) (g : goodWord w = true) : w ∈ lw_all := List.mem_filter.mpr ⟨List.mem_of_getElem? h, g⟩
theorem lw_all_tbl {w : Cond} (h : w ∈ lw_all) : w ∈ lw_tbl := (List.mem_filter.mp h).1
theorem lw_self : GoodIn lw_all lw_all := fun w h => ⟨h, good_of_word (List.mem_filter.mp h).2⟩
/-- a class's field words, by their places -/
theorem lw_in (ws : List Cond) (ps : List Nat) (hp : ws = ps.filterMap (fun i => lw_tbl[i]?)) (hg : ws.all goodWord = true) : ∀ w ∈ ws, w ∈ lw_all := by
  intro w h
  have h1 := List.all_eq_true.mp hg w h
  rw [hp] at h
  obtain ⟨i, -, hi⟩ := List.mem_filterMap.mp h
  exact lw_w i hi h1
/-- the words of a contract for the method y with code b, L locals, answer r -/
abbrev ws_ (y : MethodName) (b : ByteArray) (L : Nat) (r : Option FieldType) : List Cond := Cond.code y b L r :: lw_all
theorem lw_meth {y : MethodName} {b : ByteArray} {L : Nat} {r : Option FieldType} (h : Cond.code y b L r ∈ lw_all) : GoodIn lw_all (ws_ y b L r) := by
  intro w hw
  rcases List.mem_cons.mp hw with e | e
  · rw [e]
    exact lw_self _ h
  · exact lw_self _ e
theorem lw_app {a c : List Cond} (ha : ∀ w ∈ a, w ∈ lw_all) (hc : GoodIn lw_all c) : GoodIn lw_all (a ++ c) := by
  intro w hw
  rcases List.mem_append.mp hw with e | e
  · exact lw_self w (ha w e)
  · exact hc w e
/-- what a call through an object asks: cwV n hts (lw_V ..) -/
theorem lw_V {own : String} {idx : Nat} {C : String} {y : MethodName} {b : ByteArray} {L : Nat} {r : Option FieldType} (h1 : Cond.methodLink own idx y ∈ lw_all) (h2 : Cond.instanceMethod y ∈ lw_all) (h3 : Cond.selects C y y ∈ lw_all) (h4 : Cond.initialized C ∈ lw_all) (h5 : Cond.code y b L r ∈ lw_all) : GoodIn lw_all (wsV own idx C y (ws_ y b L r)) := by
  refine lw_app ?_ (lw_meth h5)
  intro w hw
  simp only [List.mem_cons, List.not_mem_nil, or_false] at hw
  rcases hw with e | e | e | e
  · rw [e]; exact h1
  · rw [e]; exact h2
  · rw [e]; exact h3
  · rw [e]; exact h4
/-- what a static call asks: va_cwS n hts (lw_S ..) -/
theorem lw_S {own : String} {idx : Nat} {y : MethodName} {b : ByteArray} {L : Nat} {r : Option FieldType} (h1 : Cond.methodLink own idx y ∈ lw_all) (h2 : Cond.static y ∈ lw_all) (h3 : Cond.initialized y.cls ∈ lw_all) (h4 : Cond.code y b L r ∈ lw_all) : GoodIn lw_all (va_wsS own idx y (ws_ y b L r)) := by
  refine lw_app ?_ (lw_meth h4)
  intro w hw
  simp only [List.mem_cons, List.not_mem_nil, or_false] at hw
  rcases hw with e | e | e
  · rw [e]; exact h1
  · rw [e]; exact h2
  · rw [e]; exact h3
/-- the words of a contract for a method WITH HANDLERS (hh: its table) -/
abbrev wsW_ (y : MethodName) (b : ByteArray) (L : Nat) (r : Option FieldType) (hh : List (Nat × Nat × Nat × Nat)) : List Cond := Cond.codeWith y b L r hh :: lw_all
theorem lw_methW {y : MethodName} {b : ByteArray} {L : Nat} {r : Option FieldType} {hh : List (Nat × Nat × Nat × Nat)} (h : Cond.codeWith y b L r hh ∈ lw_all) : GoodIn lw_all (wsW_ y b L r hh) := by
  intro w hw
  rcases List.mem_cons.mp hw with e | e
  · rw [e]
    exact lw_self _ h
  · exact lw_self _ e
/-- any list of words by their places (lw_in), good -/
theorem lw_good {ws : List Cond} (h : ∀ w ∈ ws, w ∈ lw_all) : GoodIn lw_all ws := fun w hw => lw_self w (h w hw)
/-- what a call of a method with handlers asks: vx_cwVW n hts (lw_VW ..), vx_cwSW n hts (lw_SW ..) -/
theorem lw_VW {own : String} {idx : Nat} {C : String} {y : MethodName} {b : ByteArray} {L : Nat} {r : Option FieldType} {hh : List (Nat × Nat × Nat × Nat)} (h1 : Cond.methodLink own idx y ∈ lw_all) (h2 : Cond.instanceMethod y ∈ lw_all) (h3 : Cond.selects C y y ∈ lw_all) (h4 : Cond.initialized C ∈ lw_all) (h5 : Cond.codeWith y b L r hh ∈ lw_all) : GoodIn lw_all (wsV own idx C y (wsW_ y b L r hh)) := by
  refine lw_app ?_ (lw_methW h5)
  intro w hw
  simp only [List.mem_cons, List.not_mem_nil, or_false] at hw
  rcases hw with e | e | e | e
  · rw [e]; exact h1
  · rw [e]; exact h2
  · rw [e]; exact h3
  · rw [e]; exact h4
theorem lw_SW {own : String} {idx : Nat} {y : MethodName} {b : ByteArray} {L : Nat} {r : Option FieldType} {hh : List (Nat × Nat × Nat × Nat)} (h1 : Cond.methodLink own idx y ∈ lw_all) (h2 : Cond.static y ∈ lw_all) (h3 : Cond.initialized y.cls ∈ lw_all) (h4 : Cond.codeWith y b L r hh ∈ lw_all) : GoodIn lw_all (va_wsS own idx y (wsW_ y b L r hh)) := by
  refine lw_app ?_ (lw_methW h4)
  intro w hw
  simp only [List.mem_cons, List.not_mem_nil, or_false] at hw
  rcases hw with e | e | e
  · rw [e]; exact h1
  · rw [e]; exact h2
  · rw [e]; exact h3
/-- a word by its place in its run of the tables -/
theorem lw_at {r : List Cond} (hr : ∀ w ∈ r, w ∈ lw_tbl) {w : Cond} (i : Nat) (h : r[i]? = some w) : w ∈ lw_tbl := hr w (List.mem_of_getElem? h)
theorem lw_g {w : Cond} (h : w ∈ lw_tbl) (g : goodWord w = true) : w ∈ lw_all := List.mem_filter.mpr ⟨h, g⟩
theorem lw_ms : ∀ w ∈ k2_sels lw_privs, w ∈ lw_tbl := fun w h => show w ∈ k2_sels lw_privs ++ tables_1 from List.mem_append_left _ h
theorem lw_m1 : ∀ w ∈ tables_1_1, w ∈ lw_tbl := fun w h => show w ∈ k2_sels lw_privs ++ tables_1 from List.mem_append_right (k2_sels lw_privs) (show w ∈ tables_1 from List.mem_append_left _ h)
theorem lw_m2 : ∀ w ∈ tables_1_2, w ∈ lw_tbl := fun w h => show w ∈ k2_sels lw_privs ++ tables_1 from List.mem_append_right (k2_sels lw_privs) (show w ∈ tables_1 from List.mem_append_right _ h)
theorem qs0 : (Cond.selects "GuardedCommands" ⟨"GuardedCommands", "close", "()I"⟩ ⟨"GuardedCommands", "close", "()I"⟩) ∈ lw_all := lw_g (lw_at lw_ms 0 rfl) rfl
theorem qs1 : (Cond.selects "GuardedCommands" ⟨"GuardedCommands", "isGood", "(I)Z"⟩ ⟨"GuardedCommands", "isGood", "(I)Z"⟩) ∈ lw_all := lw_g (lw_at lw_ms 1 rfl) rfl
theorem qs2 : (Cond.selects "GuardedCommands" ⟨"GuardedCommands", "imageOf", "(IJ)J"⟩ ⟨"GuardedCommands", "imageOf", "(IJ)J"⟩) ∈ lw_all := lw_g (lw_at lw_ms 2 rfl) rfl
theorem qs3 : (Cond.selects "GuardedCommands" ⟨"GuardedCommands", "step", "(III)J"⟩ ⟨"GuardedCommands", "step", "(III)J"⟩) ∈ lw_all := lw_g (lw_at lw_ms 3 rfl) rfl
theorem qs4 : (Cond.selects "GuardedCommands" ⟨"GuardedCommands", "reached", "(III)J"⟩ ⟨"GuardedCommands", "reached", "(III)J"⟩) ∈ lw_all := lw_g (lw_at lw_ms 4 rfl) rfl
theorem qs5 : (Cond.selects "GuardedCommands" ⟨"GuardedCommands", "loopSure", "(IIJ)J"⟩ ⟨"GuardedCommands", "loopSure", "(IIJ)J"⟩) ∈ lw_all := lw_g (lw_at lw_ms 5 rfl) rfl
theorem qs6 : (Cond.selects "GuardedCommands" ⟨"GuardedCommands", "weakOf", "(IJ)J"⟩ ⟨"GuardedCommands", "weakOf", "(IJ)J"⟩) ∈ lw_all := lw_g (lw_at lw_ms 6 rfl) rfl
theorem qs7 : (Cond.selects "GuardedCommandsModel" ⟨"GuardedCommandsModel", "keep", "(IJ)I"⟩ ⟨"GuardedCommandsModel", "keep", "(IJ)I"⟩) ∈ lw_all := lw_g (lw_at lw_ms 7 rfl) rfl
theorem qs8 : (Cond.selects "GuardedCommandsModel" ⟨"GuardedCommandsModel", "size", "(J)I"⟩ ⟨"GuardedCommandsModel", "size", "(J)I"⟩) ∈ lw_all := lw_g (lw_at lw_ms 8 rfl) rfl
theorem qs9 : (Cond.selects "GuardedCommandsModel" ⟨"GuardedCommandsModel", "in", "(JI)Z"⟩ ⟨"GuardedCommandsModel", "in", "(JI)Z"⟩) ∈ lw_all := lw_g (lw_at lw_ms 9 rfl) rfl
theorem qs10 : (Cond.selects "GuardedCommandsModel" ⟨"GuardedCommandsModel", "worth", "(II)I"⟩ ⟨"GuardedCommandsModel", "worth", "(II)I"⟩) ∈ lw_all := lw_g (lw_at lw_ms 10 rfl) rfl
theorem qs11 : (Cond.selects "GuardedCommandsModel" ⟨"GuardedCommandsModel", "plain", "(Z)I"⟩ ⟨"GuardedCommandsModel", "plain", "(Z)I"⟩) ∈ lw_all := lw_g (lw_at lw_ms 11 rfl) rfl
theorem qs12 : (Cond.selects "GuardedCommandsModel" ⟨"GuardedCommandsModel", "full", "()Z"⟩ ⟨"GuardedCommandsModel", "full", "()Z"⟩) ∈ lw_all := lw_g (lw_at lw_ms 12 rfl) rfl
theorem qs13 : (Cond.selects "GuardedCommandsModel" ⟨"GuardedCommandsModel", "bad", "(I)Z"⟩ ⟨"GuardedCommandsModel", "bad", "(I)Z"⟩) ∈ lw_all := lw_g (lw_at lw_ms 13 rfl) rfl
theorem qs14 : (Cond.selects "GuardedCommandsModel" ⟨"GuardedCommandsModel", "from", "(IJ)J"⟩ ⟨"GuardedCommandsModel", "from", "(IJ)J"⟩) ∈ lw_all := lw_g (lw_at lw_ms 14 rfl) rfl
theorem qs15 : (Cond.selects "GuardedCommandsModel" ⟨"GuardedCommandsModel", "part", "(JJ)Z"⟩ ⟨"GuardedCommandsModel", "part", "(JJ)Z"⟩) ∈ lw_all := lw_g (lw_at lw_ms 15 rfl) rfl
theorem qs16 : (Cond.selects "GuardedCommandsModel" ⟨"GuardedCommandsModel", "step", "(III)J"⟩ ⟨"GuardedCommandsModel", "step", "(III)J"⟩) ∈ lw_all := lw_g (lw_at lw_ms 16 rfl) rfl
theorem qs17 : (Cond.selects "GuardedCommandsModel" ⟨"GuardedCommandsModel", "good", "(III)Z"⟩ ⟨"GuardedCommandsModel", "good", "(III)Z"⟩) ∈ lw_all := lw_g (lw_at lw_ms 17 rfl) rfl
theorem qs18 : (Cond.selects "GuardedCommandsModel" ⟨"GuardedCommandsModel", "met", "(III)J"⟩ ⟨"GuardedCommandsModel", "met", "(III)J"⟩) ∈ lw_all := lw_g (lw_at lw_ms 18 rfl) rfl
theorem qs19 : (Cond.selects "GuardedCommandsModel" ⟨"GuardedCommandsModel", "resting", "(II)J"⟩ ⟨"GuardedCommandsModel", "resting", "(II)J"⟩) ∈ lw_all := lw_g (lw_at lw_ms 19 rfl) rfl
theorem qs20 : (Cond.selects "GuardedCommandsModel" ⟨"GuardedCommandsModel", "weak", "(IJ)J"⟩ ⟨"GuardedCommandsModel", "weak", "(IJ)J"⟩) ∈ lw_all := lw_g (lw_at lw_ms 20 rfl) rfl
end
section
set_option maxRecDepth 100000
/-! GuardedCommands -/
def RX0 : String := "GuardedCommands"
def TX0 : u_T := fun k => match k with
  | 0 => ("GuardedCommands", "endRows", "[J", true)
  | 1 => ("GuardedCommands", "sureSets", "[J", true)
  | 2 => ("GuardedCommands", "guards", "[J", true)
  | _ => ("GuardedCommands", "count", "I", false)
def tyX0 : Nat → FieldType := fun k => match k with
  | 0 => .array .long
  | 1 => .array .long
  | 2 => .array .long
  | _ => .int
abbrev wsX00 : List Cond := u_ws RX0 TX0 4
theorem nmX0 : ∀ a, a < 4 → ∀ b, b < 4 → a ≠ b → (TX0 a).2.1 ≠ (TX0 b).2.1 := by decide +kernel
theorem tyX0_ok : ∀ k, k < 4 → parseFieldDescriptor (TX0 k).2.2.1 = some (tyX0 k) := by decide +kernel
abbrev cX0_init : ByteArray := prog_1_method_1_code
def yX0_init : MethodName := ⟨RX0, "<init>", "()V"⟩
theorem dX0_init_0 : decode cX0_init 0 = .ok (.aload_n 0, 1) := by decide +kernel
theorem dX0_init_1 : decode cX0_init 1 = .ok (.invokespecial 1, 3) := by decide +kernel
theorem dX0_init_4 : decode cX0_init 4 = .ok (.aload_n 0, 1) := by decide +kernel
theorem dX0_init_5 : decode cX0_init 5 = .ok (.sipush 1920, 3) := by decide +kernel
theorem dX0_init_8 : decode cX0_init 8 = .ok (.newarray .long, 2) := by decide +kernel
theorem dX0_init_10 : decode cX0_init 10 = .ok (.putfield 7, 3) := by decide +kernel
theorem dX0_init_13 : decode cX0_init 13 = .ok (.aload_n 0, 1) := by decide +kernel
theorem dX0_init_14 : decode cX0_init 14 = .ok (.bipush 30, 2) := by decide +kernel
theorem dX0_init_16 : decode cX0_init 16 = .ok (.newarray .long, 2) := by decide +kernel
theorem dX0_init_18 : decode cX0_init 18 = .ok (.putfield 13, 3) := by decide +kernel
theorem dX0_init_21 : decode cX0_init 21 = .ok (.aload_n 0, 1) := by decide +kernel
theorem dX0_init_22 : decode cX0_init 22 = .ok (.iconst 2, 1) := by decide +kernel
theorem dX0_init_23 : decode cX0_init 23 = .ok (.newarray .long, 2) := by decide +kernel
theorem dX0_init_25 : decode cX0_init 25 = .ok (.putfield 16, 3) := by decide +kernel
theorem dX0_init_28 : decode cX0_init 28 = .ok (.aload_n 0, 1) := by decide +kernel
theorem dX0_init_29 : decode cX0_init 29 = .ok (.iconst 0, 1) := by decide +kernel
theorem dX0_init_30 : decode cX0_init 30 = .ok (.putfield 19, 3) := by decide +kernel
theorem dX0_init_33 : decode cX0_init 33 = .ok (.return_, 1) := by decide +kernel
abbrev cX0_guard : ByteArray := prog_1_method_2_code
def yX0_guard : MethodName := ⟨RX0, "guard", "(IJ)I"⟩
theorem dX0_guard_0 : decode cX0_guard 0 = .ok (.aload_n 0, 1) := by decide +kernel
theorem dX0_guard_1 : decode cX0_guard 1 = .ok (.getfield 16, 3) := by decide +kernel
theorem dX0_guard_4 : decode cX0_guard 4 = .ok (.iload_n 1, 1) := by decide +kernel
theorem dX0_guard_5 : decode cX0_guard 5 = .ok (.ifCond .ne 7, 3) := by decide +kernel
theorem dX0_guard_8 : decode cX0_guard 8 = .ok (.iconst 0, 1) := by decide +kernel
theorem dX0_guard_9 : decode cX0_guard 9 = .ok (.goto 4, 3) := by decide +kernel
theorem dX0_guard_12 : decode cX0_guard 12 = .ok (.iconst 1, 1) := by decide +kernel
theorem dX0_guard_13 : decode cX0_guard 13 = .ok (.lload_n 2, 1) := by decide +kernel
theorem dX0_guard_14 : decode cX0_guard 14 = .ok (.lastore, 1) := by decide +kernel
theorem dX0_guard_15 : decode cX0_guard 15 = .ok (.lload_n 2, 1) := by decide +kernel
theorem dX0_guard_16 : decode cX0_guard 16 = .ok (.invokestatic 23, 3) := by decide +kernel
theorem dX0_guard_19 : decode cX0_guard 19 = .ok (.ireturn, 1) := by decide +kernel
abbrev cX0_ones : ByteArray := prog_1_method_23_code
def yX0_ones : MethodName := ⟨RX0, "ones", "(J)I"⟩
theorem dX0_ones_0 : decode cX0_ones 0 = .ok (.iconst 0, 1) := by decide +kernel
theorem dX0_ones_1 : decode cX0_ones 1 = .ok (.istore_n 2, 1) := by decide +kernel
theorem dX0_ones_2 : decode cX0_ones 2 = .ok (.iconst 0, 1) := by decide +kernel
theorem dX0_ones_3 : decode cX0_ones 3 = .ok (.istore_n 3, 1) := by decide +kernel
theorem dX0_ones_4 : decode cX0_ones 4 = .ok (.iload_n 3, 1) := by decide +kernel
theorem dX0_ones_5 : decode cX0_ones 5 = .ok (.bipush 64, 2) := by decide +kernel
theorem dX0_ones_7 : decode cX0_ones 7 = .ok (.if_icmp .ge 18, 3) := by decide +kernel
theorem dX0_ones_10 : decode cX0_ones 10 = .ok (.iload_n 2, 1) := by decide +kernel
theorem dX0_ones_11 : decode cX0_ones 11 = .ok (.lload_n 0, 1) := by decide +kernel
theorem dX0_ones_12 : decode cX0_ones 12 = .ok (.iload_n 3, 1) := by decide +kernel
theorem dX0_ones_13 : decode cX0_ones 13 = .ok (.lushr, 1) := by decide +kernel
theorem dX0_ones_14 : decode cX0_ones 14 = .ok (.lconst 1, 1) := by decide +kernel
theorem dX0_ones_15 : decode cX0_ones 15 = .ok (.land, 1) := by decide +kernel
theorem dX0_ones_16 : decode cX0_ones 16 = .ok (.l2i, 1) := by decide +kernel
theorem dX0_ones_17 : decode cX0_ones 17 = .ok (.iadd, 1) := by decide +kernel
theorem dX0_ones_18 : decode cX0_ones 18 = .ok (.istore_n 2, 1) := by decide +kernel
theorem dX0_ones_19 : decode cX0_ones 19 = .ok (.iinc 3 1, 3) := by decide +kernel
theorem dX0_ones_22 : decode cX0_ones 22 = .ok (.goto (-18), 3) := by decide +kernel
theorem dX0_ones_25 : decode cX0_ones 25 = .ok (.iload_n 2, 1) := by decide +kernel
theorem dX0_ones_26 : decode cX0_ones 26 = .ok (.ireturn, 1) := by decide +kernel
abbrev cX0_compare : ByteArray := prog_1_method_3_code
def yX0_compare : MethodName := ⟨RX0, "compare", "(III)I"⟩
theorem dX0_compare_0 : decode cX0_compare 0 = .ok (.iload_n 2, 1) := by decide +kernel
theorem dX0_compare_1 : decode cX0_compare 1 = .ok (.ifCond .lt 10, 3) := by decide +kernel
theorem dX0_compare_4 : decode cX0_compare 4 = .ok (.iload_n 2, 1) := by decide +kernel
theorem dX0_compare_5 : decode cX0_compare 5 = .ok (.sipush 511, 3) := by decide +kernel
theorem dX0_compare_8 : decode cX0_compare 8 = .ok (.if_icmp .le 5, 3) := by decide +kernel
theorem dX0_compare_11 : decode cX0_compare 11 = .ok (.iconst (-1), 1) := by decide +kernel
theorem dX0_compare_12 : decode cX0_compare 12 = .ok (.ireturn, 1) := by decide +kernel
theorem dX0_compare_13 : decode cX0_compare 13 = .ok (.iload_n 3, 1) := by decide +kernel
theorem dX0_compare_14 : decode cX0_compare 14 = .ok (.ifCond .lt 9, 3) := by decide +kernel
theorem dX0_compare_17 : decode cX0_compare 17 = .ok (.iload_n 3, 1) := by decide +kernel
theorem dX0_compare_18 : decode cX0_compare 18 = .ok (.bipush 8, 2) := by decide +kernel
theorem dX0_compare_20 : decode cX0_compare 20 = .ok (.if_icmp .le 6, 3) := by decide +kernel
theorem dX0_compare_23 : decode cX0_compare 23 = .ok (.bipush (-2), 2) := by decide +kernel
theorem dX0_compare_25 : decode cX0_compare 25 = .ok (.ireturn, 1) := by decide +kernel
theorem dX0_compare_26 : decode cX0_compare 26 = .ok (.lconst 0, 1) := by decide +kernel
theorem dX0_compare_27 : decode cX0_compare 27 = .ok (.lstore 4, 2) := by decide +kernel
theorem dX0_compare_29 : decode cX0_compare 29 = .ok (.iconst 0, 1) := by decide +kernel
theorem dX0_compare_30 : decode cX0_compare 30 = .ok (.istore 6, 2) := by decide +kernel
theorem dX0_compare_32 : decode cX0_compare 32 = .ok (.iload 6, 2) := by decide +kernel
theorem dX0_compare_34 : decode cX0_compare 34 = .ok (.bipush 64, 2) := by decide +kernel
theorem dX0_compare_36 : decode cX0_compare 36 = .ok (.if_icmp .ge 28, 3) := by decide +kernel
theorem dX0_compare_39 : decode cX0_compare 39 = .ok (.iload_n 2, 1) := by decide +kernel
theorem dX0_compare_40 : decode cX0_compare 40 = .ok (.iload 6, 2) := by decide +kernel
theorem dX0_compare_42 : decode cX0_compare 42 = .ok (.invokestatic 27, 3) := by decide +kernel
theorem dX0_compare_45 : decode cX0_compare 45 = .ok (.iload_n 3, 1) := by decide +kernel
theorem dX0_compare_46 : decode cX0_compare 46 = .ok (.if_icmp .ge 12, 3) := by decide +kernel
theorem dX0_compare_49 : decode cX0_compare 49 = .ok (.lload 4, 2) := by decide +kernel
theorem dX0_compare_51 : decode cX0_compare 51 = .ok (.lconst 1, 1) := by decide +kernel
theorem dX0_compare_52 : decode cX0_compare 52 = .ok (.iload 6, 2) := by decide +kernel
theorem dX0_compare_54 : decode cX0_compare 54 = .ok (.lshl, 1) := by decide +kernel
theorem dX0_compare_55 : decode cX0_compare 55 = .ok (.lor, 1) := by decide +kernel
theorem dX0_compare_56 : decode cX0_compare 56 = .ok (.lstore 4, 2) := by decide +kernel
theorem dX0_compare_58 : decode cX0_compare 58 = .ok (.iinc 6 1, 3) := by decide +kernel
theorem dX0_compare_61 : decode cX0_compare 61 = .ok (.goto (-29), 3) := by decide +kernel
theorem dX0_compare_64 : decode cX0_compare 64 = .ok (.aload_n 0, 1) := by decide +kernel
theorem dX0_compare_65 : decode cX0_compare 65 = .ok (.getfield 16, 3) := by decide +kernel
theorem dX0_compare_68 : decode cX0_compare 68 = .ok (.iload_n 1, 1) := by decide +kernel
theorem dX0_compare_69 : decode cX0_compare 69 = .ok (.ifCond .ne 7, 3) := by decide +kernel
theorem dX0_compare_72 : decode cX0_compare 72 = .ok (.iconst 0, 1) := by decide +kernel
theorem dX0_compare_73 : decode cX0_compare 73 = .ok (.goto 4, 3) := by decide +kernel
theorem dX0_compare_76 : decode cX0_compare 76 = .ok (.iconst 1, 1) := by decide +kernel
theorem dX0_compare_77 : decode cX0_compare 77 = .ok (.lload 4, 2) := by decide +kernel
theorem dX0_compare_79 : decode cX0_compare 79 = .ok (.lastore, 1) := by decide +kernel
theorem dX0_compare_80 : decode cX0_compare 80 = .ok (.lload 4, 2) := by decide +kernel
theorem dX0_compare_82 : decode cX0_compare 82 = .ok (.invokestatic 23, 3) := by decide +kernel
theorem dX0_compare_85 : decode cX0_compare 85 = .ok (.ireturn, 1) := by decide +kernel
abbrev cX0_formValue : ByteArray := prog_1_method_24_code
def yX0_formValue : MethodName := ⟨RX0, "formValue", "(II)I"⟩
theorem dX0_formValue_0 : decode cX0_formValue 0 = .ok (.iload_n 0, 1) := by decide +kernel
theorem dX0_formValue_1 : decode cX0_formValue 1 = .ok (.bipush 6, 2) := by decide +kernel
theorem dX0_formValue_3 : decode cX0_formValue 3 = .ok (.ishr, 1) := by decide +kernel
theorem dX0_formValue_4 : decode cX0_formValue 4 = .ok (.istore_n 2, 1) := by decide +kernel
theorem dX0_formValue_5 : decode cX0_formValue 5 = .ok (.iload_n 0, 1) := by decide +kernel
theorem dX0_formValue_6 : decode cX0_formValue 6 = .ok (.iconst 3, 1) := by decide +kernel
theorem dX0_formValue_7 : decode cX0_formValue 7 = .ok (.ishr, 1) := by decide +kernel
theorem dX0_formValue_8 : decode cX0_formValue 8 = .ok (.bipush 7, 2) := by decide +kernel
theorem dX0_formValue_10 : decode cX0_formValue 10 = .ok (.iand, 1) := by decide +kernel
theorem dX0_formValue_11 : decode cX0_formValue 11 = .ok (.istore_n 3, 1) := by decide +kernel
theorem dX0_formValue_12 : decode cX0_formValue 12 = .ok (.iload_n 0, 1) := by decide +kernel
theorem dX0_formValue_13 : decode cX0_formValue 13 = .ok (.bipush 7, 2) := by decide +kernel
theorem dX0_formValue_15 : decode cX0_formValue 15 = .ok (.iand, 1) := by decide +kernel
theorem dX0_formValue_16 : decode cX0_formValue 16 = .ok (.istore 4, 2) := by decide +kernel
theorem dX0_formValue_18 : decode cX0_formValue 18 = .ok (.iload_n 2, 1) := by decide +kernel
theorem dX0_formValue_19 : decode cX0_formValue 19 = .ok (.iload_n 1, 1) := by decide +kernel
theorem dX0_formValue_20 : decode cX0_formValue 20 = .ok (.iconst 3, 1) := by decide +kernel
theorem dX0_formValue_21 : decode cX0_formValue 21 = .ok (.ishr, 1) := by decide +kernel
theorem dX0_formValue_22 : decode cX0_formValue 22 = .ok (.imul, 1) := by decide +kernel
theorem dX0_formValue_23 : decode cX0_formValue 23 = .ok (.iload_n 3, 1) := by decide +kernel
theorem dX0_formValue_24 : decode cX0_formValue 24 = .ok (.iload_n 1, 1) := by decide +kernel
theorem dX0_formValue_25 : decode cX0_formValue 25 = .ok (.bipush 7, 2) := by decide +kernel
theorem dX0_formValue_27 : decode cX0_formValue 27 = .ok (.iand, 1) := by decide +kernel
theorem dX0_formValue_28 : decode cX0_formValue 28 = .ok (.imul, 1) := by decide +kernel
theorem dX0_formValue_29 : decode cX0_formValue 29 = .ok (.iadd, 1) := by decide +kernel
theorem dX0_formValue_30 : decode cX0_formValue 30 = .ok (.iload 4, 2) := by decide +kernel
theorem dX0_formValue_32 : decode cX0_formValue 32 = .ok (.iadd, 1) := by decide +kernel
theorem dX0_formValue_33 : decode cX0_formValue 33 = .ok (.bipush 7, 2) := by decide +kernel
theorem dX0_formValue_35 : decode cX0_formValue 35 = .ok (.iand, 1) := by decide +kernel
theorem dX0_formValue_36 : decode cX0_formValue 36 = .ok (.ireturn, 1) := by decide +kernel
abbrev cX0_oppose : ByteArray := prog_1_method_4_code
def yX0_oppose : MethodName := ⟨RX0, "oppose", "(I)I"⟩
theorem dX0_oppose_0 : decode cX0_oppose 0 = .ok (.iload_n 1, 1) := by decide +kernel
theorem dX0_oppose_1 : decode cX0_oppose 1 = .ok (.ifCond .ne 7, 3) := by decide +kernel
theorem dX0_oppose_4 : decode cX0_oppose 4 = .ok (.iconst 0, 1) := by decide +kernel
theorem dX0_oppose_5 : decode cX0_oppose 5 = .ok (.goto 4, 3) := by decide +kernel
theorem dX0_oppose_8 : decode cX0_oppose 8 = .ok (.iconst 1, 1) := by decide +kernel
theorem dX0_oppose_9 : decode cX0_oppose 9 = .ok (.istore_n 2, 1) := by decide +kernel
theorem dX0_oppose_10 : decode cX0_oppose 10 = .ok (.aload_n 0, 1) := by decide +kernel
theorem dX0_oppose_11 : decode cX0_oppose 11 = .ok (.getfield 16, 3) := by decide +kernel
theorem dX0_oppose_14 : decode cX0_oppose 14 = .ok (.iload_n 2, 1) := by decide +kernel
theorem dX0_oppose_15 : decode cX0_oppose 15 = .ok (.aload_n 0, 1) := by decide +kernel
theorem dX0_oppose_16 : decode cX0_oppose 16 = .ok (.getfield 16, 3) := by decide +kernel
theorem dX0_oppose_19 : decode cX0_oppose 19 = .ok (.iload_n 2, 1) := by decide +kernel
theorem dX0_oppose_20 : decode cX0_oppose 20 = .ok (.laload, 1) := by decide +kernel
theorem dX0_oppose_21 : decode cX0_oppose 21 = .ok (.ldc2_w 31, 3) := by decide +kernel
theorem dX0_oppose_24 : decode cX0_oppose 24 = .ok (.lxor, 1) := by decide +kernel
theorem dX0_oppose_25 : decode cX0_oppose 25 = .ok (.lastore, 1) := by decide +kernel
theorem dX0_oppose_26 : decode cX0_oppose 26 = .ok (.aload_n 0, 1) := by decide +kernel
theorem dX0_oppose_27 : decode cX0_oppose 27 = .ok (.getfield 16, 3) := by decide +kernel
theorem dX0_oppose_30 : decode cX0_oppose 30 = .ok (.iload_n 2, 1) := by decide +kernel
theorem dX0_oppose_31 : decode cX0_oppose 31 = .ok (.laload, 1) := by decide +kernel
theorem dX0_oppose_32 : decode cX0_oppose 32 = .ok (.invokestatic 23, 3) := by decide +kernel
theorem dX0_oppose_35 : decode cX0_oppose 35 = .ok (.ireturn, 1) := by decide +kernel
abbrev cX0_skip : ByteArray := prog_1_method_5_code
def yX0_skip : MethodName := ⟨RX0, "skip", "()I"⟩
theorem dX0_skip_0 : decode cX0_skip 0 = .ok (.aload_n 0, 1) := by decide +kernel
theorem dX0_skip_1 : decode cX0_skip 1 = .ok (.getfield 19, 3) := by decide +kernel
theorem dX0_skip_4 : decode cX0_skip 4 = .ok (.bipush 30, 2) := by decide +kernel
theorem dX0_skip_6 : decode cX0_skip 6 = .ok (.if_icmp .ne 5, 3) := by decide +kernel
theorem dX0_skip_9 : decode cX0_skip 9 = .ok (.iconst (-1), 1) := by decide +kernel
theorem dX0_skip_10 : decode cX0_skip 10 = .ok (.ireturn, 1) := by decide +kernel
theorem dX0_skip_11 : decode cX0_skip 11 = .ok (.iconst 0, 1) := by decide +kernel
theorem dX0_skip_12 : decode cX0_skip 12 = .ok (.istore_n 1, 1) := by decide +kernel
theorem dX0_skip_13 : decode cX0_skip 13 = .ok (.iload_n 1, 1) := by decide +kernel
theorem dX0_skip_14 : decode cX0_skip 14 = .ok (.bipush 64, 2) := by decide +kernel
theorem dX0_skip_16 : decode cX0_skip 16 = .ok (.if_icmp .ge 26, 3) := by decide +kernel
theorem dX0_skip_19 : decode cX0_skip 19 = .ok (.aload_n 0, 1) := by decide +kernel
theorem dX0_skip_20 : decode cX0_skip 20 = .ok (.getfield 7, 3) := by decide +kernel
theorem dX0_skip_23 : decode cX0_skip 23 = .ok (.bipush 64, 2) := by decide +kernel
theorem dX0_skip_25 : decode cX0_skip 25 = .ok (.aload_n 0, 1) := by decide +kernel
theorem dX0_skip_26 : decode cX0_skip 26 = .ok (.getfield 19, 3) := by decide +kernel
theorem dX0_skip_29 : decode cX0_skip 29 = .ok (.imul, 1) := by decide +kernel
theorem dX0_skip_30 : decode cX0_skip 30 = .ok (.iload_n 1, 1) := by decide +kernel
theorem dX0_skip_31 : decode cX0_skip 31 = .ok (.iadd, 1) := by decide +kernel
theorem dX0_skip_32 : decode cX0_skip 32 = .ok (.lconst 1, 1) := by decide +kernel
theorem dX0_skip_33 : decode cX0_skip 33 = .ok (.iload_n 1, 1) := by decide +kernel
theorem dX0_skip_34 : decode cX0_skip 34 = .ok (.lshl, 1) := by decide +kernel
theorem dX0_skip_35 : decode cX0_skip 35 = .ok (.lastore, 1) := by decide +kernel
theorem dX0_skip_36 : decode cX0_skip 36 = .ok (.iinc 1 1, 3) := by decide +kernel
theorem dX0_skip_39 : decode cX0_skip 39 = .ok (.goto (-26), 3) := by decide +kernel
theorem dX0_skip_42 : decode cX0_skip 42 = .ok (.aload_n 0, 1) := by decide +kernel
theorem dX0_skip_43 : decode cX0_skip 43 = .ok (.getfield 13, 3) := by decide +kernel
theorem dX0_skip_46 : decode cX0_skip 46 = .ok (.aload_n 0, 1) := by decide +kernel
theorem dX0_skip_47 : decode cX0_skip 47 = .ok (.getfield 19, 3) := by decide +kernel
theorem dX0_skip_50 : decode cX0_skip 50 = .ok (.ldc2_w 31, 3) := by decide +kernel
theorem dX0_skip_53 : decode cX0_skip 53 = .ok (.lastore, 1) := by decide +kernel
theorem dX0_skip_54 : decode cX0_skip 54 = .ok (.aload_n 0, 1) := by decide +kernel
theorem dX0_skip_55 : decode cX0_skip 55 = .ok (.invokevirtual 33, 3) := by decide +kernel
theorem dX0_skip_58 : decode cX0_skip 58 = .ok (.ireturn, 1) := by decide +kernel
abbrev cX0_close : ByteArray := prog_1_method_21_code
def yX0_close : MethodName := ⟨RX0, "close", "()I"⟩
theorem dX0_close_0 : decode cX0_close 0 = .ok (.aload_n 0, 1) := by decide +kernel
theorem dX0_close_1 : decode cX0_close 1 = .ok (.dup, 1) := by decide +kernel
theorem dX0_close_2 : decode cX0_close 2 = .ok (.getfield 19, 3) := by decide +kernel
theorem dX0_close_5 : decode cX0_close 5 = .ok (.iconst 1, 1) := by decide +kernel
theorem dX0_close_6 : decode cX0_close 6 = .ok (.iadd, 1) := by decide +kernel
theorem dX0_close_7 : decode cX0_close 7 = .ok (.putfield 19, 3) := by decide +kernel
theorem dX0_close_10 : decode cX0_close 10 = .ok (.aload_n 0, 1) := by decide +kernel
theorem dX0_close_11 : decode cX0_close 11 = .ok (.getfield 19, 3) := by decide +kernel
theorem dX0_close_14 : decode cX0_close 14 = .ok (.iconst 1, 1) := by decide +kernel
theorem dX0_close_15 : decode cX0_close 15 = .ok (.isub, 1) := by decide +kernel
theorem dX0_close_16 : decode cX0_close 16 = .ok (.ireturn, 1) := by decide +kernel
abbrev cX0_fail : ByteArray := prog_1_method_6_code
def yX0_fail : MethodName := ⟨RX0, "fail", "()I"⟩
theorem dX0_fail_0 : decode cX0_fail 0 = .ok (.aload_n 0, 1) := by decide +kernel
theorem dX0_fail_1 : decode cX0_fail 1 = .ok (.getfield 19, 3) := by decide +kernel
theorem dX0_fail_4 : decode cX0_fail 4 = .ok (.bipush 30, 2) := by decide +kernel
theorem dX0_fail_6 : decode cX0_fail 6 = .ok (.if_icmp .ne 5, 3) := by decide +kernel
theorem dX0_fail_9 : decode cX0_fail 9 = .ok (.iconst (-1), 1) := by decide +kernel
theorem dX0_fail_10 : decode cX0_fail 10 = .ok (.ireturn, 1) := by decide +kernel
theorem dX0_fail_11 : decode cX0_fail 11 = .ok (.iconst 0, 1) := by decide +kernel
theorem dX0_fail_12 : decode cX0_fail 12 = .ok (.istore_n 1, 1) := by decide +kernel
theorem dX0_fail_13 : decode cX0_fail 13 = .ok (.iload_n 1, 1) := by decide +kernel
theorem dX0_fail_14 : decode cX0_fail 14 = .ok (.bipush 64, 2) := by decide +kernel
theorem dX0_fail_16 : decode cX0_fail 16 = .ok (.if_icmp .ge 24, 3) := by decide +kernel
theorem dX0_fail_19 : decode cX0_fail 19 = .ok (.aload_n 0, 1) := by decide +kernel
theorem dX0_fail_20 : decode cX0_fail 20 = .ok (.getfield 7, 3) := by decide +kernel
theorem dX0_fail_23 : decode cX0_fail 23 = .ok (.bipush 64, 2) := by decide +kernel
theorem dX0_fail_25 : decode cX0_fail 25 = .ok (.aload_n 0, 1) := by decide +kernel
theorem dX0_fail_26 : decode cX0_fail 26 = .ok (.getfield 19, 3) := by decide +kernel
theorem dX0_fail_29 : decode cX0_fail 29 = .ok (.imul, 1) := by decide +kernel
theorem dX0_fail_30 : decode cX0_fail 30 = .ok (.iload_n 1, 1) := by decide +kernel
theorem dX0_fail_31 : decode cX0_fail 31 = .ok (.iadd, 1) := by decide +kernel
theorem dX0_fail_32 : decode cX0_fail 32 = .ok (.lconst 0, 1) := by decide +kernel
theorem dX0_fail_33 : decode cX0_fail 33 = .ok (.lastore, 1) := by decide +kernel
theorem dX0_fail_34 : decode cX0_fail 34 = .ok (.iinc 1 1, 3) := by decide +kernel
theorem dX0_fail_37 : decode cX0_fail 37 = .ok (.goto (-24), 3) := by decide +kernel
theorem dX0_fail_40 : decode cX0_fail 40 = .ok (.aload_n 0, 1) := by decide +kernel
theorem dX0_fail_41 : decode cX0_fail 41 = .ok (.getfield 13, 3) := by decide +kernel
theorem dX0_fail_44 : decode cX0_fail 44 = .ok (.aload_n 0, 1) := by decide +kernel
theorem dX0_fail_45 : decode cX0_fail 45 = .ok (.getfield 19, 3) := by decide +kernel
theorem dX0_fail_48 : decode cX0_fail 48 = .ok (.lconst 0, 1) := by decide +kernel
theorem dX0_fail_49 : decode cX0_fail 49 = .ok (.lastore, 1) := by decide +kernel
theorem dX0_fail_50 : decode cX0_fail 50 = .ok (.aload_n 0, 1) := by decide +kernel
theorem dX0_fail_51 : decode cX0_fail 51 = .ok (.invokevirtual 33, 3) := by decide +kernel
theorem dX0_fail_54 : decode cX0_fail 54 = .ok (.ireturn, 1) := by decide +kernel
abbrev cX0_assign : ByteArray := prog_1_method_7_code
def yX0_assign : MethodName := ⟨RX0, "assign", "(II)I"⟩
theorem dX0_assign_0 : decode cX0_assign 0 = .ok (.iload_n 2, 1) := by decide +kernel
theorem dX0_assign_1 : decode cX0_assign 1 = .ok (.ifCond .lt 10, 3) := by decide +kernel
theorem dX0_assign_4 : decode cX0_assign 4 = .ok (.iload_n 2, 1) := by decide +kernel
theorem dX0_assign_5 : decode cX0_assign 5 = .ok (.sipush 511, 3) := by decide +kernel
theorem dX0_assign_8 : decode cX0_assign 8 = .ok (.if_icmp .le 5, 3) := by decide +kernel
theorem dX0_assign_11 : decode cX0_assign 11 = .ok (.iconst (-1), 1) := by decide +kernel
theorem dX0_assign_12 : decode cX0_assign 12 = .ok (.ireturn, 1) := by decide +kernel
theorem dX0_assign_13 : decode cX0_assign 13 = .ok (.aload_n 0, 1) := by decide +kernel
theorem dX0_assign_14 : decode cX0_assign 14 = .ok (.getfield 19, 3) := by decide +kernel
theorem dX0_assign_17 : decode cX0_assign 17 = .ok (.bipush 30, 2) := by decide +kernel
theorem dX0_assign_19 : decode cX0_assign 19 = .ok (.if_icmp .ne 6, 3) := by decide +kernel
theorem dX0_assign_22 : decode cX0_assign 22 = .ok (.bipush (-2), 2) := by decide +kernel
theorem dX0_assign_24 : decode cX0_assign 24 = .ok (.ireturn, 1) := by decide +kernel
theorem dX0_assign_25 : decode cX0_assign 25 = .ok (.iconst 0, 1) := by decide +kernel
theorem dX0_assign_26 : decode cX0_assign 26 = .ok (.istore_n 3, 1) := by decide +kernel
theorem dX0_assign_27 : decode cX0_assign 27 = .ok (.iload_n 3, 1) := by decide +kernel
theorem dX0_assign_28 : decode cX0_assign 28 = .ok (.bipush 64, 2) := by decide +kernel
theorem dX0_assign_30 : decode cX0_assign 30 = .ok (.if_icmp .ge 60, 3) := by decide +kernel
theorem dX0_assign_33 : decode cX0_assign 33 = .ok (.iload_n 2, 1) := by decide +kernel
theorem dX0_assign_34 : decode cX0_assign 34 = .ok (.iload_n 3, 1) := by decide +kernel
theorem dX0_assign_35 : decode cX0_assign 35 = .ok (.invokestatic 27, 3) := by decide +kernel
theorem dX0_assign_38 : decode cX0_assign 38 = .ok (.istore 4, 2) := by decide +kernel
theorem dX0_assign_40 : decode cX0_assign 40 = .ok (.iload_n 1, 1) := by decide +kernel
theorem dX0_assign_41 : decode cX0_assign 41 = .ok (.ifCond .ne 16, 3) := by decide +kernel
theorem dX0_assign_44 : decode cX0_assign 44 = .ok (.bipush 8, 2) := by decide +kernel
theorem dX0_assign_46 : decode cX0_assign 46 = .ok (.iload 4, 2) := by decide +kernel
theorem dX0_assign_48 : decode cX0_assign 48 = .ok (.imul, 1) := by decide +kernel
theorem dX0_assign_49 : decode cX0_assign 49 = .ok (.iload_n 3, 1) := by decide +kernel
theorem dX0_assign_50 : decode cX0_assign 50 = .ok (.bipush 7, 2) := by decide +kernel
theorem dX0_assign_52 : decode cX0_assign 52 = .ok (.iand, 1) := by decide +kernel
theorem dX0_assign_53 : decode cX0_assign 53 = .ok (.iadd, 1) := by decide +kernel
theorem dX0_assign_54 : decode cX0_assign 54 = .ok (.goto 10, 3) := by decide +kernel
theorem dX0_assign_57 : decode cX0_assign 57 = .ok (.iload_n 3, 1) := by decide +kernel
theorem dX0_assign_58 : decode cX0_assign 58 = .ok (.bipush 56, 2) := by decide +kernel
theorem dX0_assign_60 : decode cX0_assign 60 = .ok (.iand, 1) := by decide +kernel
theorem dX0_assign_61 : decode cX0_assign 61 = .ok (.iload 4, 2) := by decide +kernel
theorem dX0_assign_63 : decode cX0_assign 63 = .ok (.iadd, 1) := by decide +kernel
theorem dX0_assign_64 : decode cX0_assign 64 = .ok (.istore 5, 2) := by decide +kernel
theorem dX0_assign_66 : decode cX0_assign 66 = .ok (.aload_n 0, 1) := by decide +kernel
theorem dX0_assign_67 : decode cX0_assign 67 = .ok (.getfield 7, 3) := by decide +kernel
theorem dX0_assign_70 : decode cX0_assign 70 = .ok (.bipush 64, 2) := by decide +kernel
theorem dX0_assign_72 : decode cX0_assign 72 = .ok (.aload_n 0, 1) := by decide +kernel
theorem dX0_assign_73 : decode cX0_assign 73 = .ok (.getfield 19, 3) := by decide +kernel
theorem dX0_assign_76 : decode cX0_assign 76 = .ok (.imul, 1) := by decide +kernel
theorem dX0_assign_77 : decode cX0_assign 77 = .ok (.iload_n 3, 1) := by decide +kernel
theorem dX0_assign_78 : decode cX0_assign 78 = .ok (.iadd, 1) := by decide +kernel
theorem dX0_assign_79 : decode cX0_assign 79 = .ok (.lconst 1, 1) := by decide +kernel
theorem dX0_assign_80 : decode cX0_assign 80 = .ok (.iload 5, 2) := by decide +kernel
theorem dX0_assign_82 : decode cX0_assign 82 = .ok (.lshl, 1) := by decide +kernel
theorem dX0_assign_83 : decode cX0_assign 83 = .ok (.lastore, 1) := by decide +kernel
theorem dX0_assign_84 : decode cX0_assign 84 = .ok (.iinc 3 1, 3) := by decide +kernel
theorem dX0_assign_87 : decode cX0_assign 87 = .ok (.goto (-60), 3) := by decide +kernel
theorem dX0_assign_90 : decode cX0_assign 90 = .ok (.aload_n 0, 1) := by decide +kernel
theorem dX0_assign_91 : decode cX0_assign 91 = .ok (.getfield 13, 3) := by decide +kernel
theorem dX0_assign_94 : decode cX0_assign 94 = .ok (.aload_n 0, 1) := by decide +kernel
theorem dX0_assign_95 : decode cX0_assign 95 = .ok (.getfield 19, 3) := by decide +kernel
theorem dX0_assign_98 : decode cX0_assign 98 = .ok (.ldc2_w 31, 3) := by decide +kernel
theorem dX0_assign_101 : decode cX0_assign 101 = .ok (.lastore, 1) := by decide +kernel
theorem dX0_assign_102 : decode cX0_assign 102 = .ok (.aload_n 0, 1) := by decide +kernel
theorem dX0_assign_103 : decode cX0_assign 103 = .ok (.invokevirtual 33, 3) := by decide +kernel
theorem dX0_assign_106 : decode cX0_assign 106 = .ok (.ireturn, 1) := by decide +kernel
abbrev cX0_sequence : ByteArray := prog_1_method_8_code
def yX0_sequence : MethodName := ⟨RX0, "sequence", "(II)I"⟩
theorem dX0_sequence_0 : decode cX0_sequence 0 = .ok (.aload_n 0, 1) := by decide +kernel
theorem dX0_sequence_1 : decode cX0_sequence 1 = .ok (.iload_n 1, 1) := by decide +kernel
theorem dX0_sequence_2 : decode cX0_sequence 2 = .ok (.invokevirtual 37, 3) := by decide +kernel
theorem dX0_sequence_5 : decode cX0_sequence 5 = .ok (.ifCond .eq 11, 3) := by decide +kernel
theorem dX0_sequence_8 : decode cX0_sequence 8 = .ok (.aload_n 0, 1) := by decide +kernel
theorem dX0_sequence_9 : decode cX0_sequence 9 = .ok (.iload_n 2, 1) := by decide +kernel
theorem dX0_sequence_10 : decode cX0_sequence 10 = .ok (.invokevirtual 37, 3) := by decide +kernel
theorem dX0_sequence_13 : decode cX0_sequence 13 = .ok (.ifCond .ne 5, 3) := by decide +kernel
theorem dX0_sequence_16 : decode cX0_sequence 16 = .ok (.iconst (-1), 1) := by decide +kernel
theorem dX0_sequence_17 : decode cX0_sequence 17 = .ok (.ireturn, 1) := by decide +kernel
theorem dX0_sequence_18 : decode cX0_sequence 18 = .ok (.aload_n 0, 1) := by decide +kernel
theorem dX0_sequence_19 : decode cX0_sequence 19 = .ok (.getfield 19, 3) := by decide +kernel
theorem dX0_sequence_22 : decode cX0_sequence 22 = .ok (.bipush 30, 2) := by decide +kernel
theorem dX0_sequence_24 : decode cX0_sequence 24 = .ok (.if_icmp .ne 6, 3) := by decide +kernel
theorem dX0_sequence_27 : decode cX0_sequence 27 = .ok (.bipush (-2), 2) := by decide +kernel
theorem dX0_sequence_29 : decode cX0_sequence 29 = .ok (.ireturn, 1) := by decide +kernel
theorem dX0_sequence_30 : decode cX0_sequence 30 = .ok (.lconst 0, 1) := by decide +kernel
theorem dX0_sequence_31 : decode cX0_sequence 31 = .ok (.lstore_n 3, 1) := by decide +kernel
theorem dX0_sequence_32 : decode cX0_sequence 32 = .ok (.iconst 0, 1) := by decide +kernel
theorem dX0_sequence_33 : decode cX0_sequence 33 = .ok (.istore 5, 2) := by decide +kernel
theorem dX0_sequence_35 : decode cX0_sequence 35 = .ok (.iload 5, 2) := by decide +kernel
theorem dX0_sequence_37 : decode cX0_sequence 37 = .ok (.bipush 64, 2) := by decide +kernel
theorem dX0_sequence_39 : decode cX0_sequence 39 = .ok (.if_icmp .ge 100, 3) := by decide +kernel
theorem dX0_sequence_42 : decode cX0_sequence 42 = .ok (.aload_n 0, 1) := by decide +kernel
theorem dX0_sequence_43 : decode cX0_sequence 43 = .ok (.getfield 7, 3) := by decide +kernel
theorem dX0_sequence_46 : decode cX0_sequence 46 = .ok (.bipush 64, 2) := by decide +kernel
theorem dX0_sequence_48 : decode cX0_sequence 48 = .ok (.iload_n 1, 1) := by decide +kernel
theorem dX0_sequence_49 : decode cX0_sequence 49 = .ok (.imul, 1) := by decide +kernel
theorem dX0_sequence_50 : decode cX0_sequence 50 = .ok (.iload 5, 2) := by decide +kernel
theorem dX0_sequence_52 : decode cX0_sequence 52 = .ok (.iadd, 1) := by decide +kernel
theorem dX0_sequence_53 : decode cX0_sequence 53 = .ok (.laload, 1) := by decide +kernel
theorem dX0_sequence_54 : decode cX0_sequence 54 = .ok (.lstore 6, 2) := by decide +kernel
theorem dX0_sequence_56 : decode cX0_sequence 56 = .ok (.aload_n 0, 1) := by decide +kernel
theorem dX0_sequence_57 : decode cX0_sequence 57 = .ok (.getfield 7, 3) := by decide +kernel
theorem dX0_sequence_60 : decode cX0_sequence 60 = .ok (.bipush 64, 2) := by decide +kernel
theorem dX0_sequence_62 : decode cX0_sequence 62 = .ok (.aload_n 0, 1) := by decide +kernel
theorem dX0_sequence_63 : decode cX0_sequence 63 = .ok (.getfield 19, 3) := by decide +kernel
theorem dX0_sequence_66 : decode cX0_sequence 66 = .ok (.imul, 1) := by decide +kernel
theorem dX0_sequence_67 : decode cX0_sequence 67 = .ok (.iload 5, 2) := by decide +kernel
theorem dX0_sequence_69 : decode cX0_sequence 69 = .ok (.iadd, 1) := by decide +kernel
theorem dX0_sequence_70 : decode cX0_sequence 70 = .ok (.aload_n 0, 1) := by decide +kernel
theorem dX0_sequence_71 : decode cX0_sequence 71 = .ok (.iload_n 2, 1) := by decide +kernel
theorem dX0_sequence_72 : decode cX0_sequence 72 = .ok (.lload 6, 2) := by decide +kernel
theorem dX0_sequence_74 : decode cX0_sequence 74 = .ok (.invokevirtual 41, 3) := by decide +kernel
theorem dX0_sequence_77 : decode cX0_sequence 77 = .ok (.lastore, 1) := by decide +kernel
theorem dX0_sequence_78 : decode cX0_sequence 78 = .ok (.aload_n 0, 1) := by decide +kernel
theorem dX0_sequence_79 : decode cX0_sequence 79 = .ok (.getfield 13, 3) := by decide +kernel
theorem dX0_sequence_82 : decode cX0_sequence 82 = .ok (.iload_n 1, 1) := by decide +kernel
theorem dX0_sequence_83 : decode cX0_sequence 83 = .ok (.laload, 1) := by decide +kernel
theorem dX0_sequence_84 : decode cX0_sequence 84 = .ok (.iload 5, 2) := by decide +kernel
theorem dX0_sequence_86 : decode cX0_sequence 86 = .ok (.invokestatic 45, 3) := by decide +kernel
theorem dX0_sequence_89 : decode cX0_sequence 89 = .ok (.ifCond .eq 25, 3) := by decide +kernel
theorem dX0_sequence_92 : decode cX0_sequence 92 = .ok (.lload 6, 2) := by decide +kernel
theorem dX0_sequence_94 : decode cX0_sequence 94 = .ok (.aload_n 0, 1) := by decide +kernel
theorem dX0_sequence_95 : decode cX0_sequence 95 = .ok (.getfield 13, 3) := by decide +kernel
theorem dX0_sequence_98 : decode cX0_sequence 98 = .ok (.iload_n 2, 1) := by decide +kernel
theorem dX0_sequence_99 : decode cX0_sequence 99 = .ok (.laload, 1) := by decide +kernel
theorem dX0_sequence_100 : decode cX0_sequence 100 = .ok (.ldc2_w 31, 3) := by decide +kernel
theorem dX0_sequence_103 : decode cX0_sequence 103 = .ok (.lxor, 1) := by decide +kernel
theorem dX0_sequence_104 : decode cX0_sequence 104 = .ok (.land, 1) := by decide +kernel
theorem dX0_sequence_105 : decode cX0_sequence 105 = .ok (.lconst 0, 1) := by decide +kernel
theorem dX0_sequence_106 : decode cX0_sequence 106 = .ok (.lcmp, 1) := by decide +kernel
theorem dX0_sequence_107 : decode cX0_sequence 107 = .ok (.ifCond .ne 7, 3) := by decide +kernel
theorem dX0_sequence_110 : decode cX0_sequence 110 = .ok (.iconst 1, 1) := by decide +kernel
theorem dX0_sequence_111 : decode cX0_sequence 111 = .ok (.goto 4, 3) := by decide +kernel
theorem dX0_sequence_114 : decode cX0_sequence 114 = .ok (.iconst 0, 1) := by decide +kernel
theorem dX0_sequence_115 : decode cX0_sequence 115 = .ok (.istore 8, 2) := by decide +kernel
theorem dX0_sequence_117 : decode cX0_sequence 117 = .ok (.lload_n 3, 1) := by decide +kernel
theorem dX0_sequence_118 : decode cX0_sequence 118 = .ok (.iload 8, 2) := by decide +kernel
theorem dX0_sequence_120 : decode cX0_sequence 120 = .ok (.ifCond .eq 10, 3) := by decide +kernel
theorem dX0_sequence_123 : decode cX0_sequence 123 = .ok (.lconst 1, 1) := by decide +kernel
theorem dX0_sequence_124 : decode cX0_sequence 124 = .ok (.iload 5, 2) := by decide +kernel
theorem dX0_sequence_126 : decode cX0_sequence 126 = .ok (.lshl, 1) := by decide +kernel
theorem dX0_sequence_127 : decode cX0_sequence 127 = .ok (.goto 4, 3) := by decide +kernel
theorem dX0_sequence_130 : decode cX0_sequence 130 = .ok (.lconst 0, 1) := by decide +kernel
theorem dX0_sequence_131 : decode cX0_sequence 131 = .ok (.lor, 1) := by decide +kernel
theorem dX0_sequence_132 : decode cX0_sequence 132 = .ok (.lstore_n 3, 1) := by decide +kernel
theorem dX0_sequence_133 : decode cX0_sequence 133 = .ok (.iinc 5 1, 3) := by decide +kernel
theorem dX0_sequence_136 : decode cX0_sequence 136 = .ok (.goto (-101), 3) := by decide +kernel
theorem dX0_sequence_139 : decode cX0_sequence 139 = .ok (.aload_n 0, 1) := by decide +kernel
theorem dX0_sequence_140 : decode cX0_sequence 140 = .ok (.getfield 13, 3) := by decide +kernel
theorem dX0_sequence_143 : decode cX0_sequence 143 = .ok (.aload_n 0, 1) := by decide +kernel
theorem dX0_sequence_144 : decode cX0_sequence 144 = .ok (.getfield 19, 3) := by decide +kernel
theorem dX0_sequence_147 : decode cX0_sequence 147 = .ok (.lload_n 3, 1) := by decide +kernel
theorem dX0_sequence_148 : decode cX0_sequence 148 = .ok (.lastore, 1) := by decide +kernel
theorem dX0_sequence_149 : decode cX0_sequence 149 = .ok (.aload_n 0, 1) := by decide +kernel
theorem dX0_sequence_150 : decode cX0_sequence 150 = .ok (.invokevirtual 33, 3) := by decide +kernel
theorem dX0_sequence_153 : decode cX0_sequence 153 = .ok (.ireturn, 1) := by decide +kernel
abbrev cX0_isGood : ByteArray := prog_1_method_20_code
def yX0_isGood : MethodName := ⟨RX0, "isGood", "(I)Z"⟩
theorem dX0_isGood_0 : decode cX0_isGood 0 = .ok (.iload_n 1, 1) := by decide +kernel
theorem dX0_isGood_1 : decode cX0_isGood 1 = .ok (.ifCond .lt 15, 3) := by decide +kernel
theorem dX0_isGood_4 : decode cX0_isGood 4 = .ok (.iload_n 1, 1) := by decide +kernel
theorem dX0_isGood_5 : decode cX0_isGood 5 = .ok (.aload_n 0, 1) := by decide +kernel
theorem dX0_isGood_6 : decode cX0_isGood 6 = .ok (.getfield 19, 3) := by decide +kernel
theorem dX0_isGood_9 : decode cX0_isGood 9 = .ok (.if_icmp .ge 7, 3) := by decide +kernel
theorem dX0_isGood_12 : decode cX0_isGood 12 = .ok (.iconst 1, 1) := by decide +kernel
theorem dX0_isGood_13 : decode cX0_isGood 13 = .ok (.goto 4, 3) := by decide +kernel
theorem dX0_isGood_16 : decode cX0_isGood 16 = .ok (.iconst 0, 1) := by decide +kernel
theorem dX0_isGood_17 : decode cX0_isGood 17 = .ok (.ireturn, 1) := by decide +kernel
abbrev cX0_imageOf : ByteArray := prog_1_method_25_code
def yX0_imageOf : MethodName := ⟨RX0, "imageOf", "(IJ)J"⟩
theorem dX0_imageOf_0 : decode cX0_imageOf 0 = .ok (.lconst 0, 1) := by decide +kernel
theorem dX0_imageOf_1 : decode cX0_imageOf 1 = .ok (.lstore 4, 2) := by decide +kernel
theorem dX0_imageOf_3 : decode cX0_imageOf 3 = .ok (.iconst 0, 1) := by decide +kernel
theorem dX0_imageOf_4 : decode cX0_imageOf 4 = .ok (.istore 6, 2) := by decide +kernel
theorem dX0_imageOf_6 : decode cX0_imageOf 6 = .ok (.iload 6, 2) := by decide +kernel
theorem dX0_imageOf_8 : decode cX0_imageOf 8 = .ok (.bipush 64, 2) := by decide +kernel
theorem dX0_imageOf_10 : decode cX0_imageOf 10 = .ok (.if_icmp .ge 40, 3) := by decide +kernel
theorem dX0_imageOf_13 : decode cX0_imageOf 13 = .ok (.lload_n 2, 1) := by decide +kernel
theorem dX0_imageOf_14 : decode cX0_imageOf 14 = .ok (.iload 6, 2) := by decide +kernel
theorem dX0_imageOf_16 : decode cX0_imageOf 16 = .ok (.invokestatic 45, 3) := by decide +kernel
theorem dX0_imageOf_19 : decode cX0_imageOf 19 = .ok (.ifCond .eq 21, 3) := by decide +kernel
theorem dX0_imageOf_22 : decode cX0_imageOf 22 = .ok (.lload 4, 2) := by decide +kernel
theorem dX0_imageOf_24 : decode cX0_imageOf 24 = .ok (.aload_n 0, 1) := by decide +kernel
theorem dX0_imageOf_25 : decode cX0_imageOf 25 = .ok (.getfield 7, 3) := by decide +kernel
theorem dX0_imageOf_28 : decode cX0_imageOf 28 = .ok (.bipush 64, 2) := by decide +kernel
theorem dX0_imageOf_30 : decode cX0_imageOf 30 = .ok (.iload_n 1, 1) := by decide +kernel
theorem dX0_imageOf_31 : decode cX0_imageOf 31 = .ok (.imul, 1) := by decide +kernel
theorem dX0_imageOf_32 : decode cX0_imageOf 32 = .ok (.iload 6, 2) := by decide +kernel
theorem dX0_imageOf_34 : decode cX0_imageOf 34 = .ok (.iadd, 1) := by decide +kernel
theorem dX0_imageOf_35 : decode cX0_imageOf 35 = .ok (.laload, 1) := by decide +kernel
theorem dX0_imageOf_36 : decode cX0_imageOf 36 = .ok (.lor, 1) := by decide +kernel
theorem dX0_imageOf_37 : decode cX0_imageOf 37 = .ok (.goto 5, 3) := by decide +kernel
theorem dX0_imageOf_40 : decode cX0_imageOf 40 = .ok (.lload 4, 2) := by decide +kernel
theorem dX0_imageOf_42 : decode cX0_imageOf 42 = .ok (.lstore 4, 2) := by decide +kernel
theorem dX0_imageOf_44 : decode cX0_imageOf 44 = .ok (.iinc 6 1, 3) := by decide +kernel
theorem dX0_imageOf_47 : decode cX0_imageOf 47 = .ok (.goto (-41), 3) := by decide +kernel
theorem dX0_imageOf_50 : decode cX0_imageOf 50 = .ok (.lload 4, 2) := by decide +kernel
theorem dX0_imageOf_52 : decode cX0_imageOf 52 = .ok (.lreturn, 1) := by decide +kernel
abbrev cX0_has : ByteArray := prog_1_method_22_code
def yX0_has : MethodName := ⟨RX0, "has", "(JI)Z"⟩
theorem dX0_has_0 : decode cX0_has 0 = .ok (.lload_n 0, 1) := by decide +kernel
theorem dX0_has_1 : decode cX0_has 1 = .ok (.iload_n 2, 1) := by decide +kernel
theorem dX0_has_2 : decode cX0_has 2 = .ok (.lushr, 1) := by decide +kernel
theorem dX0_has_3 : decode cX0_has 3 = .ok (.lconst 1, 1) := by decide +kernel
theorem dX0_has_4 : decode cX0_has 4 = .ok (.land, 1) := by decide +kernel
theorem dX0_has_5 : decode cX0_has 5 = .ok (.lconst 1, 1) := by decide +kernel
theorem dX0_has_6 : decode cX0_has 6 = .ok (.lcmp, 1) := by decide +kernel
theorem dX0_has_7 : decode cX0_has 7 = .ok (.ifCond .ne 7, 3) := by decide +kernel
theorem dX0_has_10 : decode cX0_has 10 = .ok (.iconst 1, 1) := by decide +kernel
theorem dX0_has_11 : decode cX0_has 11 = .ok (.goto 4, 3) := by decide +kernel
theorem dX0_has_14 : decode cX0_has 14 = .ok (.iconst 0, 1) := by decide +kernel
theorem dX0_has_15 : decode cX0_has 15 = .ok (.ireturn, 1) := by decide +kernel
abbrev cX0_choice : ByteArray := prog_1_method_9_code
def yX0_choice : MethodName := ⟨RX0, "choice", "(II)I"⟩
theorem dX0_choice_0 : decode cX0_choice 0 = .ok (.aload_n 0, 1) := by decide +kernel
theorem dX0_choice_1 : decode cX0_choice 1 = .ok (.iload_n 1, 1) := by decide +kernel
theorem dX0_choice_2 : decode cX0_choice 2 = .ok (.invokevirtual 37, 3) := by decide +kernel
theorem dX0_choice_5 : decode cX0_choice 5 = .ok (.ifCond .eq 11, 3) := by decide +kernel
theorem dX0_choice_8 : decode cX0_choice 8 = .ok (.aload_n 0, 1) := by decide +kernel
theorem dX0_choice_9 : decode cX0_choice 9 = .ok (.iload_n 2, 1) := by decide +kernel
theorem dX0_choice_10 : decode cX0_choice 10 = .ok (.invokevirtual 37, 3) := by decide +kernel
theorem dX0_choice_13 : decode cX0_choice 13 = .ok (.ifCond .ne 5, 3) := by decide +kernel
theorem dX0_choice_16 : decode cX0_choice 16 = .ok (.iconst (-1), 1) := by decide +kernel
theorem dX0_choice_17 : decode cX0_choice 17 = .ok (.ireturn, 1) := by decide +kernel
theorem dX0_choice_18 : decode cX0_choice 18 = .ok (.aload_n 0, 1) := by decide +kernel
theorem dX0_choice_19 : decode cX0_choice 19 = .ok (.getfield 19, 3) := by decide +kernel
theorem dX0_choice_22 : decode cX0_choice 22 = .ok (.bipush 30, 2) := by decide +kernel
theorem dX0_choice_24 : decode cX0_choice 24 = .ok (.if_icmp .ne 6, 3) := by decide +kernel
theorem dX0_choice_27 : decode cX0_choice 27 = .ok (.bipush (-2), 2) := by decide +kernel
theorem dX0_choice_29 : decode cX0_choice 29 = .ok (.ireturn, 1) := by decide +kernel
theorem dX0_choice_30 : decode cX0_choice 30 = .ok (.aload_n 0, 1) := by decide +kernel
theorem dX0_choice_31 : decode cX0_choice 31 = .ok (.getfield 16, 3) := by decide +kernel
theorem dX0_choice_34 : decode cX0_choice 34 = .ok (.iconst 0, 1) := by decide +kernel
theorem dX0_choice_35 : decode cX0_choice 35 = .ok (.laload, 1) := by decide +kernel
theorem dX0_choice_36 : decode cX0_choice 36 = .ok (.aload_n 0, 1) := by decide +kernel
theorem dX0_choice_37 : decode cX0_choice 37 = .ok (.getfield 16, 3) := by decide +kernel
theorem dX0_choice_40 : decode cX0_choice 40 = .ok (.iconst 1, 1) := by decide +kernel
theorem dX0_choice_41 : decode cX0_choice 41 = .ok (.laload, 1) := by decide +kernel
theorem dX0_choice_42 : decode cX0_choice 42 = .ok (.lor, 1) := by decide +kernel
theorem dX0_choice_43 : decode cX0_choice 43 = .ok (.lstore_n 3, 1) := by decide +kernel
theorem dX0_choice_44 : decode cX0_choice 44 = .ok (.lload_n 3, 1) := by decide +kernel
theorem dX0_choice_45 : decode cX0_choice 45 = .ok (.aload_n 0, 1) := by decide +kernel
theorem dX0_choice_46 : decode cX0_choice 46 = .ok (.getfield 13, 3) := by decide +kernel
theorem dX0_choice_49 : decode cX0_choice 49 = .ok (.iload_n 1, 1) := by decide +kernel
theorem dX0_choice_50 : decode cX0_choice 50 = .ok (.laload, 1) := by decide +kernel
theorem dX0_choice_51 : decode cX0_choice 51 = .ok (.aload_n 0, 1) := by decide +kernel
theorem dX0_choice_52 : decode cX0_choice 52 = .ok (.getfield 16, 3) := by decide +kernel
theorem dX0_choice_55 : decode cX0_choice 55 = .ok (.iconst 0, 1) := by decide +kernel
theorem dX0_choice_56 : decode cX0_choice 56 = .ok (.laload, 1) := by decide +kernel
theorem dX0_choice_57 : decode cX0_choice 57 = .ok (.ldc2_w 31, 3) := by decide +kernel
theorem dX0_choice_60 : decode cX0_choice 60 = .ok (.lxor, 1) := by decide +kernel
theorem dX0_choice_61 : decode cX0_choice 61 = .ok (.lor, 1) := by decide +kernel
theorem dX0_choice_62 : decode cX0_choice 62 = .ok (.land, 1) := by decide +kernel
theorem dX0_choice_63 : decode cX0_choice 63 = .ok (.aload_n 0, 1) := by decide +kernel
theorem dX0_choice_64 : decode cX0_choice 64 = .ok (.getfield 13, 3) := by decide +kernel
theorem dX0_choice_67 : decode cX0_choice 67 = .ok (.iload_n 2, 1) := by decide +kernel
theorem dX0_choice_68 : decode cX0_choice 68 = .ok (.laload, 1) := by decide +kernel
theorem dX0_choice_69 : decode cX0_choice 69 = .ok (.aload_n 0, 1) := by decide +kernel
theorem dX0_choice_70 : decode cX0_choice 70 = .ok (.getfield 16, 3) := by decide +kernel
theorem dX0_choice_73 : decode cX0_choice 73 = .ok (.iconst 1, 1) := by decide +kernel
theorem dX0_choice_74 : decode cX0_choice 74 = .ok (.laload, 1) := by decide +kernel
theorem dX0_choice_75 : decode cX0_choice 75 = .ok (.ldc2_w 31, 3) := by decide +kernel
theorem dX0_choice_78 : decode cX0_choice 78 = .ok (.lxor, 1) := by decide +kernel
theorem dX0_choice_79 : decode cX0_choice 79 = .ok (.lor, 1) := by decide +kernel
theorem dX0_choice_80 : decode cX0_choice 80 = .ok (.land, 1) := by decide +kernel
theorem dX0_choice_81 : decode cX0_choice 81 = .ok (.lstore_n 3, 1) := by decide +kernel
theorem dX0_choice_82 : decode cX0_choice 82 = .ok (.iconst 0, 1) := by decide +kernel
theorem dX0_choice_83 : decode cX0_choice 83 = .ok (.istore 5, 2) := by decide +kernel
theorem dX0_choice_85 : decode cX0_choice 85 = .ok (.iload 5, 2) := by decide +kernel
theorem dX0_choice_87 : decode cX0_choice 87 = .ok (.bipush 64, 2) := by decide +kernel
theorem dX0_choice_89 : decode cX0_choice 89 = .ok (.if_icmp .ge 32, 3) := by decide +kernel
theorem dX0_choice_92 : decode cX0_choice 92 = .ok (.aload_n 0, 1) := by decide +kernel
theorem dX0_choice_93 : decode cX0_choice 93 = .ok (.getfield 7, 3) := by decide +kernel
theorem dX0_choice_96 : decode cX0_choice 96 = .ok (.bipush 64, 2) := by decide +kernel
theorem dX0_choice_98 : decode cX0_choice 98 = .ok (.aload_n 0, 1) := by decide +kernel
theorem dX0_choice_99 : decode cX0_choice 99 = .ok (.getfield 19, 3) := by decide +kernel
theorem dX0_choice_102 : decode cX0_choice 102 = .ok (.imul, 1) := by decide +kernel
theorem dX0_choice_103 : decode cX0_choice 103 = .ok (.iload 5, 2) := by decide +kernel
theorem dX0_choice_105 : decode cX0_choice 105 = .ok (.iadd, 1) := by decide +kernel
theorem dX0_choice_106 : decode cX0_choice 106 = .ok (.aload_n 0, 1) := by decide +kernel
theorem dX0_choice_107 : decode cX0_choice 107 = .ok (.iload_n 1, 1) := by decide +kernel
theorem dX0_choice_108 : decode cX0_choice 108 = .ok (.iload_n 2, 1) := by decide +kernel
theorem dX0_choice_109 : decode cX0_choice 109 = .ok (.iload 5, 2) := by decide +kernel
theorem dX0_choice_111 : decode cX0_choice 111 = .ok (.invokevirtual 49, 3) := by decide +kernel
theorem dX0_choice_114 : decode cX0_choice 114 = .ok (.lastore, 1) := by decide +kernel
theorem dX0_choice_115 : decode cX0_choice 115 = .ok (.iinc 5 1, 3) := by decide +kernel
theorem dX0_choice_118 : decode cX0_choice 118 = .ok (.goto (-33), 3) := by decide +kernel
theorem dX0_choice_121 : decode cX0_choice 121 = .ok (.aload_n 0, 1) := by decide +kernel
theorem dX0_choice_122 : decode cX0_choice 122 = .ok (.getfield 13, 3) := by decide +kernel
theorem dX0_choice_125 : decode cX0_choice 125 = .ok (.aload_n 0, 1) := by decide +kernel
theorem dX0_choice_126 : decode cX0_choice 126 = .ok (.getfield 19, 3) := by decide +kernel
theorem dX0_choice_129 : decode cX0_choice 129 = .ok (.lload_n 3, 1) := by decide +kernel
theorem dX0_choice_130 : decode cX0_choice 130 = .ok (.lastore, 1) := by decide +kernel
theorem dX0_choice_131 : decode cX0_choice 131 = .ok (.aload_n 0, 1) := by decide +kernel
theorem dX0_choice_132 : decode cX0_choice 132 = .ok (.invokevirtual 33, 3) := by decide +kernel
theorem dX0_choice_135 : decode cX0_choice 135 = .ok (.ireturn, 1) := by decide +kernel
end
section
set_option maxRecDepth 100000
abbrev cX0_step : ByteArray := prog_1_method_26_code
def yX0_step : MethodName := ⟨RX0, "step", "(III)J"⟩
theorem dX0_step_0 : decode cX0_step 0 = .ok (.aload_n 0, 1) := by decide +kernel
theorem dX0_step_1 : decode cX0_step 1 = .ok (.getfield 16, 3) := by decide +kernel
theorem dX0_step_4 : decode cX0_step 4 = .ok (.iconst 0, 1) := by decide +kernel
theorem dX0_step_5 : decode cX0_step 5 = .ok (.laload, 1) := by decide +kernel
theorem dX0_step_6 : decode cX0_step 6 = .ok (.iload_n 3, 1) := by decide +kernel
theorem dX0_step_7 : decode cX0_step 7 = .ok (.invokestatic 45, 3) := by decide +kernel
theorem dX0_step_10 : decode cX0_step 10 = .ok (.ifCond .eq 17, 3) := by decide +kernel
theorem dX0_step_13 : decode cX0_step 13 = .ok (.aload_n 0, 1) := by decide +kernel
theorem dX0_step_14 : decode cX0_step 14 = .ok (.getfield 7, 3) := by decide +kernel
theorem dX0_step_17 : decode cX0_step 17 = .ok (.bipush 64, 2) := by decide +kernel
theorem dX0_step_19 : decode cX0_step 19 = .ok (.iload_n 1, 1) := by decide +kernel
theorem dX0_step_20 : decode cX0_step 20 = .ok (.imul, 1) := by decide +kernel
theorem dX0_step_21 : decode cX0_step 21 = .ok (.iload_n 3, 1) := by decide +kernel
theorem dX0_step_22 : decode cX0_step 22 = .ok (.iadd, 1) := by decide +kernel
theorem dX0_step_23 : decode cX0_step 23 = .ok (.laload, 1) := by decide +kernel
theorem dX0_step_24 : decode cX0_step 24 = .ok (.goto 4, 3) := by decide +kernel
theorem dX0_step_27 : decode cX0_step 27 = .ok (.lconst 0, 1) := by decide +kernel
theorem dX0_step_28 : decode cX0_step 28 = .ok (.lstore 4, 2) := by decide +kernel
theorem dX0_step_30 : decode cX0_step 30 = .ok (.aload_n 0, 1) := by decide +kernel
theorem dX0_step_31 : decode cX0_step 31 = .ok (.getfield 16, 3) := by decide +kernel
theorem dX0_step_34 : decode cX0_step 34 = .ok (.iconst 1, 1) := by decide +kernel
theorem dX0_step_35 : decode cX0_step 35 = .ok (.laload, 1) := by decide +kernel
theorem dX0_step_36 : decode cX0_step 36 = .ok (.iload_n 3, 1) := by decide +kernel
theorem dX0_step_37 : decode cX0_step 37 = .ok (.invokestatic 45, 3) := by decide +kernel
theorem dX0_step_40 : decode cX0_step 40 = .ok (.ifCond .eq 20, 3) := by decide +kernel
theorem dX0_step_43 : decode cX0_step 43 = .ok (.lload 4, 2) := by decide +kernel
theorem dX0_step_45 : decode cX0_step 45 = .ok (.aload_n 0, 1) := by decide +kernel
theorem dX0_step_46 : decode cX0_step 46 = .ok (.getfield 7, 3) := by decide +kernel
theorem dX0_step_49 : decode cX0_step 49 = .ok (.bipush 64, 2) := by decide +kernel
theorem dX0_step_51 : decode cX0_step 51 = .ok (.iload_n 2, 1) := by decide +kernel
theorem dX0_step_52 : decode cX0_step 52 = .ok (.imul, 1) := by decide +kernel
theorem dX0_step_53 : decode cX0_step 53 = .ok (.iload_n 3, 1) := by decide +kernel
theorem dX0_step_54 : decode cX0_step 54 = .ok (.iadd, 1) := by decide +kernel
theorem dX0_step_55 : decode cX0_step 55 = .ok (.laload, 1) := by decide +kernel
theorem dX0_step_56 : decode cX0_step 56 = .ok (.lor, 1) := by decide +kernel
theorem dX0_step_57 : decode cX0_step 57 = .ok (.goto 5, 3) := by decide +kernel
theorem dX0_step_60 : decode cX0_step 60 = .ok (.lload 4, 2) := by decide +kernel
theorem dX0_step_62 : decode cX0_step 62 = .ok (.lreturn, 1) := by decide +kernel
abbrev cX0_loop : ByteArray := prog_1_method_10_code
def yX0_loop : MethodName := ⟨RX0, "loop", "(II)I"⟩
theorem dX0_loop_0 : decode cX0_loop 0 = .ok (.aload_n 0, 1) := by decide +kernel
theorem dX0_loop_1 : decode cX0_loop 1 = .ok (.iload_n 1, 1) := by decide +kernel
theorem dX0_loop_2 : decode cX0_loop 2 = .ok (.invokevirtual 37, 3) := by decide +kernel
theorem dX0_loop_5 : decode cX0_loop 5 = .ok (.ifCond .eq 11, 3) := by decide +kernel
theorem dX0_loop_8 : decode cX0_loop 8 = .ok (.aload_n 0, 1) := by decide +kernel
theorem dX0_loop_9 : decode cX0_loop 9 = .ok (.iload_n 2, 1) := by decide +kernel
theorem dX0_loop_10 : decode cX0_loop 10 = .ok (.invokevirtual 37, 3) := by decide +kernel
theorem dX0_loop_13 : decode cX0_loop 13 = .ok (.ifCond .ne 5, 3) := by decide +kernel
theorem dX0_loop_16 : decode cX0_loop 16 = .ok (.iconst (-1), 1) := by decide +kernel
theorem dX0_loop_17 : decode cX0_loop 17 = .ok (.ireturn, 1) := by decide +kernel
theorem dX0_loop_18 : decode cX0_loop 18 = .ok (.aload_n 0, 1) := by decide +kernel
theorem dX0_loop_19 : decode cX0_loop 19 = .ok (.getfield 19, 3) := by decide +kernel
theorem dX0_loop_22 : decode cX0_loop 22 = .ok (.bipush 30, 2) := by decide +kernel
theorem dX0_loop_24 : decode cX0_loop 24 = .ok (.if_icmp .ne 6, 3) := by decide +kernel
theorem dX0_loop_27 : decode cX0_loop 27 = .ok (.bipush (-2), 2) := by decide +kernel
theorem dX0_loop_29 : decode cX0_loop 29 = .ok (.ireturn, 1) := by decide +kernel
theorem dX0_loop_30 : decode cX0_loop 30 = .ok (.aload_n 0, 1) := by decide +kernel
theorem dX0_loop_31 : decode cX0_loop 31 = .ok (.getfield 16, 3) := by decide +kernel
theorem dX0_loop_34 : decode cX0_loop 34 = .ok (.iconst 0, 1) := by decide +kernel
theorem dX0_loop_35 : decode cX0_loop 35 = .ok (.laload, 1) := by decide +kernel
theorem dX0_loop_36 : decode cX0_loop 36 = .ok (.aload_n 0, 1) := by decide +kernel
theorem dX0_loop_37 : decode cX0_loop 37 = .ok (.getfield 16, 3) := by decide +kernel
theorem dX0_loop_40 : decode cX0_loop 40 = .ok (.iconst 1, 1) := by decide +kernel
theorem dX0_loop_41 : decode cX0_loop 41 = .ok (.laload, 1) := by decide +kernel
theorem dX0_loop_42 : decode cX0_loop 42 = .ok (.lor, 1) := by decide +kernel
theorem dX0_loop_43 : decode cX0_loop 43 = .ok (.ldc2_w 31, 3) := by decide +kernel
theorem dX0_loop_46 : decode cX0_loop 46 = .ok (.lxor, 1) := by decide +kernel
theorem dX0_loop_47 : decode cX0_loop 47 = .ok (.lstore_n 3, 1) := by decide +kernel
theorem dX0_loop_48 : decode cX0_loop 48 = .ok (.iconst 0, 1) := by decide +kernel
theorem dX0_loop_49 : decode cX0_loop 49 = .ok (.istore 5, 2) := by decide +kernel
theorem dX0_loop_51 : decode cX0_loop 51 = .ok (.iload 5, 2) := by decide +kernel
theorem dX0_loop_53 : decode cX0_loop 53 = .ok (.bipush 64, 2) := by decide +kernel
theorem dX0_loop_55 : decode cX0_loop 55 = .ok (.if_icmp .ge 34, 3) := by decide +kernel
theorem dX0_loop_58 : decode cX0_loop 58 = .ok (.aload_n 0, 1) := by decide +kernel
theorem dX0_loop_59 : decode cX0_loop 59 = .ok (.getfield 7, 3) := by decide +kernel
theorem dX0_loop_62 : decode cX0_loop 62 = .ok (.bipush 64, 2) := by decide +kernel
theorem dX0_loop_64 : decode cX0_loop 64 = .ok (.aload_n 0, 1) := by decide +kernel
theorem dX0_loop_65 : decode cX0_loop 65 = .ok (.getfield 19, 3) := by decide +kernel
theorem dX0_loop_68 : decode cX0_loop 68 = .ok (.imul, 1) := by decide +kernel
theorem dX0_loop_69 : decode cX0_loop 69 = .ok (.iload 5, 2) := by decide +kernel
theorem dX0_loop_71 : decode cX0_loop 71 = .ok (.iadd, 1) := by decide +kernel
theorem dX0_loop_72 : decode cX0_loop 72 = .ok (.aload_n 0, 1) := by decide +kernel
theorem dX0_loop_73 : decode cX0_loop 73 = .ok (.iload_n 1, 1) := by decide +kernel
theorem dX0_loop_74 : decode cX0_loop 74 = .ok (.iload_n 2, 1) := by decide +kernel
theorem dX0_loop_75 : decode cX0_loop 75 = .ok (.iload 5, 2) := by decide +kernel
theorem dX0_loop_77 : decode cX0_loop 77 = .ok (.invokevirtual 53, 3) := by decide +kernel
theorem dX0_loop_80 : decode cX0_loop 80 = .ok (.lload_n 3, 1) := by decide +kernel
theorem dX0_loop_81 : decode cX0_loop 81 = .ok (.land, 1) := by decide +kernel
theorem dX0_loop_82 : decode cX0_loop 82 = .ok (.lastore, 1) := by decide +kernel
theorem dX0_loop_83 : decode cX0_loop 83 = .ok (.iinc 5 1, 3) := by decide +kernel
theorem dX0_loop_86 : decode cX0_loop 86 = .ok (.goto (-35), 3) := by decide +kernel
theorem dX0_loop_89 : decode cX0_loop 89 = .ok (.aload_n 0, 1) := by decide +kernel
theorem dX0_loop_90 : decode cX0_loop 90 = .ok (.getfield 13, 3) := by decide +kernel
theorem dX0_loop_93 : decode cX0_loop 93 = .ok (.aload_n 0, 1) := by decide +kernel
theorem dX0_loop_94 : decode cX0_loop 94 = .ok (.getfield 19, 3) := by decide +kernel
theorem dX0_loop_97 : decode cX0_loop 97 = .ok (.aload_n 0, 1) := by decide +kernel
theorem dX0_loop_98 : decode cX0_loop 98 = .ok (.iload_n 1, 1) := by decide +kernel
theorem dX0_loop_99 : decode cX0_loop 99 = .ok (.iload_n 2, 1) := by decide +kernel
theorem dX0_loop_100 : decode cX0_loop 100 = .ok (.lload_n 3, 1) := by decide +kernel
theorem dX0_loop_101 : decode cX0_loop 101 = .ok (.invokevirtual 56, 3) := by decide +kernel
theorem dX0_loop_104 : decode cX0_loop 104 = .ok (.lastore, 1) := by decide +kernel
theorem dX0_loop_105 : decode cX0_loop 105 = .ok (.aload_n 0, 1) := by decide +kernel
theorem dX0_loop_106 : decode cX0_loop 106 = .ok (.invokevirtual 33, 3) := by decide +kernel
theorem dX0_loop_109 : decode cX0_loop 109 = .ok (.ireturn, 1) := by decide +kernel
abbrev cX0_reached : ByteArray := prog_1_method_27_code
def yX0_reached : MethodName := ⟨RX0, "reached", "(III)J"⟩
theorem dX0_reached_0 : decode cX0_reached 0 = .ok (.lconst 1, 1) := by decide +kernel
theorem dX0_reached_1 : decode cX0_reached 1 = .ok (.iload_n 3, 1) := by decide +kernel
theorem dX0_reached_2 : decode cX0_reached 2 = .ok (.lshl, 1) := by decide +kernel
theorem dX0_reached_3 : decode cX0_reached 3 = .ok (.lstore 4, 2) := by decide +kernel
theorem dX0_reached_5 : decode cX0_reached 5 = .ok (.lconst 0, 1) := by decide +kernel
theorem dX0_reached_6 : decode cX0_reached 6 = .ok (.lstore 6, 2) := by decide +kernel
theorem dX0_reached_8 : decode cX0_reached 8 = .ok (.iconst 0, 1) := by decide +kernel
theorem dX0_reached_9 : decode cX0_reached 9 = .ok (.istore 8, 2) := by decide +kernel
theorem dX0_reached_11 : decode cX0_reached 11 = .ok (.iload 8, 2) := by decide +kernel
theorem dX0_reached_13 : decode cX0_reached 13 = .ok (.bipush 64, 2) := by decide +kernel
theorem dX0_reached_15 : decode cX0_reached 15 = .ok (.if_icmp .gt 76, 3) := by decide +kernel
theorem dX0_reached_18 : decode cX0_reached 18 = .ok (.lload 4, 2) := by decide +kernel
theorem dX0_reached_20 : decode cX0_reached 20 = .ok (.lload 6, 2) := by decide +kernel
theorem dX0_reached_22 : decode cX0_reached 22 = .ok (.lcmp, 1) := by decide +kernel
theorem dX0_reached_23 : decode cX0_reached 23 = .ok (.ifCond .eq 68, 3) := by decide +kernel
theorem dX0_reached_26 : decode cX0_reached 26 = .ok (.lload 4, 2) := by decide +kernel
theorem dX0_reached_28 : decode cX0_reached 28 = .ok (.lload 6, 2) := by decide +kernel
theorem dX0_reached_30 : decode cX0_reached 30 = .ok (.ldc2_w 31, 3) := by decide +kernel
theorem dX0_reached_33 : decode cX0_reached 33 = .ok (.lxor, 1) := by decide +kernel
theorem dX0_reached_34 : decode cX0_reached 34 = .ok (.land, 1) := by decide +kernel
theorem dX0_reached_35 : decode cX0_reached 35 = .ok (.lstore 9, 2) := by decide +kernel
theorem dX0_reached_37 : decode cX0_reached 37 = .ok (.lload 4, 2) := by decide +kernel
theorem dX0_reached_39 : decode cX0_reached 39 = .ok (.lstore 6, 2) := by decide +kernel
theorem dX0_reached_41 : decode cX0_reached 41 = .ok (.iconst 0, 1) := by decide +kernel
theorem dX0_reached_42 : decode cX0_reached 42 = .ok (.istore 11, 2) := by decide +kernel
theorem dX0_reached_44 : decode cX0_reached 44 = .ok (.iload 11, 2) := by decide +kernel
theorem dX0_reached_46 : decode cX0_reached 46 = .ok (.bipush 64, 2) := by decide +kernel
theorem dX0_reached_48 : decode cX0_reached 48 = .ok (.if_icmp .ge 37, 3) := by decide +kernel
theorem dX0_reached_51 : decode cX0_reached 51 = .ok (.lload 9, 2) := by decide +kernel
theorem dX0_reached_53 : decode cX0_reached 53 = .ok (.iload 11, 2) := by decide +kernel
theorem dX0_reached_55 : decode cX0_reached 55 = .ok (.invokestatic 45, 3) := by decide +kernel
theorem dX0_reached_58 : decode cX0_reached 58 = .ok (.ifCond .eq 17, 3) := by decide +kernel
theorem dX0_reached_61 : decode cX0_reached 61 = .ok (.lload 4, 2) := by decide +kernel
theorem dX0_reached_63 : decode cX0_reached 63 = .ok (.aload_n 0, 1) := by decide +kernel
theorem dX0_reached_64 : decode cX0_reached 64 = .ok (.iload_n 1, 1) := by decide +kernel
theorem dX0_reached_65 : decode cX0_reached 65 = .ok (.iload_n 2, 1) := by decide +kernel
theorem dX0_reached_66 : decode cX0_reached 66 = .ok (.iload 11, 2) := by decide +kernel
theorem dX0_reached_68 : decode cX0_reached 68 = .ok (.invokevirtual 49, 3) := by decide +kernel
theorem dX0_reached_71 : decode cX0_reached 71 = .ok (.lor, 1) := by decide +kernel
theorem dX0_reached_72 : decode cX0_reached 72 = .ok (.goto 5, 3) := by decide +kernel
theorem dX0_reached_75 : decode cX0_reached 75 = .ok (.lload 4, 2) := by decide +kernel
theorem dX0_reached_77 : decode cX0_reached 77 = .ok (.lstore 4, 2) := by decide +kernel
theorem dX0_reached_79 : decode cX0_reached 79 = .ok (.iinc 11 1, 3) := by decide +kernel
theorem dX0_reached_82 : decode cX0_reached 82 = .ok (.goto (-38), 3) := by decide +kernel
theorem dX0_reached_85 : decode cX0_reached 85 = .ok (.iinc 8 1, 3) := by decide +kernel
theorem dX0_reached_88 : decode cX0_reached 88 = .ok (.goto (-77), 3) := by decide +kernel
theorem dX0_reached_91 : decode cX0_reached 91 = .ok (.lload 4, 2) := by decide +kernel
theorem dX0_reached_93 : decode cX0_reached 93 = .ok (.lreturn, 1) := by decide +kernel
abbrev cX0_loopSure : ByteArray := prog_1_method_28_code
def yX0_loopSure : MethodName := ⟨RX0, "loopSure", "(IIJ)J"⟩
theorem dX0_loopSure_0 : decode cX0_loopSure 0 = .ok (.lload_n 3, 1) := by decide +kernel
theorem dX0_loopSure_1 : decode cX0_loopSure 1 = .ok (.lstore 5, 2) := by decide +kernel
theorem dX0_loopSure_3 : decode cX0_loopSure 3 = .ok (.iconst 1, 1) := by decide +kernel
theorem dX0_loopSure_4 : decode cX0_loopSure 4 = .ok (.istore 7, 2) := by decide +kernel
theorem dX0_loopSure_6 : decode cX0_loopSure 6 = .ok (.iconst 0, 1) := by decide +kernel
theorem dX0_loopSure_7 : decode cX0_loopSure 7 = .ok (.istore 8, 2) := by decide +kernel
theorem dX0_loopSure_9 : decode cX0_loopSure 9 = .ok (.iload 8, 2) := by decide +kernel
theorem dX0_loopSure_11 : decode cX0_loopSure 11 = .ok (.bipush 64, 2) := by decide +kernel
theorem dX0_loopSure_13 : decode cX0_loopSure 13 = .ok (.if_icmp .gt 167, 3) := by decide +kernel
theorem dX0_loopSure_16 : decode cX0_loopSure 16 = .ok (.iload 7, 2) := by decide +kernel
theorem dX0_loopSure_18 : decode cX0_loopSure 18 = .ok (.ifCond .eq 162, 3) := by decide +kernel
theorem dX0_loopSure_21 : decode cX0_loopSure 21 = .ok (.iconst 0, 1) := by decide +kernel
theorem dX0_loopSure_22 : decode cX0_loopSure 22 = .ok (.istore 7, 2) := by decide +kernel
theorem dX0_loopSure_24 : decode cX0_loopSure 24 = .ok (.iconst 0, 1) := by decide +kernel
theorem dX0_loopSure_25 : decode cX0_loopSure 25 = .ok (.istore 9, 2) := by decide +kernel
theorem dX0_loopSure_27 : decode cX0_loopSure 27 = .ok (.iload 9, 2) := by decide +kernel
theorem dX0_loopSure_29 : decode cX0_loopSure 29 = .ok (.bipush 64, 2) := by decide +kernel
theorem dX0_loopSure_31 : decode cX0_loopSure 31 = .ok (.if_icmp .ge 143, 3) := by decide +kernel
theorem dX0_loopSure_34 : decode cX0_loopSure 34 = .ok (.aload_n 0, 1) := by decide +kernel
theorem dX0_loopSure_35 : decode cX0_loopSure 35 = .ok (.getfield 16, 3) := by decide +kernel
theorem dX0_loopSure_38 : decode cX0_loopSure 38 = .ok (.iconst 0, 1) := by decide +kernel
theorem dX0_loopSure_39 : decode cX0_loopSure 39 = .ok (.laload, 1) := by decide +kernel
theorem dX0_loopSure_40 : decode cX0_loopSure 40 = .ok (.iload 9, 2) := by decide +kernel
theorem dX0_loopSure_42 : decode cX0_loopSure 42 = .ok (.invokestatic 45, 3) := by decide +kernel
theorem dX0_loopSure_45 : decode cX0_loopSure 45 = .ok (.ifCond .eq 17, 3) := by decide +kernel
theorem dX0_loopSure_48 : decode cX0_loopSure 48 = .ok (.aload_n 0, 1) := by decide +kernel
theorem dX0_loopSure_49 : decode cX0_loopSure 49 = .ok (.getfield 13, 3) := by decide +kernel
theorem dX0_loopSure_52 : decode cX0_loopSure 52 = .ok (.iload_n 1, 1) := by decide +kernel
theorem dX0_loopSure_53 : decode cX0_loopSure 53 = .ok (.laload, 1) := by decide +kernel
theorem dX0_loopSure_54 : decode cX0_loopSure 54 = .ok (.iload 9, 2) := by decide +kernel
theorem dX0_loopSure_56 : decode cX0_loopSure 56 = .ok (.invokestatic 45, 3) := by decide +kernel
theorem dX0_loopSure_59 : decode cX0_loopSure 59 = .ok (.ifCond .eq 7, 3) := by decide +kernel
theorem dX0_loopSure_62 : decode cX0_loopSure 62 = .ok (.iconst 1, 1) := by decide +kernel
theorem dX0_loopSure_63 : decode cX0_loopSure 63 = .ok (.goto 4, 3) := by decide +kernel
theorem dX0_loopSure_66 : decode cX0_loopSure 66 = .ok (.iconst 0, 1) := by decide +kernel
theorem dX0_loopSure_67 : decode cX0_loopSure 67 = .ok (.istore 10, 2) := by decide +kernel
theorem dX0_loopSure_69 : decode cX0_loopSure 69 = .ok (.aload_n 0, 1) := by decide +kernel
theorem dX0_loopSure_70 : decode cX0_loopSure 70 = .ok (.getfield 16, 3) := by decide +kernel
theorem dX0_loopSure_73 : decode cX0_loopSure 73 = .ok (.iconst 1, 1) := by decide +kernel
theorem dX0_loopSure_74 : decode cX0_loopSure 74 = .ok (.laload, 1) := by decide +kernel
theorem dX0_loopSure_75 : decode cX0_loopSure 75 = .ok (.iload 9, 2) := by decide +kernel
theorem dX0_loopSure_77 : decode cX0_loopSure 77 = .ok (.invokestatic 45, 3) := by decide +kernel
theorem dX0_loopSure_80 : decode cX0_loopSure 80 = .ok (.ifCond .eq 17, 3) := by decide +kernel
theorem dX0_loopSure_83 : decode cX0_loopSure 83 = .ok (.aload_n 0, 1) := by decide +kernel
theorem dX0_loopSure_84 : decode cX0_loopSure 84 = .ok (.getfield 13, 3) := by decide +kernel
theorem dX0_loopSure_87 : decode cX0_loopSure 87 = .ok (.iload_n 2, 1) := by decide +kernel
theorem dX0_loopSure_88 : decode cX0_loopSure 88 = .ok (.laload, 1) := by decide +kernel
theorem dX0_loopSure_89 : decode cX0_loopSure 89 = .ok (.iload 9, 2) := by decide +kernel
theorem dX0_loopSure_91 : decode cX0_loopSure 91 = .ok (.invokestatic 45, 3) := by decide +kernel
theorem dX0_loopSure_94 : decode cX0_loopSure 94 = .ok (.ifCond .eq 7, 3) := by decide +kernel
theorem dX0_loopSure_97 : decode cX0_loopSure 97 = .ok (.iconst 1, 1) := by decide +kernel
theorem dX0_loopSure_98 : decode cX0_loopSure 98 = .ok (.goto 4, 3) := by decide +kernel
theorem dX0_loopSure_101 : decode cX0_loopSure 101 = .ok (.iconst 0, 1) := by decide +kernel
theorem dX0_loopSure_102 : decode cX0_loopSure 102 = .ok (.istore 11, 2) := by decide +kernel
theorem dX0_loopSure_104 : decode cX0_loopSure 104 = .ok (.aload_n 0, 1) := by decide +kernel
theorem dX0_loopSure_105 : decode cX0_loopSure 105 = .ok (.iload_n 1, 1) := by decide +kernel
theorem dX0_loopSure_106 : decode cX0_loopSure 106 = .ok (.iload_n 2, 1) := by decide +kernel
theorem dX0_loopSure_107 : decode cX0_loopSure 107 = .ok (.iload 9, 2) := by decide +kernel
theorem dX0_loopSure_109 : decode cX0_loopSure 109 = .ok (.invokevirtual 49, 3) := by decide +kernel
theorem dX0_loopSure_112 : decode cX0_loopSure 112 = .ok (.lload 5, 2) := by decide +kernel
theorem dX0_loopSure_114 : decode cX0_loopSure 114 = .ok (.ldc2_w 31, 3) := by decide +kernel
theorem dX0_loopSure_117 : decode cX0_loopSure 117 = .ok (.lxor, 1) := by decide +kernel
theorem dX0_loopSure_118 : decode cX0_loopSure 118 = .ok (.land, 1) := by decide +kernel
theorem dX0_loopSure_119 : decode cX0_loopSure 119 = .ok (.lconst 0, 1) := by decide +kernel
theorem dX0_loopSure_120 : decode cX0_loopSure 120 = .ok (.lcmp, 1) := by decide +kernel
theorem dX0_loopSure_121 : decode cX0_loopSure 121 = .ok (.ifCond .ne 7, 3) := by decide +kernel
theorem dX0_loopSure_124 : decode cX0_loopSure 124 = .ok (.iconst 1, 1) := by decide +kernel
theorem dX0_loopSure_125 : decode cX0_loopSure 125 = .ok (.goto 4, 3) := by decide +kernel
theorem dX0_loopSure_128 : decode cX0_loopSure 128 = .ok (.iconst 0, 1) := by decide +kernel
theorem dX0_loopSure_129 : decode cX0_loopSure 129 = .ok (.istore 12, 2) := by decide +kernel
theorem dX0_loopSure_131 : decode cX0_loopSure 131 = .ok (.lload 5, 2) := by decide +kernel
theorem dX0_loopSure_133 : decode cX0_loopSure 133 = .ok (.iload 9, 2) := by decide +kernel
theorem dX0_loopSure_135 : decode cX0_loopSure 135 = .ok (.invokestatic 45, 3) := by decide +kernel
theorem dX0_loopSure_138 : decode cX0_loopSure 138 = .ok (.ifCond .ne 30, 3) := by decide +kernel
theorem dX0_loopSure_141 : decode cX0_loopSure 141 = .ok (.iload 10, 2) := by decide +kernel
theorem dX0_loopSure_143 : decode cX0_loopSure 143 = .ok (.ifCond .eq 25, 3) := by decide +kernel
theorem dX0_loopSure_146 : decode cX0_loopSure 146 = .ok (.iload 11, 2) := by decide +kernel
theorem dX0_loopSure_148 : decode cX0_loopSure 148 = .ok (.ifCond .eq 20, 3) := by decide +kernel
theorem dX0_loopSure_151 : decode cX0_loopSure 151 = .ok (.iload 12, 2) := by decide +kernel
theorem dX0_loopSure_153 : decode cX0_loopSure 153 = .ok (.ifCond .eq 15, 3) := by decide +kernel
theorem dX0_loopSure_156 : decode cX0_loopSure 156 = .ok (.lload 5, 2) := by decide +kernel
theorem dX0_loopSure_158 : decode cX0_loopSure 158 = .ok (.lconst 1, 1) := by decide +kernel
theorem dX0_loopSure_159 : decode cX0_loopSure 159 = .ok (.iload 9, 2) := by decide +kernel
theorem dX0_loopSure_161 : decode cX0_loopSure 161 = .ok (.lshl, 1) := by decide +kernel
theorem dX0_loopSure_162 : decode cX0_loopSure 162 = .ok (.lor, 1) := by decide +kernel
theorem dX0_loopSure_163 : decode cX0_loopSure 163 = .ok (.lstore 5, 2) := by decide +kernel
theorem dX0_loopSure_165 : decode cX0_loopSure 165 = .ok (.iconst 1, 1) := by decide +kernel
theorem dX0_loopSure_166 : decode cX0_loopSure 166 = .ok (.istore 7, 2) := by decide +kernel
theorem dX0_loopSure_168 : decode cX0_loopSure 168 = .ok (.iinc 9 1, 3) := by decide +kernel
theorem dX0_loopSure_171 : decode cX0_loopSure 171 = .ok (.goto (-144), 3) := by decide +kernel
theorem dX0_loopSure_174 : decode cX0_loopSure 174 = .ok (.iinc 8 1, 3) := by decide +kernel
theorem dX0_loopSure_177 : decode cX0_loopSure 177 = .ok (.goto (-168), 3) := by decide +kernel
theorem dX0_loopSure_180 : decode cX0_loopSure 180 = .ok (.lload 5, 2) := by decide +kernel
theorem dX0_loopSure_182 : decode cX0_loopSure 182 = .ok (.lreturn, 1) := by decide +kernel
abbrev cX0_programs : ByteArray := prog_1_method_11_code
def yX0_programs : MethodName := ⟨RX0, "programs", "()I"⟩
theorem dX0_programs_0 : decode cX0_programs 0 = .ok (.aload_n 0, 1) := by decide +kernel
theorem dX0_programs_1 : decode cX0_programs 1 = .ok (.getfield 19, 3) := by decide +kernel
theorem dX0_programs_4 : decode cX0_programs 4 = .ok (.ireturn, 1) := by decide +kernel
abbrev cX0_ends : ByteArray := prog_1_method_12_code
def yX0_ends : MethodName := ⟨RX0, "ends", "(II)J"⟩
theorem dX0_ends_0 : decode cX0_ends 0 = .ok (.aload_n 0, 1) := by decide +kernel
theorem dX0_ends_1 : decode cX0_ends 1 = .ok (.iload_n 1, 1) := by decide +kernel
theorem dX0_ends_2 : decode cX0_ends 2 = .ok (.invokevirtual 37, 3) := by decide +kernel
theorem dX0_ends_5 : decode cX0_ends 5 = .ok (.ifCond .eq 17, 3) := by decide +kernel
theorem dX0_ends_8 : decode cX0_ends 8 = .ok (.iload_n 2, 1) := by decide +kernel
theorem dX0_ends_9 : decode cX0_ends 9 = .ok (.ifCond .lt 13, 3) := by decide +kernel
theorem dX0_ends_12 : decode cX0_ends 12 = .ok (.iload_n 2, 1) := by decide +kernel
theorem dX0_ends_13 : decode cX0_ends 13 = .ok (.bipush 64, 2) := by decide +kernel
theorem dX0_ends_15 : decode cX0_ends 15 = .ok (.if_icmp .ge 7, 3) := by decide +kernel
theorem dX0_ends_18 : decode cX0_ends 18 = .ok (.iconst 1, 1) := by decide +kernel
theorem dX0_ends_19 : decode cX0_ends 19 = .ok (.goto 4, 3) := by decide +kernel
theorem dX0_ends_22 : decode cX0_ends 22 = .ok (.iconst 0, 1) := by decide +kernel
theorem dX0_ends_23 : decode cX0_ends 23 = .ok (.istore_n 3, 1) := by decide +kernel
theorem dX0_ends_24 : decode cX0_ends 24 = .ok (.iload_n 3, 1) := by decide +kernel
theorem dX0_ends_25 : decode cX0_ends 25 = .ok (.ifCond .eq 17, 3) := by decide +kernel
theorem dX0_ends_28 : decode cX0_ends 28 = .ok (.aload_n 0, 1) := by decide +kernel
theorem dX0_ends_29 : decode cX0_ends 29 = .ok (.getfield 7, 3) := by decide +kernel
theorem dX0_ends_32 : decode cX0_ends 32 = .ok (.bipush 64, 2) := by decide +kernel
theorem dX0_ends_34 : decode cX0_ends 34 = .ok (.iload_n 1, 1) := by decide +kernel
theorem dX0_ends_35 : decode cX0_ends 35 = .ok (.imul, 1) := by decide +kernel
theorem dX0_ends_36 : decode cX0_ends 36 = .ok (.iload_n 2, 1) := by decide +kernel
theorem dX0_ends_37 : decode cX0_ends 37 = .ok (.iadd, 1) := by decide +kernel
theorem dX0_ends_38 : decode cX0_ends 38 = .ok (.laload, 1) := by decide +kernel
theorem dX0_ends_39 : decode cX0_ends 39 = .ok (.goto 4, 3) := by decide +kernel
theorem dX0_ends_42 : decode cX0_ends 42 = .ok (.lconst 0, 1) := by decide +kernel
theorem dX0_ends_43 : decode cX0_ends 43 = .ok (.lreturn, 1) := by decide +kernel
abbrev cX0_sure : ByteArray := prog_1_method_13_code
def yX0_sure : MethodName := ⟨RX0, "sure", "(I)J"⟩
theorem dX0_sure_0 : decode cX0_sure 0 = .ok (.aload_n 0, 1) := by decide +kernel
theorem dX0_sure_1 : decode cX0_sure 1 = .ok (.iload_n 1, 1) := by decide +kernel
theorem dX0_sure_2 : decode cX0_sure 2 = .ok (.invokevirtual 37, 3) := by decide +kernel
theorem dX0_sure_5 : decode cX0_sure 5 = .ok (.ifCond .eq 12, 3) := by decide +kernel
theorem dX0_sure_8 : decode cX0_sure 8 = .ok (.aload_n 0, 1) := by decide +kernel
theorem dX0_sure_9 : decode cX0_sure 9 = .ok (.getfield 13, 3) := by decide +kernel
theorem dX0_sure_12 : decode cX0_sure 12 = .ok (.iload_n 1, 1) := by decide +kernel
theorem dX0_sure_13 : decode cX0_sure 13 = .ok (.laload, 1) := by decide +kernel
theorem dX0_sure_14 : decode cX0_sure 14 = .ok (.goto 4, 3) := by decide +kernel
theorem dX0_sure_17 : decode cX0_sure 17 = .ok (.lconst 0, 1) := by decide +kernel
theorem dX0_sure_18 : decode cX0_sure 18 = .ok (.lreturn, 1) := by decide +kernel
abbrev cX0_demand : ByteArray := prog_1_method_14_code
def yX0_demand : MethodName := ⟨RX0, "demand", "(IJ)J"⟩
theorem dX0_demand_0 : decode cX0_demand 0 = .ok (.aload_n 0, 1) := by decide +kernel
theorem dX0_demand_1 : decode cX0_demand 1 = .ok (.iload_n 1, 1) := by decide +kernel
theorem dX0_demand_2 : decode cX0_demand 2 = .ok (.invokevirtual 37, 3) := by decide +kernel
theorem dX0_demand_5 : decode cX0_demand 5 = .ok (.ifCond .ne 5, 3) := by decide +kernel
theorem dX0_demand_8 : decode cX0_demand 8 = .ok (.lconst 0, 1) := by decide +kernel
theorem dX0_demand_9 : decode cX0_demand 9 = .ok (.lreturn, 1) := by decide +kernel
theorem dX0_demand_10 : decode cX0_demand 10 = .ok (.aload_n 0, 1) := by decide +kernel
theorem dX0_demand_11 : decode cX0_demand 11 = .ok (.getfield 13, 3) := by decide +kernel
theorem dX0_demand_14 : decode cX0_demand 14 = .ok (.iload_n 1, 1) := by decide +kernel
theorem dX0_demand_15 : decode cX0_demand 15 = .ok (.laload, 1) := by decide +kernel
theorem dX0_demand_16 : decode cX0_demand 16 = .ok (.aload_n 0, 1) := by decide +kernel
theorem dX0_demand_17 : decode cX0_demand 17 = .ok (.iload_n 1, 1) := by decide +kernel
theorem dX0_demand_18 : decode cX0_demand 18 = .ok (.lload_n 2, 1) := by decide +kernel
theorem dX0_demand_19 : decode cX0_demand 19 = .ok (.invokevirtual 60, 3) := by decide +kernel
theorem dX0_demand_22 : decode cX0_demand 22 = .ok (.land, 1) := by decide +kernel
theorem dX0_demand_23 : decode cX0_demand 23 = .ok (.lreturn, 1) := by decide +kernel
abbrev cX0_weakOf : ByteArray := prog_1_method_29_code
def yX0_weakOf : MethodName := ⟨RX0, "weakOf", "(IJ)J"⟩
theorem dX0_weakOf_0 : decode cX0_weakOf 0 = .ok (.lconst 0, 1) := by decide +kernel
theorem dX0_weakOf_1 : decode cX0_weakOf 1 = .ok (.lstore 4, 2) := by decide +kernel
theorem dX0_weakOf_3 : decode cX0_weakOf 3 = .ok (.iconst 0, 1) := by decide +kernel
theorem dX0_weakOf_4 : decode cX0_weakOf 4 = .ok (.istore 6, 2) := by decide +kernel
theorem dX0_weakOf_6 : decode cX0_weakOf 6 = .ok (.iload 6, 2) := by decide +kernel
theorem dX0_weakOf_8 : decode cX0_weakOf 8 = .ok (.bipush 64, 2) := by decide +kernel
theorem dX0_weakOf_10 : decode cX0_weakOf 10 = .ok (.if_icmp .ge 58, 3) := by decide +kernel
theorem dX0_weakOf_13 : decode cX0_weakOf 13 = .ok (.aload_n 0, 1) := by decide +kernel
theorem dX0_weakOf_14 : decode cX0_weakOf 14 = .ok (.getfield 7, 3) := by decide +kernel
theorem dX0_weakOf_17 : decode cX0_weakOf 17 = .ok (.bipush 64, 2) := by decide +kernel
theorem dX0_weakOf_19 : decode cX0_weakOf 19 = .ok (.iload_n 1, 1) := by decide +kernel
theorem dX0_weakOf_20 : decode cX0_weakOf 20 = .ok (.imul, 1) := by decide +kernel
theorem dX0_weakOf_21 : decode cX0_weakOf 21 = .ok (.iload 6, 2) := by decide +kernel
theorem dX0_weakOf_23 : decode cX0_weakOf 23 = .ok (.iadd, 1) := by decide +kernel
theorem dX0_weakOf_24 : decode cX0_weakOf 24 = .ok (.laload, 1) := by decide +kernel
theorem dX0_weakOf_25 : decode cX0_weakOf 25 = .ok (.lload_n 2, 1) := by decide +kernel
theorem dX0_weakOf_26 : decode cX0_weakOf 26 = .ok (.ldc2_w 31, 3) := by decide +kernel
theorem dX0_weakOf_29 : decode cX0_weakOf 29 = .ok (.lxor, 1) := by decide +kernel
theorem dX0_weakOf_30 : decode cX0_weakOf 30 = .ok (.land, 1) := by decide +kernel
theorem dX0_weakOf_31 : decode cX0_weakOf 31 = .ok (.lconst 0, 1) := by decide +kernel
theorem dX0_weakOf_32 : decode cX0_weakOf 32 = .ok (.lcmp, 1) := by decide +kernel
theorem dX0_weakOf_33 : decode cX0_weakOf 33 = .ok (.ifCond .ne 7, 3) := by decide +kernel
theorem dX0_weakOf_36 : decode cX0_weakOf 36 = .ok (.iconst 1, 1) := by decide +kernel
theorem dX0_weakOf_37 : decode cX0_weakOf 37 = .ok (.goto 4, 3) := by decide +kernel
theorem dX0_weakOf_40 : decode cX0_weakOf 40 = .ok (.iconst 0, 1) := by decide +kernel
theorem dX0_weakOf_41 : decode cX0_weakOf 41 = .ok (.istore 7, 2) := by decide +kernel
theorem dX0_weakOf_43 : decode cX0_weakOf 43 = .ok (.iload 7, 2) := by decide +kernel
theorem dX0_weakOf_45 : decode cX0_weakOf 45 = .ok (.ifCond .eq 13, 3) := by decide +kernel
theorem dX0_weakOf_48 : decode cX0_weakOf 48 = .ok (.lload 4, 2) := by decide +kernel
theorem dX0_weakOf_50 : decode cX0_weakOf 50 = .ok (.lconst 1, 1) := by decide +kernel
theorem dX0_weakOf_51 : decode cX0_weakOf 51 = .ok (.iload 6, 2) := by decide +kernel
theorem dX0_weakOf_53 : decode cX0_weakOf 53 = .ok (.lshl, 1) := by decide +kernel
theorem dX0_weakOf_54 : decode cX0_weakOf 54 = .ok (.lor, 1) := by decide +kernel
theorem dX0_weakOf_55 : decode cX0_weakOf 55 = .ok (.goto 5, 3) := by decide +kernel
theorem dX0_weakOf_58 : decode cX0_weakOf 58 = .ok (.lload 4, 2) := by decide +kernel
theorem dX0_weakOf_60 : decode cX0_weakOf 60 = .ok (.lstore 4, 2) := by decide +kernel
theorem dX0_weakOf_62 : decode cX0_weakOf 62 = .ok (.iinc 6 1, 3) := by decide +kernel
theorem dX0_weakOf_65 : decode cX0_weakOf 65 = .ok (.goto (-59), 3) := by decide +kernel
theorem dX0_weakOf_68 : decode cX0_weakOf 68 = .ok (.lload 4, 2) := by decide +kernel
theorem dX0_weakOf_70 : decode cX0_weakOf 70 = .ok (.lreturn, 1) := by decide +kernel
abbrev cX0_weakDemand : ByteArray := prog_1_method_15_code
def yX0_weakDemand : MethodName := ⟨RX0, "weakDemand", "(IJ)J"⟩
theorem dX0_weakDemand_0 : decode cX0_weakDemand 0 = .ok (.aload_n 0, 1) := by decide +kernel
theorem dX0_weakDemand_1 : decode cX0_weakDemand 1 = .ok (.iload_n 1, 1) := by decide +kernel
theorem dX0_weakDemand_2 : decode cX0_weakDemand 2 = .ok (.invokevirtual 37, 3) := by decide +kernel
theorem dX0_weakDemand_5 : decode cX0_weakDemand 5 = .ok (.ifCond .eq 12, 3) := by decide +kernel
theorem dX0_weakDemand_8 : decode cX0_weakDemand 8 = .ok (.aload_n 0, 1) := by decide +kernel
theorem dX0_weakDemand_9 : decode cX0_weakDemand 9 = .ok (.iload_n 1, 1) := by decide +kernel
theorem dX0_weakDemand_10 : decode cX0_weakDemand 10 = .ok (.lload_n 2, 1) := by decide +kernel
theorem dX0_weakDemand_11 : decode cX0_weakDemand 11 = .ok (.invokevirtual 60, 3) := by decide +kernel
theorem dX0_weakDemand_14 : decode cX0_weakDemand 14 = .ok (.goto 4, 3) := by decide +kernel
theorem dX0_weakDemand_17 : decode cX0_weakDemand 17 = .ok (.lconst 0, 1) := by decide +kernel
theorem dX0_weakDemand_18 : decode cX0_weakDemand 18 = .ok (.lreturn, 1) := by decide +kernel
abbrev cX0_image : ByteArray := prog_1_method_16_code
def yX0_image : MethodName := ⟨RX0, "image", "(IJ)J"⟩
theorem dX0_image_0 : decode cX0_image 0 = .ok (.aload_n 0, 1) := by decide +kernel
theorem dX0_image_1 : decode cX0_image 1 = .ok (.iload_n 1, 1) := by decide +kernel
theorem dX0_image_2 : decode cX0_image 2 = .ok (.invokevirtual 37, 3) := by decide +kernel
theorem dX0_image_5 : decode cX0_image 5 = .ok (.ifCond .eq 12, 3) := by decide +kernel
theorem dX0_image_8 : decode cX0_image 8 = .ok (.aload_n 0, 1) := by decide +kernel
theorem dX0_image_9 : decode cX0_image 9 = .ok (.iload_n 1, 1) := by decide +kernel
theorem dX0_image_10 : decode cX0_image 10 = .ok (.lload_n 2, 1) := by decide +kernel
theorem dX0_image_11 : decode cX0_image 11 = .ok (.invokevirtual 41, 3) := by decide +kernel
theorem dX0_image_14 : decode cX0_image 14 = .ok (.goto 4, 3) := by decide +kernel
theorem dX0_image_17 : decode cX0_image 17 = .ok (.lconst 0, 1) := by decide +kernel
theorem dX0_image_18 : decode cX0_image 18 = .ok (.lreturn, 1) := by decide +kernel
abbrev cX0_refines : ByteArray := prog_1_method_17_code
def yX0_refines : MethodName := ⟨RX0, "refines", "(II)I"⟩
theorem dX0_refines_0 : decode cX0_refines 0 = .ok (.aload_n 0, 1) := by decide +kernel
theorem dX0_refines_1 : decode cX0_refines 1 = .ok (.iload_n 1, 1) := by decide +kernel
theorem dX0_refines_2 : decode cX0_refines 2 = .ok (.invokevirtual 37, 3) := by decide +kernel
theorem dX0_refines_5 : decode cX0_refines 5 = .ok (.ifCond .eq 11, 3) := by decide +kernel
theorem dX0_refines_8 : decode cX0_refines 8 = .ok (.aload_n 0, 1) := by decide +kernel
theorem dX0_refines_9 : decode cX0_refines 9 = .ok (.iload_n 2, 1) := by decide +kernel
theorem dX0_refines_10 : decode cX0_refines 10 = .ok (.invokevirtual 37, 3) := by decide +kernel
theorem dX0_refines_13 : decode cX0_refines 13 = .ok (.ifCond .ne 5, 3) := by decide +kernel
theorem dX0_refines_16 : decode cX0_refines 16 = .ok (.iconst (-1), 1) := by decide +kernel
theorem dX0_refines_17 : decode cX0_refines 17 = .ok (.ireturn, 1) := by decide +kernel
theorem dX0_refines_18 : decode cX0_refines 18 = .ok (.iconst 0, 1) := by decide +kernel
theorem dX0_refines_19 : decode cX0_refines 19 = .ok (.istore_n 3, 1) := by decide +kernel
theorem dX0_refines_20 : decode cX0_refines 20 = .ok (.iload_n 3, 1) := by decide +kernel
theorem dX0_refines_21 : decode cX0_refines 21 = .ok (.bipush 64, 2) := by decide +kernel
theorem dX0_refines_23 : decode cX0_refines 23 = .ok (.if_icmp .ge 73, 3) := by decide +kernel
theorem dX0_refines_26 : decode cX0_refines 26 = .ok (.aload_n 0, 1) := by decide +kernel
theorem dX0_refines_27 : decode cX0_refines 27 = .ok (.getfield 13, 3) := by decide +kernel
theorem dX0_refines_30 : decode cX0_refines 30 = .ok (.iload_n 1, 1) := by decide +kernel
theorem dX0_refines_31 : decode cX0_refines 31 = .ok (.laload, 1) := by decide +kernel
theorem dX0_refines_32 : decode cX0_refines 32 = .ok (.iload_n 3, 1) := by decide +kernel
theorem dX0_refines_33 : decode cX0_refines 33 = .ok (.invokestatic 45, 3) := by decide +kernel
theorem dX0_refines_36 : decode cX0_refines 36 = .ok (.ifCond .eq 54, 3) := by decide +kernel
theorem dX0_refines_39 : decode cX0_refines 39 = .ok (.aload_n 0, 1) := by decide +kernel
theorem dX0_refines_40 : decode cX0_refines 40 = .ok (.getfield 7, 3) := by decide +kernel
theorem dX0_refines_43 : decode cX0_refines 43 = .ok (.bipush 64, 2) := by decide +kernel
theorem dX0_refines_45 : decode cX0_refines 45 = .ok (.iload_n 2, 1) := by decide +kernel
theorem dX0_refines_46 : decode cX0_refines 46 = .ok (.imul, 1) := by decide +kernel
theorem dX0_refines_47 : decode cX0_refines 47 = .ok (.iload_n 3, 1) := by decide +kernel
theorem dX0_refines_48 : decode cX0_refines 48 = .ok (.iadd, 1) := by decide +kernel
theorem dX0_refines_49 : decode cX0_refines 49 = .ok (.laload, 1) := by decide +kernel
theorem dX0_refines_50 : decode cX0_refines 50 = .ok (.aload_n 0, 1) := by decide +kernel
theorem dX0_refines_51 : decode cX0_refines 51 = .ok (.getfield 7, 3) := by decide +kernel
theorem dX0_refines_54 : decode cX0_refines 54 = .ok (.bipush 64, 2) := by decide +kernel
theorem dX0_refines_56 : decode cX0_refines 56 = .ok (.iload_n 1, 1) := by decide +kernel
theorem dX0_refines_57 : decode cX0_refines 57 = .ok (.imul, 1) := by decide +kernel
theorem dX0_refines_58 : decode cX0_refines 58 = .ok (.iload_n 3, 1) := by decide +kernel
theorem dX0_refines_59 : decode cX0_refines 59 = .ok (.iadd, 1) := by decide +kernel
theorem dX0_refines_60 : decode cX0_refines 60 = .ok (.laload, 1) := by decide +kernel
theorem dX0_refines_61 : decode cX0_refines 61 = .ok (.ldc2_w 31, 3) := by decide +kernel
theorem dX0_refines_64 : decode cX0_refines 64 = .ok (.lxor, 1) := by decide +kernel
theorem dX0_refines_65 : decode cX0_refines 65 = .ok (.land, 1) := by decide +kernel
theorem dX0_refines_66 : decode cX0_refines 66 = .ok (.lstore 4, 2) := by decide +kernel
theorem dX0_refines_68 : decode cX0_refines 68 = .ok (.aload_n 0, 1) := by decide +kernel
theorem dX0_refines_69 : decode cX0_refines 69 = .ok (.getfield 13, 3) := by decide +kernel
theorem dX0_refines_72 : decode cX0_refines 72 = .ok (.iload_n 2, 1) := by decide +kernel
theorem dX0_refines_73 : decode cX0_refines 73 = .ok (.laload, 1) := by decide +kernel
theorem dX0_refines_74 : decode cX0_refines 74 = .ok (.iload_n 3, 1) := by decide +kernel
theorem dX0_refines_75 : decode cX0_refines 75 = .ok (.invokestatic 45, 3) := by decide +kernel
theorem dX0_refines_78 : decode cX0_refines 78 = .ok (.ifCond .eq 10, 3) := by decide +kernel
theorem dX0_refines_81 : decode cX0_refines 81 = .ok (.lload 4, 2) := by decide +kernel
theorem dX0_refines_83 : decode cX0_refines 83 = .ok (.lconst 0, 1) := by decide +kernel
theorem dX0_refines_84 : decode cX0_refines 84 = .ok (.lcmp, 1) := by decide +kernel
theorem dX0_refines_85 : decode cX0_refines 85 = .ok (.ifCond .eq 5, 3) := by decide +kernel
theorem dX0_refines_88 : decode cX0_refines 88 = .ok (.iconst 0, 1) := by decide +kernel
theorem dX0_refines_89 : decode cX0_refines 89 = .ok (.ireturn, 1) := by decide +kernel
theorem dX0_refines_90 : decode cX0_refines 90 = .ok (.iinc 3 1, 3) := by decide +kernel
theorem dX0_refines_93 : decode cX0_refines 93 = .ok (.goto (-73), 3) := by decide +kernel
theorem dX0_refines_96 : decode cX0_refines 96 = .ok (.iconst 1, 1) := by decide +kernel
theorem dX0_refines_97 : decode cX0_refines 97 = .ok (.ireturn, 1) := by decide +kernel
abbrev cX0_settled : ByteArray := prog_1_method_18_code
def yX0_settled : MethodName := ⟨RX0, "settled", "(I)I"⟩
theorem dX0_settled_0 : decode cX0_settled 0 = .ok (.aload_n 0, 1) := by decide +kernel
theorem dX0_settled_1 : decode cX0_settled 1 = .ok (.iload_n 1, 1) := by decide +kernel
theorem dX0_settled_2 : decode cX0_settled 2 = .ok (.invokevirtual 37, 3) := by decide +kernel
theorem dX0_settled_5 : decode cX0_settled 5 = .ok (.ifCond .ne 5, 3) := by decide +kernel
theorem dX0_settled_8 : decode cX0_settled 8 = .ok (.iconst (-1), 1) := by decide +kernel
theorem dX0_settled_9 : decode cX0_settled 9 = .ok (.ireturn, 1) := by decide +kernel
theorem dX0_settled_10 : decode cX0_settled 10 = .ok (.iconst 0, 1) := by decide +kernel
theorem dX0_settled_11 : decode cX0_settled 11 = .ok (.istore_n 2, 1) := by decide +kernel
theorem dX0_settled_12 : decode cX0_settled 12 = .ok (.iload_n 2, 1) := by decide +kernel
theorem dX0_settled_13 : decode cX0_settled 13 = .ok (.bipush 64, 2) := by decide +kernel
theorem dX0_settled_15 : decode cX0_settled 15 = .ok (.if_icmp .ge 46, 3) := by decide +kernel
theorem dX0_settled_18 : decode cX0_settled 18 = .ok (.aload_n 0, 1) := by decide +kernel
theorem dX0_settled_19 : decode cX0_settled 19 = .ok (.getfield 7, 3) := by decide +kernel
theorem dX0_settled_22 : decode cX0_settled 22 = .ok (.bipush 64, 2) := by decide +kernel
theorem dX0_settled_24 : decode cX0_settled 24 = .ok (.iload_n 1, 1) := by decide +kernel
theorem dX0_settled_25 : decode cX0_settled 25 = .ok (.imul, 1) := by decide +kernel
theorem dX0_settled_26 : decode cX0_settled 26 = .ok (.iload_n 2, 1) := by decide +kernel
theorem dX0_settled_27 : decode cX0_settled 27 = .ok (.iadd, 1) := by decide +kernel
theorem dX0_settled_28 : decode cX0_settled 28 = .ok (.laload, 1) := by decide +kernel
theorem dX0_settled_29 : decode cX0_settled 29 = .ok (.lstore_n 3, 1) := by decide +kernel
theorem dX0_settled_30 : decode cX0_settled 30 = .ok (.aload_n 0, 1) := by decide +kernel
theorem dX0_settled_31 : decode cX0_settled 31 = .ok (.getfield 13, 3) := by decide +kernel
theorem dX0_settled_34 : decode cX0_settled 34 = .ok (.iload_n 1, 1) := by decide +kernel
theorem dX0_settled_35 : decode cX0_settled 35 = .ok (.laload, 1) := by decide +kernel
theorem dX0_settled_36 : decode cX0_settled 36 = .ok (.iload_n 2, 1) := by decide +kernel
theorem dX0_settled_37 : decode cX0_settled 37 = .ok (.invokestatic 45, 3) := by decide +kernel
theorem dX0_settled_40 : decode cX0_settled 40 = .ok (.ifCond .eq 15, 3) := by decide +kernel
theorem dX0_settled_43 : decode cX0_settled 43 = .ok (.lload_n 3, 1) := by decide +kernel
theorem dX0_settled_44 : decode cX0_settled 44 = .ok (.lload_n 3, 1) := by decide +kernel
theorem dX0_settled_45 : decode cX0_settled 45 = .ok (.lconst 1, 1) := by decide +kernel
theorem dX0_settled_46 : decode cX0_settled 46 = .ok (.lsub, 1) := by decide +kernel
theorem dX0_settled_47 : decode cX0_settled 47 = .ok (.land, 1) := by decide +kernel
theorem dX0_settled_48 : decode cX0_settled 48 = .ok (.lconst 0, 1) := by decide +kernel
theorem dX0_settled_49 : decode cX0_settled 49 = .ok (.lcmp, 1) := by decide +kernel
theorem dX0_settled_50 : decode cX0_settled 50 = .ok (.ifCond .eq 5, 3) := by decide +kernel
theorem dX0_settled_53 : decode cX0_settled 53 = .ok (.iconst 0, 1) := by decide +kernel
theorem dX0_settled_54 : decode cX0_settled 54 = .ok (.ireturn, 1) := by decide +kernel
theorem dX0_settled_55 : decode cX0_settled 55 = .ok (.iinc 2 1, 3) := by decide +kernel
theorem dX0_settled_58 : decode cX0_settled 58 = .ok (.goto (-46), 3) := by decide +kernel
theorem dX0_settled_61 : decode cX0_settled 61 = .ok (.iconst 1, 1) := by decide +kernel
theorem dX0_settled_62 : decode cX0_settled 62 = .ok (.ireturn, 1) := by decide +kernel
abbrev cX0_widest : ByteArray := prog_1_method_19_code
def yX0_widest : MethodName := ⟨RX0, "widest", "(I)I"⟩
theorem dX0_widest_0 : decode cX0_widest 0 = .ok (.aload_n 0, 1) := by decide +kernel
theorem dX0_widest_1 : decode cX0_widest 1 = .ok (.iload_n 1, 1) := by decide +kernel
theorem dX0_widest_2 : decode cX0_widest 2 = .ok (.invokevirtual 37, 3) := by decide +kernel
theorem dX0_widest_5 : decode cX0_widest 5 = .ok (.ifCond .ne 5, 3) := by decide +kernel
theorem dX0_widest_8 : decode cX0_widest 8 = .ok (.iconst (-1), 1) := by decide +kernel
theorem dX0_widest_9 : decode cX0_widest 9 = .ok (.ireturn, 1) := by decide +kernel
theorem dX0_widest_10 : decode cX0_widest 10 = .ok (.iconst 0, 1) := by decide +kernel
theorem dX0_widest_11 : decode cX0_widest 11 = .ok (.istore_n 2, 1) := by decide +kernel
theorem dX0_widest_12 : decode cX0_widest 12 = .ok (.iconst 0, 1) := by decide +kernel
theorem dX0_widest_13 : decode cX0_widest 13 = .ok (.istore_n 3, 1) := by decide +kernel
theorem dX0_widest_14 : decode cX0_widest 14 = .ok (.iload_n 3, 1) := by decide +kernel
theorem dX0_widest_15 : decode cX0_widest 15 = .ok (.bipush 64, 2) := by decide +kernel
theorem dX0_widest_17 : decode cX0_widest 17 = .ok (.if_icmp .ge 38, 3) := by decide +kernel
theorem dX0_widest_20 : decode cX0_widest 20 = .ok (.aload_n 0, 1) := by decide +kernel
theorem dX0_widest_21 : decode cX0_widest 21 = .ok (.getfield 7, 3) := by decide +kernel
theorem dX0_widest_24 : decode cX0_widest 24 = .ok (.bipush 64, 2) := by decide +kernel
theorem dX0_widest_26 : decode cX0_widest 26 = .ok (.iload_n 1, 1) := by decide +kernel
theorem dX0_widest_27 : decode cX0_widest 27 = .ok (.imul, 1) := by decide +kernel
theorem dX0_widest_28 : decode cX0_widest 28 = .ok (.iload_n 3, 1) := by decide +kernel
theorem dX0_widest_29 : decode cX0_widest 29 = .ok (.iadd, 1) := by decide +kernel
theorem dX0_widest_30 : decode cX0_widest 30 = .ok (.laload, 1) := by decide +kernel
theorem dX0_widest_31 : decode cX0_widest 31 = .ok (.invokestatic 23, 3) := by decide +kernel
theorem dX0_widest_34 : decode cX0_widest 34 = .ok (.istore 4, 2) := by decide +kernel
theorem dX0_widest_36 : decode cX0_widest 36 = .ok (.iload 4, 2) := by decide +kernel
theorem dX0_widest_38 : decode cX0_widest 38 = .ok (.iload_n 2, 1) := by decide +kernel
theorem dX0_widest_39 : decode cX0_widest 39 = .ok (.if_icmp .le 8, 3) := by decide +kernel
theorem dX0_widest_42 : decode cX0_widest 42 = .ok (.iload 4, 2) := by decide +kernel
theorem dX0_widest_44 : decode cX0_widest 44 = .ok (.goto 4, 3) := by decide +kernel
theorem dX0_widest_47 : decode cX0_widest 47 = .ok (.iload_n 2, 1) := by decide +kernel
theorem dX0_widest_48 : decode cX0_widest 48 = .ok (.istore_n 2, 1) := by decide +kernel
theorem dX0_widest_49 : decode cX0_widest 49 = .ok (.iinc 3 1, 3) := by decide +kernel
theorem dX0_widest_52 : decode cX0_widest 52 = .ok (.goto (-38), 3) := by decide +kernel
theorem dX0_widest_55 : decode cX0_widest 55 = .ok (.iload_n 2, 1) := by decide +kernel
theorem dX0_widest_56 : decode cX0_widest 56 = .ok (.ireturn, 1) := by decide +kernel
theorem q22 : (Jvm.Cond.initialized "GuardedCommands") ∈ lw_all := lw_g (lw_at lw_m1 1 rfl) rfl
theorem q25 : (Jvm.Cond.instantiable "GuardedCommands" (4 : Nat)) ∈ lw_all := lw_g (lw_at lw_m1 4 rfl) rfl
theorem q27 : (Jvm.Cond.instanceMethod ({ cls := "GuardedCommands", name := "<init>", desc := "()V" } : Jvm.MethodName)) ∈ lw_all := lw_g (lw_at lw_m1 6 rfl) rfl
theorem q28 : (Jvm.Cond.code ({ cls := "GuardedCommands", name := "<init>", desc := "()V" } : Jvm.MethodName) prog_1_method_1_code (1 : Nat) (Option.none : Option Jvm.ClassFile.FieldType)) ∈ lw_all := lw_g (lw_at lw_m1 7 rfl) rfl
theorem q29 : (Jvm.Cond.methodLink "GuardedCommands" (1 : Nat) ({ cls := "java/lang/Object", name := "<init>", desc := "()V" } : Jvm.MethodName)) ∈ lw_all := lw_g (lw_at lw_m1 8 rfl) rfl
theorem q32 : (Jvm.Cond.fieldLink "GuardedCommands" (7 : Nat) "GuardedCommands" "endRows" "[J") ∈ lw_all := lw_g (lw_at lw_m1 11 rfl) rfl
theorem q33 : (Jvm.Cond.fieldLink "GuardedCommands" (13 : Nat) "GuardedCommands" "sureSets" "[J") ∈ lw_all := lw_g (lw_at lw_m1 12 rfl) rfl
theorem q34 : (Jvm.Cond.fieldLink "GuardedCommands" (16 : Nat) "GuardedCommands" "guards" "[J") ∈ lw_all := lw_g (lw_at lw_m1 13 rfl) rfl
theorem q35 : (Jvm.Cond.fieldLink "GuardedCommands" (19 : Nat) "GuardedCommands" "count" "I") ∈ lw_all := lw_g (lw_at lw_m1 14 rfl) rfl
theorem q36 : (Jvm.Cond.laysFinal "GuardedCommands" "GuardedCommands" "endRows" "[J") ∈ lw_all := lw_g (lw_at lw_m1 15 rfl) rfl
theorem q37 : (Jvm.Cond.soleField "GuardedCommands" "endRows") ∈ lw_all := lw_g (lw_at lw_m1 16 rfl) rfl
theorem q38 : (Jvm.Cond.laysFinal "GuardedCommands" "GuardedCommands" "sureSets" "[J") ∈ lw_all := lw_g (lw_at lw_m1 17 rfl) rfl
theorem q39 : (Jvm.Cond.soleField "GuardedCommands" "sureSets") ∈ lw_all := lw_g (lw_at lw_m1 18 rfl) rfl
theorem q40 : (Jvm.Cond.laysFinal "GuardedCommands" "GuardedCommands" "guards" "[J") ∈ lw_all := lw_g (lw_at lw_m1 19 rfl) rfl
theorem q41 : (Jvm.Cond.soleField "GuardedCommands" "guards") ∈ lw_all := lw_g (lw_at lw_m1 20 rfl) rfl
theorem q42 : (Jvm.Cond.lays "GuardedCommands" "GuardedCommands" "count" "I") ∈ lw_all := lw_g (lw_at lw_m1 21 rfl) rfl
theorem q43 : (Jvm.Cond.soleField "GuardedCommands" "count") ∈ lw_all := lw_g (lw_at lw_m1 22 rfl) rfl
theorem q44 : (Jvm.Cond.superclass "GuardedCommands" "java/lang/Object") ∈ lw_all := lw_g (lw_at lw_m1 23 rfl) rfl
theorem q47 : (Jvm.Cond.instanceMethod ({ cls := "GuardedCommands", name := "guard", desc := "(IJ)I" } : Jvm.MethodName)) ∈ lw_all := lw_g (lw_at lw_m1 26 rfl) rfl
theorem q48 : (Jvm.Cond.selects "GuardedCommands" ({ cls := "GuardedCommands", name := "guard", desc := "(IJ)I" } : Jvm.MethodName) ({ cls := "GuardedCommands", name := "guard", desc := "(IJ)I" } : Jvm.MethodName)) ∈ lw_all := lw_g (lw_at lw_m1 27 rfl) rfl
theorem q49 : (Jvm.Cond.code ({ cls := "GuardedCommands", name := "guard", desc := "(IJ)I" } : Jvm.MethodName) prog_1_method_2_code (4 : Nat) (Option.some Jvm.ClassFile.FieldType.int)) ∈ lw_all := lw_g (lw_at lw_m1 28 rfl) rfl
theorem q50 : (Jvm.Cond.methodLink "GuardedCommands" (23 : Nat) ({ cls := "GuardedCommands", name := "ones", desc := "(J)I" } : Jvm.MethodName)) ∈ lw_all := lw_g (lw_at lw_m1 29 rfl) rfl
theorem q51 : (Jvm.Cond.static ({ cls := "GuardedCommands", name := "ones", desc := "(J)I" } : Jvm.MethodName)) ∈ lw_all := lw_g (lw_at lw_m1 30 rfl) rfl
theorem q52 : (Jvm.Cond.code ({ cls := "GuardedCommands", name := "ones", desc := "(J)I" } : Jvm.MethodName) prog_1_method_23_code (4 : Nat) (Option.some Jvm.ClassFile.FieldType.int)) ∈ lw_all := lw_g (lw_at lw_m1 31 rfl) rfl
theorem q54 : (Jvm.Cond.instanceMethod ({ cls := "GuardedCommands", name := "compare", desc := "(III)I" } : Jvm.MethodName)) ∈ lw_all := lw_g (lw_at lw_m1 33 rfl) rfl
theorem q55 : (Jvm.Cond.selects "GuardedCommands" ({ cls := "GuardedCommands", name := "compare", desc := "(III)I" } : Jvm.MethodName) ({ cls := "GuardedCommands", name := "compare", desc := "(III)I" } : Jvm.MethodName)) ∈ lw_all := lw_g (lw_at lw_m1 34 rfl) rfl
theorem q56 : (Jvm.Cond.code ({ cls := "GuardedCommands", name := "compare", desc := "(III)I" } : Jvm.MethodName) prog_1_method_3_code (7 : Nat) (Option.some Jvm.ClassFile.FieldType.int)) ∈ lw_all := lw_g (lw_at lw_m1 35 rfl) rfl
theorem q57 : (Jvm.Cond.methodLink "GuardedCommands" (27 : Nat) ({ cls := "GuardedCommands", name := "formValue", desc := "(II)I" } : Jvm.MethodName)) ∈ lw_all := lw_g (lw_at lw_m1 36 rfl) rfl
theorem q58 : (Jvm.Cond.static ({ cls := "GuardedCommands", name := "formValue", desc := "(II)I" } : Jvm.MethodName)) ∈ lw_all := lw_g (lw_at lw_m1 37 rfl) rfl
theorem q59 : (Jvm.Cond.code ({ cls := "GuardedCommands", name := "formValue", desc := "(II)I" } : Jvm.MethodName) prog_1_method_24_code (5 : Nat) (Option.some Jvm.ClassFile.FieldType.int)) ∈ lw_all := lw_g (lw_at lw_m1 38 rfl) rfl
theorem q61 : (Jvm.Cond.instanceMethod ({ cls := "GuardedCommands", name := "oppose", desc := "(I)I" } : Jvm.MethodName)) ∈ lw_all := lw_g (lw_at lw_m1 40 rfl) rfl
theorem q62 : (Jvm.Cond.selects "GuardedCommands" ({ cls := "GuardedCommands", name := "oppose", desc := "(I)I" } : Jvm.MethodName) ({ cls := "GuardedCommands", name := "oppose", desc := "(I)I" } : Jvm.MethodName)) ∈ lw_all := lw_g (lw_at lw_m1 41 rfl) rfl
theorem q63 : (Jvm.Cond.code ({ cls := "GuardedCommands", name := "oppose", desc := "(I)I" } : Jvm.MethodName) prog_1_method_4_code (3 : Nat) (Option.some Jvm.ClassFile.FieldType.int)) ∈ lw_all := lw_g (lw_at lw_m1 42 rfl) rfl
theorem q64 : (Jvm.Cond.constantLong "GuardedCommands" (31 : Nat) (-1 : Int64)) ∈ lw_all := lw_g (lw_at lw_m1 43 rfl) rfl
theorem q66 : (Jvm.Cond.instanceMethod ({ cls := "GuardedCommands", name := "skip", desc := "()I" } : Jvm.MethodName)) ∈ lw_all := lw_g (lw_at lw_m1 45 rfl) rfl
theorem q67 : (Jvm.Cond.selects "GuardedCommands" ({ cls := "GuardedCommands", name := "skip", desc := "()I" } : Jvm.MethodName) ({ cls := "GuardedCommands", name := "skip", desc := "()I" } : Jvm.MethodName)) ∈ lw_all := lw_g (lw_at lw_m1 46 rfl) rfl
theorem q68 : (Jvm.Cond.code ({ cls := "GuardedCommands", name := "skip", desc := "()I" } : Jvm.MethodName) prog_1_method_5_code (2 : Nat) (Option.some Jvm.ClassFile.FieldType.int)) ∈ lw_all := lw_g (lw_at lw_m1 47 rfl) rfl
theorem q69 : (Jvm.Cond.methodLink "GuardedCommands" (33 : Nat) ({ cls := "GuardedCommands", name := "close", desc := "()I" } : Jvm.MethodName)) ∈ lw_all := lw_g (lw_at lw_m1 48 rfl) rfl
theorem q70 : (Jvm.Cond.privateMethod ({ cls := "GuardedCommands", name := "close", desc := "()I" } : Jvm.MethodName)) ∈ lw_tbl := lw_at lw_m1 49 rfl
theorem q71 : (Jvm.Cond.instanceMethod ({ cls := "GuardedCommands", name := "close", desc := "()I" } : Jvm.MethodName)) ∈ lw_all := lw_g (lw_at lw_m1 50 rfl) rfl
theorem q72 : (Jvm.Cond.code ({ cls := "GuardedCommands", name := "close", desc := "()I" } : Jvm.MethodName) prog_1_method_21_code (1 : Nat) (Option.some Jvm.ClassFile.FieldType.int)) ∈ lw_all := lw_g (lw_at lw_m1 51 rfl) rfl
theorem q74 : (Jvm.Cond.instanceMethod ({ cls := "GuardedCommands", name := "fail", desc := "()I" } : Jvm.MethodName)) ∈ lw_all := lw_g (lw_at lw_m1 53 rfl) rfl
theorem q75 : (Jvm.Cond.selects "GuardedCommands" ({ cls := "GuardedCommands", name := "fail", desc := "()I" } : Jvm.MethodName) ({ cls := "GuardedCommands", name := "fail", desc := "()I" } : Jvm.MethodName)) ∈ lw_all := lw_g (lw_at lw_m1 54 rfl) rfl
theorem q76 : (Jvm.Cond.code ({ cls := "GuardedCommands", name := "fail", desc := "()I" } : Jvm.MethodName) prog_1_method_6_code (2 : Nat) (Option.some Jvm.ClassFile.FieldType.int)) ∈ lw_all := lw_g (lw_at lw_m1 55 rfl) rfl
theorem q78 : (Jvm.Cond.instanceMethod ({ cls := "GuardedCommands", name := "assign", desc := "(II)I" } : Jvm.MethodName)) ∈ lw_all := lw_g (lw_at lw_m1 57 rfl) rfl
theorem q79 : (Jvm.Cond.selects "GuardedCommands" ({ cls := "GuardedCommands", name := "assign", desc := "(II)I" } : Jvm.MethodName) ({ cls := "GuardedCommands", name := "assign", desc := "(II)I" } : Jvm.MethodName)) ∈ lw_all := lw_g (lw_at lw_m1 58 rfl) rfl
theorem q80 : (Jvm.Cond.code ({ cls := "GuardedCommands", name := "assign", desc := "(II)I" } : Jvm.MethodName) prog_1_method_7_code (6 : Nat) (Option.some Jvm.ClassFile.FieldType.int)) ∈ lw_all := lw_g (lw_at lw_m1 59 rfl) rfl
theorem q82 : (Jvm.Cond.instanceMethod ({ cls := "GuardedCommands", name := "sequence", desc := "(II)I" } : Jvm.MethodName)) ∈ lw_all := lw_g (lw_at lw_m1 61 rfl) rfl
theorem q83 : (Jvm.Cond.selects "GuardedCommands" ({ cls := "GuardedCommands", name := "sequence", desc := "(II)I" } : Jvm.MethodName) ({ cls := "GuardedCommands", name := "sequence", desc := "(II)I" } : Jvm.MethodName)) ∈ lw_all := lw_g (lw_at lw_m1 62 rfl) rfl
theorem q84 : (Jvm.Cond.code ({ cls := "GuardedCommands", name := "sequence", desc := "(II)I" } : Jvm.MethodName) prog_1_method_8_code (9 : Nat) (Option.some Jvm.ClassFile.FieldType.int)) ∈ lw_all := lw_g (lw_at lw_m1 63 rfl) rfl
theorem q85 : (Jvm.Cond.methodLink "GuardedCommands" (37 : Nat) ({ cls := "GuardedCommands", name := "isGood", desc := "(I)Z" } : Jvm.MethodName)) ∈ lw_all := lw_g (lw_at lw_m1 64 rfl) rfl
theorem q86 : (Jvm.Cond.privateMethod ({ cls := "GuardedCommands", name := "isGood", desc := "(I)Z" } : Jvm.MethodName)) ∈ lw_tbl := lw_at lw_m1 65 rfl
theorem q87 : (Jvm.Cond.instanceMethod ({ cls := "GuardedCommands", name := "isGood", desc := "(I)Z" } : Jvm.MethodName)) ∈ lw_all := lw_g (lw_at lw_m1 66 rfl) rfl
theorem q88 : (Jvm.Cond.code ({ cls := "GuardedCommands", name := "isGood", desc := "(I)Z" } : Jvm.MethodName) prog_1_method_20_code (2 : Nat) (Option.some Jvm.ClassFile.FieldType.boolean)) ∈ lw_all := lw_g (lw_at lw_m1 67 rfl) rfl
theorem q89 : (Jvm.Cond.methodLink "GuardedCommands" (41 : Nat) ({ cls := "GuardedCommands", name := "imageOf", desc := "(IJ)J" } : Jvm.MethodName)) ∈ lw_all := lw_g (lw_at lw_m1 68 rfl) rfl
theorem q90 : (Jvm.Cond.privateMethod ({ cls := "GuardedCommands", name := "imageOf", desc := "(IJ)J" } : Jvm.MethodName)) ∈ lw_tbl := lw_at lw_m1 69 rfl
theorem q91 : (Jvm.Cond.instanceMethod ({ cls := "GuardedCommands", name := "imageOf", desc := "(IJ)J" } : Jvm.MethodName)) ∈ lw_all := lw_g (lw_at lw_m1 70 rfl) rfl
theorem q92 : (Jvm.Cond.code ({ cls := "GuardedCommands", name := "imageOf", desc := "(IJ)J" } : Jvm.MethodName) prog_1_method_25_code (7 : Nat) (Option.some Jvm.ClassFile.FieldType.long)) ∈ lw_all := lw_g (lw_at lw_m1 71 rfl) rfl
theorem q93 : (Jvm.Cond.methodLink "GuardedCommands" (45 : Nat) ({ cls := "GuardedCommands", name := "has", desc := "(JI)Z" } : Jvm.MethodName)) ∈ lw_all := lw_g (lw_at lw_m1 72 rfl) rfl
theorem q94 : (Jvm.Cond.static ({ cls := "GuardedCommands", name := "has", desc := "(JI)Z" } : Jvm.MethodName)) ∈ lw_all := lw_g (lw_at lw_m1 73 rfl) rfl
theorem q95 : (Jvm.Cond.code ({ cls := "GuardedCommands", name := "has", desc := "(JI)Z" } : Jvm.MethodName) prog_1_method_22_code (3 : Nat) (Option.some Jvm.ClassFile.FieldType.boolean)) ∈ lw_all := lw_g (lw_at lw_m1 74 rfl) rfl
theorem q97 : (Jvm.Cond.instanceMethod ({ cls := "GuardedCommands", name := "choice", desc := "(II)I" } : Jvm.MethodName)) ∈ lw_all := lw_g (lw_at lw_m1 76 rfl) rfl
theorem q98 : (Jvm.Cond.selects "GuardedCommands" ({ cls := "GuardedCommands", name := "choice", desc := "(II)I" } : Jvm.MethodName) ({ cls := "GuardedCommands", name := "choice", desc := "(II)I" } : Jvm.MethodName)) ∈ lw_all := lw_g (lw_at lw_m1 77 rfl) rfl
theorem q99 : (Jvm.Cond.code ({ cls := "GuardedCommands", name := "choice", desc := "(II)I" } : Jvm.MethodName) prog_1_method_9_code (6 : Nat) (Option.some Jvm.ClassFile.FieldType.int)) ∈ lw_all := lw_g (lw_at lw_m1 78 rfl) rfl
theorem q100 : (Jvm.Cond.methodLink "GuardedCommands" (49 : Nat) ({ cls := "GuardedCommands", name := "step", desc := "(III)J" } : Jvm.MethodName)) ∈ lw_all := lw_g (lw_at lw_m1 79 rfl) rfl
theorem q101 : (Jvm.Cond.privateMethod ({ cls := "GuardedCommands", name := "step", desc := "(III)J" } : Jvm.MethodName)) ∈ lw_tbl := lw_at lw_m1 80 rfl
theorem q102 : (Jvm.Cond.instanceMethod ({ cls := "GuardedCommands", name := "step", desc := "(III)J" } : Jvm.MethodName)) ∈ lw_all := lw_g (lw_at lw_m1 81 rfl) rfl
theorem q103 : (Jvm.Cond.code ({ cls := "GuardedCommands", name := "step", desc := "(III)J" } : Jvm.MethodName) prog_1_method_26_code (6 : Nat) (Option.some Jvm.ClassFile.FieldType.long)) ∈ lw_all := lw_g (lw_at lw_m1 82 rfl) rfl
theorem q105 : (Jvm.Cond.instanceMethod ({ cls := "GuardedCommands", name := "loop", desc := "(II)I" } : Jvm.MethodName)) ∈ lw_all := lw_g (lw_at lw_m1 84 rfl) rfl
theorem q106 : (Jvm.Cond.selects "GuardedCommands" ({ cls := "GuardedCommands", name := "loop", desc := "(II)I" } : Jvm.MethodName) ({ cls := "GuardedCommands", name := "loop", desc := "(II)I" } : Jvm.MethodName)) ∈ lw_all := lw_g (lw_at lw_m1 85 rfl) rfl
theorem q107 : (Jvm.Cond.code ({ cls := "GuardedCommands", name := "loop", desc := "(II)I" } : Jvm.MethodName) prog_1_method_10_code (6 : Nat) (Option.some Jvm.ClassFile.FieldType.int)) ∈ lw_all := lw_g (lw_at lw_m1 86 rfl) rfl
theorem q108 : (Jvm.Cond.methodLink "GuardedCommands" (53 : Nat) ({ cls := "GuardedCommands", name := "reached", desc := "(III)J" } : Jvm.MethodName)) ∈ lw_all := lw_g (lw_at lw_m1 87 rfl) rfl
theorem q109 : (Jvm.Cond.privateMethod ({ cls := "GuardedCommands", name := "reached", desc := "(III)J" } : Jvm.MethodName)) ∈ lw_tbl := lw_at lw_m1 88 rfl
theorem q110 : (Jvm.Cond.instanceMethod ({ cls := "GuardedCommands", name := "reached", desc := "(III)J" } : Jvm.MethodName)) ∈ lw_all := lw_g (lw_at lw_m1 89 rfl) rfl
theorem q111 : (Jvm.Cond.code ({ cls := "GuardedCommands", name := "reached", desc := "(III)J" } : Jvm.MethodName) prog_1_method_27_code (12 : Nat) (Option.some Jvm.ClassFile.FieldType.long)) ∈ lw_all := lw_g (lw_at lw_m1 90 rfl) rfl
theorem q112 : (Jvm.Cond.methodLink "GuardedCommands" (56 : Nat) ({ cls := "GuardedCommands", name := "loopSure", desc := "(IIJ)J" } : Jvm.MethodName)) ∈ lw_all := lw_g (lw_at lw_m1 91 rfl) rfl
theorem q113 : (Jvm.Cond.privateMethod ({ cls := "GuardedCommands", name := "loopSure", desc := "(IIJ)J" } : Jvm.MethodName)) ∈ lw_tbl := lw_at lw_m1 92 rfl
theorem q114 : (Jvm.Cond.instanceMethod ({ cls := "GuardedCommands", name := "loopSure", desc := "(IIJ)J" } : Jvm.MethodName)) ∈ lw_all := lw_g (lw_at lw_m1 93 rfl) rfl
theorem q115 : (Jvm.Cond.code ({ cls := "GuardedCommands", name := "loopSure", desc := "(IIJ)J" } : Jvm.MethodName) prog_1_method_28_code (13 : Nat) (Option.some Jvm.ClassFile.FieldType.long)) ∈ lw_all := lw_g (lw_at lw_m1 94 rfl) rfl
theorem q117 : (Jvm.Cond.instanceMethod ({ cls := "GuardedCommands", name := "programs", desc := "()I" } : Jvm.MethodName)) ∈ lw_all := lw_g (lw_at lw_m1 96 rfl) rfl
theorem q118 : (Jvm.Cond.selects "GuardedCommands" ({ cls := "GuardedCommands", name := "programs", desc := "()I" } : Jvm.MethodName) ({ cls := "GuardedCommands", name := "programs", desc := "()I" } : Jvm.MethodName)) ∈ lw_all := lw_g (lw_at lw_m1 97 rfl) rfl
theorem q119 : (Jvm.Cond.code ({ cls := "GuardedCommands", name := "programs", desc := "()I" } : Jvm.MethodName) prog_1_method_11_code (1 : Nat) (Option.some Jvm.ClassFile.FieldType.int)) ∈ lw_all := lw_g (lw_at lw_m1 98 rfl) rfl
theorem q121 : (Jvm.Cond.instanceMethod ({ cls := "GuardedCommands", name := "ends", desc := "(II)J" } : Jvm.MethodName)) ∈ lw_all := lw_g (lw_at lw_m1 100 rfl) rfl
theorem q122 : (Jvm.Cond.selects "GuardedCommands" ({ cls := "GuardedCommands", name := "ends", desc := "(II)J" } : Jvm.MethodName) ({ cls := "GuardedCommands", name := "ends", desc := "(II)J" } : Jvm.MethodName)) ∈ lw_all := lw_g (lw_at lw_m1 101 rfl) rfl
theorem q123 : (Jvm.Cond.code ({ cls := "GuardedCommands", name := "ends", desc := "(II)J" } : Jvm.MethodName) prog_1_method_12_code (4 : Nat) (Option.some Jvm.ClassFile.FieldType.long)) ∈ lw_all := lw_g (lw_at lw_m1 102 rfl) rfl
theorem q125 : (Jvm.Cond.instanceMethod ({ cls := "GuardedCommands", name := "sure", desc := "(I)J" } : Jvm.MethodName)) ∈ lw_all := lw_g (lw_at lw_m1 104 rfl) rfl
theorem q126 : (Jvm.Cond.selects "GuardedCommands" ({ cls := "GuardedCommands", name := "sure", desc := "(I)J" } : Jvm.MethodName) ({ cls := "GuardedCommands", name := "sure", desc := "(I)J" } : Jvm.MethodName)) ∈ lw_all := lw_g (lw_at lw_m1 105 rfl) rfl
theorem q127 : (Jvm.Cond.code ({ cls := "GuardedCommands", name := "sure", desc := "(I)J" } : Jvm.MethodName) prog_1_method_13_code (2 : Nat) (Option.some Jvm.ClassFile.FieldType.long)) ∈ lw_all := lw_g (lw_at lw_m1 106 rfl) rfl
theorem q129 : (Jvm.Cond.instanceMethod ({ cls := "GuardedCommands", name := "demand", desc := "(IJ)J" } : Jvm.MethodName)) ∈ lw_all := lw_g (lw_at lw_m1 108 rfl) rfl
theorem q130 : (Jvm.Cond.selects "GuardedCommands" ({ cls := "GuardedCommands", name := "demand", desc := "(IJ)J" } : Jvm.MethodName) ({ cls := "GuardedCommands", name := "demand", desc := "(IJ)J" } : Jvm.MethodName)) ∈ lw_all := lw_g (lw_at lw_m1 109 rfl) rfl
theorem q131 : (Jvm.Cond.code ({ cls := "GuardedCommands", name := "demand", desc := "(IJ)J" } : Jvm.MethodName) prog_1_method_14_code (4 : Nat) (Option.some Jvm.ClassFile.FieldType.long)) ∈ lw_all := lw_g (lw_at lw_m1 110 rfl) rfl
theorem q132 : (Jvm.Cond.methodLink "GuardedCommands" (60 : Nat) ({ cls := "GuardedCommands", name := "weakOf", desc := "(IJ)J" } : Jvm.MethodName)) ∈ lw_all := lw_g (lw_at lw_m1 111 rfl) rfl
theorem q133 : (Jvm.Cond.privateMethod ({ cls := "GuardedCommands", name := "weakOf", desc := "(IJ)J" } : Jvm.MethodName)) ∈ lw_tbl := lw_at lw_m1 112 rfl
theorem q134 : (Jvm.Cond.instanceMethod ({ cls := "GuardedCommands", name := "weakOf", desc := "(IJ)J" } : Jvm.MethodName)) ∈ lw_all := lw_g (lw_at lw_m1 113 rfl) rfl
theorem q135 : (Jvm.Cond.code ({ cls := "GuardedCommands", name := "weakOf", desc := "(IJ)J" } : Jvm.MethodName) prog_1_method_29_code (8 : Nat) (Option.some Jvm.ClassFile.FieldType.long)) ∈ lw_all := lw_g (lw_at lw_m1 114 rfl) rfl
theorem q137 : (Jvm.Cond.instanceMethod ({ cls := "GuardedCommands", name := "weakDemand", desc := "(IJ)J" } : Jvm.MethodName)) ∈ lw_all := lw_g (lw_at lw_m1 116 rfl) rfl
theorem q138 : (Jvm.Cond.selects "GuardedCommands" ({ cls := "GuardedCommands", name := "weakDemand", desc := "(IJ)J" } : Jvm.MethodName) ({ cls := "GuardedCommands", name := "weakDemand", desc := "(IJ)J" } : Jvm.MethodName)) ∈ lw_all := lw_g (lw_at lw_m1 117 rfl) rfl
theorem q139 : (Jvm.Cond.code ({ cls := "GuardedCommands", name := "weakDemand", desc := "(IJ)J" } : Jvm.MethodName) prog_1_method_15_code (4 : Nat) (Option.some Jvm.ClassFile.FieldType.long)) ∈ lw_all := lw_g (lw_at lw_m1 118 rfl) rfl
theorem q141 : (Jvm.Cond.instanceMethod ({ cls := "GuardedCommands", name := "image", desc := "(IJ)J" } : Jvm.MethodName)) ∈ lw_all := lw_g (lw_at lw_m1 120 rfl) rfl
theorem q142 : (Jvm.Cond.selects "GuardedCommands" ({ cls := "GuardedCommands", name := "image", desc := "(IJ)J" } : Jvm.MethodName) ({ cls := "GuardedCommands", name := "image", desc := "(IJ)J" } : Jvm.MethodName)) ∈ lw_all := lw_g (lw_at lw_m1 121 rfl) rfl
theorem q143 : (Jvm.Cond.code ({ cls := "GuardedCommands", name := "image", desc := "(IJ)J" } : Jvm.MethodName) prog_1_method_16_code (4 : Nat) (Option.some Jvm.ClassFile.FieldType.long)) ∈ lw_all := lw_g (lw_at lw_m1 122 rfl) rfl
theorem q145 : (Jvm.Cond.instanceMethod ({ cls := "GuardedCommands", name := "refines", desc := "(II)I" } : Jvm.MethodName)) ∈ lw_all := lw_g (lw_at lw_m1 124 rfl) rfl
theorem q146 : (Jvm.Cond.selects "GuardedCommands" ({ cls := "GuardedCommands", name := "refines", desc := "(II)I" } : Jvm.MethodName) ({ cls := "GuardedCommands", name := "refines", desc := "(II)I" } : Jvm.MethodName)) ∈ lw_all := lw_g (lw_at lw_m1 125 rfl) rfl
theorem q147 : (Jvm.Cond.code ({ cls := "GuardedCommands", name := "refines", desc := "(II)I" } : Jvm.MethodName) prog_1_method_17_code (6 : Nat) (Option.some Jvm.ClassFile.FieldType.int)) ∈ lw_all := lw_g (lw_at lw_m1 126 rfl) rfl
theorem q149 : (Jvm.Cond.instanceMethod ({ cls := "GuardedCommands", name := "settled", desc := "(I)I" } : Jvm.MethodName)) ∈ lw_all := lw_g (lw_at lw_m1 128 rfl) rfl
theorem q150 : (Jvm.Cond.selects "GuardedCommands" ({ cls := "GuardedCommands", name := "settled", desc := "(I)I" } : Jvm.MethodName) ({ cls := "GuardedCommands", name := "settled", desc := "(I)I" } : Jvm.MethodName)) ∈ lw_all := lw_g (lw_at lw_m1 129 rfl) rfl
theorem q151 : (Jvm.Cond.code ({ cls := "GuardedCommands", name := "settled", desc := "(I)I" } : Jvm.MethodName) prog_1_method_18_code (5 : Nat) (Option.some Jvm.ClassFile.FieldType.int)) ∈ lw_all := lw_g (lw_at lw_m1 130 rfl) rfl
theorem q153 : (Jvm.Cond.instanceMethod ({ cls := "GuardedCommands", name := "widest", desc := "(I)I" } : Jvm.MethodName)) ∈ lw_all := lw_g (lw_at lw_m1 132 rfl) rfl
theorem q154 : (Jvm.Cond.selects "GuardedCommands" ({ cls := "GuardedCommands", name := "widest", desc := "(I)I" } : Jvm.MethodName) ({ cls := "GuardedCommands", name := "widest", desc := "(I)I" } : Jvm.MethodName)) ∈ lw_all := lw_g (lw_at lw_m1 133 rfl) rfl
theorem q155 : (Jvm.Cond.code ({ cls := "GuardedCommands", name := "widest", desc := "(I)I" } : Jvm.MethodName) prog_1_method_19_code (5 : Nat) (Option.some Jvm.ClassFile.FieldType.int)) ∈ lw_all := lw_g (lw_at lw_m1 134 rfl) rfl
theorem in_X0 : ∀ w ∈ wsX00, w ∈ lw_all := lw_in wsX00 [36, 38, 40, 42] (by decide +kernel) (by decide +kernel)
end
section
set_option maxRecDepth 100000
/-! GuardedCommandsModel -/
def RX1 : String := "GuardedCommandsModel"
def TX1 : u_T := fun k => match k with
  | 0 => ("GuardedCommandsModel", "g", "J", false)
  | 1 => ("GuardedCommandsModel", "h", "J", false)
  | 2 => ("GuardedCommandsModel", "count", "I", false)
  | 3 => ("GuardedCommandsModel", "goals", "[J", false)
  | _ => ("GuardedCommandsModel", "safe", "[J", false)
def tyX1 : Nat → FieldType := fun k => match k with
  | 0 => .long
  | 1 => .long
  | 2 => .int
  | 3 => .array .long
  | _ => .array .long
abbrev wsX10 : List Cond := u_ws RX1 TX1 5
theorem nmX1 : ∀ a, a < 5 → ∀ b, b < 5 → a ≠ b → (TX1 a).2.1 ≠ (TX1 b).2.1 := by decide +kernel
theorem tyX1_ok : ∀ k, k < 5 → parseFieldDescriptor (TX1 k).2.2.1 = some (tyX1 k) := by decide +kernel
abbrev cX1_init : ByteArray := prog_3_method_1_code
def yX1_init : MethodName := ⟨RX1, "<init>", "()V"⟩
theorem dX1_init_0 : decode cX1_init 0 = .ok (.aload_n 0, 1) := by decide +kernel
theorem dX1_init_1 : decode cX1_init 1 = .ok (.invokespecial 1, 3) := by decide +kernel
theorem dX1_init_4 : decode cX1_init 4 = .ok (.aload_n 0, 1) := by decide +kernel
theorem dX1_init_5 : decode cX1_init 5 = .ok (.sipush 1920, 3) := by decide +kernel
theorem dX1_init_8 : decode cX1_init 8 = .ok (.newarray .long, 2) := by decide +kernel
theorem dX1_init_10 : decode cX1_init 10 = .ok (.putfield 7, 3) := by decide +kernel
theorem dX1_init_13 : decode cX1_init 13 = .ok (.aload_n 0, 1) := by decide +kernel
theorem dX1_init_14 : decode cX1_init 14 = .ok (.bipush 30, 2) := by decide +kernel
theorem dX1_init_16 : decode cX1_init 16 = .ok (.newarray .long, 2) := by decide +kernel
theorem dX1_init_18 : decode cX1_init 18 = .ok (.putfield 13, 3) := by decide +kernel
theorem dX1_init_21 : decode cX1_init 21 = .ok (.return_, 1) := by decide +kernel
abbrev cX1_guard : ByteArray := prog_3_method_5_code
def yX1_guard : MethodName := ⟨RX1, "guard", "(IJ)I"⟩
theorem dX1_guard_0 : decode cX1_guard 0 = .ok (.aload_n 0, 1) := by decide +kernel
theorem dX1_guard_1 : decode cX1_guard 1 = .ok (.iload_n 1, 1) := by decide +kernel
theorem dX1_guard_2 : decode cX1_guard 2 = .ok (.lload_n 2, 1) := by decide +kernel
theorem dX1_guard_3 : decode cX1_guard 3 = .ok (.invokevirtual 31, 3) := by decide +kernel
theorem dX1_guard_6 : decode cX1_guard 6 = .ok (.ireturn, 1) := by decide +kernel
abbrev cX1_keep : ByteArray := prog_3_method_4_code
def yX1_keep : MethodName := ⟨RX1, "keep", "(IJ)I"⟩
theorem dX1_keep_0 : decode cX1_keep 0 = .ok (.iload_n 1, 1) := by decide +kernel
theorem dX1_keep_1 : decode cX1_keep 1 = .ok (.ifCond .ne 11, 3) := by decide +kernel
theorem dX1_keep_4 : decode cX1_keep 4 = .ok (.aload_n 0, 1) := by decide +kernel
theorem dX1_keep_5 : decode cX1_keep 5 = .ok (.lload_n 2, 1) := by decide +kernel
theorem dX1_keep_6 : decode cX1_keep 6 = .ok (.putfield 20, 3) := by decide +kernel
theorem dX1_keep_9 : decode cX1_keep 9 = .ok (.goto 8, 3) := by decide +kernel
theorem dX1_keep_12 : decode cX1_keep 12 = .ok (.aload_n 0, 1) := by decide +kernel
theorem dX1_keep_13 : decode cX1_keep 13 = .ok (.lload_n 2, 1) := by decide +kernel
theorem dX1_keep_14 : decode cX1_keep 14 = .ok (.putfield 24, 3) := by decide +kernel
theorem dX1_keep_17 : decode cX1_keep 17 = .ok (.aload_n 0, 1) := by decide +kernel
theorem dX1_keep_18 : decode cX1_keep 18 = .ok (.lload_n 2, 1) := by decide +kernel
theorem dX1_keep_19 : decode cX1_keep 19 = .ok (.invokevirtual 27, 3) := by decide +kernel
theorem dX1_keep_22 : decode cX1_keep 22 = .ok (.ireturn, 1) := by decide +kernel
abbrev cX1_size : ByteArray := prog_3_method_3_code
def yX1_size : MethodName := ⟨RX1, "size", "(J)I"⟩
theorem dX1_size_0 : decode cX1_size 0 = .ok (.iconst 0, 1) := by decide +kernel
theorem dX1_size_1 : decode cX1_size 1 = .ok (.istore_n 3, 1) := by decide +kernel
theorem dX1_size_2 : decode cX1_size 2 = .ok (.iconst 0, 1) := by decide +kernel
theorem dX1_size_3 : decode cX1_size 3 = .ok (.istore 4, 2) := by decide +kernel
theorem dX1_size_5 : decode cX1_size 5 = .ok (.iload 4, 2) := by decide +kernel
theorem dX1_size_7 : decode cX1_size 7 = .ok (.bipush 64, 2) := by decide +kernel
theorem dX1_size_9 : decode cX1_size 9 = .ok (.if_icmp .ge 22, 3) := by decide +kernel
theorem dX1_size_12 : decode cX1_size 12 = .ok (.aload_n 0, 1) := by decide +kernel
theorem dX1_size_13 : decode cX1_size 13 = .ok (.lload_n 1, 1) := by decide +kernel
theorem dX1_size_14 : decode cX1_size 14 = .ok (.iload 4, 2) := by decide +kernel
theorem dX1_size_16 : decode cX1_size 16 = .ok (.invokevirtual 16, 3) := by decide +kernel
theorem dX1_size_19 : decode cX1_size 19 = .ok (.ifCond .eq 6, 3) := by decide +kernel
theorem dX1_size_22 : decode cX1_size 22 = .ok (.iinc 3 1, 3) := by decide +kernel
theorem dX1_size_25 : decode cX1_size 25 = .ok (.iinc 4 1, 3) := by decide +kernel
theorem dX1_size_28 : decode cX1_size 28 = .ok (.goto (-23), 3) := by decide +kernel
theorem dX1_size_31 : decode cX1_size 31 = .ok (.iload_n 3, 1) := by decide +kernel
theorem dX1_size_32 : decode cX1_size 32 = .ok (.ireturn, 1) := by decide +kernel
abbrev cX1_in : ByteArray := prog_3_method_2_code
def yX1_in : MethodName := ⟨RX1, "in", "(JI)Z"⟩
theorem dX1_in_0 : decode cX1_in 0 = .ok (.lload_n 1, 1) := by decide +kernel
theorem dX1_in_1 : decode cX1_in 1 = .ok (.iload_n 3, 1) := by decide +kernel
theorem dX1_in_2 : decode cX1_in 2 = .ok (.lshr, 1) := by decide +kernel
theorem dX1_in_3 : decode cX1_in 3 = .ok (.lconst 1, 1) := by decide +kernel
theorem dX1_in_4 : decode cX1_in 4 = .ok (.land, 1) := by decide +kernel
theorem dX1_in_5 : decode cX1_in 5 = .ok (.lconst 1, 1) := by decide +kernel
theorem dX1_in_6 : decode cX1_in 6 = .ok (.lcmp, 1) := by decide +kernel
theorem dX1_in_7 : decode cX1_in 7 = .ok (.ifCond .ne 7, 3) := by decide +kernel
theorem dX1_in_10 : decode cX1_in 10 = .ok (.iconst 1, 1) := by decide +kernel
theorem dX1_in_11 : decode cX1_in 11 = .ok (.goto 4, 3) := by decide +kernel
theorem dX1_in_14 : decode cX1_in 14 = .ok (.iconst 0, 1) := by decide +kernel
theorem dX1_in_15 : decode cX1_in 15 = .ok (.ireturn, 1) := by decide +kernel
abbrev cX1_compare : ByteArray := prog_3_method_7_code
def yX1_compare : MethodName := ⟨RX1, "compare", "(III)I"⟩
theorem dX1_compare_0 : decode cX1_compare 0 = .ok (.iload_n 2, 1) := by decide +kernel
theorem dX1_compare_1 : decode cX1_compare 1 = .ok (.ifCond .lt 10, 3) := by decide +kernel
theorem dX1_compare_4 : decode cX1_compare 4 = .ok (.iload_n 2, 1) := by decide +kernel
theorem dX1_compare_5 : decode cX1_compare 5 = .ok (.sipush 511, 3) := by decide +kernel
theorem dX1_compare_8 : decode cX1_compare 8 = .ok (.if_icmp .le 5, 3) := by decide +kernel
theorem dX1_compare_11 : decode cX1_compare 11 = .ok (.iconst (-1), 1) := by decide +kernel
theorem dX1_compare_12 : decode cX1_compare 12 = .ok (.ireturn, 1) := by decide +kernel
theorem dX1_compare_13 : decode cX1_compare 13 = .ok (.iload_n 3, 1) := by decide +kernel
theorem dX1_compare_14 : decode cX1_compare 14 = .ok (.ifCond .lt 9, 3) := by decide +kernel
theorem dX1_compare_17 : decode cX1_compare 17 = .ok (.iload_n 3, 1) := by decide +kernel
theorem dX1_compare_18 : decode cX1_compare 18 = .ok (.bipush 8, 2) := by decide +kernel
theorem dX1_compare_20 : decode cX1_compare 20 = .ok (.if_icmp .le 6, 3) := by decide +kernel
theorem dX1_compare_23 : decode cX1_compare 23 = .ok (.bipush (-2), 2) := by decide +kernel
theorem dX1_compare_25 : decode cX1_compare 25 = .ok (.ireturn, 1) := by decide +kernel
theorem dX1_compare_26 : decode cX1_compare 26 = .ok (.lconst 0, 1) := by decide +kernel
theorem dX1_compare_27 : decode cX1_compare 27 = .ok (.lstore 4, 2) := by decide +kernel
theorem dX1_compare_29 : decode cX1_compare 29 = .ok (.iconst 0, 1) := by decide +kernel
theorem dX1_compare_30 : decode cX1_compare 30 = .ok (.istore 6, 2) := by decide +kernel
theorem dX1_compare_32 : decode cX1_compare 32 = .ok (.iload 6, 2) := by decide +kernel
theorem dX1_compare_34 : decode cX1_compare 34 = .ok (.bipush 64, 2) := by decide +kernel
theorem dX1_compare_36 : decode cX1_compare 36 = .ok (.if_icmp .ge 29, 3) := by decide +kernel
theorem dX1_compare_39 : decode cX1_compare 39 = .ok (.aload_n 0, 1) := by decide +kernel
theorem dX1_compare_40 : decode cX1_compare 40 = .ok (.iload_n 2, 1) := by decide +kernel
theorem dX1_compare_41 : decode cX1_compare 41 = .ok (.iload 6, 2) := by decide +kernel
theorem dX1_compare_43 : decode cX1_compare 43 = .ok (.invokevirtual 35, 3) := by decide +kernel
theorem dX1_compare_46 : decode cX1_compare 46 = .ok (.iload_n 3, 1) := by decide +kernel
theorem dX1_compare_47 : decode cX1_compare 47 = .ok (.if_icmp .ge 12, 3) := by decide +kernel
theorem dX1_compare_50 : decode cX1_compare 50 = .ok (.lload 4, 2) := by decide +kernel
theorem dX1_compare_52 : decode cX1_compare 52 = .ok (.lconst 1, 1) := by decide +kernel
theorem dX1_compare_53 : decode cX1_compare 53 = .ok (.iload 6, 2) := by decide +kernel
theorem dX1_compare_55 : decode cX1_compare 55 = .ok (.lshl, 1) := by decide +kernel
theorem dX1_compare_56 : decode cX1_compare 56 = .ok (.lor, 1) := by decide +kernel
theorem dX1_compare_57 : decode cX1_compare 57 = .ok (.lstore 4, 2) := by decide +kernel
theorem dX1_compare_59 : decode cX1_compare 59 = .ok (.iinc 6 1, 3) := by decide +kernel
theorem dX1_compare_62 : decode cX1_compare 62 = .ok (.goto (-30), 3) := by decide +kernel
theorem dX1_compare_65 : decode cX1_compare 65 = .ok (.aload_n 0, 1) := by decide +kernel
theorem dX1_compare_66 : decode cX1_compare 66 = .ok (.iload_n 1, 1) := by decide +kernel
theorem dX1_compare_67 : decode cX1_compare 67 = .ok (.lload 4, 2) := by decide +kernel
theorem dX1_compare_69 : decode cX1_compare 69 = .ok (.invokevirtual 31, 3) := by decide +kernel
theorem dX1_compare_72 : decode cX1_compare 72 = .ok (.ireturn, 1) := by decide +kernel
abbrev cX1_worth : ByteArray := prog_3_method_6_code
def yX1_worth : MethodName := ⟨RX1, "worth", "(II)I"⟩
theorem dX1_worth_0 : decode cX1_worth 0 = .ok (.iload_n 1, 1) := by decide +kernel
theorem dX1_worth_1 : decode cX1_worth 1 = .ok (.bipush 64, 2) := by decide +kernel
theorem dX1_worth_3 : decode cX1_worth 3 = .ok (.idiv, 1) := by decide +kernel
theorem dX1_worth_4 : decode cX1_worth 4 = .ok (.iload_n 2, 1) := by decide +kernel
theorem dX1_worth_5 : decode cX1_worth 5 = .ok (.bipush 8, 2) := by decide +kernel
theorem dX1_worth_7 : decode cX1_worth 7 = .ok (.idiv, 1) := by decide +kernel
theorem dX1_worth_8 : decode cX1_worth 8 = .ok (.imul, 1) := by decide +kernel
theorem dX1_worth_9 : decode cX1_worth 9 = .ok (.iload_n 1, 1) := by decide +kernel
theorem dX1_worth_10 : decode cX1_worth 10 = .ok (.bipush 8, 2) := by decide +kernel
theorem dX1_worth_12 : decode cX1_worth 12 = .ok (.idiv, 1) := by decide +kernel
theorem dX1_worth_13 : decode cX1_worth 13 = .ok (.bipush 8, 2) := by decide +kernel
theorem dX1_worth_15 : decode cX1_worth 15 = .ok (.irem, 1) := by decide +kernel
theorem dX1_worth_16 : decode cX1_worth 16 = .ok (.iload_n 2, 1) := by decide +kernel
theorem dX1_worth_17 : decode cX1_worth 17 = .ok (.bipush 8, 2) := by decide +kernel
theorem dX1_worth_19 : decode cX1_worth 19 = .ok (.irem, 1) := by decide +kernel
theorem dX1_worth_20 : decode cX1_worth 20 = .ok (.imul, 1) := by decide +kernel
theorem dX1_worth_21 : decode cX1_worth 21 = .ok (.iadd, 1) := by decide +kernel
theorem dX1_worth_22 : decode cX1_worth 22 = .ok (.iload_n 1, 1) := by decide +kernel
theorem dX1_worth_23 : decode cX1_worth 23 = .ok (.bipush 8, 2) := by decide +kernel
theorem dX1_worth_25 : decode cX1_worth 25 = .ok (.irem, 1) := by decide +kernel
theorem dX1_worth_26 : decode cX1_worth 26 = .ok (.iadd, 1) := by decide +kernel
theorem dX1_worth_27 : decode cX1_worth 27 = .ok (.bipush 8, 2) := by decide +kernel
theorem dX1_worth_29 : decode cX1_worth 29 = .ok (.irem, 1) := by decide +kernel
theorem dX1_worth_30 : decode cX1_worth 30 = .ok (.ireturn, 1) := by decide +kernel
abbrev cX1_oppose : ByteArray := prog_3_method_8_code
def yX1_oppose : MethodName := ⟨RX1, "oppose", "(I)I"⟩
theorem dX1_oppose_0 : decode cX1_oppose 0 = .ok (.aload_n 0, 1) := by decide +kernel
theorem dX1_oppose_1 : decode cX1_oppose 1 = .ok (.iload_n 1, 1) := by decide +kernel
theorem dX1_oppose_2 : decode cX1_oppose 2 = .ok (.iload_n 1, 1) := by decide +kernel
theorem dX1_oppose_3 : decode cX1_oppose 3 = .ok (.ifCond .ne 14, 3) := by decide +kernel
theorem dX1_oppose_6 : decode cX1_oppose 6 = .ok (.aload_n 0, 1) := by decide +kernel
theorem dX1_oppose_7 : decode cX1_oppose 7 = .ok (.getfield 20, 3) := by decide +kernel
theorem dX1_oppose_10 : decode cX1_oppose 10 = .ok (.ldc2_w 39, 3) := by decide +kernel
theorem dX1_oppose_13 : decode cX1_oppose 13 = .ok (.lxor, 1) := by decide +kernel
theorem dX1_oppose_14 : decode cX1_oppose 14 = .ok (.goto 11, 3) := by decide +kernel
theorem dX1_oppose_17 : decode cX1_oppose 17 = .ok (.aload_n 0, 1) := by decide +kernel
theorem dX1_oppose_18 : decode cX1_oppose 18 = .ok (.getfield 24, 3) := by decide +kernel
theorem dX1_oppose_21 : decode cX1_oppose 21 = .ok (.ldc2_w 39, 3) := by decide +kernel
theorem dX1_oppose_24 : decode cX1_oppose 24 = .ok (.lxor, 1) := by decide +kernel
theorem dX1_oppose_25 : decode cX1_oppose 25 = .ok (.invokevirtual 31, 3) := by decide +kernel
theorem dX1_oppose_28 : decode cX1_oppose 28 = .ok (.ireturn, 1) := by decide +kernel
abbrev cX1_skip : ByteArray := prog_3_method_11_code
def yX1_skip : MethodName := ⟨RX1, "skip", "()I"⟩
theorem dX1_skip_0 : decode cX1_skip 0 = .ok (.aload_n 0, 1) := by decide +kernel
theorem dX1_skip_1 : decode cX1_skip 1 = .ok (.iconst 1, 1) := by decide +kernel
theorem dX1_skip_2 : decode cX1_skip 2 = .ok (.invokevirtual 49, 3) := by decide +kernel
theorem dX1_skip_5 : decode cX1_skip 5 = .ok (.ireturn, 1) := by decide +kernel
abbrev cX1_plain : ByteArray := prog_3_method_10_code
def yX1_plain : MethodName := ⟨RX1, "plain", "(Z)I"⟩
theorem dX1_plain_0 : decode cX1_plain 0 = .ok (.aload_n 0, 1) := by decide +kernel
theorem dX1_plain_1 : decode cX1_plain 1 = .ok (.invokevirtual 45, 3) := by decide +kernel
theorem dX1_plain_4 : decode cX1_plain 4 = .ok (.ifCond .eq 5, 3) := by decide +kernel
theorem dX1_plain_7 : decode cX1_plain 7 = .ok (.iconst (-1), 1) := by decide +kernel
theorem dX1_plain_8 : decode cX1_plain 8 = .ok (.ireturn, 1) := by decide +kernel
theorem dX1_plain_9 : decode cX1_plain 9 = .ok (.aload_n 0, 1) := by decide +kernel
theorem dX1_plain_10 : decode cX1_plain 10 = .ok (.getfield 41, 3) := by decide +kernel
theorem dX1_plain_13 : decode cX1_plain 13 = .ok (.istore_n 2, 1) := by decide +kernel
theorem dX1_plain_14 : decode cX1_plain 14 = .ok (.iconst 0, 1) := by decide +kernel
theorem dX1_plain_15 : decode cX1_plain 15 = .ok (.istore_n 3, 1) := by decide +kernel
theorem dX1_plain_16 : decode cX1_plain 16 = .ok (.iload_n 3, 1) := by decide +kernel
theorem dX1_plain_17 : decode cX1_plain 17 = .ok (.bipush 64, 2) := by decide +kernel
theorem dX1_plain_19 : decode cX1_plain 19 = .ok (.if_icmp .ge 37, 3) := by decide +kernel
theorem dX1_plain_22 : decode cX1_plain 22 = .ok (.iload_n 2, 1) := by decide +kernel
theorem dX1_plain_23 : decode cX1_plain 23 = .ok (.bipush 30, 2) := by decide +kernel
theorem dX1_plain_25 : decode cX1_plain 25 = .ok (.if_icmp .ge 31, 3) := by decide +kernel
theorem dX1_plain_28 : decode cX1_plain 28 = .ok (.aload_n 0, 1) := by decide +kernel
theorem dX1_plain_29 : decode cX1_plain 29 = .ok (.getfield 7, 3) := by decide +kernel
theorem dX1_plain_32 : decode cX1_plain 32 = .ok (.bipush 64, 2) := by decide +kernel
theorem dX1_plain_34 : decode cX1_plain 34 = .ok (.iload_n 2, 1) := by decide +kernel
theorem dX1_plain_35 : decode cX1_plain 35 = .ok (.imul, 1) := by decide +kernel
theorem dX1_plain_36 : decode cX1_plain 36 = .ok (.iload_n 3, 1) := by decide +kernel
theorem dX1_plain_37 : decode cX1_plain 37 = .ok (.iadd, 1) := by decide +kernel
theorem dX1_plain_38 : decode cX1_plain 38 = .ok (.iload_n 1, 1) := by decide +kernel
theorem dX1_plain_39 : decode cX1_plain 39 = .ok (.ifCond .eq 9, 3) := by decide +kernel
theorem dX1_plain_42 : decode cX1_plain 42 = .ok (.lconst 1, 1) := by decide +kernel
theorem dX1_plain_43 : decode cX1_plain 43 = .ok (.iload_n 3, 1) := by decide +kernel
theorem dX1_plain_44 : decode cX1_plain 44 = .ok (.lshl, 1) := by decide +kernel
theorem dX1_plain_45 : decode cX1_plain 45 = .ok (.goto 4, 3) := by decide +kernel
theorem dX1_plain_48 : decode cX1_plain 48 = .ok (.lconst 0, 1) := by decide +kernel
theorem dX1_plain_49 : decode cX1_plain 49 = .ok (.lastore, 1) := by decide +kernel
theorem dX1_plain_50 : decode cX1_plain 50 = .ok (.iinc 3 1, 3) := by decide +kernel
theorem dX1_plain_53 : decode cX1_plain 53 = .ok (.goto (-37), 3) := by decide +kernel
theorem dX1_plain_56 : decode cX1_plain 56 = .ok (.aload_n 0, 1) := by decide +kernel
theorem dX1_plain_57 : decode cX1_plain 57 = .ok (.getfield 13, 3) := by decide +kernel
theorem dX1_plain_60 : decode cX1_plain 60 = .ok (.iload_n 2, 1) := by decide +kernel
theorem dX1_plain_61 : decode cX1_plain 61 = .ok (.iload_n 1, 1) := by decide +kernel
theorem dX1_plain_62 : decode cX1_plain 62 = .ok (.ifCond .eq 9, 3) := by decide +kernel
theorem dX1_plain_65 : decode cX1_plain 65 = .ok (.ldc2_w 39, 3) := by decide +kernel
theorem dX1_plain_68 : decode cX1_plain 68 = .ok (.goto 4, 3) := by decide +kernel
theorem dX1_plain_71 : decode cX1_plain 71 = .ok (.lconst 0, 1) := by decide +kernel
theorem dX1_plain_72 : decode cX1_plain 72 = .ok (.lastore, 1) := by decide +kernel
theorem dX1_plain_73 : decode cX1_plain 73 = .ok (.aload_n 0, 1) := by decide +kernel
theorem dX1_plain_74 : decode cX1_plain 74 = .ok (.iload_n 2, 1) := by decide +kernel
theorem dX1_plain_75 : decode cX1_plain 75 = .ok (.iconst 1, 1) := by decide +kernel
theorem dX1_plain_76 : decode cX1_plain 76 = .ok (.iadd, 1) := by decide +kernel
theorem dX1_plain_77 : decode cX1_plain 77 = .ok (.putfield 41, 3) := by decide +kernel
theorem dX1_plain_80 : decode cX1_plain 80 = .ok (.iload_n 2, 1) := by decide +kernel
theorem dX1_plain_81 : decode cX1_plain 81 = .ok (.ireturn, 1) := by decide +kernel
abbrev cX1_full : ByteArray := prog_3_method_9_code
def yX1_full : MethodName := ⟨RX1, "full", "()Z"⟩
theorem dX1_full_0 : decode cX1_full 0 = .ok (.aload_n 0, 1) := by decide +kernel
theorem dX1_full_1 : decode cX1_full 1 = .ok (.getfield 41, 3) := by decide +kernel
theorem dX1_full_4 : decode cX1_full 4 = .ok (.bipush 29, 2) := by decide +kernel
theorem dX1_full_6 : decode cX1_full 6 = .ok (.if_icmp .le 7, 3) := by decide +kernel
theorem dX1_full_9 : decode cX1_full 9 = .ok (.iconst 1, 1) := by decide +kernel
theorem dX1_full_10 : decode cX1_full 10 = .ok (.goto 4, 3) := by decide +kernel
theorem dX1_full_13 : decode cX1_full 13 = .ok (.iconst 0, 1) := by decide +kernel
theorem dX1_full_14 : decode cX1_full 14 = .ok (.ireturn, 1) := by decide +kernel
abbrev cX1_fail : ByteArray := prog_3_method_12_code
def yX1_fail : MethodName := ⟨RX1, "fail", "()I"⟩
theorem dX1_fail_0 : decode cX1_fail 0 = .ok (.aload_n 0, 1) := by decide +kernel
theorem dX1_fail_1 : decode cX1_fail 1 = .ok (.iconst 0, 1) := by decide +kernel
theorem dX1_fail_2 : decode cX1_fail 2 = .ok (.invokevirtual 49, 3) := by decide +kernel
theorem dX1_fail_5 : decode cX1_fail 5 = .ok (.ireturn, 1) := by decide +kernel
abbrev cX1_assign : ByteArray := prog_3_method_13_code
def yX1_assign : MethodName := ⟨RX1, "assign", "(II)I"⟩
theorem dX1_assign_0 : decode cX1_assign 0 = .ok (.iload_n 2, 1) := by decide +kernel
theorem dX1_assign_1 : decode cX1_assign 1 = .ok (.ifCond .lt 10, 3) := by decide +kernel
theorem dX1_assign_4 : decode cX1_assign 4 = .ok (.iload_n 2, 1) := by decide +kernel
theorem dX1_assign_5 : decode cX1_assign 5 = .ok (.sipush 511, 3) := by decide +kernel
theorem dX1_assign_8 : decode cX1_assign 8 = .ok (.if_icmp .le 5, 3) := by decide +kernel
theorem dX1_assign_11 : decode cX1_assign 11 = .ok (.iconst (-1), 1) := by decide +kernel
theorem dX1_assign_12 : decode cX1_assign 12 = .ok (.ireturn, 1) := by decide +kernel
theorem dX1_assign_13 : decode cX1_assign 13 = .ok (.aload_n 0, 1) := by decide +kernel
theorem dX1_assign_14 : decode cX1_assign 14 = .ok (.invokevirtual 45, 3) := by decide +kernel
theorem dX1_assign_17 : decode cX1_assign 17 = .ok (.ifCond .eq 6, 3) := by decide +kernel
theorem dX1_assign_20 : decode cX1_assign 20 = .ok (.bipush (-2), 2) := by decide +kernel
theorem dX1_assign_22 : decode cX1_assign 22 = .ok (.ireturn, 1) := by decide +kernel
theorem dX1_assign_23 : decode cX1_assign 23 = .ok (.aload_n 0, 1) := by decide +kernel
theorem dX1_assign_24 : decode cX1_assign 24 = .ok (.getfield 41, 3) := by decide +kernel
theorem dX1_assign_27 : decode cX1_assign 27 = .ok (.istore_n 3, 1) := by decide +kernel
theorem dX1_assign_28 : decode cX1_assign 28 = .ok (.iconst 0, 1) := by decide +kernel
theorem dX1_assign_29 : decode cX1_assign 29 = .ok (.istore 4, 2) := by decide +kernel
theorem dX1_assign_31 : decode cX1_assign 31 = .ok (.iload 4, 2) := by decide +kernel
theorem dX1_assign_33 : decode cX1_assign 33 = .ok (.bipush 64, 2) := by decide +kernel
theorem dX1_assign_35 : decode cX1_assign 35 = .ok (.if_icmp .ge 65, 3) := by decide +kernel
theorem dX1_assign_38 : decode cX1_assign 38 = .ok (.aload_n 0, 1) := by decide +kernel
theorem dX1_assign_39 : decode cX1_assign 39 = .ok (.iload_n 2, 1) := by decide +kernel
theorem dX1_assign_40 : decode cX1_assign 40 = .ok (.iload 4, 2) := by decide +kernel
theorem dX1_assign_42 : decode cX1_assign 42 = .ok (.invokevirtual 35, 3) := by decide +kernel
theorem dX1_assign_45 : decode cX1_assign 45 = .ok (.istore 5, 2) := by decide +kernel
theorem dX1_assign_47 : decode cX1_assign 47 = .ok (.iload_n 1, 1) := by decide +kernel
theorem dX1_assign_48 : decode cX1_assign 48 = .ok (.ifCond .ne 17, 3) := by decide +kernel
theorem dX1_assign_51 : decode cX1_assign 51 = .ok (.bipush 8, 2) := by decide +kernel
theorem dX1_assign_53 : decode cX1_assign 53 = .ok (.iload 5, 2) := by decide +kernel
theorem dX1_assign_55 : decode cX1_assign 55 = .ok (.imul, 1) := by decide +kernel
theorem dX1_assign_56 : decode cX1_assign 56 = .ok (.iload 4, 2) := by decide +kernel
theorem dX1_assign_58 : decode cX1_assign 58 = .ok (.bipush 8, 2) := by decide +kernel
theorem dX1_assign_60 : decode cX1_assign 60 = .ok (.irem, 1) := by decide +kernel
theorem dX1_assign_61 : decode cX1_assign 61 = .ok (.iadd, 1) := by decide +kernel
theorem dX1_assign_62 : decode cX1_assign 62 = .ok (.goto 14, 3) := by decide +kernel
theorem dX1_assign_65 : decode cX1_assign 65 = .ok (.bipush 8, 2) := by decide +kernel
theorem dX1_assign_67 : decode cX1_assign 67 = .ok (.iload 4, 2) := by decide +kernel
theorem dX1_assign_69 : decode cX1_assign 69 = .ok (.bipush 8, 2) := by decide +kernel
theorem dX1_assign_71 : decode cX1_assign 71 = .ok (.idiv, 1) := by decide +kernel
theorem dX1_assign_72 : decode cX1_assign 72 = .ok (.imul, 1) := by decide +kernel
theorem dX1_assign_73 : decode cX1_assign 73 = .ok (.iload 5, 2) := by decide +kernel
theorem dX1_assign_75 : decode cX1_assign 75 = .ok (.iadd, 1) := by decide +kernel
theorem dX1_assign_76 : decode cX1_assign 76 = .ok (.istore 6, 2) := by decide +kernel
theorem dX1_assign_78 : decode cX1_assign 78 = .ok (.aload_n 0, 1) := by decide +kernel
theorem dX1_assign_79 : decode cX1_assign 79 = .ok (.getfield 7, 3) := by decide +kernel
theorem dX1_assign_82 : decode cX1_assign 82 = .ok (.bipush 64, 2) := by decide +kernel
theorem dX1_assign_84 : decode cX1_assign 84 = .ok (.iload_n 3, 1) := by decide +kernel
theorem dX1_assign_85 : decode cX1_assign 85 = .ok (.imul, 1) := by decide +kernel
theorem dX1_assign_86 : decode cX1_assign 86 = .ok (.iload 4, 2) := by decide +kernel
theorem dX1_assign_88 : decode cX1_assign 88 = .ok (.iadd, 1) := by decide +kernel
theorem dX1_assign_89 : decode cX1_assign 89 = .ok (.lconst 1, 1) := by decide +kernel
theorem dX1_assign_90 : decode cX1_assign 90 = .ok (.iload 6, 2) := by decide +kernel
theorem dX1_assign_92 : decode cX1_assign 92 = .ok (.lshl, 1) := by decide +kernel
theorem dX1_assign_93 : decode cX1_assign 93 = .ok (.lastore, 1) := by decide +kernel
theorem dX1_assign_94 : decode cX1_assign 94 = .ok (.iinc 4 1, 3) := by decide +kernel
theorem dX1_assign_97 : decode cX1_assign 97 = .ok (.goto (-66), 3) := by decide +kernel
theorem dX1_assign_100 : decode cX1_assign 100 = .ok (.aload_n 0, 1) := by decide +kernel
theorem dX1_assign_101 : decode cX1_assign 101 = .ok (.getfield 13, 3) := by decide +kernel
theorem dX1_assign_104 : decode cX1_assign 104 = .ok (.iload_n 3, 1) := by decide +kernel
theorem dX1_assign_105 : decode cX1_assign 105 = .ok (.ldc2_w 39, 3) := by decide +kernel
theorem dX1_assign_108 : decode cX1_assign 108 = .ok (.lastore, 1) := by decide +kernel
theorem dX1_assign_109 : decode cX1_assign 109 = .ok (.aload_n 0, 1) := by decide +kernel
theorem dX1_assign_110 : decode cX1_assign 110 = .ok (.iload_n 3, 1) := by decide +kernel
theorem dX1_assign_111 : decode cX1_assign 111 = .ok (.iconst 1, 1) := by decide +kernel
theorem dX1_assign_112 : decode cX1_assign 112 = .ok (.iadd, 1) := by decide +kernel
theorem dX1_assign_113 : decode cX1_assign 113 = .ok (.putfield 41, 3) := by decide +kernel
theorem dX1_assign_116 : decode cX1_assign 116 = .ok (.iload_n 3, 1) := by decide +kernel
theorem dX1_assign_117 : decode cX1_assign 117 = .ok (.ireturn, 1) := by decide +kernel
abbrev cX1_sequence : ByteArray := prog_3_method_17_code
def yX1_sequence : MethodName := ⟨RX1, "sequence", "(II)I"⟩
theorem dX1_sequence_0 : decode cX1_sequence 0 = .ok (.aload_n 0, 1) := by decide +kernel
theorem dX1_sequence_1 : decode cX1_sequence 1 = .ok (.iload_n 1, 1) := by decide +kernel
theorem dX1_sequence_2 : decode cX1_sequence 2 = .ok (.invokevirtual 53, 3) := by decide +kernel
theorem dX1_sequence_5 : decode cX1_sequence 5 = .ok (.ifCond .ne 11, 3) := by decide +kernel
theorem dX1_sequence_8 : decode cX1_sequence 8 = .ok (.aload_n 0, 1) := by decide +kernel
theorem dX1_sequence_9 : decode cX1_sequence 9 = .ok (.iload_n 2, 1) := by decide +kernel
theorem dX1_sequence_10 : decode cX1_sequence 10 = .ok (.invokevirtual 53, 3) := by decide +kernel
theorem dX1_sequence_13 : decode cX1_sequence 13 = .ok (.ifCond .eq 5, 3) := by decide +kernel
theorem dX1_sequence_16 : decode cX1_sequence 16 = .ok (.iconst (-1), 1) := by decide +kernel
theorem dX1_sequence_17 : decode cX1_sequence 17 = .ok (.ireturn, 1) := by decide +kernel
theorem dX1_sequence_18 : decode cX1_sequence 18 = .ok (.aload_n 0, 1) := by decide +kernel
theorem dX1_sequence_19 : decode cX1_sequence 19 = .ok (.invokevirtual 45, 3) := by decide +kernel
theorem dX1_sequence_22 : decode cX1_sequence 22 = .ok (.ifCond .eq 6, 3) := by decide +kernel
theorem dX1_sequence_25 : decode cX1_sequence 25 = .ok (.bipush (-2), 2) := by decide +kernel
theorem dX1_sequence_27 : decode cX1_sequence 27 = .ok (.ireturn, 1) := by decide +kernel
theorem dX1_sequence_28 : decode cX1_sequence 28 = .ok (.aload_n 0, 1) := by decide +kernel
theorem dX1_sequence_29 : decode cX1_sequence 29 = .ok (.getfield 41, 3) := by decide +kernel
theorem dX1_sequence_32 : decode cX1_sequence 32 = .ok (.istore_n 3, 1) := by decide +kernel
theorem dX1_sequence_33 : decode cX1_sequence 33 = .ok (.lconst 0, 1) := by decide +kernel
theorem dX1_sequence_34 : decode cX1_sequence 34 = .ok (.lstore 4, 2) := by decide +kernel
theorem dX1_sequence_36 : decode cX1_sequence 36 = .ok (.iconst 0, 1) := by decide +kernel
theorem dX1_sequence_37 : decode cX1_sequence 37 = .ok (.istore 6, 2) := by decide +kernel
theorem dX1_sequence_39 : decode cX1_sequence 39 = .ok (.iload 6, 2) := by decide +kernel
theorem dX1_sequence_41 : decode cX1_sequence 41 = .ok (.bipush 64, 2) := by decide +kernel
theorem dX1_sequence_43 : decode cX1_sequence 43 = .ok (.if_icmp .ge 81, 3) := by decide +kernel
theorem dX1_sequence_46 : decode cX1_sequence 46 = .ok (.aload_n 0, 1) := by decide +kernel
theorem dX1_sequence_47 : decode cX1_sequence 47 = .ok (.getfield 7, 3) := by decide +kernel
theorem dX1_sequence_50 : decode cX1_sequence 50 = .ok (.bipush 64, 2) := by decide +kernel
theorem dX1_sequence_52 : decode cX1_sequence 52 = .ok (.iload_n 1, 1) := by decide +kernel
theorem dX1_sequence_53 : decode cX1_sequence 53 = .ok (.imul, 1) := by decide +kernel
theorem dX1_sequence_54 : decode cX1_sequence 54 = .ok (.iload 6, 2) := by decide +kernel
theorem dX1_sequence_56 : decode cX1_sequence 56 = .ok (.iadd, 1) := by decide +kernel
theorem dX1_sequence_57 : decode cX1_sequence 57 = .ok (.laload, 1) := by decide +kernel
theorem dX1_sequence_58 : decode cX1_sequence 58 = .ok (.lstore 7, 2) := by decide +kernel
theorem dX1_sequence_60 : decode cX1_sequence 60 = .ok (.aload_n 0, 1) := by decide +kernel
theorem dX1_sequence_61 : decode cX1_sequence 61 = .ok (.getfield 7, 3) := by decide +kernel
theorem dX1_sequence_64 : decode cX1_sequence 64 = .ok (.bipush 64, 2) := by decide +kernel
theorem dX1_sequence_66 : decode cX1_sequence 66 = .ok (.iload_n 3, 1) := by decide +kernel
theorem dX1_sequence_67 : decode cX1_sequence 67 = .ok (.imul, 1) := by decide +kernel
theorem dX1_sequence_68 : decode cX1_sequence 68 = .ok (.iload 6, 2) := by decide +kernel
theorem dX1_sequence_70 : decode cX1_sequence 70 = .ok (.iadd, 1) := by decide +kernel
theorem dX1_sequence_71 : decode cX1_sequence 71 = .ok (.aload_n 0, 1) := by decide +kernel
theorem dX1_sequence_72 : decode cX1_sequence 72 = .ok (.iload_n 2, 1) := by decide +kernel
theorem dX1_sequence_73 : decode cX1_sequence 73 = .ok (.lload 7, 2) := by decide +kernel
theorem dX1_sequence_75 : decode cX1_sequence 75 = .ok (.invokevirtual 57, 3) := by decide +kernel
theorem dX1_sequence_78 : decode cX1_sequence 78 = .ok (.lastore, 1) := by decide +kernel
theorem dX1_sequence_79 : decode cX1_sequence 79 = .ok (.aload_n 0, 1) := by decide +kernel
theorem dX1_sequence_80 : decode cX1_sequence 80 = .ok (.aload_n 0, 1) := by decide +kernel
theorem dX1_sequence_81 : decode cX1_sequence 81 = .ok (.getfield 13, 3) := by decide +kernel
theorem dX1_sequence_84 : decode cX1_sequence 84 = .ok (.iload_n 1, 1) := by decide +kernel
theorem dX1_sequence_85 : decode cX1_sequence 85 = .ok (.laload, 1) := by decide +kernel
theorem dX1_sequence_86 : decode cX1_sequence 86 = .ok (.iload 6, 2) := by decide +kernel
theorem dX1_sequence_88 : decode cX1_sequence 88 = .ok (.invokevirtual 16, 3) := by decide +kernel
theorem dX1_sequence_91 : decode cX1_sequence 91 = .ok (.ifCond .eq 27, 3) := by decide +kernel
theorem dX1_sequence_94 : decode cX1_sequence 94 = .ok (.aload_n 0, 1) := by decide +kernel
theorem dX1_sequence_95 : decode cX1_sequence 95 = .ok (.lload 7, 2) := by decide +kernel
theorem dX1_sequence_97 : decode cX1_sequence 97 = .ok (.aload_n 0, 1) := by decide +kernel
theorem dX1_sequence_98 : decode cX1_sequence 98 = .ok (.getfield 13, 3) := by decide +kernel
theorem dX1_sequence_101 : decode cX1_sequence 101 = .ok (.iload_n 2, 1) := by decide +kernel
theorem dX1_sequence_102 : decode cX1_sequence 102 = .ok (.laload, 1) := by decide +kernel
theorem dX1_sequence_103 : decode cX1_sequence 103 = .ok (.invokevirtual 61, 3) := by decide +kernel
theorem dX1_sequence_106 : decode cX1_sequence 106 = .ok (.ifCond .eq 12, 3) := by decide +kernel
theorem dX1_sequence_109 : decode cX1_sequence 109 = .ok (.lload 4, 2) := by decide +kernel
theorem dX1_sequence_111 : decode cX1_sequence 111 = .ok (.lconst 1, 1) := by decide +kernel
theorem dX1_sequence_112 : decode cX1_sequence 112 = .ok (.iload 6, 2) := by decide +kernel
theorem dX1_sequence_114 : decode cX1_sequence 114 = .ok (.lshl, 1) := by decide +kernel
theorem dX1_sequence_115 : decode cX1_sequence 115 = .ok (.lor, 1) := by decide +kernel
theorem dX1_sequence_116 : decode cX1_sequence 116 = .ok (.lstore 4, 2) := by decide +kernel
theorem dX1_sequence_118 : decode cX1_sequence 118 = .ok (.iinc 6 1, 3) := by decide +kernel
theorem dX1_sequence_121 : decode cX1_sequence 121 = .ok (.goto (-82), 3) := by decide +kernel
theorem dX1_sequence_124 : decode cX1_sequence 124 = .ok (.aload_n 0, 1) := by decide +kernel
theorem dX1_sequence_125 : decode cX1_sequence 125 = .ok (.getfield 13, 3) := by decide +kernel
theorem dX1_sequence_128 : decode cX1_sequence 128 = .ok (.iload_n 3, 1) := by decide +kernel
theorem dX1_sequence_129 : decode cX1_sequence 129 = .ok (.lload 4, 2) := by decide +kernel
theorem dX1_sequence_131 : decode cX1_sequence 131 = .ok (.lastore, 1) := by decide +kernel
theorem dX1_sequence_132 : decode cX1_sequence 132 = .ok (.aload_n 0, 1) := by decide +kernel
theorem dX1_sequence_133 : decode cX1_sequence 133 = .ok (.iload_n 3, 1) := by decide +kernel
theorem dX1_sequence_134 : decode cX1_sequence 134 = .ok (.iconst 1, 1) := by decide +kernel
theorem dX1_sequence_135 : decode cX1_sequence 135 = .ok (.iadd, 1) := by decide +kernel
theorem dX1_sequence_136 : decode cX1_sequence 136 = .ok (.putfield 41, 3) := by decide +kernel
theorem dX1_sequence_139 : decode cX1_sequence 139 = .ok (.iload_n 3, 1) := by decide +kernel
theorem dX1_sequence_140 : decode cX1_sequence 140 = .ok (.ireturn, 1) := by decide +kernel
abbrev cX1_bad : ByteArray := prog_3_method_14_code
def yX1_bad : MethodName := ⟨RX1, "bad", "(I)Z"⟩
theorem dX1_bad_0 : decode cX1_bad 0 = .ok (.iload_n 1, 1) := by decide +kernel
theorem dX1_bad_1 : decode cX1_bad 1 = .ok (.ifCond .lt 17, 3) := by decide +kernel
theorem dX1_bad_4 : decode cX1_bad 4 = .ok (.iload_n 1, 1) := by decide +kernel
theorem dX1_bad_5 : decode cX1_bad 5 = .ok (.aload_n 0, 1) := by decide +kernel
theorem dX1_bad_6 : decode cX1_bad 6 = .ok (.getfield 41, 3) := by decide +kernel
theorem dX1_bad_9 : decode cX1_bad 9 = .ok (.if_icmp .ge 9, 3) := by decide +kernel
theorem dX1_bad_12 : decode cX1_bad 12 = .ok (.iload_n 1, 1) := by decide +kernel
theorem dX1_bad_13 : decode cX1_bad 13 = .ok (.bipush 29, 2) := by decide +kernel
theorem dX1_bad_15 : decode cX1_bad 15 = .ok (.if_icmp .le 7, 3) := by decide +kernel
theorem dX1_bad_18 : decode cX1_bad 18 = .ok (.iconst 1, 1) := by decide +kernel
theorem dX1_bad_19 : decode cX1_bad 19 = .ok (.goto 4, 3) := by decide +kernel
theorem dX1_bad_22 : decode cX1_bad 22 = .ok (.iconst 0, 1) := by decide +kernel
theorem dX1_bad_23 : decode cX1_bad 23 = .ok (.ireturn, 1) := by decide +kernel
abbrev cX1_from : ByteArray := prog_3_method_15_code
def yX1_from : MethodName := ⟨RX1, "from", "(IJ)J"⟩
theorem dX1_from_0 : decode cX1_from 0 = .ok (.lconst 0, 1) := by decide +kernel
theorem dX1_from_1 : decode cX1_from 1 = .ok (.lstore 4, 2) := by decide +kernel
theorem dX1_from_3 : decode cX1_from 3 = .ok (.iconst 0, 1) := by decide +kernel
theorem dX1_from_4 : decode cX1_from 4 = .ok (.istore 6, 2) := by decide +kernel
theorem dX1_from_6 : decode cX1_from 6 = .ok (.iload 6, 2) := by decide +kernel
theorem dX1_from_8 : decode cX1_from 8 = .ok (.bipush 64, 2) := by decide +kernel
theorem dX1_from_10 : decode cX1_from 10 = .ok (.if_icmp .ge 36, 3) := by decide +kernel
theorem dX1_from_13 : decode cX1_from 13 = .ok (.aload_n 0, 1) := by decide +kernel
theorem dX1_from_14 : decode cX1_from 14 = .ok (.lload_n 2, 1) := by decide +kernel
theorem dX1_from_15 : decode cX1_from 15 = .ok (.iload 6, 2) := by decide +kernel
theorem dX1_from_17 : decode cX1_from 17 = .ok (.invokevirtual 16, 3) := by decide +kernel
theorem dX1_from_20 : decode cX1_from 20 = .ok (.ifCond .eq 20, 3) := by decide +kernel
theorem dX1_from_23 : decode cX1_from 23 = .ok (.lload 4, 2) := by decide +kernel
theorem dX1_from_25 : decode cX1_from 25 = .ok (.aload_n 0, 1) := by decide +kernel
theorem dX1_from_26 : decode cX1_from 26 = .ok (.getfield 7, 3) := by decide +kernel
theorem dX1_from_29 : decode cX1_from 29 = .ok (.bipush 64, 2) := by decide +kernel
theorem dX1_from_31 : decode cX1_from 31 = .ok (.iload_n 1, 1) := by decide +kernel
theorem dX1_from_32 : decode cX1_from 32 = .ok (.imul, 1) := by decide +kernel
theorem dX1_from_33 : decode cX1_from 33 = .ok (.iload 6, 2) := by decide +kernel
theorem dX1_from_35 : decode cX1_from 35 = .ok (.iadd, 1) := by decide +kernel
theorem dX1_from_36 : decode cX1_from 36 = .ok (.laload, 1) := by decide +kernel
theorem dX1_from_37 : decode cX1_from 37 = .ok (.lor, 1) := by decide +kernel
theorem dX1_from_38 : decode cX1_from 38 = .ok (.lstore 4, 2) := by decide +kernel
theorem dX1_from_40 : decode cX1_from 40 = .ok (.iinc 6 1, 3) := by decide +kernel
theorem dX1_from_43 : decode cX1_from 43 = .ok (.goto (-37), 3) := by decide +kernel
theorem dX1_from_46 : decode cX1_from 46 = .ok (.lload 4, 2) := by decide +kernel
theorem dX1_from_48 : decode cX1_from 48 = .ok (.lreturn, 1) := by decide +kernel
abbrev cX1_part : ByteArray := prog_3_method_16_code
def yX1_part : MethodName := ⟨RX1, "part", "(JJ)Z"⟩
theorem dX1_part_0 : decode cX1_part 0 = .ok (.lload_n 1, 1) := by decide +kernel
theorem dX1_part_1 : decode cX1_part 1 = .ok (.lload_n 3, 1) := by decide +kernel
theorem dX1_part_2 : decode cX1_part 2 = .ok (.ldc2_w 39, 3) := by decide +kernel
theorem dX1_part_5 : decode cX1_part 5 = .ok (.lxor, 1) := by decide +kernel
theorem dX1_part_6 : decode cX1_part 6 = .ok (.land, 1) := by decide +kernel
theorem dX1_part_7 : decode cX1_part 7 = .ok (.lconst 0, 1) := by decide +kernel
theorem dX1_part_8 : decode cX1_part 8 = .ok (.lcmp, 1) := by decide +kernel
theorem dX1_part_9 : decode cX1_part 9 = .ok (.ifCond .ne 7, 3) := by decide +kernel
theorem dX1_part_12 : decode cX1_part 12 = .ok (.iconst 1, 1) := by decide +kernel
theorem dX1_part_13 : decode cX1_part 13 = .ok (.goto 4, 3) := by decide +kernel
theorem dX1_part_16 : decode cX1_part 16 = .ok (.iconst 0, 1) := by decide +kernel
theorem dX1_part_17 : decode cX1_part 17 = .ok (.ireturn, 1) := by decide +kernel
abbrev cX1_choice : ByteArray := prog_3_method_20_code
def yX1_choice : MethodName := ⟨RX1, "choice", "(II)I"⟩
theorem dX1_choice_0 : decode cX1_choice 0 = .ok (.aload_n 0, 1) := by decide +kernel
theorem dX1_choice_1 : decode cX1_choice 1 = .ok (.iload_n 1, 1) := by decide +kernel
theorem dX1_choice_2 : decode cX1_choice 2 = .ok (.invokevirtual 53, 3) := by decide +kernel
theorem dX1_choice_5 : decode cX1_choice 5 = .ok (.ifCond .ne 11, 3) := by decide +kernel
theorem dX1_choice_8 : decode cX1_choice 8 = .ok (.aload_n 0, 1) := by decide +kernel
theorem dX1_choice_9 : decode cX1_choice 9 = .ok (.iload_n 2, 1) := by decide +kernel
theorem dX1_choice_10 : decode cX1_choice 10 = .ok (.invokevirtual 53, 3) := by decide +kernel
theorem dX1_choice_13 : decode cX1_choice 13 = .ok (.ifCond .eq 5, 3) := by decide +kernel
theorem dX1_choice_16 : decode cX1_choice 16 = .ok (.iconst (-1), 1) := by decide +kernel
theorem dX1_choice_17 : decode cX1_choice 17 = .ok (.ireturn, 1) := by decide +kernel
theorem dX1_choice_18 : decode cX1_choice 18 = .ok (.aload_n 0, 1) := by decide +kernel
theorem dX1_choice_19 : decode cX1_choice 19 = .ok (.invokevirtual 45, 3) := by decide +kernel
theorem dX1_choice_22 : decode cX1_choice 22 = .ok (.ifCond .eq 6, 3) := by decide +kernel
theorem dX1_choice_25 : decode cX1_choice 25 = .ok (.bipush (-2), 2) := by decide +kernel
theorem dX1_choice_27 : decode cX1_choice 27 = .ok (.ireturn, 1) := by decide +kernel
theorem dX1_choice_28 : decode cX1_choice 28 = .ok (.aload_n 0, 1) := by decide +kernel
theorem dX1_choice_29 : decode cX1_choice 29 = .ok (.getfield 41, 3) := by decide +kernel
theorem dX1_choice_32 : decode cX1_choice 32 = .ok (.istore_n 3, 1) := by decide +kernel
theorem dX1_choice_33 : decode cX1_choice 33 = .ok (.lconst 0, 1) := by decide +kernel
theorem dX1_choice_34 : decode cX1_choice 34 = .ok (.lstore 4, 2) := by decide +kernel
theorem dX1_choice_36 : decode cX1_choice 36 = .ok (.iconst 0, 1) := by decide +kernel
theorem dX1_choice_37 : decode cX1_choice 37 = .ok (.istore 6, 2) := by decide +kernel
theorem dX1_choice_39 : decode cX1_choice 39 = .ok (.iload 6, 2) := by decide +kernel
theorem dX1_choice_41 : decode cX1_choice 41 = .ok (.bipush 64, 2) := by decide +kernel
theorem dX1_choice_43 : decode cX1_choice 43 = .ok (.if_icmp .ge 67, 3) := by decide +kernel
theorem dX1_choice_46 : decode cX1_choice 46 = .ok (.aload_n 0, 1) := by decide +kernel
theorem dX1_choice_47 : decode cX1_choice 47 = .ok (.getfield 7, 3) := by decide +kernel
theorem dX1_choice_50 : decode cX1_choice 50 = .ok (.bipush 64, 2) := by decide +kernel
theorem dX1_choice_52 : decode cX1_choice 52 = .ok (.iload_n 3, 1) := by decide +kernel
theorem dX1_choice_53 : decode cX1_choice 53 = .ok (.imul, 1) := by decide +kernel
theorem dX1_choice_54 : decode cX1_choice 54 = .ok (.iload 6, 2) := by decide +kernel
theorem dX1_choice_56 : decode cX1_choice 56 = .ok (.iadd, 1) := by decide +kernel
theorem dX1_choice_57 : decode cX1_choice 57 = .ok (.aload_n 0, 1) := by decide +kernel
theorem dX1_choice_58 : decode cX1_choice 58 = .ok (.iload_n 1, 1) := by decide +kernel
theorem dX1_choice_59 : decode cX1_choice 59 = .ok (.iload_n 2, 1) := by decide +kernel
theorem dX1_choice_60 : decode cX1_choice 60 = .ok (.iload 6, 2) := by decide +kernel
theorem dX1_choice_62 : decode cX1_choice 62 = .ok (.invokevirtual 65, 3) := by decide +kernel
theorem dX1_choice_65 : decode cX1_choice 65 = .ok (.lastore, 1) := by decide +kernel
theorem dX1_choice_66 : decode cX1_choice 66 = .ok (.aload_n 0, 1) := by decide +kernel
theorem dX1_choice_67 : decode cX1_choice 67 = .ok (.aload_n 0, 1) := by decide +kernel
theorem dX1_choice_68 : decode cX1_choice 68 = .ok (.getfield 20, 3) := by decide +kernel
theorem dX1_choice_71 : decode cX1_choice 71 = .ok (.aload_n 0, 1) := by decide +kernel
theorem dX1_choice_72 : decode cX1_choice 72 = .ok (.getfield 24, 3) := by decide +kernel
theorem dX1_choice_75 : decode cX1_choice 75 = .ok (.lor, 1) := by decide +kernel
theorem dX1_choice_76 : decode cX1_choice 76 = .ok (.iload 6, 2) := by decide +kernel
theorem dX1_choice_78 : decode cX1_choice 78 = .ok (.invokevirtual 16, 3) := by decide +kernel
theorem dX1_choice_81 : decode cX1_choice 81 = .ok (.ifCond .eq 23, 3) := by decide +kernel
theorem dX1_choice_84 : decode cX1_choice 84 = .ok (.aload_n 0, 1) := by decide +kernel
theorem dX1_choice_85 : decode cX1_choice 85 = .ok (.iload_n 1, 1) := by decide +kernel
theorem dX1_choice_86 : decode cX1_choice 86 = .ok (.iload_n 2, 1) := by decide +kernel
theorem dX1_choice_87 : decode cX1_choice 87 = .ok (.iload 6, 2) := by decide +kernel
theorem dX1_choice_89 : decode cX1_choice 89 = .ok (.invokevirtual 69, 3) := by decide +kernel
theorem dX1_choice_92 : decode cX1_choice 92 = .ok (.ifCond .eq 12, 3) := by decide +kernel
theorem dX1_choice_95 : decode cX1_choice 95 = .ok (.lload 4, 2) := by decide +kernel
theorem dX1_choice_97 : decode cX1_choice 97 = .ok (.lconst 1, 1) := by decide +kernel
theorem dX1_choice_98 : decode cX1_choice 98 = .ok (.iload 6, 2) := by decide +kernel
theorem dX1_choice_100 : decode cX1_choice 100 = .ok (.lshl, 1) := by decide +kernel
theorem dX1_choice_101 : decode cX1_choice 101 = .ok (.lor, 1) := by decide +kernel
theorem dX1_choice_102 : decode cX1_choice 102 = .ok (.lstore 4, 2) := by decide +kernel
theorem dX1_choice_104 : decode cX1_choice 104 = .ok (.iinc 6 1, 3) := by decide +kernel
theorem dX1_choice_107 : decode cX1_choice 107 = .ok (.goto (-68), 3) := by decide +kernel
theorem dX1_choice_110 : decode cX1_choice 110 = .ok (.aload_n 0, 1) := by decide +kernel
theorem dX1_choice_111 : decode cX1_choice 111 = .ok (.getfield 13, 3) := by decide +kernel
theorem dX1_choice_114 : decode cX1_choice 114 = .ok (.iload_n 3, 1) := by decide +kernel
theorem dX1_choice_115 : decode cX1_choice 115 = .ok (.lload 4, 2) := by decide +kernel
theorem dX1_choice_117 : decode cX1_choice 117 = .ok (.lastore, 1) := by decide +kernel
theorem dX1_choice_118 : decode cX1_choice 118 = .ok (.aload_n 0, 1) := by decide +kernel
theorem dX1_choice_119 : decode cX1_choice 119 = .ok (.iload_n 3, 1) := by decide +kernel
theorem dX1_choice_120 : decode cX1_choice 120 = .ok (.iconst 1, 1) := by decide +kernel
theorem dX1_choice_121 : decode cX1_choice 121 = .ok (.iadd, 1) := by decide +kernel
theorem dX1_choice_122 : decode cX1_choice 122 = .ok (.putfield 41, 3) := by decide +kernel
theorem dX1_choice_125 : decode cX1_choice 125 = .ok (.iload_n 3, 1) := by decide +kernel
theorem dX1_choice_126 : decode cX1_choice 126 = .ok (.ireturn, 1) := by decide +kernel
end
section
set_option maxRecDepth 100000
abbrev cX1_step : ByteArray := prog_3_method_18_code
def yX1_step : MethodName := ⟨RX1, "step", "(III)J"⟩
theorem dX1_step_0 : decode cX1_step 0 = .ok (.lconst 0, 1) := by decide +kernel
theorem dX1_step_1 : decode cX1_step 1 = .ok (.lstore 4, 2) := by decide +kernel
theorem dX1_step_3 : decode cX1_step 3 = .ok (.aload_n 0, 1) := by decide +kernel
theorem dX1_step_4 : decode cX1_step 4 = .ok (.aload_n 0, 1) := by decide +kernel
theorem dX1_step_5 : decode cX1_step 5 = .ok (.getfield 20, 3) := by decide +kernel
theorem dX1_step_8 : decode cX1_step 8 = .ok (.iload_n 3, 1) := by decide +kernel
theorem dX1_step_9 : decode cX1_step 9 = .ok (.invokevirtual 16, 3) := by decide +kernel
theorem dX1_step_12 : decode cX1_step 12 = .ok (.ifCond .eq 19, 3) := by decide +kernel
theorem dX1_step_15 : decode cX1_step 15 = .ok (.lload 4, 2) := by decide +kernel
theorem dX1_step_17 : decode cX1_step 17 = .ok (.aload_n 0, 1) := by decide +kernel
theorem dX1_step_18 : decode cX1_step 18 = .ok (.getfield 7, 3) := by decide +kernel
theorem dX1_step_21 : decode cX1_step 21 = .ok (.bipush 64, 2) := by decide +kernel
theorem dX1_step_23 : decode cX1_step 23 = .ok (.iload_n 1, 1) := by decide +kernel
theorem dX1_step_24 : decode cX1_step 24 = .ok (.imul, 1) := by decide +kernel
theorem dX1_step_25 : decode cX1_step 25 = .ok (.iload_n 3, 1) := by decide +kernel
theorem dX1_step_26 : decode cX1_step 26 = .ok (.iadd, 1) := by decide +kernel
theorem dX1_step_27 : decode cX1_step 27 = .ok (.laload, 1) := by decide +kernel
theorem dX1_step_28 : decode cX1_step 28 = .ok (.lor, 1) := by decide +kernel
theorem dX1_step_29 : decode cX1_step 29 = .ok (.lstore 4, 2) := by decide +kernel
theorem dX1_step_31 : decode cX1_step 31 = .ok (.aload_n 0, 1) := by decide +kernel
theorem dX1_step_32 : decode cX1_step 32 = .ok (.aload_n 0, 1) := by decide +kernel
theorem dX1_step_33 : decode cX1_step 33 = .ok (.getfield 24, 3) := by decide +kernel
theorem dX1_step_36 : decode cX1_step 36 = .ok (.iload_n 3, 1) := by decide +kernel
theorem dX1_step_37 : decode cX1_step 37 = .ok (.invokevirtual 16, 3) := by decide +kernel
theorem dX1_step_40 : decode cX1_step 40 = .ok (.ifCond .eq 19, 3) := by decide +kernel
theorem dX1_step_43 : decode cX1_step 43 = .ok (.lload 4, 2) := by decide +kernel
theorem dX1_step_45 : decode cX1_step 45 = .ok (.aload_n 0, 1) := by decide +kernel
theorem dX1_step_46 : decode cX1_step 46 = .ok (.getfield 7, 3) := by decide +kernel
theorem dX1_step_49 : decode cX1_step 49 = .ok (.bipush 64, 2) := by decide +kernel
theorem dX1_step_51 : decode cX1_step 51 = .ok (.iload_n 2, 1) := by decide +kernel
theorem dX1_step_52 : decode cX1_step 52 = .ok (.imul, 1) := by decide +kernel
theorem dX1_step_53 : decode cX1_step 53 = .ok (.iload_n 3, 1) := by decide +kernel
theorem dX1_step_54 : decode cX1_step 54 = .ok (.iadd, 1) := by decide +kernel
theorem dX1_step_55 : decode cX1_step 55 = .ok (.laload, 1) := by decide +kernel
theorem dX1_step_56 : decode cX1_step 56 = .ok (.lor, 1) := by decide +kernel
theorem dX1_step_57 : decode cX1_step 57 = .ok (.lstore 4, 2) := by decide +kernel
theorem dX1_step_59 : decode cX1_step 59 = .ok (.lload 4, 2) := by decide +kernel
theorem dX1_step_61 : decode cX1_step 61 = .ok (.lreturn, 1) := by decide +kernel
abbrev cX1_good : ByteArray := prog_3_method_19_code
def yX1_good : MethodName := ⟨RX1, "good", "(III)Z"⟩
theorem dX1_good_0 : decode cX1_good 0 = .ok (.aload_n 0, 1) := by decide +kernel
theorem dX1_good_1 : decode cX1_good 1 = .ok (.aload_n 0, 1) := by decide +kernel
theorem dX1_good_2 : decode cX1_good 2 = .ok (.getfield 20, 3) := by decide +kernel
theorem dX1_good_5 : decode cX1_good 5 = .ok (.iload_n 3, 1) := by decide +kernel
theorem dX1_good_6 : decode cX1_good 6 = .ok (.invokevirtual 16, 3) := by decide +kernel
theorem dX1_good_9 : decode cX1_good 9 = .ok (.ifCond .eq 17, 3) := by decide +kernel
theorem dX1_good_12 : decode cX1_good 12 = .ok (.aload_n 0, 1) := by decide +kernel
theorem dX1_good_13 : decode cX1_good 13 = .ok (.aload_n 0, 1) := by decide +kernel
theorem dX1_good_14 : decode cX1_good 14 = .ok (.getfield 13, 3) := by decide +kernel
theorem dX1_good_17 : decode cX1_good 17 = .ok (.iload_n 1, 1) := by decide +kernel
theorem dX1_good_18 : decode cX1_good 18 = .ok (.laload, 1) := by decide +kernel
theorem dX1_good_19 : decode cX1_good 19 = .ok (.iload_n 3, 1) := by decide +kernel
theorem dX1_good_20 : decode cX1_good 20 = .ok (.invokevirtual 16, 3) := by decide +kernel
theorem dX1_good_23 : decode cX1_good 23 = .ok (.ifCond .eq 33, 3) := by decide +kernel
theorem dX1_good_26 : decode cX1_good 26 = .ok (.aload_n 0, 1) := by decide +kernel
theorem dX1_good_27 : decode cX1_good 27 = .ok (.aload_n 0, 1) := by decide +kernel
theorem dX1_good_28 : decode cX1_good 28 = .ok (.getfield 24, 3) := by decide +kernel
theorem dX1_good_31 : decode cX1_good 31 = .ok (.iload_n 3, 1) := by decide +kernel
theorem dX1_good_32 : decode cX1_good 32 = .ok (.invokevirtual 16, 3) := by decide +kernel
theorem dX1_good_35 : decode cX1_good 35 = .ok (.ifCond .eq 17, 3) := by decide +kernel
theorem dX1_good_38 : decode cX1_good 38 = .ok (.aload_n 0, 1) := by decide +kernel
theorem dX1_good_39 : decode cX1_good 39 = .ok (.aload_n 0, 1) := by decide +kernel
theorem dX1_good_40 : decode cX1_good 40 = .ok (.getfield 13, 3) := by decide +kernel
theorem dX1_good_43 : decode cX1_good 43 = .ok (.iload_n 2, 1) := by decide +kernel
theorem dX1_good_44 : decode cX1_good 44 = .ok (.laload, 1) := by decide +kernel
theorem dX1_good_45 : decode cX1_good 45 = .ok (.iload_n 3, 1) := by decide +kernel
theorem dX1_good_46 : decode cX1_good 46 = .ok (.invokevirtual 16, 3) := by decide +kernel
theorem dX1_good_49 : decode cX1_good 49 = .ok (.ifCond .eq 7, 3) := by decide +kernel
theorem dX1_good_52 : decode cX1_good 52 = .ok (.iconst 1, 1) := by decide +kernel
theorem dX1_good_53 : decode cX1_good 53 = .ok (.goto 4, 3) := by decide +kernel
theorem dX1_good_56 : decode cX1_good 56 = .ok (.iconst 0, 1) := by decide +kernel
theorem dX1_good_57 : decode cX1_good 57 = .ok (.ireturn, 1) := by decide +kernel
abbrev cX1_loop : ByteArray := prog_3_method_23_code
def yX1_loop : MethodName := ⟨RX1, "loop", "(II)I"⟩
theorem dX1_loop_0 : decode cX1_loop 0 = .ok (.aload_n 0, 1) := by decide +kernel
theorem dX1_loop_1 : decode cX1_loop 1 = .ok (.iload_n 1, 1) := by decide +kernel
theorem dX1_loop_2 : decode cX1_loop 2 = .ok (.invokevirtual 53, 3) := by decide +kernel
theorem dX1_loop_5 : decode cX1_loop 5 = .ok (.ifCond .ne 11, 3) := by decide +kernel
theorem dX1_loop_8 : decode cX1_loop 8 = .ok (.aload_n 0, 1) := by decide +kernel
theorem dX1_loop_9 : decode cX1_loop 9 = .ok (.iload_n 2, 1) := by decide +kernel
theorem dX1_loop_10 : decode cX1_loop 10 = .ok (.invokevirtual 53, 3) := by decide +kernel
theorem dX1_loop_13 : decode cX1_loop 13 = .ok (.ifCond .eq 5, 3) := by decide +kernel
theorem dX1_loop_16 : decode cX1_loop 16 = .ok (.iconst (-1), 1) := by decide +kernel
theorem dX1_loop_17 : decode cX1_loop 17 = .ok (.ireturn, 1) := by decide +kernel
theorem dX1_loop_18 : decode cX1_loop 18 = .ok (.aload_n 0, 1) := by decide +kernel
theorem dX1_loop_19 : decode cX1_loop 19 = .ok (.invokevirtual 45, 3) := by decide +kernel
theorem dX1_loop_22 : decode cX1_loop 22 = .ok (.ifCond .eq 6, 3) := by decide +kernel
theorem dX1_loop_25 : decode cX1_loop 25 = .ok (.bipush (-2), 2) := by decide +kernel
theorem dX1_loop_27 : decode cX1_loop 27 = .ok (.ireturn, 1) := by decide +kernel
theorem dX1_loop_28 : decode cX1_loop 28 = .ok (.aload_n 0, 1) := by decide +kernel
theorem dX1_loop_29 : decode cX1_loop 29 = .ok (.getfield 41, 3) := by decide +kernel
theorem dX1_loop_32 : decode cX1_loop 32 = .ok (.istore_n 3, 1) := by decide +kernel
theorem dX1_loop_33 : decode cX1_loop 33 = .ok (.iconst 0, 1) := by decide +kernel
theorem dX1_loop_34 : decode cX1_loop 34 = .ok (.istore 4, 2) := by decide +kernel
theorem dX1_loop_36 : decode cX1_loop 36 = .ok (.iload 4, 2) := by decide +kernel
theorem dX1_loop_38 : decode cX1_loop 38 = .ok (.bipush 64, 2) := by decide +kernel
theorem dX1_loop_40 : decode cX1_loop 40 = .ok (.if_icmp .ge 43, 3) := by decide +kernel
theorem dX1_loop_43 : decode cX1_loop 43 = .ok (.aload_n 0, 1) := by decide +kernel
theorem dX1_loop_44 : decode cX1_loop 44 = .ok (.getfield 7, 3) := by decide +kernel
theorem dX1_loop_47 : decode cX1_loop 47 = .ok (.bipush 64, 2) := by decide +kernel
theorem dX1_loop_49 : decode cX1_loop 49 = .ok (.iload_n 3, 1) := by decide +kernel
theorem dX1_loop_50 : decode cX1_loop 50 = .ok (.imul, 1) := by decide +kernel
theorem dX1_loop_51 : decode cX1_loop 51 = .ok (.iload 4, 2) := by decide +kernel
theorem dX1_loop_53 : decode cX1_loop 53 = .ok (.iadd, 1) := by decide +kernel
theorem dX1_loop_54 : decode cX1_loop 54 = .ok (.aload_n 0, 1) := by decide +kernel
theorem dX1_loop_55 : decode cX1_loop 55 = .ok (.iload_n 1, 1) := by decide +kernel
theorem dX1_loop_56 : decode cX1_loop 56 = .ok (.iload_n 2, 1) := by decide +kernel
theorem dX1_loop_57 : decode cX1_loop 57 = .ok (.iload 4, 2) := by decide +kernel
theorem dX1_loop_59 : decode cX1_loop 59 = .ok (.invokevirtual 73, 3) := by decide +kernel
theorem dX1_loop_62 : decode cX1_loop 62 = .ok (.aload_n 0, 1) := by decide +kernel
theorem dX1_loop_63 : decode cX1_loop 63 = .ok (.getfield 20, 3) := by decide +kernel
theorem dX1_loop_66 : decode cX1_loop 66 = .ok (.aload_n 0, 1) := by decide +kernel
theorem dX1_loop_67 : decode cX1_loop 67 = .ok (.getfield 24, 3) := by decide +kernel
theorem dX1_loop_70 : decode cX1_loop 70 = .ok (.lor, 1) := by decide +kernel
theorem dX1_loop_71 : decode cX1_loop 71 = .ok (.ldc2_w 39, 3) := by decide +kernel
theorem dX1_loop_74 : decode cX1_loop 74 = .ok (.lxor, 1) := by decide +kernel
theorem dX1_loop_75 : decode cX1_loop 75 = .ok (.land, 1) := by decide +kernel
theorem dX1_loop_76 : decode cX1_loop 76 = .ok (.lastore, 1) := by decide +kernel
theorem dX1_loop_77 : decode cX1_loop 77 = .ok (.iinc 4 1, 3) := by decide +kernel
theorem dX1_loop_80 : decode cX1_loop 80 = .ok (.goto (-44), 3) := by decide +kernel
theorem dX1_loop_83 : decode cX1_loop 83 = .ok (.aload_n 0, 1) := by decide +kernel
theorem dX1_loop_84 : decode cX1_loop 84 = .ok (.getfield 13, 3) := by decide +kernel
theorem dX1_loop_87 : decode cX1_loop 87 = .ok (.iload_n 3, 1) := by decide +kernel
theorem dX1_loop_88 : decode cX1_loop 88 = .ok (.aload_n 0, 1) := by decide +kernel
theorem dX1_loop_89 : decode cX1_loop 89 = .ok (.iload_n 1, 1) := by decide +kernel
theorem dX1_loop_90 : decode cX1_loop 90 = .ok (.iload_n 2, 1) := by decide +kernel
theorem dX1_loop_91 : decode cX1_loop 91 = .ok (.invokevirtual 76, 3) := by decide +kernel
theorem dX1_loop_94 : decode cX1_loop 94 = .ok (.lastore, 1) := by decide +kernel
theorem dX1_loop_95 : decode cX1_loop 95 = .ok (.aload_n 0, 1) := by decide +kernel
theorem dX1_loop_96 : decode cX1_loop 96 = .ok (.iload_n 3, 1) := by decide +kernel
theorem dX1_loop_97 : decode cX1_loop 97 = .ok (.iconst 1, 1) := by decide +kernel
theorem dX1_loop_98 : decode cX1_loop 98 = .ok (.iadd, 1) := by decide +kernel
theorem dX1_loop_99 : decode cX1_loop 99 = .ok (.putfield 41, 3) := by decide +kernel
theorem dX1_loop_102 : decode cX1_loop 102 = .ok (.iload_n 3, 1) := by decide +kernel
theorem dX1_loop_103 : decode cX1_loop 103 = .ok (.ireturn, 1) := by decide +kernel
abbrev cX1_met : ByteArray := prog_3_method_21_code
def yX1_met : MethodName := ⟨RX1, "met", "(III)J"⟩
theorem dX1_met_0 : decode cX1_met 0 = .ok (.lconst 1, 1) := by decide +kernel
theorem dX1_met_1 : decode cX1_met 1 = .ok (.iload_n 3, 1) := by decide +kernel
theorem dX1_met_2 : decode cX1_met 2 = .ok (.lshl, 1) := by decide +kernel
theorem dX1_met_3 : decode cX1_met 3 = .ok (.lstore 4, 2) := by decide +kernel
theorem dX1_met_5 : decode cX1_met 5 = .ok (.lconst 0, 1) := by decide +kernel
theorem dX1_met_6 : decode cX1_met 6 = .ok (.lstore 6, 2) := by decide +kernel
theorem dX1_met_8 : decode cX1_met 8 = .ok (.iconst 0, 1) := by decide +kernel
theorem dX1_met_9 : decode cX1_met 9 = .ok (.istore 8, 2) := by decide +kernel
theorem dX1_met_11 : decode cX1_met 11 = .ok (.iload 8, 2) := by decide +kernel
theorem dX1_met_13 : decode cX1_met 13 = .ok (.bipush 65, 2) := by decide +kernel
theorem dX1_met_15 : decode cX1_met 15 = .ok (.if_icmp .ge 61, 3) := by decide +kernel
theorem dX1_met_18 : decode cX1_met 18 = .ok (.lload 4, 2) := by decide +kernel
theorem dX1_met_20 : decode cX1_met 20 = .ok (.lload 6, 2) := by decide +kernel
theorem dX1_met_22 : decode cX1_met 22 = .ok (.lcmp, 1) := by decide +kernel
theorem dX1_met_23 : decode cX1_met 23 = .ok (.ifCond .eq 53, 3) := by decide +kernel
theorem dX1_met_26 : decode cX1_met 26 = .ok (.lload 4, 2) := by decide +kernel
theorem dX1_met_28 : decode cX1_met 28 = .ok (.lstore 6, 2) := by decide +kernel
theorem dX1_met_30 : decode cX1_met 30 = .ok (.iconst 0, 1) := by decide +kernel
theorem dX1_met_31 : decode cX1_met 31 = .ok (.istore 9, 2) := by decide +kernel
theorem dX1_met_33 : decode cX1_met 33 = .ok (.iload 9, 2) := by decide +kernel
theorem dX1_met_35 : decode cX1_met 35 = .ok (.bipush 64, 2) := by decide +kernel
theorem dX1_met_37 : decode cX1_met 37 = .ok (.if_icmp .ge 33, 3) := by decide +kernel
theorem dX1_met_40 : decode cX1_met 40 = .ok (.aload_n 0, 1) := by decide +kernel
theorem dX1_met_41 : decode cX1_met 41 = .ok (.lload 4, 2) := by decide +kernel
theorem dX1_met_43 : decode cX1_met 43 = .ok (.iload 9, 2) := by decide +kernel
theorem dX1_met_45 : decode cX1_met 45 = .ok (.invokevirtual 16, 3) := by decide +kernel
theorem dX1_met_48 : decode cX1_met 48 = .ok (.ifCond .eq 16, 3) := by decide +kernel
theorem dX1_met_51 : decode cX1_met 51 = .ok (.lload 4, 2) := by decide +kernel
theorem dX1_met_53 : decode cX1_met 53 = .ok (.aload_n 0, 1) := by decide +kernel
theorem dX1_met_54 : decode cX1_met 54 = .ok (.iload_n 1, 1) := by decide +kernel
theorem dX1_met_55 : decode cX1_met 55 = .ok (.iload_n 2, 1) := by decide +kernel
theorem dX1_met_56 : decode cX1_met 56 = .ok (.iload 9, 2) := by decide +kernel
theorem dX1_met_58 : decode cX1_met 58 = .ok (.invokevirtual 65, 3) := by decide +kernel
theorem dX1_met_61 : decode cX1_met 61 = .ok (.lor, 1) := by decide +kernel
theorem dX1_met_62 : decode cX1_met 62 = .ok (.lstore 4, 2) := by decide +kernel
theorem dX1_met_64 : decode cX1_met 64 = .ok (.iinc 9 1, 3) := by decide +kernel
theorem dX1_met_67 : decode cX1_met 67 = .ok (.goto (-34), 3) := by decide +kernel
theorem dX1_met_70 : decode cX1_met 70 = .ok (.iinc 8 1, 3) := by decide +kernel
theorem dX1_met_73 : decode cX1_met 73 = .ok (.goto (-62), 3) := by decide +kernel
theorem dX1_met_76 : decode cX1_met 76 = .ok (.lload 4, 2) := by decide +kernel
theorem dX1_met_78 : decode cX1_met 78 = .ok (.lreturn, 1) := by decide +kernel
abbrev cX1_resting : ByteArray := prog_3_method_22_code
def yX1_resting : MethodName := ⟨RX1, "resting", "(II)J"⟩
theorem dX1_resting_0 : decode cX1_resting 0 = .ok (.aload_n 0, 1) := by decide +kernel
theorem dX1_resting_1 : decode cX1_resting 1 = .ok (.getfield 20, 3) := by decide +kernel
theorem dX1_resting_4 : decode cX1_resting 4 = .ok (.aload_n 0, 1) := by decide +kernel
theorem dX1_resting_5 : decode cX1_resting 5 = .ok (.getfield 24, 3) := by decide +kernel
theorem dX1_resting_8 : decode cX1_resting 8 = .ok (.lor, 1) := by decide +kernel
theorem dX1_resting_9 : decode cX1_resting 9 = .ok (.ldc2_w 39, 3) := by decide +kernel
theorem dX1_resting_12 : decode cX1_resting 12 = .ok (.lxor, 1) := by decide +kernel
theorem dX1_resting_13 : decode cX1_resting 13 = .ok (.lstore_n 3, 1) := by decide +kernel
theorem dX1_resting_14 : decode cX1_resting 14 = .ok (.lload_n 3, 1) := by decide +kernel
theorem dX1_resting_15 : decode cX1_resting 15 = .ok (.ldc2_w 39, 3) := by decide +kernel
theorem dX1_resting_18 : decode cX1_resting 18 = .ok (.lxor, 1) := by decide +kernel
theorem dX1_resting_19 : decode cX1_resting 19 = .ok (.lstore 5, 2) := by decide +kernel
theorem dX1_resting_21 : decode cX1_resting 21 = .ok (.iconst 0, 1) := by decide +kernel
theorem dX1_resting_22 : decode cX1_resting 22 = .ok (.istore 7, 2) := by decide +kernel
theorem dX1_resting_24 : decode cX1_resting 24 = .ok (.iload 7, 2) := by decide +kernel
theorem dX1_resting_26 : decode cX1_resting 26 = .ok (.bipush 65, 2) := by decide +kernel
theorem dX1_resting_28 : decode cX1_resting 28 = .ok (.if_icmp .ge 91, 3) := by decide +kernel
theorem dX1_resting_31 : decode cX1_resting 31 = .ok (.lload_n 3, 1) := by decide +kernel
theorem dX1_resting_32 : decode cX1_resting 32 = .ok (.lload 5, 2) := by decide +kernel
theorem dX1_resting_34 : decode cX1_resting 34 = .ok (.lcmp, 1) := by decide +kernel
theorem dX1_resting_35 : decode cX1_resting 35 = .ok (.ifCond .eq 84, 3) := by decide +kernel
theorem dX1_resting_38 : decode cX1_resting 38 = .ok (.lload_n 3, 1) := by decide +kernel
theorem dX1_resting_39 : decode cX1_resting 39 = .ok (.lstore 5, 2) := by decide +kernel
theorem dX1_resting_41 : decode cX1_resting 41 = .ok (.iconst 0, 1) := by decide +kernel
theorem dX1_resting_42 : decode cX1_resting 42 = .ok (.istore 8, 2) := by decide +kernel
theorem dX1_resting_44 : decode cX1_resting 44 = .ok (.iload 8, 2) := by decide +kernel
theorem dX1_resting_46 : decode cX1_resting 46 = .ok (.bipush 64, 2) := by decide +kernel
theorem dX1_resting_48 : decode cX1_resting 48 = .ok (.if_icmp .ge 65, 3) := by decide +kernel
theorem dX1_resting_51 : decode cX1_resting 51 = .ok (.aload_n 0, 1) := by decide +kernel
theorem dX1_resting_52 : decode cX1_resting 52 = .ok (.iload_n 1, 1) := by decide +kernel
theorem dX1_resting_53 : decode cX1_resting 53 = .ok (.iload_n 2, 1) := by decide +kernel
theorem dX1_resting_54 : decode cX1_resting 54 = .ok (.iload 8, 2) := by decide +kernel
theorem dX1_resting_56 : decode cX1_resting 56 = .ok (.invokevirtual 65, 3) := by decide +kernel
theorem dX1_resting_59 : decode cX1_resting 59 = .ok (.lstore 9, 2) := by decide +kernel
theorem dX1_resting_61 : decode cX1_resting 61 = .ok (.aload_n 0, 1) := by decide +kernel
theorem dX1_resting_62 : decode cX1_resting 62 = .ok (.aload_n 0, 1) := by decide +kernel
theorem dX1_resting_63 : decode cX1_resting 63 = .ok (.getfield 20, 3) := by decide +kernel
theorem dX1_resting_66 : decode cX1_resting 66 = .ok (.aload_n 0, 1) := by decide +kernel
theorem dX1_resting_67 : decode cX1_resting 67 = .ok (.getfield 24, 3) := by decide +kernel
theorem dX1_resting_70 : decode cX1_resting 70 = .ok (.lor, 1) := by decide +kernel
theorem dX1_resting_71 : decode cX1_resting 71 = .ok (.iload 8, 2) := by decide +kernel
theorem dX1_resting_73 : decode cX1_resting 73 = .ok (.invokevirtual 16, 3) := by decide +kernel
theorem dX1_resting_76 : decode cX1_resting 76 = .ok (.ifCond .eq 31, 3) := by decide +kernel
theorem dX1_resting_79 : decode cX1_resting 79 = .ok (.aload_n 0, 1) := by decide +kernel
theorem dX1_resting_80 : decode cX1_resting 80 = .ok (.iload_n 1, 1) := by decide +kernel
theorem dX1_resting_81 : decode cX1_resting 81 = .ok (.iload_n 2, 1) := by decide +kernel
theorem dX1_resting_82 : decode cX1_resting 82 = .ok (.iload 8, 2) := by decide +kernel
theorem dX1_resting_84 : decode cX1_resting 84 = .ok (.invokevirtual 69, 3) := by decide +kernel
theorem dX1_resting_87 : decode cX1_resting 87 = .ok (.ifCond .eq 20, 3) := by decide +kernel
theorem dX1_resting_90 : decode cX1_resting 90 = .ok (.aload_n 0, 1) := by decide +kernel
theorem dX1_resting_91 : decode cX1_resting 91 = .ok (.lload 9, 2) := by decide +kernel
theorem dX1_resting_93 : decode cX1_resting 93 = .ok (.lload_n 3, 1) := by decide +kernel
theorem dX1_resting_94 : decode cX1_resting 94 = .ok (.invokevirtual 61, 3) := by decide +kernel
theorem dX1_resting_97 : decode cX1_resting 97 = .ok (.ifCond .eq 10, 3) := by decide +kernel
theorem dX1_resting_100 : decode cX1_resting 100 = .ok (.lload_n 3, 1) := by decide +kernel
theorem dX1_resting_101 : decode cX1_resting 101 = .ok (.lconst 1, 1) := by decide +kernel
theorem dX1_resting_102 : decode cX1_resting 102 = .ok (.iload 8, 2) := by decide +kernel
theorem dX1_resting_104 : decode cX1_resting 104 = .ok (.lshl, 1) := by decide +kernel
theorem dX1_resting_105 : decode cX1_resting 105 = .ok (.lor, 1) := by decide +kernel
theorem dX1_resting_106 : decode cX1_resting 106 = .ok (.lstore_n 3, 1) := by decide +kernel
theorem dX1_resting_107 : decode cX1_resting 107 = .ok (.iinc 8 1, 3) := by decide +kernel
theorem dX1_resting_110 : decode cX1_resting 110 = .ok (.goto (-66), 3) := by decide +kernel
theorem dX1_resting_113 : decode cX1_resting 113 = .ok (.iinc 7 1, 3) := by decide +kernel
theorem dX1_resting_116 : decode cX1_resting 116 = .ok (.goto (-92), 3) := by decide +kernel
theorem dX1_resting_119 : decode cX1_resting 119 = .ok (.lload_n 3, 1) := by decide +kernel
theorem dX1_resting_120 : decode cX1_resting 120 = .ok (.lreturn, 1) := by decide +kernel
abbrev cX1_programs : ByteArray := prog_3_method_24_code
def yX1_programs : MethodName := ⟨RX1, "programs", "()I"⟩
theorem dX1_programs_0 : decode cX1_programs 0 = .ok (.aload_n 0, 1) := by decide +kernel
theorem dX1_programs_1 : decode cX1_programs 1 = .ok (.getfield 41, 3) := by decide +kernel
theorem dX1_programs_4 : decode cX1_programs 4 = .ok (.ireturn, 1) := by decide +kernel
abbrev cX1_ends : ByteArray := prog_3_method_25_code
def yX1_ends : MethodName := ⟨RX1, "ends", "(II)J"⟩
theorem dX1_ends_0 : decode cX1_ends 0 = .ok (.aload_n 0, 1) := by decide +kernel
theorem dX1_ends_1 : decode cX1_ends 1 = .ok (.iload_n 1, 1) := by decide +kernel
theorem dX1_ends_2 : decode cX1_ends 2 = .ok (.invokevirtual 53, 3) := by decide +kernel
theorem dX1_ends_5 : decode cX1_ends 5 = .ok (.ifCond .ne 13, 3) := by decide +kernel
theorem dX1_ends_8 : decode cX1_ends 8 = .ok (.iload_n 2, 1) := by decide +kernel
theorem dX1_ends_9 : decode cX1_ends 9 = .ok (.ifCond .lt 9, 3) := by decide +kernel
theorem dX1_ends_12 : decode cX1_ends 12 = .ok (.iload_n 2, 1) := by decide +kernel
theorem dX1_ends_13 : decode cX1_ends 13 = .ok (.bipush 63, 2) := by decide +kernel
theorem dX1_ends_15 : decode cX1_ends 15 = .ok (.if_icmp .le 7, 3) := by decide +kernel
theorem dX1_ends_18 : decode cX1_ends 18 = .ok (.lconst 0, 1) := by decide +kernel
theorem dX1_ends_19 : decode cX1_ends 19 = .ok (.goto 14, 3) := by decide +kernel
theorem dX1_ends_22 : decode cX1_ends 22 = .ok (.aload_n 0, 1) := by decide +kernel
theorem dX1_ends_23 : decode cX1_ends 23 = .ok (.getfield 7, 3) := by decide +kernel
theorem dX1_ends_26 : decode cX1_ends 26 = .ok (.bipush 64, 2) := by decide +kernel
theorem dX1_ends_28 : decode cX1_ends 28 = .ok (.iload_n 1, 1) := by decide +kernel
theorem dX1_ends_29 : decode cX1_ends 29 = .ok (.imul, 1) := by decide +kernel
theorem dX1_ends_30 : decode cX1_ends 30 = .ok (.iload_n 2, 1) := by decide +kernel
theorem dX1_ends_31 : decode cX1_ends 31 = .ok (.iadd, 1) := by decide +kernel
theorem dX1_ends_32 : decode cX1_ends 32 = .ok (.laload, 1) := by decide +kernel
theorem dX1_ends_33 : decode cX1_ends 33 = .ok (.lreturn, 1) := by decide +kernel
abbrev cX1_sure : ByteArray := prog_3_method_26_code
def yX1_sure : MethodName := ⟨RX1, "sure", "(I)J"⟩
theorem dX1_sure_0 : decode cX1_sure 0 = .ok (.aload_n 0, 1) := by decide +kernel
theorem dX1_sure_1 : decode cX1_sure 1 = .ok (.iload_n 1, 1) := by decide +kernel
theorem dX1_sure_2 : decode cX1_sure 2 = .ok (.invokevirtual 53, 3) := by decide +kernel
theorem dX1_sure_5 : decode cX1_sure 5 = .ok (.ifCond .eq 7, 3) := by decide +kernel
theorem dX1_sure_8 : decode cX1_sure 8 = .ok (.lconst 0, 1) := by decide +kernel
theorem dX1_sure_9 : decode cX1_sure 9 = .ok (.goto 9, 3) := by decide +kernel
theorem dX1_sure_12 : decode cX1_sure 12 = .ok (.aload_n 0, 1) := by decide +kernel
theorem dX1_sure_13 : decode cX1_sure 13 = .ok (.getfield 13, 3) := by decide +kernel
theorem dX1_sure_16 : decode cX1_sure 16 = .ok (.iload_n 1, 1) := by decide +kernel
theorem dX1_sure_17 : decode cX1_sure 17 = .ok (.laload, 1) := by decide +kernel
theorem dX1_sure_18 : decode cX1_sure 18 = .ok (.lreturn, 1) := by decide +kernel
abbrev cX1_demand : ByteArray := prog_3_method_28_code
def yX1_demand : MethodName := ⟨RX1, "demand", "(IJ)J"⟩
theorem dX1_demand_0 : decode cX1_demand 0 = .ok (.aload_n 0, 1) := by decide +kernel
theorem dX1_demand_1 : decode cX1_demand 1 = .ok (.iload_n 1, 1) := by decide +kernel
theorem dX1_demand_2 : decode cX1_demand 2 = .ok (.invokevirtual 53, 3) := by decide +kernel
theorem dX1_demand_5 : decode cX1_demand 5 = .ok (.ifCond .eq 5, 3) := by decide +kernel
theorem dX1_demand_8 : decode cX1_demand 8 = .ok (.lconst 0, 1) := by decide +kernel
theorem dX1_demand_9 : decode cX1_demand 9 = .ok (.lreturn, 1) := by decide +kernel
theorem dX1_demand_10 : decode cX1_demand 10 = .ok (.aload_n 0, 1) := by decide +kernel
theorem dX1_demand_11 : decode cX1_demand 11 = .ok (.iload_n 1, 1) := by decide +kernel
theorem dX1_demand_12 : decode cX1_demand 12 = .ok (.lload_n 2, 1) := by decide +kernel
theorem dX1_demand_13 : decode cX1_demand 13 = .ok (.invokevirtual 80, 3) := by decide +kernel
theorem dX1_demand_16 : decode cX1_demand 16 = .ok (.aload_n 0, 1) := by decide +kernel
theorem dX1_demand_17 : decode cX1_demand 17 = .ok (.getfield 13, 3) := by decide +kernel
theorem dX1_demand_20 : decode cX1_demand 20 = .ok (.iload_n 1, 1) := by decide +kernel
theorem dX1_demand_21 : decode cX1_demand 21 = .ok (.laload, 1) := by decide +kernel
theorem dX1_demand_22 : decode cX1_demand 22 = .ok (.land, 1) := by decide +kernel
theorem dX1_demand_23 : decode cX1_demand 23 = .ok (.lreturn, 1) := by decide +kernel
abbrev cX1_weak : ByteArray := prog_3_method_27_code
def yX1_weak : MethodName := ⟨RX1, "weak", "(IJ)J"⟩
theorem dX1_weak_0 : decode cX1_weak 0 = .ok (.lconst 0, 1) := by decide +kernel
theorem dX1_weak_1 : decode cX1_weak 1 = .ok (.lstore 4, 2) := by decide +kernel
theorem dX1_weak_3 : decode cX1_weak 3 = .ok (.iconst 0, 1) := by decide +kernel
theorem dX1_weak_4 : decode cX1_weak 4 = .ok (.istore 6, 2) := by decide +kernel
theorem dX1_weak_6 : decode cX1_weak 6 = .ok (.iload 6, 2) := by decide +kernel
theorem dX1_weak_8 : decode cX1_weak 8 = .ok (.bipush 64, 2) := by decide +kernel
theorem dX1_weak_10 : decode cX1_weak 10 = .ok (.if_icmp .ge 38, 3) := by decide +kernel
theorem dX1_weak_13 : decode cX1_weak 13 = .ok (.aload_n 0, 1) := by decide +kernel
theorem dX1_weak_14 : decode cX1_weak 14 = .ok (.aload_n 0, 1) := by decide +kernel
theorem dX1_weak_15 : decode cX1_weak 15 = .ok (.getfield 7, 3) := by decide +kernel
theorem dX1_weak_18 : decode cX1_weak 18 = .ok (.bipush 64, 2) := by decide +kernel
theorem dX1_weak_20 : decode cX1_weak 20 = .ok (.iload_n 1, 1) := by decide +kernel
theorem dX1_weak_21 : decode cX1_weak 21 = .ok (.imul, 1) := by decide +kernel
theorem dX1_weak_22 : decode cX1_weak 22 = .ok (.iload 6, 2) := by decide +kernel
theorem dX1_weak_24 : decode cX1_weak 24 = .ok (.iadd, 1) := by decide +kernel
theorem dX1_weak_25 : decode cX1_weak 25 = .ok (.laload, 1) := by decide +kernel
theorem dX1_weak_26 : decode cX1_weak 26 = .ok (.lload_n 2, 1) := by decide +kernel
theorem dX1_weak_27 : decode cX1_weak 27 = .ok (.invokevirtual 61, 3) := by decide +kernel
theorem dX1_weak_30 : decode cX1_weak 30 = .ok (.ifCond .eq 12, 3) := by decide +kernel
theorem dX1_weak_33 : decode cX1_weak 33 = .ok (.lload 4, 2) := by decide +kernel
theorem dX1_weak_35 : decode cX1_weak 35 = .ok (.lconst 1, 1) := by decide +kernel
theorem dX1_weak_36 : decode cX1_weak 36 = .ok (.iload 6, 2) := by decide +kernel
theorem dX1_weak_38 : decode cX1_weak 38 = .ok (.lshl, 1) := by decide +kernel
theorem dX1_weak_39 : decode cX1_weak 39 = .ok (.lor, 1) := by decide +kernel
theorem dX1_weak_40 : decode cX1_weak 40 = .ok (.lstore 4, 2) := by decide +kernel
theorem dX1_weak_42 : decode cX1_weak 42 = .ok (.iinc 6 1, 3) := by decide +kernel
theorem dX1_weak_45 : decode cX1_weak 45 = .ok (.goto (-39), 3) := by decide +kernel
theorem dX1_weak_48 : decode cX1_weak 48 = .ok (.lload 4, 2) := by decide +kernel
theorem dX1_weak_50 : decode cX1_weak 50 = .ok (.lreturn, 1) := by decide +kernel
abbrev cX1_weakDemand : ByteArray := prog_3_method_29_code
def yX1_weakDemand : MethodName := ⟨RX1, "weakDemand", "(IJ)J"⟩
theorem dX1_weakDemand_0 : decode cX1_weakDemand 0 = .ok (.aload_n 0, 1) := by decide +kernel
theorem dX1_weakDemand_1 : decode cX1_weakDemand 1 = .ok (.iload_n 1, 1) := by decide +kernel
theorem dX1_weakDemand_2 : decode cX1_weakDemand 2 = .ok (.invokevirtual 53, 3) := by decide +kernel
theorem dX1_weakDemand_5 : decode cX1_weakDemand 5 = .ok (.ifCond .eq 7, 3) := by decide +kernel
theorem dX1_weakDemand_8 : decode cX1_weakDemand 8 = .ok (.lconst 0, 1) := by decide +kernel
theorem dX1_weakDemand_9 : decode cX1_weakDemand 9 = .ok (.goto 9, 3) := by decide +kernel
theorem dX1_weakDemand_12 : decode cX1_weakDemand 12 = .ok (.aload_n 0, 1) := by decide +kernel
theorem dX1_weakDemand_13 : decode cX1_weakDemand 13 = .ok (.iload_n 1, 1) := by decide +kernel
theorem dX1_weakDemand_14 : decode cX1_weakDemand 14 = .ok (.lload_n 2, 1) := by decide +kernel
theorem dX1_weakDemand_15 : decode cX1_weakDemand 15 = .ok (.invokevirtual 80, 3) := by decide +kernel
theorem dX1_weakDemand_18 : decode cX1_weakDemand 18 = .ok (.lreturn, 1) := by decide +kernel
abbrev cX1_image : ByteArray := prog_3_method_30_code
def yX1_image : MethodName := ⟨RX1, "image", "(IJ)J"⟩
theorem dX1_image_0 : decode cX1_image 0 = .ok (.aload_n 0, 1) := by decide +kernel
theorem dX1_image_1 : decode cX1_image 1 = .ok (.iload_n 1, 1) := by decide +kernel
theorem dX1_image_2 : decode cX1_image 2 = .ok (.invokevirtual 53, 3) := by decide +kernel
theorem dX1_image_5 : decode cX1_image 5 = .ok (.ifCond .eq 7, 3) := by decide +kernel
theorem dX1_image_8 : decode cX1_image 8 = .ok (.lconst 0, 1) := by decide +kernel
theorem dX1_image_9 : decode cX1_image 9 = .ok (.goto 9, 3) := by decide +kernel
theorem dX1_image_12 : decode cX1_image 12 = .ok (.aload_n 0, 1) := by decide +kernel
theorem dX1_image_13 : decode cX1_image 13 = .ok (.iload_n 1, 1) := by decide +kernel
theorem dX1_image_14 : decode cX1_image 14 = .ok (.lload_n 2, 1) := by decide +kernel
theorem dX1_image_15 : decode cX1_image 15 = .ok (.invokevirtual 57, 3) := by decide +kernel
theorem dX1_image_18 : decode cX1_image 18 = .ok (.lreturn, 1) := by decide +kernel
abbrev cX1_refines : ByteArray := prog_3_method_31_code
def yX1_refines : MethodName := ⟨RX1, "refines", "(II)I"⟩
theorem dX1_refines_0 : decode cX1_refines 0 = .ok (.aload_n 0, 1) := by decide +kernel
theorem dX1_refines_1 : decode cX1_refines 1 = .ok (.iload_n 1, 1) := by decide +kernel
theorem dX1_refines_2 : decode cX1_refines 2 = .ok (.invokevirtual 53, 3) := by decide +kernel
theorem dX1_refines_5 : decode cX1_refines 5 = .ok (.ifCond .ne 11, 3) := by decide +kernel
theorem dX1_refines_8 : decode cX1_refines 8 = .ok (.aload_n 0, 1) := by decide +kernel
theorem dX1_refines_9 : decode cX1_refines 9 = .ok (.iload_n 2, 1) := by decide +kernel
theorem dX1_refines_10 : decode cX1_refines 10 = .ok (.invokevirtual 53, 3) := by decide +kernel
theorem dX1_refines_13 : decode cX1_refines 13 = .ok (.ifCond .eq 5, 3) := by decide +kernel
theorem dX1_refines_16 : decode cX1_refines 16 = .ok (.iconst (-1), 1) := by decide +kernel
theorem dX1_refines_17 : decode cX1_refines 17 = .ok (.ireturn, 1) := by decide +kernel
theorem dX1_refines_18 : decode cX1_refines 18 = .ok (.iconst 0, 1) := by decide +kernel
theorem dX1_refines_19 : decode cX1_refines 19 = .ok (.istore_n 3, 1) := by decide +kernel
theorem dX1_refines_20 : decode cX1_refines 20 = .ok (.iload_n 3, 1) := by decide +kernel
theorem dX1_refines_21 : decode cX1_refines 21 = .ok (.bipush 64, 2) := by decide +kernel
theorem dX1_refines_23 : decode cX1_refines 23 = .ok (.if_icmp .ge 68, 3) := by decide +kernel
theorem dX1_refines_26 : decode cX1_refines 26 = .ok (.aload_n 0, 1) := by decide +kernel
theorem dX1_refines_27 : decode cX1_refines 27 = .ok (.aload_n 0, 1) := by decide +kernel
theorem dX1_refines_28 : decode cX1_refines 28 = .ok (.getfield 13, 3) := by decide +kernel
theorem dX1_refines_31 : decode cX1_refines 31 = .ok (.iload_n 1, 1) := by decide +kernel
theorem dX1_refines_32 : decode cX1_refines 32 = .ok (.laload, 1) := by decide +kernel
theorem dX1_refines_33 : decode cX1_refines 33 = .ok (.iload_n 3, 1) := by decide +kernel
theorem dX1_refines_34 : decode cX1_refines 34 = .ok (.invokevirtual 16, 3) := by decide +kernel
theorem dX1_refines_37 : decode cX1_refines 37 = .ok (.ifCond .eq 48, 3) := by decide +kernel
theorem dX1_refines_40 : decode cX1_refines 40 = .ok (.aload_n 0, 1) := by decide +kernel
theorem dX1_refines_41 : decode cX1_refines 41 = .ok (.aload_n 0, 1) := by decide +kernel
theorem dX1_refines_42 : decode cX1_refines 42 = .ok (.getfield 13, 3) := by decide +kernel
theorem dX1_refines_45 : decode cX1_refines 45 = .ok (.iload_n 2, 1) := by decide +kernel
theorem dX1_refines_46 : decode cX1_refines 46 = .ok (.laload, 1) := by decide +kernel
theorem dX1_refines_47 : decode cX1_refines 47 = .ok (.iload_n 3, 1) := by decide +kernel
theorem dX1_refines_48 : decode cX1_refines 48 = .ok (.invokevirtual 16, 3) := by decide +kernel
theorem dX1_refines_51 : decode cX1_refines 51 = .ok (.ifCond .eq 32, 3) := by decide +kernel
theorem dX1_refines_54 : decode cX1_refines 54 = .ok (.aload_n 0, 1) := by decide +kernel
theorem dX1_refines_55 : decode cX1_refines 55 = .ok (.aload_n 0, 1) := by decide +kernel
theorem dX1_refines_56 : decode cX1_refines 56 = .ok (.getfield 7, 3) := by decide +kernel
theorem dX1_refines_59 : decode cX1_refines 59 = .ok (.bipush 64, 2) := by decide +kernel
theorem dX1_refines_61 : decode cX1_refines 61 = .ok (.iload_n 2, 1) := by decide +kernel
theorem dX1_refines_62 : decode cX1_refines 62 = .ok (.imul, 1) := by decide +kernel
theorem dX1_refines_63 : decode cX1_refines 63 = .ok (.iload_n 3, 1) := by decide +kernel
theorem dX1_refines_64 : decode cX1_refines 64 = .ok (.iadd, 1) := by decide +kernel
theorem dX1_refines_65 : decode cX1_refines 65 = .ok (.laload, 1) := by decide +kernel
theorem dX1_refines_66 : decode cX1_refines 66 = .ok (.aload_n 0, 1) := by decide +kernel
theorem dX1_refines_67 : decode cX1_refines 67 = .ok (.getfield 7, 3) := by decide +kernel
theorem dX1_refines_70 : decode cX1_refines 70 = .ok (.bipush 64, 2) := by decide +kernel
theorem dX1_refines_72 : decode cX1_refines 72 = .ok (.iload_n 1, 1) := by decide +kernel
theorem dX1_refines_73 : decode cX1_refines 73 = .ok (.imul, 1) := by decide +kernel
theorem dX1_refines_74 : decode cX1_refines 74 = .ok (.iload_n 3, 1) := by decide +kernel
theorem dX1_refines_75 : decode cX1_refines 75 = .ok (.iadd, 1) := by decide +kernel
theorem dX1_refines_76 : decode cX1_refines 76 = .ok (.laload, 1) := by decide +kernel
theorem dX1_refines_77 : decode cX1_refines 77 = .ok (.invokevirtual 61, 3) := by decide +kernel
theorem dX1_refines_80 : decode cX1_refines 80 = .ok (.ifCond .ne 5, 3) := by decide +kernel
theorem dX1_refines_83 : decode cX1_refines 83 = .ok (.iconst 0, 1) := by decide +kernel
theorem dX1_refines_84 : decode cX1_refines 84 = .ok (.ireturn, 1) := by decide +kernel
theorem dX1_refines_85 : decode cX1_refines 85 = .ok (.iinc 3 1, 3) := by decide +kernel
theorem dX1_refines_88 : decode cX1_refines 88 = .ok (.goto (-68), 3) := by decide +kernel
theorem dX1_refines_91 : decode cX1_refines 91 = .ok (.iconst 1, 1) := by decide +kernel
theorem dX1_refines_92 : decode cX1_refines 92 = .ok (.ireturn, 1) := by decide +kernel
abbrev cX1_settled : ByteArray := prog_3_method_32_code
def yX1_settled : MethodName := ⟨RX1, "settled", "(I)I"⟩
theorem dX1_settled_0 : decode cX1_settled 0 = .ok (.aload_n 0, 1) := by decide +kernel
theorem dX1_settled_1 : decode cX1_settled 1 = .ok (.iload_n 1, 1) := by decide +kernel
theorem dX1_settled_2 : decode cX1_settled 2 = .ok (.invokevirtual 53, 3) := by decide +kernel
theorem dX1_settled_5 : decode cX1_settled 5 = .ok (.ifCond .eq 5, 3) := by decide +kernel
theorem dX1_settled_8 : decode cX1_settled 8 = .ok (.iconst (-1), 1) := by decide +kernel
theorem dX1_settled_9 : decode cX1_settled 9 = .ok (.ireturn, 1) := by decide +kernel
theorem dX1_settled_10 : decode cX1_settled 10 = .ok (.iconst 0, 1) := by decide +kernel
theorem dX1_settled_11 : decode cX1_settled 11 = .ok (.istore_n 2, 1) := by decide +kernel
theorem dX1_settled_12 : decode cX1_settled 12 = .ok (.iload_n 2, 1) := by decide +kernel
theorem dX1_settled_13 : decode cX1_settled 13 = .ok (.bipush 64, 2) := by decide +kernel
theorem dX1_settled_15 : decode cX1_settled 15 = .ok (.if_icmp .ge 44, 3) := by decide +kernel
theorem dX1_settled_18 : decode cX1_settled 18 = .ok (.aload_n 0, 1) := by decide +kernel
theorem dX1_settled_19 : decode cX1_settled 19 = .ok (.aload_n 0, 1) := by decide +kernel
theorem dX1_settled_20 : decode cX1_settled 20 = .ok (.getfield 13, 3) := by decide +kernel
theorem dX1_settled_23 : decode cX1_settled 23 = .ok (.iload_n 1, 1) := by decide +kernel
theorem dX1_settled_24 : decode cX1_settled 24 = .ok (.laload, 1) := by decide +kernel
theorem dX1_settled_25 : decode cX1_settled 25 = .ok (.iload_n 2, 1) := by decide +kernel
theorem dX1_settled_26 : decode cX1_settled 26 = .ok (.invokevirtual 16, 3) := by decide +kernel
theorem dX1_settled_29 : decode cX1_settled 29 = .ok (.ifCond .eq 24, 3) := by decide +kernel
theorem dX1_settled_32 : decode cX1_settled 32 = .ok (.aload_n 0, 1) := by decide +kernel
theorem dX1_settled_33 : decode cX1_settled 33 = .ok (.aload_n 0, 1) := by decide +kernel
theorem dX1_settled_34 : decode cX1_settled 34 = .ok (.getfield 7, 3) := by decide +kernel
theorem dX1_settled_37 : decode cX1_settled 37 = .ok (.bipush 64, 2) := by decide +kernel
theorem dX1_settled_39 : decode cX1_settled 39 = .ok (.iload_n 1, 1) := by decide +kernel
theorem dX1_settled_40 : decode cX1_settled 40 = .ok (.imul, 1) := by decide +kernel
theorem dX1_settled_41 : decode cX1_settled 41 = .ok (.iload_n 2, 1) := by decide +kernel
theorem dX1_settled_42 : decode cX1_settled 42 = .ok (.iadd, 1) := by decide +kernel
theorem dX1_settled_43 : decode cX1_settled 43 = .ok (.laload, 1) := by decide +kernel
theorem dX1_settled_44 : decode cX1_settled 44 = .ok (.invokevirtual 27, 3) := by decide +kernel
theorem dX1_settled_47 : decode cX1_settled 47 = .ok (.iconst 1, 1) := by decide +kernel
theorem dX1_settled_48 : decode cX1_settled 48 = .ok (.if_icmp .eq 5, 3) := by decide +kernel
theorem dX1_settled_51 : decode cX1_settled 51 = .ok (.iconst 0, 1) := by decide +kernel
theorem dX1_settled_52 : decode cX1_settled 52 = .ok (.ireturn, 1) := by decide +kernel
theorem dX1_settled_53 : decode cX1_settled 53 = .ok (.iinc 2 1, 3) := by decide +kernel
theorem dX1_settled_56 : decode cX1_settled 56 = .ok (.goto (-44), 3) := by decide +kernel
theorem dX1_settled_59 : decode cX1_settled 59 = .ok (.iconst 1, 1) := by decide +kernel
theorem dX1_settled_60 : decode cX1_settled 60 = .ok (.ireturn, 1) := by decide +kernel
abbrev cX1_widest : ByteArray := prog_3_method_33_code
def yX1_widest : MethodName := ⟨RX1, "widest", "(I)I"⟩
theorem dX1_widest_0 : decode cX1_widest 0 = .ok (.aload_n 0, 1) := by decide +kernel
theorem dX1_widest_1 : decode cX1_widest 1 = .ok (.iload_n 1, 1) := by decide +kernel
theorem dX1_widest_2 : decode cX1_widest 2 = .ok (.invokevirtual 53, 3) := by decide +kernel
theorem dX1_widest_5 : decode cX1_widest 5 = .ok (.ifCond .eq 5, 3) := by decide +kernel
theorem dX1_widest_8 : decode cX1_widest 8 = .ok (.iconst (-1), 1) := by decide +kernel
theorem dX1_widest_9 : decode cX1_widest 9 = .ok (.ireturn, 1) := by decide +kernel
theorem dX1_widest_10 : decode cX1_widest 10 = .ok (.iconst 0, 1) := by decide +kernel
theorem dX1_widest_11 : decode cX1_widest 11 = .ok (.istore_n 2, 1) := by decide +kernel
theorem dX1_widest_12 : decode cX1_widest 12 = .ok (.iconst 0, 1) := by decide +kernel
theorem dX1_widest_13 : decode cX1_widest 13 = .ok (.istore_n 3, 1) := by decide +kernel
theorem dX1_widest_14 : decode cX1_widest 14 = .ok (.iload_n 3, 1) := by decide +kernel
theorem dX1_widest_15 : decode cX1_widest 15 = .ok (.bipush 64, 2) := by decide +kernel
theorem dX1_widest_17 : decode cX1_widest 17 = .ok (.if_icmp .ge 35, 3) := by decide +kernel
theorem dX1_widest_20 : decode cX1_widest 20 = .ok (.aload_n 0, 1) := by decide +kernel
theorem dX1_widest_21 : decode cX1_widest 21 = .ok (.aload_n 0, 1) := by decide +kernel
theorem dX1_widest_22 : decode cX1_widest 22 = .ok (.getfield 7, 3) := by decide +kernel
theorem dX1_widest_25 : decode cX1_widest 25 = .ok (.bipush 64, 2) := by decide +kernel
theorem dX1_widest_27 : decode cX1_widest 27 = .ok (.iload_n 1, 1) := by decide +kernel
theorem dX1_widest_28 : decode cX1_widest 28 = .ok (.imul, 1) := by decide +kernel
theorem dX1_widest_29 : decode cX1_widest 29 = .ok (.iload_n 3, 1) := by decide +kernel
theorem dX1_widest_30 : decode cX1_widest 30 = .ok (.iadd, 1) := by decide +kernel
theorem dX1_widest_31 : decode cX1_widest 31 = .ok (.laload, 1) := by decide +kernel
theorem dX1_widest_32 : decode cX1_widest 32 = .ok (.invokevirtual 27, 3) := by decide +kernel
theorem dX1_widest_35 : decode cX1_widest 35 = .ok (.istore 4, 2) := by decide +kernel
theorem dX1_widest_37 : decode cX1_widest 37 = .ok (.iload 4, 2) := by decide +kernel
theorem dX1_widest_39 : decode cX1_widest 39 = .ok (.iload_n 2, 1) := by decide +kernel
theorem dX1_widest_40 : decode cX1_widest 40 = .ok (.if_icmp .le 6, 3) := by decide +kernel
theorem dX1_widest_43 : decode cX1_widest 43 = .ok (.iload 4, 2) := by decide +kernel
theorem dX1_widest_45 : decode cX1_widest 45 = .ok (.istore_n 2, 1) := by decide +kernel
theorem dX1_widest_46 : decode cX1_widest 46 = .ok (.iinc 3 1, 3) := by decide +kernel
theorem dX1_widest_49 : decode cX1_widest 49 = .ok (.goto (-35), 3) := by decide +kernel
theorem dX1_widest_52 : decode cX1_widest 52 = .ok (.iload_n 2, 1) := by decide +kernel
theorem dX1_widest_53 : decode cX1_widest 53 = .ok (.ireturn, 1) := by decide +kernel
theorem q23 : (Jvm.Cond.initialized "GuardedCommandsModel") ∈ lw_all := lw_g (lw_at lw_m1 2 rfl) rfl
theorem q157 : (Jvm.Cond.instantiable "GuardedCommandsModel" (5 : Nat)) ∈ lw_all := lw_g (lw_at lw_m1 136 rfl) rfl
theorem q159 : (Jvm.Cond.instanceMethod ({ cls := "GuardedCommandsModel", name := "<init>", desc := "()V" } : Jvm.MethodName)) ∈ lw_all := lw_g (lw_at lw_m1 138 rfl) rfl
theorem q160 : (Jvm.Cond.code ({ cls := "GuardedCommandsModel", name := "<init>", desc := "()V" } : Jvm.MethodName) prog_3_method_1_code (1 : Nat) (Option.none : Option Jvm.ClassFile.FieldType)) ∈ lw_all := lw_g (lw_at lw_m1 139 rfl) rfl
theorem q161 : (Jvm.Cond.methodLink "GuardedCommandsModel" (1 : Nat) ({ cls := "java/lang/Object", name := "<init>", desc := "()V" } : Jvm.MethodName)) ∈ lw_all := lw_g (lw_at lw_m1 140 rfl) rfl
theorem q162 : (Jvm.Cond.fieldLink "GuardedCommandsModel" (20 : Nat) "GuardedCommandsModel" "g" "J") ∈ lw_all := lw_g (lw_at lw_m1 141 rfl) rfl
theorem q163 : (Jvm.Cond.fieldLink "GuardedCommandsModel" (24 : Nat) "GuardedCommandsModel" "h" "J") ∈ lw_all := lw_g (lw_at lw_m1 142 rfl) rfl
theorem q164 : (Jvm.Cond.fieldLink "GuardedCommandsModel" (41 : Nat) "GuardedCommandsModel" "count" "I") ∈ lw_all := lw_g (lw_at lw_m1 143 rfl) rfl
theorem q165 : (Jvm.Cond.fieldLink "GuardedCommandsModel" (7 : Nat) "GuardedCommandsModel" "goals" "[J") ∈ lw_all := lw_g (lw_at lw_m1 144 rfl) rfl
theorem q166 : (Jvm.Cond.fieldLink "GuardedCommandsModel" (13 : Nat) "GuardedCommandsModel" "safe" "[J") ∈ lw_all := lw_g (lw_at lw_m1 145 rfl) rfl
theorem q167 : (Jvm.Cond.lays "GuardedCommandsModel" "GuardedCommandsModel" "g" "J") ∈ lw_all := lw_g (lw_at lw_m1 146 rfl) rfl
theorem q168 : (Jvm.Cond.soleField "GuardedCommandsModel" "g") ∈ lw_all := lw_g (lw_at lw_m1 147 rfl) rfl
theorem q169 : (Jvm.Cond.lays "GuardedCommandsModel" "GuardedCommandsModel" "h" "J") ∈ lw_all := lw_g (lw_at lw_m1 148 rfl) rfl
theorem q170 : (Jvm.Cond.soleField "GuardedCommandsModel" "h") ∈ lw_all := lw_g (lw_at lw_m1 149 rfl) rfl
theorem q171 : (Jvm.Cond.lays "GuardedCommandsModel" "GuardedCommandsModel" "count" "I") ∈ lw_all := lw_g (lw_at lw_m1 150 rfl) rfl
theorem q172 : (Jvm.Cond.soleField "GuardedCommandsModel" "count") ∈ lw_all := lw_g (lw_at lw_m1 151 rfl) rfl
theorem q173 : (Jvm.Cond.lays "GuardedCommandsModel" "GuardedCommandsModel" "goals" "[J") ∈ lw_all := lw_g (lw_at lw_m1 152 rfl) rfl
theorem q174 : (Jvm.Cond.soleField "GuardedCommandsModel" "goals") ∈ lw_all := lw_g (lw_at lw_m1 153 rfl) rfl
theorem q175 : (Jvm.Cond.lays "GuardedCommandsModel" "GuardedCommandsModel" "safe" "[J") ∈ lw_all := lw_g (lw_at lw_m1 154 rfl) rfl
theorem q176 : (Jvm.Cond.soleField "GuardedCommandsModel" "safe") ∈ lw_all := lw_g (lw_at lw_m1 155 rfl) rfl
theorem q177 : (Jvm.Cond.superclass "GuardedCommandsModel" "java/lang/Object") ∈ lw_all := lw_g (lw_at lw_m1 156 rfl) rfl
theorem q179 : (Jvm.Cond.instanceMethod ({ cls := "GuardedCommandsModel", name := "guard", desc := "(IJ)I" } : Jvm.MethodName)) ∈ lw_all := lw_g (lw_at lw_m1 158 rfl) rfl
theorem q180 : (Jvm.Cond.selects "GuardedCommandsModel" ({ cls := "GuardedCommandsModel", name := "guard", desc := "(IJ)I" } : Jvm.MethodName) ({ cls := "GuardedCommandsModel", name := "guard", desc := "(IJ)I" } : Jvm.MethodName)) ∈ lw_all := lw_g (lw_at lw_m1 159 rfl) rfl
theorem q181 : (Jvm.Cond.code ({ cls := "GuardedCommandsModel", name := "guard", desc := "(IJ)I" } : Jvm.MethodName) prog_3_method_5_code (4 : Nat) (Option.some Jvm.ClassFile.FieldType.int)) ∈ lw_all := lw_g (lw_at lw_m1 160 rfl) rfl
theorem q182 : (Jvm.Cond.methodLink "GuardedCommandsModel" (31 : Nat) ({ cls := "GuardedCommandsModel", name := "keep", desc := "(IJ)I" } : Jvm.MethodName)) ∈ lw_all := lw_g (lw_at lw_m1 161 rfl) rfl
theorem q183 : (Jvm.Cond.privateMethod ({ cls := "GuardedCommandsModel", name := "keep", desc := "(IJ)I" } : Jvm.MethodName)) ∈ lw_tbl := lw_at lw_m1 162 rfl
theorem q184 : (Jvm.Cond.instanceMethod ({ cls := "GuardedCommandsModel", name := "keep", desc := "(IJ)I" } : Jvm.MethodName)) ∈ lw_all := lw_g (lw_at lw_m1 163 rfl) rfl
theorem q185 : (Jvm.Cond.code ({ cls := "GuardedCommandsModel", name := "keep", desc := "(IJ)I" } : Jvm.MethodName) prog_3_method_4_code (4 : Nat) (Option.some Jvm.ClassFile.FieldType.int)) ∈ lw_all := lw_g (lw_at lw_m1 164 rfl) rfl
theorem q186 : (Jvm.Cond.methodLink "GuardedCommandsModel" (27 : Nat) ({ cls := "GuardedCommandsModel", name := "size", desc := "(J)I" } : Jvm.MethodName)) ∈ lw_all := lw_g (lw_at lw_m1 165 rfl) rfl
theorem q187 : (Jvm.Cond.privateMethod ({ cls := "GuardedCommandsModel", name := "size", desc := "(J)I" } : Jvm.MethodName)) ∈ lw_tbl := lw_at lw_m1 166 rfl
theorem q188 : (Jvm.Cond.instanceMethod ({ cls := "GuardedCommandsModel", name := "size", desc := "(J)I" } : Jvm.MethodName)) ∈ lw_all := lw_g (lw_at lw_m1 167 rfl) rfl
theorem q189 : (Jvm.Cond.code ({ cls := "GuardedCommandsModel", name := "size", desc := "(J)I" } : Jvm.MethodName) prog_3_method_3_code (5 : Nat) (Option.some Jvm.ClassFile.FieldType.int)) ∈ lw_all := lw_g (lw_at lw_m1 168 rfl) rfl
theorem q190 : (Jvm.Cond.methodLink "GuardedCommandsModel" (16 : Nat) ({ cls := "GuardedCommandsModel", name := "in", desc := "(JI)Z" } : Jvm.MethodName)) ∈ lw_all := lw_g (lw_at lw_m1 169 rfl) rfl
theorem q191 : (Jvm.Cond.privateMethod ({ cls := "GuardedCommandsModel", name := "in", desc := "(JI)Z" } : Jvm.MethodName)) ∈ lw_tbl := lw_at lw_m1 170 rfl
theorem q192 : (Jvm.Cond.instanceMethod ({ cls := "GuardedCommandsModel", name := "in", desc := "(JI)Z" } : Jvm.MethodName)) ∈ lw_all := lw_g (lw_at lw_m1 171 rfl) rfl
theorem q193 : (Jvm.Cond.code ({ cls := "GuardedCommandsModel", name := "in", desc := "(JI)Z" } : Jvm.MethodName) prog_3_method_2_code (4 : Nat) (Option.some Jvm.ClassFile.FieldType.boolean)) ∈ lw_all := lw_g (lw_at lw_m1 172 rfl) rfl
theorem q195 : (Jvm.Cond.instanceMethod ({ cls := "GuardedCommandsModel", name := "compare", desc := "(III)I" } : Jvm.MethodName)) ∈ lw_all := lw_g (lw_at lw_m1 174 rfl) rfl
theorem q196 : (Jvm.Cond.selects "GuardedCommandsModel" ({ cls := "GuardedCommandsModel", name := "compare", desc := "(III)I" } : Jvm.MethodName) ({ cls := "GuardedCommandsModel", name := "compare", desc := "(III)I" } : Jvm.MethodName)) ∈ lw_all := lw_g (lw_at lw_m1 175 rfl) rfl
theorem q197 : (Jvm.Cond.code ({ cls := "GuardedCommandsModel", name := "compare", desc := "(III)I" } : Jvm.MethodName) prog_3_method_7_code (7 : Nat) (Option.some Jvm.ClassFile.FieldType.int)) ∈ lw_all := lw_g (lw_at lw_m1 176 rfl) rfl
theorem q198 : (Jvm.Cond.methodLink "GuardedCommandsModel" (35 : Nat) ({ cls := "GuardedCommandsModel", name := "worth", desc := "(II)I" } : Jvm.MethodName)) ∈ lw_all := lw_g (lw_at lw_m1 177 rfl) rfl
theorem q199 : (Jvm.Cond.privateMethod ({ cls := "GuardedCommandsModel", name := "worth", desc := "(II)I" } : Jvm.MethodName)) ∈ lw_tbl := lw_at lw_m1 178 rfl
theorem q200 : (Jvm.Cond.instanceMethod ({ cls := "GuardedCommandsModel", name := "worth", desc := "(II)I" } : Jvm.MethodName)) ∈ lw_all := lw_g (lw_at lw_m1 179 rfl) rfl
theorem q201 : (Jvm.Cond.code ({ cls := "GuardedCommandsModel", name := "worth", desc := "(II)I" } : Jvm.MethodName) prog_3_method_6_code (3 : Nat) (Option.some Jvm.ClassFile.FieldType.int)) ∈ lw_all := lw_g (lw_at lw_m1 180 rfl) rfl
theorem q203 : (Jvm.Cond.instanceMethod ({ cls := "GuardedCommandsModel", name := "oppose", desc := "(I)I" } : Jvm.MethodName)) ∈ lw_all := lw_g (lw_at lw_m1 182 rfl) rfl
theorem q204 : (Jvm.Cond.selects "GuardedCommandsModel" ({ cls := "GuardedCommandsModel", name := "oppose", desc := "(I)I" } : Jvm.MethodName) ({ cls := "GuardedCommandsModel", name := "oppose", desc := "(I)I" } : Jvm.MethodName)) ∈ lw_all := lw_g (lw_at lw_m1 183 rfl) rfl
theorem q205 : (Jvm.Cond.code ({ cls := "GuardedCommandsModel", name := "oppose", desc := "(I)I" } : Jvm.MethodName) prog_3_method_8_code (2 : Nat) (Option.some Jvm.ClassFile.FieldType.int)) ∈ lw_all := lw_g (lw_at lw_m1 184 rfl) rfl
theorem q206 : (Jvm.Cond.constantLong "GuardedCommandsModel" (39 : Nat) (-1 : Int64)) ∈ lw_all := lw_g (lw_at lw_m1 185 rfl) rfl
theorem q208 : (Jvm.Cond.instanceMethod ({ cls := "GuardedCommandsModel", name := "skip", desc := "()I" } : Jvm.MethodName)) ∈ lw_all := lw_g (lw_at lw_m1 187 rfl) rfl
theorem q209 : (Jvm.Cond.selects "GuardedCommandsModel" ({ cls := "GuardedCommandsModel", name := "skip", desc := "()I" } : Jvm.MethodName) ({ cls := "GuardedCommandsModel", name := "skip", desc := "()I" } : Jvm.MethodName)) ∈ lw_all := lw_g (lw_at lw_m1 188 rfl) rfl
theorem q210 : (Jvm.Cond.code ({ cls := "GuardedCommandsModel", name := "skip", desc := "()I" } : Jvm.MethodName) prog_3_method_11_code (1 : Nat) (Option.some Jvm.ClassFile.FieldType.int)) ∈ lw_all := lw_g (lw_at lw_m1 189 rfl) rfl
theorem q211 : (Jvm.Cond.methodLink "GuardedCommandsModel" (49 : Nat) ({ cls := "GuardedCommandsModel", name := "plain", desc := "(Z)I" } : Jvm.MethodName)) ∈ lw_all := lw_g (lw_at lw_m1 190 rfl) rfl
theorem q212 : (Jvm.Cond.privateMethod ({ cls := "GuardedCommandsModel", name := "plain", desc := "(Z)I" } : Jvm.MethodName)) ∈ lw_tbl := lw_at lw_m1 191 rfl
theorem q213 : (Jvm.Cond.instanceMethod ({ cls := "GuardedCommandsModel", name := "plain", desc := "(Z)I" } : Jvm.MethodName)) ∈ lw_all := lw_g (lw_at lw_m1 192 rfl) rfl
theorem q214 : (Jvm.Cond.code ({ cls := "GuardedCommandsModel", name := "plain", desc := "(Z)I" } : Jvm.MethodName) prog_3_method_10_code (4 : Nat) (Option.some Jvm.ClassFile.FieldType.int)) ∈ lw_all := lw_g (lw_at lw_m1 193 rfl) rfl
theorem q215 : (Jvm.Cond.methodLink "GuardedCommandsModel" (45 : Nat) ({ cls := "GuardedCommandsModel", name := "full", desc := "()Z" } : Jvm.MethodName)) ∈ lw_all := lw_g (lw_at lw_m1 194 rfl) rfl
theorem q216 : (Jvm.Cond.privateMethod ({ cls := "GuardedCommandsModel", name := "full", desc := "()Z" } : Jvm.MethodName)) ∈ lw_tbl := lw_at lw_m1 195 rfl
theorem q217 : (Jvm.Cond.instanceMethod ({ cls := "GuardedCommandsModel", name := "full", desc := "()Z" } : Jvm.MethodName)) ∈ lw_all := lw_g (lw_at lw_m1 196 rfl) rfl
theorem q218 : (Jvm.Cond.code ({ cls := "GuardedCommandsModel", name := "full", desc := "()Z" } : Jvm.MethodName) prog_3_method_9_code (1 : Nat) (Option.some Jvm.ClassFile.FieldType.boolean)) ∈ lw_all := lw_g (lw_at lw_m1 197 rfl) rfl
theorem q220 : (Jvm.Cond.instanceMethod ({ cls := "GuardedCommandsModel", name := "fail", desc := "()I" } : Jvm.MethodName)) ∈ lw_all := lw_g (lw_at lw_m1 199 rfl) rfl
theorem q221 : (Jvm.Cond.selects "GuardedCommandsModel" ({ cls := "GuardedCommandsModel", name := "fail", desc := "()I" } : Jvm.MethodName) ({ cls := "GuardedCommandsModel", name := "fail", desc := "()I" } : Jvm.MethodName)) ∈ lw_all := lw_g (lw_at lw_m1 200 rfl) rfl
theorem q222 : (Jvm.Cond.code ({ cls := "GuardedCommandsModel", name := "fail", desc := "()I" } : Jvm.MethodName) prog_3_method_12_code (1 : Nat) (Option.some Jvm.ClassFile.FieldType.int)) ∈ lw_all := lw_g (lw_at lw_m1 201 rfl) rfl
theorem q224 : (Jvm.Cond.instanceMethod ({ cls := "GuardedCommandsModel", name := "assign", desc := "(II)I" } : Jvm.MethodName)) ∈ lw_all := lw_g (lw_at lw_m1 203 rfl) rfl
theorem q225 : (Jvm.Cond.selects "GuardedCommandsModel" ({ cls := "GuardedCommandsModel", name := "assign", desc := "(II)I" } : Jvm.MethodName) ({ cls := "GuardedCommandsModel", name := "assign", desc := "(II)I" } : Jvm.MethodName)) ∈ lw_all := lw_g (lw_at lw_m1 204 rfl) rfl
theorem q226 : (Jvm.Cond.code ({ cls := "GuardedCommandsModel", name := "assign", desc := "(II)I" } : Jvm.MethodName) prog_3_method_13_code (7 : Nat) (Option.some Jvm.ClassFile.FieldType.int)) ∈ lw_all := lw_g (lw_at lw_m1 205 rfl) rfl
theorem q228 : (Jvm.Cond.instanceMethod ({ cls := "GuardedCommandsModel", name := "sequence", desc := "(II)I" } : Jvm.MethodName)) ∈ lw_all := lw_g (lw_at lw_m1 207 rfl) rfl
theorem q229 : (Jvm.Cond.selects "GuardedCommandsModel" ({ cls := "GuardedCommandsModel", name := "sequence", desc := "(II)I" } : Jvm.MethodName) ({ cls := "GuardedCommandsModel", name := "sequence", desc := "(II)I" } : Jvm.MethodName)) ∈ lw_all := lw_g (lw_at lw_m1 208 rfl) rfl
theorem q230 : (Jvm.Cond.code ({ cls := "GuardedCommandsModel", name := "sequence", desc := "(II)I" } : Jvm.MethodName) prog_3_method_17_code (9 : Nat) (Option.some Jvm.ClassFile.FieldType.int)) ∈ lw_all := lw_g (lw_at lw_m1 209 rfl) rfl
theorem q231 : (Jvm.Cond.methodLink "GuardedCommandsModel" (53 : Nat) ({ cls := "GuardedCommandsModel", name := "bad", desc := "(I)Z" } : Jvm.MethodName)) ∈ lw_all := lw_g (lw_at lw_m1 210 rfl) rfl
theorem q232 : (Jvm.Cond.privateMethod ({ cls := "GuardedCommandsModel", name := "bad", desc := "(I)Z" } : Jvm.MethodName)) ∈ lw_tbl := lw_at lw_m1 211 rfl
theorem q233 : (Jvm.Cond.instanceMethod ({ cls := "GuardedCommandsModel", name := "bad", desc := "(I)Z" } : Jvm.MethodName)) ∈ lw_all := lw_g (lw_at lw_m1 212 rfl) rfl
theorem q234 : (Jvm.Cond.code ({ cls := "GuardedCommandsModel", name := "bad", desc := "(I)Z" } : Jvm.MethodName) prog_3_method_14_code (2 : Nat) (Option.some Jvm.ClassFile.FieldType.boolean)) ∈ lw_all := lw_g (lw_at lw_m1 213 rfl) rfl
theorem q235 : (Jvm.Cond.methodLink "GuardedCommandsModel" (57 : Nat) ({ cls := "GuardedCommandsModel", name := "from", desc := "(IJ)J" } : Jvm.MethodName)) ∈ lw_all := lw_g (lw_at lw_m1 214 rfl) rfl
theorem q236 : (Jvm.Cond.privateMethod ({ cls := "GuardedCommandsModel", name := "from", desc := "(IJ)J" } : Jvm.MethodName)) ∈ lw_tbl := lw_at lw_m1 215 rfl
theorem q237 : (Jvm.Cond.instanceMethod ({ cls := "GuardedCommandsModel", name := "from", desc := "(IJ)J" } : Jvm.MethodName)) ∈ lw_all := lw_g (lw_at lw_m1 216 rfl) rfl
theorem q238 : (Jvm.Cond.code ({ cls := "GuardedCommandsModel", name := "from", desc := "(IJ)J" } : Jvm.MethodName) prog_3_method_15_code (7 : Nat) (Option.some Jvm.ClassFile.FieldType.long)) ∈ lw_all := lw_g (lw_at lw_m1 217 rfl) rfl
theorem q239 : (Jvm.Cond.methodLink "GuardedCommandsModel" (61 : Nat) ({ cls := "GuardedCommandsModel", name := "part", desc := "(JJ)Z" } : Jvm.MethodName)) ∈ lw_all := lw_g (lw_at lw_m1 218 rfl) rfl
theorem q240 : (Jvm.Cond.privateMethod ({ cls := "GuardedCommandsModel", name := "part", desc := "(JJ)Z" } : Jvm.MethodName)) ∈ lw_tbl := lw_at lw_m1 219 rfl
theorem q241 : (Jvm.Cond.instanceMethod ({ cls := "GuardedCommandsModel", name := "part", desc := "(JJ)Z" } : Jvm.MethodName)) ∈ lw_all := lw_g (lw_at lw_m1 220 rfl) rfl
theorem q242 : (Jvm.Cond.code ({ cls := "GuardedCommandsModel", name := "part", desc := "(JJ)Z" } : Jvm.MethodName) prog_3_method_16_code (5 : Nat) (Option.some Jvm.ClassFile.FieldType.boolean)) ∈ lw_all := lw_g (lw_at lw_m1 221 rfl) rfl
theorem q244 : (Jvm.Cond.instanceMethod ({ cls := "GuardedCommandsModel", name := "choice", desc := "(II)I" } : Jvm.MethodName)) ∈ lw_all := lw_g (lw_at lw_m1 223 rfl) rfl
theorem q245 : (Jvm.Cond.selects "GuardedCommandsModel" ({ cls := "GuardedCommandsModel", name := "choice", desc := "(II)I" } : Jvm.MethodName) ({ cls := "GuardedCommandsModel", name := "choice", desc := "(II)I" } : Jvm.MethodName)) ∈ lw_all := lw_g (lw_at lw_m1 224 rfl) rfl
theorem q246 : (Jvm.Cond.code ({ cls := "GuardedCommandsModel", name := "choice", desc := "(II)I" } : Jvm.MethodName) prog_3_method_20_code (7 : Nat) (Option.some Jvm.ClassFile.FieldType.int)) ∈ lw_all := lw_g (lw_at lw_m1 225 rfl) rfl
theorem q247 : (Jvm.Cond.methodLink "GuardedCommandsModel" (65 : Nat) ({ cls := "GuardedCommandsModel", name := "step", desc := "(III)J" } : Jvm.MethodName)) ∈ lw_all := lw_g (lw_at lw_m1 226 rfl) rfl
theorem q248 : (Jvm.Cond.privateMethod ({ cls := "GuardedCommandsModel", name := "step", desc := "(III)J" } : Jvm.MethodName)) ∈ lw_tbl := lw_at lw_m1 227 rfl
theorem q249 : (Jvm.Cond.instanceMethod ({ cls := "GuardedCommandsModel", name := "step", desc := "(III)J" } : Jvm.MethodName)) ∈ lw_all := lw_g (lw_at lw_m1 228 rfl) rfl
theorem q250 : (Jvm.Cond.code ({ cls := "GuardedCommandsModel", name := "step", desc := "(III)J" } : Jvm.MethodName) prog_3_method_18_code (6 : Nat) (Option.some Jvm.ClassFile.FieldType.long)) ∈ lw_all := lw_g (lw_at lw_m1 229 rfl) rfl
theorem q251 : (Jvm.Cond.methodLink "GuardedCommandsModel" (69 : Nat) ({ cls := "GuardedCommandsModel", name := "good", desc := "(III)Z" } : Jvm.MethodName)) ∈ lw_all := lw_g (lw_at lw_m1 230 rfl) rfl
theorem q252 : (Jvm.Cond.privateMethod ({ cls := "GuardedCommandsModel", name := "good", desc := "(III)Z" } : Jvm.MethodName)) ∈ lw_tbl := lw_at lw_m1 231 rfl
theorem q253 : (Jvm.Cond.instanceMethod ({ cls := "GuardedCommandsModel", name := "good", desc := "(III)Z" } : Jvm.MethodName)) ∈ lw_all := lw_g (lw_at lw_m1 232 rfl) rfl
theorem q254 : (Jvm.Cond.code ({ cls := "GuardedCommandsModel", name := "good", desc := "(III)Z" } : Jvm.MethodName) prog_3_method_19_code (4 : Nat) (Option.some Jvm.ClassFile.FieldType.boolean)) ∈ lw_all := lw_g (lw_at lw_m1 233 rfl) rfl
theorem q256 : (Jvm.Cond.instanceMethod ({ cls := "GuardedCommandsModel", name := "loop", desc := "(II)I" } : Jvm.MethodName)) ∈ lw_all := lw_g (lw_at lw_m1 235 rfl) rfl
theorem q257 : (Jvm.Cond.selects "GuardedCommandsModel" ({ cls := "GuardedCommandsModel", name := "loop", desc := "(II)I" } : Jvm.MethodName) ({ cls := "GuardedCommandsModel", name := "loop", desc := "(II)I" } : Jvm.MethodName)) ∈ lw_all := lw_g (lw_at lw_m1 236 rfl) rfl
theorem q258 : (Jvm.Cond.code ({ cls := "GuardedCommandsModel", name := "loop", desc := "(II)I" } : Jvm.MethodName) prog_3_method_23_code (5 : Nat) (Option.some Jvm.ClassFile.FieldType.int)) ∈ lw_all := lw_g (lw_at lw_m1 237 rfl) rfl
theorem q259 : (Jvm.Cond.methodLink "GuardedCommandsModel" (73 : Nat) ({ cls := "GuardedCommandsModel", name := "met", desc := "(III)J" } : Jvm.MethodName)) ∈ lw_all := lw_g (lw_at lw_m1 238 rfl) rfl
theorem q260 : (Jvm.Cond.privateMethod ({ cls := "GuardedCommandsModel", name := "met", desc := "(III)J" } : Jvm.MethodName)) ∈ lw_tbl := lw_at lw_m1 239 rfl
theorem q261 : (Jvm.Cond.instanceMethod ({ cls := "GuardedCommandsModel", name := "met", desc := "(III)J" } : Jvm.MethodName)) ∈ lw_all := lw_g (lw_at lw_m2 0 rfl) rfl
theorem q262 : (Jvm.Cond.code ({ cls := "GuardedCommandsModel", name := "met", desc := "(III)J" } : Jvm.MethodName) prog_3_method_21_code (10 : Nat) (Option.some Jvm.ClassFile.FieldType.long)) ∈ lw_all := lw_g (lw_at lw_m2 1 rfl) rfl
theorem q263 : (Jvm.Cond.methodLink "GuardedCommandsModel" (76 : Nat) ({ cls := "GuardedCommandsModel", name := "resting", desc := "(II)J" } : Jvm.MethodName)) ∈ lw_all := lw_g (lw_at lw_m2 2 rfl) rfl
theorem q264 : (Jvm.Cond.privateMethod ({ cls := "GuardedCommandsModel", name := "resting", desc := "(II)J" } : Jvm.MethodName)) ∈ lw_tbl := lw_at lw_m2 3 rfl
theorem q265 : (Jvm.Cond.instanceMethod ({ cls := "GuardedCommandsModel", name := "resting", desc := "(II)J" } : Jvm.MethodName)) ∈ lw_all := lw_g (lw_at lw_m2 4 rfl) rfl
theorem q266 : (Jvm.Cond.code ({ cls := "GuardedCommandsModel", name := "resting", desc := "(II)J" } : Jvm.MethodName) prog_3_method_22_code (11 : Nat) (Option.some Jvm.ClassFile.FieldType.long)) ∈ lw_all := lw_g (lw_at lw_m2 5 rfl) rfl
theorem q268 : (Jvm.Cond.instanceMethod ({ cls := "GuardedCommandsModel", name := "programs", desc := "()I" } : Jvm.MethodName)) ∈ lw_all := lw_g (lw_at lw_m2 7 rfl) rfl
theorem q269 : (Jvm.Cond.selects "GuardedCommandsModel" ({ cls := "GuardedCommandsModel", name := "programs", desc := "()I" } : Jvm.MethodName) ({ cls := "GuardedCommandsModel", name := "programs", desc := "()I" } : Jvm.MethodName)) ∈ lw_all := lw_g (lw_at lw_m2 8 rfl) rfl
theorem q270 : (Jvm.Cond.code ({ cls := "GuardedCommandsModel", name := "programs", desc := "()I" } : Jvm.MethodName) prog_3_method_24_code (1 : Nat) (Option.some Jvm.ClassFile.FieldType.int)) ∈ lw_all := lw_g (lw_at lw_m2 9 rfl) rfl
theorem q272 : (Jvm.Cond.instanceMethod ({ cls := "GuardedCommandsModel", name := "ends", desc := "(II)J" } : Jvm.MethodName)) ∈ lw_all := lw_g (lw_at lw_m2 11 rfl) rfl
theorem q273 : (Jvm.Cond.selects "GuardedCommandsModel" ({ cls := "GuardedCommandsModel", name := "ends", desc := "(II)J" } : Jvm.MethodName) ({ cls := "GuardedCommandsModel", name := "ends", desc := "(II)J" } : Jvm.MethodName)) ∈ lw_all := lw_g (lw_at lw_m2 12 rfl) rfl
theorem q274 : (Jvm.Cond.code ({ cls := "GuardedCommandsModel", name := "ends", desc := "(II)J" } : Jvm.MethodName) prog_3_method_25_code (3 : Nat) (Option.some Jvm.ClassFile.FieldType.long)) ∈ lw_all := lw_g (lw_at lw_m2 13 rfl) rfl
theorem q276 : (Jvm.Cond.instanceMethod ({ cls := "GuardedCommandsModel", name := "sure", desc := "(I)J" } : Jvm.MethodName)) ∈ lw_all := lw_g (lw_at lw_m2 15 rfl) rfl
theorem q277 : (Jvm.Cond.selects "GuardedCommandsModel" ({ cls := "GuardedCommandsModel", name := "sure", desc := "(I)J" } : Jvm.MethodName) ({ cls := "GuardedCommandsModel", name := "sure", desc := "(I)J" } : Jvm.MethodName)) ∈ lw_all := lw_g (lw_at lw_m2 16 rfl) rfl
theorem q278 : (Jvm.Cond.code ({ cls := "GuardedCommandsModel", name := "sure", desc := "(I)J" } : Jvm.MethodName) prog_3_method_26_code (2 : Nat) (Option.some Jvm.ClassFile.FieldType.long)) ∈ lw_all := lw_g (lw_at lw_m2 17 rfl) rfl
theorem q280 : (Jvm.Cond.instanceMethod ({ cls := "GuardedCommandsModel", name := "demand", desc := "(IJ)J" } : Jvm.MethodName)) ∈ lw_all := lw_g (lw_at lw_m2 19 rfl) rfl
theorem q281 : (Jvm.Cond.selects "GuardedCommandsModel" ({ cls := "GuardedCommandsModel", name := "demand", desc := "(IJ)J" } : Jvm.MethodName) ({ cls := "GuardedCommandsModel", name := "demand", desc := "(IJ)J" } : Jvm.MethodName)) ∈ lw_all := lw_g (lw_at lw_m2 20 rfl) rfl
theorem q282 : (Jvm.Cond.code ({ cls := "GuardedCommandsModel", name := "demand", desc := "(IJ)J" } : Jvm.MethodName) prog_3_method_28_code (4 : Nat) (Option.some Jvm.ClassFile.FieldType.long)) ∈ lw_all := lw_g (lw_at lw_m2 21 rfl) rfl
theorem q283 : (Jvm.Cond.methodLink "GuardedCommandsModel" (80 : Nat) ({ cls := "GuardedCommandsModel", name := "weak", desc := "(IJ)J" } : Jvm.MethodName)) ∈ lw_all := lw_g (lw_at lw_m2 22 rfl) rfl
theorem q284 : (Jvm.Cond.privateMethod ({ cls := "GuardedCommandsModel", name := "weak", desc := "(IJ)J" } : Jvm.MethodName)) ∈ lw_tbl := lw_at lw_m2 23 rfl
theorem q285 : (Jvm.Cond.instanceMethod ({ cls := "GuardedCommandsModel", name := "weak", desc := "(IJ)J" } : Jvm.MethodName)) ∈ lw_all := lw_g (lw_at lw_m2 24 rfl) rfl
theorem q286 : (Jvm.Cond.code ({ cls := "GuardedCommandsModel", name := "weak", desc := "(IJ)J" } : Jvm.MethodName) prog_3_method_27_code (7 : Nat) (Option.some Jvm.ClassFile.FieldType.long)) ∈ lw_all := lw_g (lw_at lw_m2 25 rfl) rfl
theorem q288 : (Jvm.Cond.instanceMethod ({ cls := "GuardedCommandsModel", name := "weakDemand", desc := "(IJ)J" } : Jvm.MethodName)) ∈ lw_all := lw_g (lw_at lw_m2 27 rfl) rfl
theorem q289 : (Jvm.Cond.selects "GuardedCommandsModel" ({ cls := "GuardedCommandsModel", name := "weakDemand", desc := "(IJ)J" } : Jvm.MethodName) ({ cls := "GuardedCommandsModel", name := "weakDemand", desc := "(IJ)J" } : Jvm.MethodName)) ∈ lw_all := lw_g (lw_at lw_m2 28 rfl) rfl
theorem q290 : (Jvm.Cond.code ({ cls := "GuardedCommandsModel", name := "weakDemand", desc := "(IJ)J" } : Jvm.MethodName) prog_3_method_29_code (4 : Nat) (Option.some Jvm.ClassFile.FieldType.long)) ∈ lw_all := lw_g (lw_at lw_m2 29 rfl) rfl
theorem q292 : (Jvm.Cond.instanceMethod ({ cls := "GuardedCommandsModel", name := "image", desc := "(IJ)J" } : Jvm.MethodName)) ∈ lw_all := lw_g (lw_at lw_m2 31 rfl) rfl
theorem q293 : (Jvm.Cond.selects "GuardedCommandsModel" ({ cls := "GuardedCommandsModel", name := "image", desc := "(IJ)J" } : Jvm.MethodName) ({ cls := "GuardedCommandsModel", name := "image", desc := "(IJ)J" } : Jvm.MethodName)) ∈ lw_all := lw_g (lw_at lw_m2 32 rfl) rfl
theorem q294 : (Jvm.Cond.code ({ cls := "GuardedCommandsModel", name := "image", desc := "(IJ)J" } : Jvm.MethodName) prog_3_method_30_code (4 : Nat) (Option.some Jvm.ClassFile.FieldType.long)) ∈ lw_all := lw_g (lw_at lw_m2 33 rfl) rfl
theorem q296 : (Jvm.Cond.instanceMethod ({ cls := "GuardedCommandsModel", name := "refines", desc := "(II)I" } : Jvm.MethodName)) ∈ lw_all := lw_g (lw_at lw_m2 35 rfl) rfl
theorem q297 : (Jvm.Cond.selects "GuardedCommandsModel" ({ cls := "GuardedCommandsModel", name := "refines", desc := "(II)I" } : Jvm.MethodName) ({ cls := "GuardedCommandsModel", name := "refines", desc := "(II)I" } : Jvm.MethodName)) ∈ lw_all := lw_g (lw_at lw_m2 36 rfl) rfl
theorem q298 : (Jvm.Cond.code ({ cls := "GuardedCommandsModel", name := "refines", desc := "(II)I" } : Jvm.MethodName) prog_3_method_31_code (4 : Nat) (Option.some Jvm.ClassFile.FieldType.int)) ∈ lw_all := lw_g (lw_at lw_m2 37 rfl) rfl
theorem q300 : (Jvm.Cond.instanceMethod ({ cls := "GuardedCommandsModel", name := "settled", desc := "(I)I" } : Jvm.MethodName)) ∈ lw_all := lw_g (lw_at lw_m2 39 rfl) rfl
theorem q301 : (Jvm.Cond.selects "GuardedCommandsModel" ({ cls := "GuardedCommandsModel", name := "settled", desc := "(I)I" } : Jvm.MethodName) ({ cls := "GuardedCommandsModel", name := "settled", desc := "(I)I" } : Jvm.MethodName)) ∈ lw_all := lw_g (lw_at lw_m2 40 rfl) rfl
theorem q302 : (Jvm.Cond.code ({ cls := "GuardedCommandsModel", name := "settled", desc := "(I)I" } : Jvm.MethodName) prog_3_method_32_code (3 : Nat) (Option.some Jvm.ClassFile.FieldType.int)) ∈ lw_all := lw_g (lw_at lw_m2 41 rfl) rfl
theorem q304 : (Jvm.Cond.instanceMethod ({ cls := "GuardedCommandsModel", name := "widest", desc := "(I)I" } : Jvm.MethodName)) ∈ lw_all := lw_g (lw_at lw_m2 43 rfl) rfl
theorem q305 : (Jvm.Cond.selects "GuardedCommandsModel" ({ cls := "GuardedCommandsModel", name := "widest", desc := "(I)I" } : Jvm.MethodName) ({ cls := "GuardedCommandsModel", name := "widest", desc := "(I)I" } : Jvm.MethodName)) ∈ lw_all := lw_g (lw_at lw_m2 44 rfl) rfl
theorem q306 : (Jvm.Cond.code ({ cls := "GuardedCommandsModel", name := "widest", desc := "(I)I" } : Jvm.MethodName) prog_3_method_33_code (5 : Nat) (Option.some Jvm.ClassFile.FieldType.int)) ∈ lw_all := lw_g (lw_at lw_m2 45 rfl) rfl
theorem in_X1 : ∀ w ∈ wsX10, w ∈ lw_all := lw_in wsX10 [167, 169, 171, 173, 175] (by decide +kernel) (by decide +kernel)
end
section
set_option maxRecDepth 100000
/-! the law's own entry -/
abbrev cL_law : ByteArray := code
theorem dL_law_0 : decode cL_law 0 = .ok (.new 7, 3) := by decide +kernel
theorem dL_law_3 : decode cL_law 3 = .ok (.dup, 1) := by decide +kernel
theorem dL_law_4 : decode cL_law 4 = .ok (.invokespecial 9, 3) := by decide +kernel
theorem dL_law_7 : decode cL_law 7 = .ok (.astore_n 1, 1) := by decide +kernel
theorem dL_law_8 : decode cL_law 8 = .ok (.new 10, 3) := by decide +kernel
theorem dL_law_11 : decode cL_law 11 = .ok (.dup, 1) := by decide +kernel
theorem dL_law_12 : decode cL_law 12 = .ok (.invokespecial 12, 3) := by decide +kernel
theorem dL_law_15 : decode cL_law 15 = .ok (.astore_n 2, 1) := by decide +kernel
theorem dL_law_16 : decode cL_law 16 = .ok (.iconst 0, 1) := by decide +kernel
theorem dL_law_17 : decode cL_law 17 = .ok (.istore_n 3, 1) := by decide +kernel
theorem dL_law_18 : decode cL_law 18 = .ok (.iload_n 3, 1) := by decide +kernel
theorem dL_law_19 : decode cL_law 19 = .ok (.aload_n 0, 1) := by decide +kernel
theorem dL_law_20 : decode cL_law 20 = .ok (.arraylength, 1) := by decide +kernel
theorem dL_law_21 : decode cL_law 21 = .ok (.iconst 4, 1) := by decide +kernel
theorem dL_law_22 : decode cL_law 22 = .ok (.isub, 1) := by decide +kernel
theorem dL_law_23 : decode cL_law 23 = .ok (.if_icmp .gt 732, 3) := by decide +kernel
theorem dL_law_26 : decode cL_law 26 = .ok (.aload_n 0, 1) := by decide +kernel
theorem dL_law_27 : decode cL_law 27 = .ok (.iload_n 3, 1) := by decide +kernel
theorem dL_law_28 : decode cL_law 28 = .ok (.iaload, 1) := by decide +kernel
theorem dL_law_29 : decode cL_law 29 = .ok (.bipush 31, 2) := by decide +kernel
theorem dL_law_31 : decode cL_law 31 = .ok (.iand, 1) := by decide +kernel
theorem dL_law_32 : decode cL_law 32 = .ok (.tableswitch 717 0 17 #[88, 151, 194, 217, 230, 243, 276, 309, 342, 375, 388, 422, 446, 510, 574, 638, 671, 694], 88) := by decide +kernel
theorem dL_law_120 : decode cL_law 120 = .ok (.aload_n 1, 1) := by decide +kernel
theorem dL_law_121 : decode cL_law 121 = .ok (.aload_n 0, 1) := by decide +kernel
theorem dL_law_122 : decode cL_law 122 = .ok (.iload_n 3, 1) := by decide +kernel
theorem dL_law_123 : decode cL_law 123 = .ok (.iconst 1, 1) := by decide +kernel
theorem dL_law_124 : decode cL_law 124 = .ok (.iadd, 1) := by decide +kernel
theorem dL_law_125 : decode cL_law 125 = .ok (.iaload, 1) := by decide +kernel
theorem dL_law_126 : decode cL_law 126 = .ok (.aload_n 0, 1) := by decide +kernel
theorem dL_law_127 : decode cL_law 127 = .ok (.iload_n 3, 1) := by decide +kernel
theorem dL_law_128 : decode cL_law 128 = .ok (.iconst 2, 1) := by decide +kernel
theorem dL_law_129 : decode cL_law 129 = .ok (.iadd, 1) := by decide +kernel
theorem dL_law_130 : decode cL_law 130 = .ok (.iaload, 1) := by decide +kernel
theorem dL_law_131 : decode cL_law 131 = .ok (.i2l, 1) := by decide +kernel
theorem dL_law_132 : decode cL_law 132 = .ok (.bipush 32, 2) := by decide +kernel
theorem dL_law_134 : decode cL_law 134 = .ok (.lshl, 1) := by decide +kernel
theorem dL_law_135 : decode cL_law 135 = .ok (.aload_n 0, 1) := by decide +kernel
theorem dL_law_136 : decode cL_law 136 = .ok (.iload_n 3, 1) := by decide +kernel
theorem dL_law_137 : decode cL_law 137 = .ok (.iconst 3, 1) := by decide +kernel
theorem dL_law_138 : decode cL_law 138 = .ok (.iadd, 1) := by decide +kernel
theorem dL_law_139 : decode cL_law 139 = .ok (.iaload, 1) := by decide +kernel
theorem dL_law_140 : decode cL_law 140 = .ok (.i2l, 1) := by decide +kernel
theorem dL_law_141 : decode cL_law 141 = .ok (.ldc2_w 13, 3) := by decide +kernel
theorem dL_law_144 : decode cL_law 144 = .ok (.land, 1) := by decide +kernel
theorem dL_law_145 : decode cL_law 145 = .ok (.lor, 1) := by decide +kernel
theorem dL_law_146 : decode cL_law 146 = .ok (.invokevirtual 15, 3) := by decide +kernel
theorem dL_law_149 : decode cL_law 149 = .ok (.aload_n 2, 1) := by decide +kernel
theorem dL_law_150 : decode cL_law 150 = .ok (.aload_n 0, 1) := by decide +kernel
theorem dL_law_151 : decode cL_law 151 = .ok (.iload_n 3, 1) := by decide +kernel
theorem dL_law_152 : decode cL_law 152 = .ok (.iconst 1, 1) := by decide +kernel
theorem dL_law_153 : decode cL_law 153 = .ok (.iadd, 1) := by decide +kernel
theorem dL_law_154 : decode cL_law 154 = .ok (.iaload, 1) := by decide +kernel
theorem dL_law_155 : decode cL_law 155 = .ok (.aload_n 0, 1) := by decide +kernel
theorem dL_law_156 : decode cL_law 156 = .ok (.iload_n 3, 1) := by decide +kernel
theorem dL_law_157 : decode cL_law 157 = .ok (.iconst 2, 1) := by decide +kernel
theorem dL_law_158 : decode cL_law 158 = .ok (.iadd, 1) := by decide +kernel
theorem dL_law_159 : decode cL_law 159 = .ok (.iaload, 1) := by decide +kernel
theorem dL_law_160 : decode cL_law 160 = .ok (.i2l, 1) := by decide +kernel
theorem dL_law_161 : decode cL_law 161 = .ok (.bipush 32, 2) := by decide +kernel
theorem dL_law_163 : decode cL_law 163 = .ok (.lshl, 1) := by decide +kernel
theorem dL_law_164 : decode cL_law 164 = .ok (.aload_n 0, 1) := by decide +kernel
theorem dL_law_165 : decode cL_law 165 = .ok (.iload_n 3, 1) := by decide +kernel
theorem dL_law_166 : decode cL_law 166 = .ok (.iconst 3, 1) := by decide +kernel
theorem dL_law_167 : decode cL_law 167 = .ok (.iadd, 1) := by decide +kernel
theorem dL_law_168 : decode cL_law 168 = .ok (.iaload, 1) := by decide +kernel
theorem dL_law_169 : decode cL_law 169 = .ok (.i2l, 1) := by decide +kernel
theorem dL_law_170 : decode cL_law 170 = .ok (.ldc2_w 13, 3) := by decide +kernel
theorem dL_law_173 : decode cL_law 173 = .ok (.land, 1) := by decide +kernel
theorem dL_law_174 : decode cL_law 174 = .ok (.lor, 1) := by decide +kernel
theorem dL_law_175 : decode cL_law 175 = .ok (.invokevirtual 19, 3) := by decide +kernel
theorem dL_law_178 : decode cL_law 178 = .ok (.if_icmp .eq 571, 3) := by decide +kernel
theorem dL_law_181 : decode cL_law 181 = .ok (.iconst 0, 1) := by decide +kernel
theorem dL_law_182 : decode cL_law 182 = .ok (.ireturn, 1) := by decide +kernel
theorem dL_law_183 : decode cL_law 183 = .ok (.aload_n 1, 1) := by decide +kernel
theorem dL_law_184 : decode cL_law 184 = .ok (.aload_n 0, 1) := by decide +kernel
theorem dL_law_185 : decode cL_law 185 = .ok (.iload_n 3, 1) := by decide +kernel
theorem dL_law_186 : decode cL_law 186 = .ok (.iconst 1, 1) := by decide +kernel
theorem dL_law_187 : decode cL_law 187 = .ok (.iadd, 1) := by decide +kernel
theorem dL_law_188 : decode cL_law 188 = .ok (.iaload, 1) := by decide +kernel
theorem dL_law_189 : decode cL_law 189 = .ok (.aload_n 0, 1) := by decide +kernel
theorem dL_law_190 : decode cL_law 190 = .ok (.iload_n 3, 1) := by decide +kernel
theorem dL_law_191 : decode cL_law 191 = .ok (.iconst 2, 1) := by decide +kernel
theorem dL_law_192 : decode cL_law 192 = .ok (.iadd, 1) := by decide +kernel
theorem dL_law_193 : decode cL_law 193 = .ok (.iaload, 1) := by decide +kernel
theorem dL_law_194 : decode cL_law 194 = .ok (.aload_n 0, 1) := by decide +kernel
theorem dL_law_195 : decode cL_law 195 = .ok (.iload_n 3, 1) := by decide +kernel
theorem dL_law_196 : decode cL_law 196 = .ok (.iconst 3, 1) := by decide +kernel
theorem dL_law_197 : decode cL_law 197 = .ok (.iadd, 1) := by decide +kernel
theorem dL_law_198 : decode cL_law 198 = .ok (.iaload, 1) := by decide +kernel
theorem dL_law_199 : decode cL_law 199 = .ok (.invokevirtual 20, 3) := by decide +kernel
theorem dL_law_202 : decode cL_law 202 = .ok (.aload_n 2, 1) := by decide +kernel
theorem dL_law_203 : decode cL_law 203 = .ok (.aload_n 0, 1) := by decide +kernel
theorem dL_law_204 : decode cL_law 204 = .ok (.iload_n 3, 1) := by decide +kernel
theorem dL_law_205 : decode cL_law 205 = .ok (.iconst 1, 1) := by decide +kernel
theorem dL_law_206 : decode cL_law 206 = .ok (.iadd, 1) := by decide +kernel
theorem dL_law_207 : decode cL_law 207 = .ok (.iaload, 1) := by decide +kernel
theorem dL_law_208 : decode cL_law 208 = .ok (.aload_n 0, 1) := by decide +kernel
theorem dL_law_209 : decode cL_law 209 = .ok (.iload_n 3, 1) := by decide +kernel
theorem dL_law_210 : decode cL_law 210 = .ok (.iconst 2, 1) := by decide +kernel
theorem dL_law_211 : decode cL_law 211 = .ok (.iadd, 1) := by decide +kernel
theorem dL_law_212 : decode cL_law 212 = .ok (.iaload, 1) := by decide +kernel
theorem dL_law_213 : decode cL_law 213 = .ok (.aload_n 0, 1) := by decide +kernel
theorem dL_law_214 : decode cL_law 214 = .ok (.iload_n 3, 1) := by decide +kernel
theorem dL_law_215 : decode cL_law 215 = .ok (.iconst 3, 1) := by decide +kernel
theorem dL_law_216 : decode cL_law 216 = .ok (.iadd, 1) := by decide +kernel
theorem dL_law_217 : decode cL_law 217 = .ok (.iaload, 1) := by decide +kernel
theorem dL_law_218 : decode cL_law 218 = .ok (.invokevirtual 24, 3) := by decide +kernel
theorem dL_law_221 : decode cL_law 221 = .ok (.if_icmp .eq 528, 3) := by decide +kernel
theorem dL_law_224 : decode cL_law 224 = .ok (.iconst 0, 1) := by decide +kernel
theorem dL_law_225 : decode cL_law 225 = .ok (.ireturn, 1) := by decide +kernel
theorem dL_law_226 : decode cL_law 226 = .ok (.aload_n 1, 1) := by decide +kernel
theorem dL_law_227 : decode cL_law 227 = .ok (.aload_n 0, 1) := by decide +kernel
theorem dL_law_228 : decode cL_law 228 = .ok (.iload_n 3, 1) := by decide +kernel
theorem dL_law_229 : decode cL_law 229 = .ok (.iconst 1, 1) := by decide +kernel
theorem dL_law_230 : decode cL_law 230 = .ok (.iadd, 1) := by decide +kernel
theorem dL_law_231 : decode cL_law 231 = .ok (.iaload, 1) := by decide +kernel
theorem dL_law_232 : decode cL_law 232 = .ok (.invokevirtual 25, 3) := by decide +kernel
theorem dL_law_235 : decode cL_law 235 = .ok (.aload_n 2, 1) := by decide +kernel
theorem dL_law_236 : decode cL_law 236 = .ok (.aload_n 0, 1) := by decide +kernel
theorem dL_law_237 : decode cL_law 237 = .ok (.iload_n 3, 1) := by decide +kernel
theorem dL_law_238 : decode cL_law 238 = .ok (.iconst 1, 1) := by decide +kernel
theorem dL_law_239 : decode cL_law 239 = .ok (.iadd, 1) := by decide +kernel
theorem dL_law_240 : decode cL_law 240 = .ok (.iaload, 1) := by decide +kernel
theorem dL_law_241 : decode cL_law 241 = .ok (.invokevirtual 29, 3) := by decide +kernel
theorem dL_law_244 : decode cL_law 244 = .ok (.if_icmp .eq 505, 3) := by decide +kernel
theorem dL_law_247 : decode cL_law 247 = .ok (.iconst 0, 1) := by decide +kernel
theorem dL_law_248 : decode cL_law 248 = .ok (.ireturn, 1) := by decide +kernel
theorem dL_law_249 : decode cL_law 249 = .ok (.aload_n 1, 1) := by decide +kernel
theorem dL_law_250 : decode cL_law 250 = .ok (.invokevirtual 30, 3) := by decide +kernel
theorem dL_law_253 : decode cL_law 253 = .ok (.aload_n 2, 1) := by decide +kernel
theorem dL_law_254 : decode cL_law 254 = .ok (.invokevirtual 34, 3) := by decide +kernel
theorem dL_law_257 : decode cL_law 257 = .ok (.if_icmp .eq 492, 3) := by decide +kernel
theorem dL_law_260 : decode cL_law 260 = .ok (.iconst 0, 1) := by decide +kernel
theorem dL_law_261 : decode cL_law 261 = .ok (.ireturn, 1) := by decide +kernel
theorem dL_law_262 : decode cL_law 262 = .ok (.aload_n 1, 1) := by decide +kernel
theorem dL_law_263 : decode cL_law 263 = .ok (.invokevirtual 35, 3) := by decide +kernel
theorem dL_law_266 : decode cL_law 266 = .ok (.aload_n 2, 1) := by decide +kernel
theorem dL_law_267 : decode cL_law 267 = .ok (.invokevirtual 38, 3) := by decide +kernel
theorem dL_law_270 : decode cL_law 270 = .ok (.if_icmp .eq 479, 3) := by decide +kernel
theorem dL_law_273 : decode cL_law 273 = .ok (.iconst 0, 1) := by decide +kernel
theorem dL_law_274 : decode cL_law 274 = .ok (.ireturn, 1) := by decide +kernel
theorem dL_law_275 : decode cL_law 275 = .ok (.aload_n 1, 1) := by decide +kernel
theorem dL_law_276 : decode cL_law 276 = .ok (.aload_n 0, 1) := by decide +kernel
theorem dL_law_277 : decode cL_law 277 = .ok (.iload_n 3, 1) := by decide +kernel
theorem dL_law_278 : decode cL_law 278 = .ok (.iconst 1, 1) := by decide +kernel
theorem dL_law_279 : decode cL_law 279 = .ok (.iadd, 1) := by decide +kernel
theorem dL_law_280 : decode cL_law 280 = .ok (.iaload, 1) := by decide +kernel
theorem dL_law_281 : decode cL_law 281 = .ok (.aload_n 0, 1) := by decide +kernel
theorem dL_law_282 : decode cL_law 282 = .ok (.iload_n 3, 1) := by decide +kernel
theorem dL_law_283 : decode cL_law 283 = .ok (.iconst 2, 1) := by decide +kernel
theorem dL_law_284 : decode cL_law 284 = .ok (.iadd, 1) := by decide +kernel
theorem dL_law_285 : decode cL_law 285 = .ok (.iaload, 1) := by decide +kernel
theorem dL_law_286 : decode cL_law 286 = .ok (.invokevirtual 39, 3) := by decide +kernel
theorem dL_law_289 : decode cL_law 289 = .ok (.aload_n 2, 1) := by decide +kernel
theorem dL_law_290 : decode cL_law 290 = .ok (.aload_n 0, 1) := by decide +kernel
theorem dL_law_291 : decode cL_law 291 = .ok (.iload_n 3, 1) := by decide +kernel
theorem dL_law_292 : decode cL_law 292 = .ok (.iconst 1, 1) := by decide +kernel
theorem dL_law_293 : decode cL_law 293 = .ok (.iadd, 1) := by decide +kernel
theorem dL_law_294 : decode cL_law 294 = .ok (.iaload, 1) := by decide +kernel
theorem dL_law_295 : decode cL_law 295 = .ok (.aload_n 0, 1) := by decide +kernel
theorem dL_law_296 : decode cL_law 296 = .ok (.iload_n 3, 1) := by decide +kernel
theorem dL_law_297 : decode cL_law 297 = .ok (.iconst 2, 1) := by decide +kernel
theorem dL_law_298 : decode cL_law 298 = .ok (.iadd, 1) := by decide +kernel
theorem dL_law_299 : decode cL_law 299 = .ok (.iaload, 1) := by decide +kernel
theorem dL_law_300 : decode cL_law 300 = .ok (.invokevirtual 43, 3) := by decide +kernel
theorem dL_law_303 : decode cL_law 303 = .ok (.if_icmp .eq 446, 3) := by decide +kernel
theorem dL_law_306 : decode cL_law 306 = .ok (.iconst 0, 1) := by decide +kernel
theorem dL_law_307 : decode cL_law 307 = .ok (.ireturn, 1) := by decide +kernel
theorem dL_law_308 : decode cL_law 308 = .ok (.aload_n 1, 1) := by decide +kernel
theorem dL_law_309 : decode cL_law 309 = .ok (.aload_n 0, 1) := by decide +kernel
theorem dL_law_310 : decode cL_law 310 = .ok (.iload_n 3, 1) := by decide +kernel
theorem dL_law_311 : decode cL_law 311 = .ok (.iconst 1, 1) := by decide +kernel
theorem dL_law_312 : decode cL_law 312 = .ok (.iadd, 1) := by decide +kernel
theorem dL_law_313 : decode cL_law 313 = .ok (.iaload, 1) := by decide +kernel
theorem dL_law_314 : decode cL_law 314 = .ok (.aload_n 0, 1) := by decide +kernel
theorem dL_law_315 : decode cL_law 315 = .ok (.iload_n 3, 1) := by decide +kernel
theorem dL_law_316 : decode cL_law 316 = .ok (.iconst 2, 1) := by decide +kernel
theorem dL_law_317 : decode cL_law 317 = .ok (.iadd, 1) := by decide +kernel
theorem dL_law_318 : decode cL_law 318 = .ok (.iaload, 1) := by decide +kernel
theorem dL_law_319 : decode cL_law 319 = .ok (.invokevirtual 44, 3) := by decide +kernel
theorem dL_law_322 : decode cL_law 322 = .ok (.aload_n 2, 1) := by decide +kernel
theorem dL_law_323 : decode cL_law 323 = .ok (.aload_n 0, 1) := by decide +kernel
theorem dL_law_324 : decode cL_law 324 = .ok (.iload_n 3, 1) := by decide +kernel
theorem dL_law_325 : decode cL_law 325 = .ok (.iconst 1, 1) := by decide +kernel
theorem dL_law_326 : decode cL_law 326 = .ok (.iadd, 1) := by decide +kernel
theorem dL_law_327 : decode cL_law 327 = .ok (.iaload, 1) := by decide +kernel
theorem dL_law_328 : decode cL_law 328 = .ok (.aload_n 0, 1) := by decide +kernel
theorem dL_law_329 : decode cL_law 329 = .ok (.iload_n 3, 1) := by decide +kernel
theorem dL_law_330 : decode cL_law 330 = .ok (.iconst 2, 1) := by decide +kernel
theorem dL_law_331 : decode cL_law 331 = .ok (.iadd, 1) := by decide +kernel
theorem dL_law_332 : decode cL_law 332 = .ok (.iaload, 1) := by decide +kernel
theorem dL_law_333 : decode cL_law 333 = .ok (.invokevirtual 47, 3) := by decide +kernel
theorem dL_law_336 : decode cL_law 336 = .ok (.if_icmp .eq 413, 3) := by decide +kernel
theorem dL_law_339 : decode cL_law 339 = .ok (.iconst 0, 1) := by decide +kernel
theorem dL_law_340 : decode cL_law 340 = .ok (.ireturn, 1) := by decide +kernel
theorem dL_law_341 : decode cL_law 341 = .ok (.aload_n 1, 1) := by decide +kernel
theorem dL_law_342 : decode cL_law 342 = .ok (.aload_n 0, 1) := by decide +kernel
theorem dL_law_343 : decode cL_law 343 = .ok (.iload_n 3, 1) := by decide +kernel
theorem dL_law_344 : decode cL_law 344 = .ok (.iconst 1, 1) := by decide +kernel
theorem dL_law_345 : decode cL_law 345 = .ok (.iadd, 1) := by decide +kernel
theorem dL_law_346 : decode cL_law 346 = .ok (.iaload, 1) := by decide +kernel
theorem dL_law_347 : decode cL_law 347 = .ok (.aload_n 0, 1) := by decide +kernel
theorem dL_law_348 : decode cL_law 348 = .ok (.iload_n 3, 1) := by decide +kernel
theorem dL_law_349 : decode cL_law 349 = .ok (.iconst 2, 1) := by decide +kernel
theorem dL_law_350 : decode cL_law 350 = .ok (.iadd, 1) := by decide +kernel
theorem dL_law_351 : decode cL_law 351 = .ok (.iaload, 1) := by decide +kernel
theorem dL_law_352 : decode cL_law 352 = .ok (.invokevirtual 48, 3) := by decide +kernel
theorem dL_law_355 : decode cL_law 355 = .ok (.aload_n 2, 1) := by decide +kernel
theorem dL_law_356 : decode cL_law 356 = .ok (.aload_n 0, 1) := by decide +kernel
theorem dL_law_357 : decode cL_law 357 = .ok (.iload_n 3, 1) := by decide +kernel
theorem dL_law_358 : decode cL_law 358 = .ok (.iconst 1, 1) := by decide +kernel
theorem dL_law_359 : decode cL_law 359 = .ok (.iadd, 1) := by decide +kernel
theorem dL_law_360 : decode cL_law 360 = .ok (.iaload, 1) := by decide +kernel
theorem dL_law_361 : decode cL_law 361 = .ok (.aload_n 0, 1) := by decide +kernel
theorem dL_law_362 : decode cL_law 362 = .ok (.iload_n 3, 1) := by decide +kernel
theorem dL_law_363 : decode cL_law 363 = .ok (.iconst 2, 1) := by decide +kernel
theorem dL_law_364 : decode cL_law 364 = .ok (.iadd, 1) := by decide +kernel
theorem dL_law_365 : decode cL_law 365 = .ok (.iaload, 1) := by decide +kernel
theorem dL_law_366 : decode cL_law 366 = .ok (.invokevirtual 51, 3) := by decide +kernel
theorem dL_law_369 : decode cL_law 369 = .ok (.if_icmp .eq 380, 3) := by decide +kernel
theorem dL_law_372 : decode cL_law 372 = .ok (.iconst 0, 1) := by decide +kernel
theorem dL_law_373 : decode cL_law 373 = .ok (.ireturn, 1) := by decide +kernel
theorem dL_law_374 : decode cL_law 374 = .ok (.aload_n 1, 1) := by decide +kernel
theorem dL_law_375 : decode cL_law 375 = .ok (.aload_n 0, 1) := by decide +kernel
theorem dL_law_376 : decode cL_law 376 = .ok (.iload_n 3, 1) := by decide +kernel
theorem dL_law_377 : decode cL_law 377 = .ok (.iconst 1, 1) := by decide +kernel
theorem dL_law_378 : decode cL_law 378 = .ok (.iadd, 1) := by decide +kernel
theorem dL_law_379 : decode cL_law 379 = .ok (.iaload, 1) := by decide +kernel
theorem dL_law_380 : decode cL_law 380 = .ok (.aload_n 0, 1) := by decide +kernel
theorem dL_law_381 : decode cL_law 381 = .ok (.iload_n 3, 1) := by decide +kernel
theorem dL_law_382 : decode cL_law 382 = .ok (.iconst 2, 1) := by decide +kernel
theorem dL_law_383 : decode cL_law 383 = .ok (.iadd, 1) := by decide +kernel
theorem dL_law_384 : decode cL_law 384 = .ok (.iaload, 1) := by decide +kernel
theorem dL_law_385 : decode cL_law 385 = .ok (.invokevirtual 52, 3) := by decide +kernel
theorem dL_law_388 : decode cL_law 388 = .ok (.aload_n 2, 1) := by decide +kernel
theorem dL_law_389 : decode cL_law 389 = .ok (.aload_n 0, 1) := by decide +kernel
theorem dL_law_390 : decode cL_law 390 = .ok (.iload_n 3, 1) := by decide +kernel
theorem dL_law_391 : decode cL_law 391 = .ok (.iconst 1, 1) := by decide +kernel
theorem dL_law_392 : decode cL_law 392 = .ok (.iadd, 1) := by decide +kernel
theorem dL_law_393 : decode cL_law 393 = .ok (.iaload, 1) := by decide +kernel
theorem dL_law_394 : decode cL_law 394 = .ok (.aload_n 0, 1) := by decide +kernel
theorem dL_law_395 : decode cL_law 395 = .ok (.iload_n 3, 1) := by decide +kernel
theorem dL_law_396 : decode cL_law 396 = .ok (.iconst 2, 1) := by decide +kernel
theorem dL_law_397 : decode cL_law 397 = .ok (.iadd, 1) := by decide +kernel
theorem dL_law_398 : decode cL_law 398 = .ok (.iaload, 1) := by decide +kernel
theorem dL_law_399 : decode cL_law 399 = .ok (.invokevirtual 55, 3) := by decide +kernel
theorem dL_law_402 : decode cL_law 402 = .ok (.if_icmp .eq 347, 3) := by decide +kernel
theorem dL_law_405 : decode cL_law 405 = .ok (.iconst 0, 1) := by decide +kernel
theorem dL_law_406 : decode cL_law 406 = .ok (.ireturn, 1) := by decide +kernel
theorem dL_law_407 : decode cL_law 407 = .ok (.aload_n 1, 1) := by decide +kernel
theorem dL_law_408 : decode cL_law 408 = .ok (.invokevirtual 56, 3) := by decide +kernel
theorem dL_law_411 : decode cL_law 411 = .ok (.aload_n 2, 1) := by decide +kernel
theorem dL_law_412 : decode cL_law 412 = .ok (.invokevirtual 59, 3) := by decide +kernel
theorem dL_law_415 : decode cL_law 415 = .ok (.if_icmp .eq 334, 3) := by decide +kernel
theorem dL_law_418 : decode cL_law 418 = .ok (.iconst 0, 1) := by decide +kernel
theorem dL_law_419 : decode cL_law 419 = .ok (.ireturn, 1) := by decide +kernel
theorem dL_law_420 : decode cL_law 420 = .ok (.aload_n 1, 1) := by decide +kernel
theorem dL_law_421 : decode cL_law 421 = .ok (.aload_n 0, 1) := by decide +kernel
theorem dL_law_422 : decode cL_law 422 = .ok (.iload_n 3, 1) := by decide +kernel
theorem dL_law_423 : decode cL_law 423 = .ok (.iconst 1, 1) := by decide +kernel
theorem dL_law_424 : decode cL_law 424 = .ok (.iadd, 1) := by decide +kernel
end
section
set_option maxRecDepth 100000
theorem dL_law_425 : decode cL_law 425 = .ok (.iaload, 1) := by decide +kernel
theorem dL_law_426 : decode cL_law 426 = .ok (.aload_n 0, 1) := by decide +kernel
theorem dL_law_427 : decode cL_law 427 = .ok (.iload_n 3, 1) := by decide +kernel
theorem dL_law_428 : decode cL_law 428 = .ok (.iconst 2, 1) := by decide +kernel
theorem dL_law_429 : decode cL_law 429 = .ok (.iadd, 1) := by decide +kernel
theorem dL_law_430 : decode cL_law 430 = .ok (.iaload, 1) := by decide +kernel
theorem dL_law_431 : decode cL_law 431 = .ok (.invokevirtual 60, 3) := by decide +kernel
theorem dL_law_434 : decode cL_law 434 = .ok (.aload_n 2, 1) := by decide +kernel
theorem dL_law_435 : decode cL_law 435 = .ok (.aload_n 0, 1) := by decide +kernel
theorem dL_law_436 : decode cL_law 436 = .ok (.iload_n 3, 1) := by decide +kernel
theorem dL_law_437 : decode cL_law 437 = .ok (.iconst 1, 1) := by decide +kernel
theorem dL_law_438 : decode cL_law 438 = .ok (.iadd, 1) := by decide +kernel
theorem dL_law_439 : decode cL_law 439 = .ok (.iaload, 1) := by decide +kernel
theorem dL_law_440 : decode cL_law 440 = .ok (.aload_n 0, 1) := by decide +kernel
theorem dL_law_441 : decode cL_law 441 = .ok (.iload_n 3, 1) := by decide +kernel
theorem dL_law_442 : decode cL_law 442 = .ok (.iconst 2, 1) := by decide +kernel
theorem dL_law_443 : decode cL_law 443 = .ok (.iadd, 1) := by decide +kernel
theorem dL_law_444 : decode cL_law 444 = .ok (.iaload, 1) := by decide +kernel
theorem dL_law_445 : decode cL_law 445 = .ok (.invokevirtual 64, 3) := by decide +kernel
theorem dL_law_448 : decode cL_law 448 = .ok (.lcmp, 1) := by decide +kernel
theorem dL_law_449 : decode cL_law 449 = .ok (.ifCond .eq 300, 3) := by decide +kernel
theorem dL_law_452 : decode cL_law 452 = .ok (.iconst 0, 1) := by decide +kernel
theorem dL_law_453 : decode cL_law 453 = .ok (.ireturn, 1) := by decide +kernel
theorem dL_law_454 : decode cL_law 454 = .ok (.aload_n 1, 1) := by decide +kernel
theorem dL_law_455 : decode cL_law 455 = .ok (.aload_n 0, 1) := by decide +kernel
theorem dL_law_456 : decode cL_law 456 = .ok (.iload_n 3, 1) := by decide +kernel
theorem dL_law_457 : decode cL_law 457 = .ok (.iconst 1, 1) := by decide +kernel
theorem dL_law_458 : decode cL_law 458 = .ok (.iadd, 1) := by decide +kernel
theorem dL_law_459 : decode cL_law 459 = .ok (.iaload, 1) := by decide +kernel
theorem dL_law_460 : decode cL_law 460 = .ok (.invokevirtual 65, 3) := by decide +kernel
theorem dL_law_463 : decode cL_law 463 = .ok (.aload_n 2, 1) := by decide +kernel
theorem dL_law_464 : decode cL_law 464 = .ok (.aload_n 0, 1) := by decide +kernel
theorem dL_law_465 : decode cL_law 465 = .ok (.iload_n 3, 1) := by decide +kernel
theorem dL_law_466 : decode cL_law 466 = .ok (.iconst 1, 1) := by decide +kernel
theorem dL_law_467 : decode cL_law 467 = .ok (.iadd, 1) := by decide +kernel
theorem dL_law_468 : decode cL_law 468 = .ok (.iaload, 1) := by decide +kernel
theorem dL_law_469 : decode cL_law 469 = .ok (.invokevirtual 69, 3) := by decide +kernel
theorem dL_law_472 : decode cL_law 472 = .ok (.lcmp, 1) := by decide +kernel
theorem dL_law_473 : decode cL_law 473 = .ok (.ifCond .eq 276, 3) := by decide +kernel
theorem dL_law_476 : decode cL_law 476 = .ok (.iconst 0, 1) := by decide +kernel
theorem dL_law_477 : decode cL_law 477 = .ok (.ireturn, 1) := by decide +kernel
theorem dL_law_478 : decode cL_law 478 = .ok (.aload_n 1, 1) := by decide +kernel
theorem dL_law_479 : decode cL_law 479 = .ok (.aload_n 0, 1) := by decide +kernel
theorem dL_law_480 : decode cL_law 480 = .ok (.iload_n 3, 1) := by decide +kernel
theorem dL_law_481 : decode cL_law 481 = .ok (.iconst 1, 1) := by decide +kernel
theorem dL_law_482 : decode cL_law 482 = .ok (.iadd, 1) := by decide +kernel
theorem dL_law_483 : decode cL_law 483 = .ok (.iaload, 1) := by decide +kernel
theorem dL_law_484 : decode cL_law 484 = .ok (.aload_n 0, 1) := by decide +kernel
theorem dL_law_485 : decode cL_law 485 = .ok (.iload_n 3, 1) := by decide +kernel
theorem dL_law_486 : decode cL_law 486 = .ok (.iconst 2, 1) := by decide +kernel
theorem dL_law_487 : decode cL_law 487 = .ok (.iadd, 1) := by decide +kernel
theorem dL_law_488 : decode cL_law 488 = .ok (.iaload, 1) := by decide +kernel
theorem dL_law_489 : decode cL_law 489 = .ok (.i2l, 1) := by decide +kernel
theorem dL_law_490 : decode cL_law 490 = .ok (.bipush 32, 2) := by decide +kernel
theorem dL_law_492 : decode cL_law 492 = .ok (.lshl, 1) := by decide +kernel
theorem dL_law_493 : decode cL_law 493 = .ok (.aload_n 0, 1) := by decide +kernel
theorem dL_law_494 : decode cL_law 494 = .ok (.iload_n 3, 1) := by decide +kernel
theorem dL_law_495 : decode cL_law 495 = .ok (.iconst 3, 1) := by decide +kernel
theorem dL_law_496 : decode cL_law 496 = .ok (.iadd, 1) := by decide +kernel
theorem dL_law_497 : decode cL_law 497 = .ok (.iaload, 1) := by decide +kernel
theorem dL_law_498 : decode cL_law 498 = .ok (.i2l, 1) := by decide +kernel
theorem dL_law_499 : decode cL_law 499 = .ok (.ldc2_w 13, 3) := by decide +kernel
theorem dL_law_502 : decode cL_law 502 = .ok (.land, 1) := by decide +kernel
theorem dL_law_503 : decode cL_law 503 = .ok (.lor, 1) := by decide +kernel
theorem dL_law_504 : decode cL_law 504 = .ok (.invokevirtual 70, 3) := by decide +kernel
theorem dL_law_507 : decode cL_law 507 = .ok (.aload_n 2, 1) := by decide +kernel
theorem dL_law_508 : decode cL_law 508 = .ok (.aload_n 0, 1) := by decide +kernel
theorem dL_law_509 : decode cL_law 509 = .ok (.iload_n 3, 1) := by decide +kernel
theorem dL_law_510 : decode cL_law 510 = .ok (.iconst 1, 1) := by decide +kernel
theorem dL_law_511 : decode cL_law 511 = .ok (.iadd, 1) := by decide +kernel
theorem dL_law_512 : decode cL_law 512 = .ok (.iaload, 1) := by decide +kernel
theorem dL_law_513 : decode cL_law 513 = .ok (.aload_n 0, 1) := by decide +kernel
theorem dL_law_514 : decode cL_law 514 = .ok (.iload_n 3, 1) := by decide +kernel
theorem dL_law_515 : decode cL_law 515 = .ok (.iconst 2, 1) := by decide +kernel
theorem dL_law_516 : decode cL_law 516 = .ok (.iadd, 1) := by decide +kernel
theorem dL_law_517 : decode cL_law 517 = .ok (.iaload, 1) := by decide +kernel
theorem dL_law_518 : decode cL_law 518 = .ok (.i2l, 1) := by decide +kernel
theorem dL_law_519 : decode cL_law 519 = .ok (.bipush 32, 2) := by decide +kernel
theorem dL_law_521 : decode cL_law 521 = .ok (.lshl, 1) := by decide +kernel
theorem dL_law_522 : decode cL_law 522 = .ok (.aload_n 0, 1) := by decide +kernel
theorem dL_law_523 : decode cL_law 523 = .ok (.iload_n 3, 1) := by decide +kernel
theorem dL_law_524 : decode cL_law 524 = .ok (.iconst 3, 1) := by decide +kernel
theorem dL_law_525 : decode cL_law 525 = .ok (.iadd, 1) := by decide +kernel
theorem dL_law_526 : decode cL_law 526 = .ok (.iaload, 1) := by decide +kernel
theorem dL_law_527 : decode cL_law 527 = .ok (.i2l, 1) := by decide +kernel
theorem dL_law_528 : decode cL_law 528 = .ok (.ldc2_w 13, 3) := by decide +kernel
theorem dL_law_531 : decode cL_law 531 = .ok (.land, 1) := by decide +kernel
theorem dL_law_532 : decode cL_law 532 = .ok (.lor, 1) := by decide +kernel
theorem dL_law_533 : decode cL_law 533 = .ok (.invokevirtual 74, 3) := by decide +kernel
theorem dL_law_536 : decode cL_law 536 = .ok (.lcmp, 1) := by decide +kernel
theorem dL_law_537 : decode cL_law 537 = .ok (.ifCond .eq 212, 3) := by decide +kernel
theorem dL_law_540 : decode cL_law 540 = .ok (.iconst 0, 1) := by decide +kernel
theorem dL_law_541 : decode cL_law 541 = .ok (.ireturn, 1) := by decide +kernel
theorem dL_law_542 : decode cL_law 542 = .ok (.aload_n 1, 1) := by decide +kernel
theorem dL_law_543 : decode cL_law 543 = .ok (.aload_n 0, 1) := by decide +kernel
theorem dL_law_544 : decode cL_law 544 = .ok (.iload_n 3, 1) := by decide +kernel
theorem dL_law_545 : decode cL_law 545 = .ok (.iconst 1, 1) := by decide +kernel
theorem dL_law_546 : decode cL_law 546 = .ok (.iadd, 1) := by decide +kernel
theorem dL_law_547 : decode cL_law 547 = .ok (.iaload, 1) := by decide +kernel
theorem dL_law_548 : decode cL_law 548 = .ok (.aload_n 0, 1) := by decide +kernel
theorem dL_law_549 : decode cL_law 549 = .ok (.iload_n 3, 1) := by decide +kernel
theorem dL_law_550 : decode cL_law 550 = .ok (.iconst 2, 1) := by decide +kernel
theorem dL_law_551 : decode cL_law 551 = .ok (.iadd, 1) := by decide +kernel
theorem dL_law_552 : decode cL_law 552 = .ok (.iaload, 1) := by decide +kernel
theorem dL_law_553 : decode cL_law 553 = .ok (.i2l, 1) := by decide +kernel
theorem dL_law_554 : decode cL_law 554 = .ok (.bipush 32, 2) := by decide +kernel
theorem dL_law_556 : decode cL_law 556 = .ok (.lshl, 1) := by decide +kernel
theorem dL_law_557 : decode cL_law 557 = .ok (.aload_n 0, 1) := by decide +kernel
theorem dL_law_558 : decode cL_law 558 = .ok (.iload_n 3, 1) := by decide +kernel
theorem dL_law_559 : decode cL_law 559 = .ok (.iconst 3, 1) := by decide +kernel
theorem dL_law_560 : decode cL_law 560 = .ok (.iadd, 1) := by decide +kernel
theorem dL_law_561 : decode cL_law 561 = .ok (.iaload, 1) := by decide +kernel
theorem dL_law_562 : decode cL_law 562 = .ok (.i2l, 1) := by decide +kernel
theorem dL_law_563 : decode cL_law 563 = .ok (.ldc2_w 13, 3) := by decide +kernel
theorem dL_law_566 : decode cL_law 566 = .ok (.land, 1) := by decide +kernel
theorem dL_law_567 : decode cL_law 567 = .ok (.lor, 1) := by decide +kernel
theorem dL_law_568 : decode cL_law 568 = .ok (.invokevirtual 75, 3) := by decide +kernel
theorem dL_law_571 : decode cL_law 571 = .ok (.aload_n 2, 1) := by decide +kernel
theorem dL_law_572 : decode cL_law 572 = .ok (.aload_n 0, 1) := by decide +kernel
theorem dL_law_573 : decode cL_law 573 = .ok (.iload_n 3, 1) := by decide +kernel
theorem dL_law_574 : decode cL_law 574 = .ok (.iconst 1, 1) := by decide +kernel
theorem dL_law_575 : decode cL_law 575 = .ok (.iadd, 1) := by decide +kernel
theorem dL_law_576 : decode cL_law 576 = .ok (.iaload, 1) := by decide +kernel
theorem dL_law_577 : decode cL_law 577 = .ok (.aload_n 0, 1) := by decide +kernel
theorem dL_law_578 : decode cL_law 578 = .ok (.iload_n 3, 1) := by decide +kernel
theorem dL_law_579 : decode cL_law 579 = .ok (.iconst 2, 1) := by decide +kernel
theorem dL_law_580 : decode cL_law 580 = .ok (.iadd, 1) := by decide +kernel
theorem dL_law_581 : decode cL_law 581 = .ok (.iaload, 1) := by decide +kernel
theorem dL_law_582 : decode cL_law 582 = .ok (.i2l, 1) := by decide +kernel
theorem dL_law_583 : decode cL_law 583 = .ok (.bipush 32, 2) := by decide +kernel
theorem dL_law_585 : decode cL_law 585 = .ok (.lshl, 1) := by decide +kernel
theorem dL_law_586 : decode cL_law 586 = .ok (.aload_n 0, 1) := by decide +kernel
theorem dL_law_587 : decode cL_law 587 = .ok (.iload_n 3, 1) := by decide +kernel
theorem dL_law_588 : decode cL_law 588 = .ok (.iconst 3, 1) := by decide +kernel
theorem dL_law_589 : decode cL_law 589 = .ok (.iadd, 1) := by decide +kernel
theorem dL_law_590 : decode cL_law 590 = .ok (.iaload, 1) := by decide +kernel
theorem dL_law_591 : decode cL_law 591 = .ok (.i2l, 1) := by decide +kernel
theorem dL_law_592 : decode cL_law 592 = .ok (.ldc2_w 13, 3) := by decide +kernel
theorem dL_law_595 : decode cL_law 595 = .ok (.land, 1) := by decide +kernel
theorem dL_law_596 : decode cL_law 596 = .ok (.lor, 1) := by decide +kernel
theorem dL_law_597 : decode cL_law 597 = .ok (.invokevirtual 78, 3) := by decide +kernel
theorem dL_law_600 : decode cL_law 600 = .ok (.lcmp, 1) := by decide +kernel
theorem dL_law_601 : decode cL_law 601 = .ok (.ifCond .eq 148, 3) := by decide +kernel
theorem dL_law_604 : decode cL_law 604 = .ok (.iconst 0, 1) := by decide +kernel
theorem dL_law_605 : decode cL_law 605 = .ok (.ireturn, 1) := by decide +kernel
theorem dL_law_606 : decode cL_law 606 = .ok (.aload_n 1, 1) := by decide +kernel
theorem dL_law_607 : decode cL_law 607 = .ok (.aload_n 0, 1) := by decide +kernel
theorem dL_law_608 : decode cL_law 608 = .ok (.iload_n 3, 1) := by decide +kernel
theorem dL_law_609 : decode cL_law 609 = .ok (.iconst 1, 1) := by decide +kernel
theorem dL_law_610 : decode cL_law 610 = .ok (.iadd, 1) := by decide +kernel
theorem dL_law_611 : decode cL_law 611 = .ok (.iaload, 1) := by decide +kernel
theorem dL_law_612 : decode cL_law 612 = .ok (.aload_n 0, 1) := by decide +kernel
theorem dL_law_613 : decode cL_law 613 = .ok (.iload_n 3, 1) := by decide +kernel
theorem dL_law_614 : decode cL_law 614 = .ok (.iconst 2, 1) := by decide +kernel
theorem dL_law_615 : decode cL_law 615 = .ok (.iadd, 1) := by decide +kernel
theorem dL_law_616 : decode cL_law 616 = .ok (.iaload, 1) := by decide +kernel
theorem dL_law_617 : decode cL_law 617 = .ok (.i2l, 1) := by decide +kernel
theorem dL_law_618 : decode cL_law 618 = .ok (.bipush 32, 2) := by decide +kernel
theorem dL_law_620 : decode cL_law 620 = .ok (.lshl, 1) := by decide +kernel
theorem dL_law_621 : decode cL_law 621 = .ok (.aload_n 0, 1) := by decide +kernel
theorem dL_law_622 : decode cL_law 622 = .ok (.iload_n 3, 1) := by decide +kernel
theorem dL_law_623 : decode cL_law 623 = .ok (.iconst 3, 1) := by decide +kernel
theorem dL_law_624 : decode cL_law 624 = .ok (.iadd, 1) := by decide +kernel
theorem dL_law_625 : decode cL_law 625 = .ok (.iaload, 1) := by decide +kernel
theorem dL_law_626 : decode cL_law 626 = .ok (.i2l, 1) := by decide +kernel
theorem dL_law_627 : decode cL_law 627 = .ok (.ldc2_w 13, 3) := by decide +kernel
theorem dL_law_630 : decode cL_law 630 = .ok (.land, 1) := by decide +kernel
theorem dL_law_631 : decode cL_law 631 = .ok (.lor, 1) := by decide +kernel
theorem dL_law_632 : decode cL_law 632 = .ok (.invokevirtual 79, 3) := by decide +kernel
theorem dL_law_635 : decode cL_law 635 = .ok (.aload_n 2, 1) := by decide +kernel
theorem dL_law_636 : decode cL_law 636 = .ok (.aload_n 0, 1) := by decide +kernel
theorem dL_law_637 : decode cL_law 637 = .ok (.iload_n 3, 1) := by decide +kernel
theorem dL_law_638 : decode cL_law 638 = .ok (.iconst 1, 1) := by decide +kernel
theorem dL_law_639 : decode cL_law 639 = .ok (.iadd, 1) := by decide +kernel
theorem dL_law_640 : decode cL_law 640 = .ok (.iaload, 1) := by decide +kernel
theorem dL_law_641 : decode cL_law 641 = .ok (.aload_n 0, 1) := by decide +kernel
theorem dL_law_642 : decode cL_law 642 = .ok (.iload_n 3, 1) := by decide +kernel
theorem dL_law_643 : decode cL_law 643 = .ok (.iconst 2, 1) := by decide +kernel
theorem dL_law_644 : decode cL_law 644 = .ok (.iadd, 1) := by decide +kernel
theorem dL_law_645 : decode cL_law 645 = .ok (.iaload, 1) := by decide +kernel
theorem dL_law_646 : decode cL_law 646 = .ok (.i2l, 1) := by decide +kernel
theorem dL_law_647 : decode cL_law 647 = .ok (.bipush 32, 2) := by decide +kernel
theorem dL_law_649 : decode cL_law 649 = .ok (.lshl, 1) := by decide +kernel
theorem dL_law_650 : decode cL_law 650 = .ok (.aload_n 0, 1) := by decide +kernel
theorem dL_law_651 : decode cL_law 651 = .ok (.iload_n 3, 1) := by decide +kernel
theorem dL_law_652 : decode cL_law 652 = .ok (.iconst 3, 1) := by decide +kernel
theorem dL_law_653 : decode cL_law 653 = .ok (.iadd, 1) := by decide +kernel
theorem dL_law_654 : decode cL_law 654 = .ok (.iaload, 1) := by decide +kernel
theorem dL_law_655 : decode cL_law 655 = .ok (.i2l, 1) := by decide +kernel
theorem dL_law_656 : decode cL_law 656 = .ok (.ldc2_w 13, 3) := by decide +kernel
theorem dL_law_659 : decode cL_law 659 = .ok (.land, 1) := by decide +kernel
theorem dL_law_660 : decode cL_law 660 = .ok (.lor, 1) := by decide +kernel
theorem dL_law_661 : decode cL_law 661 = .ok (.invokevirtual 82, 3) := by decide +kernel
theorem dL_law_664 : decode cL_law 664 = .ok (.lcmp, 1) := by decide +kernel
theorem dL_law_665 : decode cL_law 665 = .ok (.ifCond .eq 84, 3) := by decide +kernel
theorem dL_law_668 : decode cL_law 668 = .ok (.iconst 0, 1) := by decide +kernel
theorem dL_law_669 : decode cL_law 669 = .ok (.ireturn, 1) := by decide +kernel
theorem dL_law_670 : decode cL_law 670 = .ok (.aload_n 1, 1) := by decide +kernel
theorem dL_law_671 : decode cL_law 671 = .ok (.aload_n 0, 1) := by decide +kernel
theorem dL_law_672 : decode cL_law 672 = .ok (.iload_n 3, 1) := by decide +kernel
theorem dL_law_673 : decode cL_law 673 = .ok (.iconst 1, 1) := by decide +kernel
theorem dL_law_674 : decode cL_law 674 = .ok (.iadd, 1) := by decide +kernel
theorem dL_law_675 : decode cL_law 675 = .ok (.iaload, 1) := by decide +kernel
theorem dL_law_676 : decode cL_law 676 = .ok (.aload_n 0, 1) := by decide +kernel
theorem dL_law_677 : decode cL_law 677 = .ok (.iload_n 3, 1) := by decide +kernel
theorem dL_law_678 : decode cL_law 678 = .ok (.iconst 2, 1) := by decide +kernel
theorem dL_law_679 : decode cL_law 679 = .ok (.iadd, 1) := by decide +kernel
theorem dL_law_680 : decode cL_law 680 = .ok (.iaload, 1) := by decide +kernel
theorem dL_law_681 : decode cL_law 681 = .ok (.invokevirtual 83, 3) := by decide +kernel
theorem dL_law_684 : decode cL_law 684 = .ok (.aload_n 2, 1) := by decide +kernel
theorem dL_law_685 : decode cL_law 685 = .ok (.aload_n 0, 1) := by decide +kernel
theorem dL_law_686 : decode cL_law 686 = .ok (.iload_n 3, 1) := by decide +kernel
theorem dL_law_687 : decode cL_law 687 = .ok (.iconst 1, 1) := by decide +kernel
theorem dL_law_688 : decode cL_law 688 = .ok (.iadd, 1) := by decide +kernel
theorem dL_law_689 : decode cL_law 689 = .ok (.iaload, 1) := by decide +kernel
theorem dL_law_690 : decode cL_law 690 = .ok (.aload_n 0, 1) := by decide +kernel
theorem dL_law_691 : decode cL_law 691 = .ok (.iload_n 3, 1) := by decide +kernel
theorem dL_law_692 : decode cL_law 692 = .ok (.iconst 2, 1) := by decide +kernel
theorem dL_law_693 : decode cL_law 693 = .ok (.iadd, 1) := by decide +kernel
theorem dL_law_694 : decode cL_law 694 = .ok (.iaload, 1) := by decide +kernel
theorem dL_law_695 : decode cL_law 695 = .ok (.invokevirtual 86, 3) := by decide +kernel
theorem dL_law_698 : decode cL_law 698 = .ok (.if_icmp .eq 51, 3) := by decide +kernel
theorem dL_law_701 : decode cL_law 701 = .ok (.iconst 0, 1) := by decide +kernel
theorem dL_law_702 : decode cL_law 702 = .ok (.ireturn, 1) := by decide +kernel
theorem dL_law_703 : decode cL_law 703 = .ok (.aload_n 1, 1) := by decide +kernel
theorem dL_law_704 : decode cL_law 704 = .ok (.aload_n 0, 1) := by decide +kernel
theorem dL_law_705 : decode cL_law 705 = .ok (.iload_n 3, 1) := by decide +kernel
theorem dL_law_706 : decode cL_law 706 = .ok (.iconst 1, 1) := by decide +kernel
theorem dL_law_707 : decode cL_law 707 = .ok (.iadd, 1) := by decide +kernel
theorem dL_law_708 : decode cL_law 708 = .ok (.iaload, 1) := by decide +kernel
theorem dL_law_709 : decode cL_law 709 = .ok (.invokevirtual 87, 3) := by decide +kernel
theorem dL_law_712 : decode cL_law 712 = .ok (.aload_n 2, 1) := by decide +kernel
theorem dL_law_713 : decode cL_law 713 = .ok (.aload_n 0, 1) := by decide +kernel
theorem dL_law_714 : decode cL_law 714 = .ok (.iload_n 3, 1) := by decide +kernel
theorem dL_law_715 : decode cL_law 715 = .ok (.iconst 1, 1) := by decide +kernel
theorem dL_law_716 : decode cL_law 716 = .ok (.iadd, 1) := by decide +kernel
theorem dL_law_717 : decode cL_law 717 = .ok (.iaload, 1) := by decide +kernel
theorem dL_law_718 : decode cL_law 718 = .ok (.invokevirtual 90, 3) := by decide +kernel
theorem dL_law_721 : decode cL_law 721 = .ok (.if_icmp .eq 28, 3) := by decide +kernel
theorem dL_law_724 : decode cL_law 724 = .ok (.iconst 0, 1) := by decide +kernel
theorem dL_law_725 : decode cL_law 725 = .ok (.ireturn, 1) := by decide +kernel
theorem dL_law_726 : decode cL_law 726 = .ok (.aload_n 1, 1) := by decide +kernel
theorem dL_law_727 : decode cL_law 727 = .ok (.aload_n 0, 1) := by decide +kernel
theorem dL_law_728 : decode cL_law 728 = .ok (.iload_n 3, 1) := by decide +kernel
theorem dL_law_729 : decode cL_law 729 = .ok (.iconst 1, 1) := by decide +kernel
theorem dL_law_730 : decode cL_law 730 = .ok (.iadd, 1) := by decide +kernel
theorem dL_law_731 : decode cL_law 731 = .ok (.iaload, 1) := by decide +kernel
theorem dL_law_732 : decode cL_law 732 = .ok (.invokevirtual 91, 3) := by decide +kernel
theorem dL_law_735 : decode cL_law 735 = .ok (.aload_n 2, 1) := by decide +kernel
theorem dL_law_736 : decode cL_law 736 = .ok (.aload_n 0, 1) := by decide +kernel
theorem dL_law_737 : decode cL_law 737 = .ok (.iload_n 3, 1) := by decide +kernel
theorem dL_law_738 : decode cL_law 738 = .ok (.iconst 1, 1) := by decide +kernel
theorem dL_law_739 : decode cL_law 739 = .ok (.iadd, 1) := by decide +kernel
theorem dL_law_740 : decode cL_law 740 = .ok (.iaload, 1) := by decide +kernel
theorem dL_law_741 : decode cL_law 741 = .ok (.invokevirtual 94, 3) := by decide +kernel
theorem dL_law_744 : decode cL_law 744 = .ok (.if_icmp .eq 5, 3) := by decide +kernel
theorem dL_law_747 : decode cL_law 747 = .ok (.iconst 0, 1) := by decide +kernel
theorem dL_law_748 : decode cL_law 748 = .ok (.ireturn, 1) := by decide +kernel
theorem dL_law_749 : decode cL_law 749 = .ok (.iinc 3 4, 3) := by decide +kernel
theorem dL_law_752 : decode cL_law 752 = .ok (.goto (-734), 3) := by decide +kernel
theorem dL_law_755 : decode cL_law 755 = .ok (.iconst 1, 1) := by decide +kernel
theorem dL_law_756 : decode cL_law 756 = .ok (.ireturn, 1) := by decide +kernel
/-! java/lang/Object -/
def RJ0 : String := "java/lang/Object"
abbrev cJ0_init : ByteArray := object_method_1_code
def yJ0_init : MethodName := ⟨RJ0, "<init>", "()V"⟩
theorem dJ0_init_0 : decode cJ0_init 0 = .ok (.return_, 1) := by decide +kernel
theorem q30 : (Jvm.Cond.instanceMethod ({ cls := "java/lang/Object", name := "<init>", desc := "()V" } : Jvm.MethodName)) ∈ lw_all := lw_g (lw_at lw_m1 9 rfl) rfl
theorem q31 : (Jvm.Cond.code ({ cls := "java/lang/Object", name := "<init>", desc := "()V" } : Jvm.MethodName) object_method_1_code (1 : Nat) (Option.none : Option Jvm.ClassFile.FieldType)) ∈ lw_all := lw_g (lw_at lw_m1 10 rfl) rfl
theorem q45 : (Jvm.Cond.arrayClass Jvm.ClassFile.FieldType.long) ∈ lw_all := lw_g (lw_at lw_m1 24 rfl) rfl
theorem q21 : (Jvm.Cond.initialized "GuardedCommandsLaw") ∈ lw_all := lw_g (lw_at lw_m1 0 rfl) rfl
theorem q24 : (Jvm.Cond.classLink "GuardedCommandsLaw" (7 : Nat) "GuardedCommands") ∈ lw_all := lw_g (lw_at lw_m1 3 rfl) rfl
theorem q26 : (Jvm.Cond.methodLink "GuardedCommandsLaw" (9 : Nat) ({ cls := "GuardedCommands", name := "<init>", desc := "()V" } : Jvm.MethodName)) ∈ lw_all := lw_g (lw_at lw_m1 5 rfl) rfl
theorem q46 : (Jvm.Cond.methodLink "GuardedCommandsLaw" (15 : Nat) ({ cls := "GuardedCommands", name := "guard", desc := "(IJ)I" } : Jvm.MethodName)) ∈ lw_all := lw_g (lw_at lw_m1 25 rfl) rfl
theorem q53 : (Jvm.Cond.methodLink "GuardedCommandsLaw" (20 : Nat) ({ cls := "GuardedCommands", name := "compare", desc := "(III)I" } : Jvm.MethodName)) ∈ lw_all := lw_g (lw_at lw_m1 32 rfl) rfl
theorem q60 : (Jvm.Cond.methodLink "GuardedCommandsLaw" (25 : Nat) ({ cls := "GuardedCommands", name := "oppose", desc := "(I)I" } : Jvm.MethodName)) ∈ lw_all := lw_g (lw_at lw_m1 39 rfl) rfl
theorem q65 : (Jvm.Cond.methodLink "GuardedCommandsLaw" (30 : Nat) ({ cls := "GuardedCommands", name := "skip", desc := "()I" } : Jvm.MethodName)) ∈ lw_all := lw_g (lw_at lw_m1 44 rfl) rfl
theorem q73 : (Jvm.Cond.methodLink "GuardedCommandsLaw" (35 : Nat) ({ cls := "GuardedCommands", name := "fail", desc := "()I" } : Jvm.MethodName)) ∈ lw_all := lw_g (lw_at lw_m1 52 rfl) rfl
theorem q77 : (Jvm.Cond.methodLink "GuardedCommandsLaw" (39 : Nat) ({ cls := "GuardedCommands", name := "assign", desc := "(II)I" } : Jvm.MethodName)) ∈ lw_all := lw_g (lw_at lw_m1 56 rfl) rfl
theorem q81 : (Jvm.Cond.methodLink "GuardedCommandsLaw" (44 : Nat) ({ cls := "GuardedCommands", name := "sequence", desc := "(II)I" } : Jvm.MethodName)) ∈ lw_all := lw_g (lw_at lw_m1 60 rfl) rfl
theorem q96 : (Jvm.Cond.methodLink "GuardedCommandsLaw" (48 : Nat) ({ cls := "GuardedCommands", name := "choice", desc := "(II)I" } : Jvm.MethodName)) ∈ lw_all := lw_g (lw_at lw_m1 75 rfl) rfl
theorem q104 : (Jvm.Cond.methodLink "GuardedCommandsLaw" (52 : Nat) ({ cls := "GuardedCommands", name := "loop", desc := "(II)I" } : Jvm.MethodName)) ∈ lw_all := lw_g (lw_at lw_m1 83 rfl) rfl
theorem q116 : (Jvm.Cond.methodLink "GuardedCommandsLaw" (56 : Nat) ({ cls := "GuardedCommands", name := "programs", desc := "()I" } : Jvm.MethodName)) ∈ lw_all := lw_g (lw_at lw_m1 95 rfl) rfl
theorem q120 : (Jvm.Cond.methodLink "GuardedCommandsLaw" (60 : Nat) ({ cls := "GuardedCommands", name := "ends", desc := "(II)J" } : Jvm.MethodName)) ∈ lw_all := lw_g (lw_at lw_m1 99 rfl) rfl
theorem q124 : (Jvm.Cond.methodLink "GuardedCommandsLaw" (65 : Nat) ({ cls := "GuardedCommands", name := "sure", desc := "(I)J" } : Jvm.MethodName)) ∈ lw_all := lw_g (lw_at lw_m1 103 rfl) rfl
theorem q128 : (Jvm.Cond.methodLink "GuardedCommandsLaw" (70 : Nat) ({ cls := "GuardedCommands", name := "demand", desc := "(IJ)J" } : Jvm.MethodName)) ∈ lw_all := lw_g (lw_at lw_m1 107 rfl) rfl
theorem q136 : (Jvm.Cond.methodLink "GuardedCommandsLaw" (75 : Nat) ({ cls := "GuardedCommands", name := "weakDemand", desc := "(IJ)J" } : Jvm.MethodName)) ∈ lw_all := lw_g (lw_at lw_m1 115 rfl) rfl
theorem q140 : (Jvm.Cond.methodLink "GuardedCommandsLaw" (79 : Nat) ({ cls := "GuardedCommands", name := "image", desc := "(IJ)J" } : Jvm.MethodName)) ∈ lw_all := lw_g (lw_at lw_m1 119 rfl) rfl
theorem q144 : (Jvm.Cond.methodLink "GuardedCommandsLaw" (83 : Nat) ({ cls := "GuardedCommands", name := "refines", desc := "(II)I" } : Jvm.MethodName)) ∈ lw_all := lw_g (lw_at lw_m1 123 rfl) rfl
theorem q148 : (Jvm.Cond.methodLink "GuardedCommandsLaw" (87 : Nat) ({ cls := "GuardedCommands", name := "settled", desc := "(I)I" } : Jvm.MethodName)) ∈ lw_all := lw_g (lw_at lw_m1 127 rfl) rfl
theorem q152 : (Jvm.Cond.methodLink "GuardedCommandsLaw" (91 : Nat) ({ cls := "GuardedCommands", name := "widest", desc := "(I)I" } : Jvm.MethodName)) ∈ lw_all := lw_g (lw_at lw_m1 131 rfl) rfl
theorem q156 : (Jvm.Cond.classLink "GuardedCommandsLaw" (10 : Nat) "GuardedCommandsModel") ∈ lw_all := lw_g (lw_at lw_m1 135 rfl) rfl
theorem q158 : (Jvm.Cond.methodLink "GuardedCommandsLaw" (12 : Nat) ({ cls := "GuardedCommandsModel", name := "<init>", desc := "()V" } : Jvm.MethodName)) ∈ lw_all := lw_g (lw_at lw_m1 137 rfl) rfl
theorem q178 : (Jvm.Cond.methodLink "GuardedCommandsLaw" (19 : Nat) ({ cls := "GuardedCommandsModel", name := "guard", desc := "(IJ)I" } : Jvm.MethodName)) ∈ lw_all := lw_g (lw_at lw_m1 157 rfl) rfl
theorem q194 : (Jvm.Cond.methodLink "GuardedCommandsLaw" (24 : Nat) ({ cls := "GuardedCommandsModel", name := "compare", desc := "(III)I" } : Jvm.MethodName)) ∈ lw_all := lw_g (lw_at lw_m1 173 rfl) rfl
theorem q202 : (Jvm.Cond.methodLink "GuardedCommandsLaw" (29 : Nat) ({ cls := "GuardedCommandsModel", name := "oppose", desc := "(I)I" } : Jvm.MethodName)) ∈ lw_all := lw_g (lw_at lw_m1 181 rfl) rfl
theorem q207 : (Jvm.Cond.methodLink "GuardedCommandsLaw" (34 : Nat) ({ cls := "GuardedCommandsModel", name := "skip", desc := "()I" } : Jvm.MethodName)) ∈ lw_all := lw_g (lw_at lw_m1 186 rfl) rfl
theorem q219 : (Jvm.Cond.methodLink "GuardedCommandsLaw" (38 : Nat) ({ cls := "GuardedCommandsModel", name := "fail", desc := "()I" } : Jvm.MethodName)) ∈ lw_all := lw_g (lw_at lw_m1 198 rfl) rfl
theorem q223 : (Jvm.Cond.methodLink "GuardedCommandsLaw" (43 : Nat) ({ cls := "GuardedCommandsModel", name := "assign", desc := "(II)I" } : Jvm.MethodName)) ∈ lw_all := lw_g (lw_at lw_m1 202 rfl) rfl
theorem q227 : (Jvm.Cond.methodLink "GuardedCommandsLaw" (47 : Nat) ({ cls := "GuardedCommandsModel", name := "sequence", desc := "(II)I" } : Jvm.MethodName)) ∈ lw_all := lw_g (lw_at lw_m1 206 rfl) rfl
theorem q243 : (Jvm.Cond.methodLink "GuardedCommandsLaw" (51 : Nat) ({ cls := "GuardedCommandsModel", name := "choice", desc := "(II)I" } : Jvm.MethodName)) ∈ lw_all := lw_g (lw_at lw_m1 222 rfl) rfl
theorem q255 : (Jvm.Cond.methodLink "GuardedCommandsLaw" (55 : Nat) ({ cls := "GuardedCommandsModel", name := "loop", desc := "(II)I" } : Jvm.MethodName)) ∈ lw_all := lw_g (lw_at lw_m1 234 rfl) rfl
theorem q267 : (Jvm.Cond.methodLink "GuardedCommandsLaw" (59 : Nat) ({ cls := "GuardedCommandsModel", name := "programs", desc := "()I" } : Jvm.MethodName)) ∈ lw_all := lw_g (lw_at lw_m2 6 rfl) rfl
theorem q271 : (Jvm.Cond.methodLink "GuardedCommandsLaw" (64 : Nat) ({ cls := "GuardedCommandsModel", name := "ends", desc := "(II)J" } : Jvm.MethodName)) ∈ lw_all := lw_g (lw_at lw_m2 10 rfl) rfl
theorem q275 : (Jvm.Cond.methodLink "GuardedCommandsLaw" (69 : Nat) ({ cls := "GuardedCommandsModel", name := "sure", desc := "(I)J" } : Jvm.MethodName)) ∈ lw_all := lw_g (lw_at lw_m2 14 rfl) rfl
theorem q279 : (Jvm.Cond.methodLink "GuardedCommandsLaw" (74 : Nat) ({ cls := "GuardedCommandsModel", name := "demand", desc := "(IJ)J" } : Jvm.MethodName)) ∈ lw_all := lw_g (lw_at lw_m2 18 rfl) rfl
theorem q287 : (Jvm.Cond.methodLink "GuardedCommandsLaw" (78 : Nat) ({ cls := "GuardedCommandsModel", name := "weakDemand", desc := "(IJ)J" } : Jvm.MethodName)) ∈ lw_all := lw_g (lw_at lw_m2 26 rfl) rfl
theorem q291 : (Jvm.Cond.methodLink "GuardedCommandsLaw" (82 : Nat) ({ cls := "GuardedCommandsModel", name := "image", desc := "(IJ)J" } : Jvm.MethodName)) ∈ lw_all := lw_g (lw_at lw_m2 30 rfl) rfl
theorem q295 : (Jvm.Cond.methodLink "GuardedCommandsLaw" (86 : Nat) ({ cls := "GuardedCommandsModel", name := "refines", desc := "(II)I" } : Jvm.MethodName)) ∈ lw_all := lw_g (lw_at lw_m2 34 rfl) rfl
theorem q299 : (Jvm.Cond.methodLink "GuardedCommandsLaw" (90 : Nat) ({ cls := "GuardedCommandsModel", name := "settled", desc := "(I)I" } : Jvm.MethodName)) ∈ lw_all := lw_g (lw_at lw_m2 38 rfl) rfl
theorem q303 : (Jvm.Cond.methodLink "GuardedCommandsLaw" (94 : Nat) ({ cls := "GuardedCommandsModel", name := "widest", desc := "(I)I" } : Jvm.MethodName)) ∈ lw_all := lw_g (lw_at lw_m2 42 rfl) rfl
theorem q307 : (Jvm.Cond.constantLong "GuardedCommandsLaw" (13 : Nat) (4294967295 : Int64)) ∈ lw_all := lw_g (lw_at lw_m2 46 rfl) rfl
end
section
/-! PURE: words of 64 bits, sets of states, what the operations answer; no machine here -/
/-- bit i of a word -/
def gb (x : Int64) (i : Nat) : Bool := x.toBitVec.getLsbD i
/-- the word 1L << i -/
def gw (i : Nat) : Int64 := (1 : Int64) <<< ((nI i).toInt64 &&& 63)
theorem gb_ext {x y : Int64} (h : ∀ i, i < 64 → gb x i = gb y i) : x = y := Int64.toBitVec_inj.mp (BitVec.eq_of_getLsbD_eq h)
theorem gb_or (x y : Int64) (i : Nat) : gb (x ||| y) i = (gb x i || gb y i) := by
  unfold gb
  rw [Int64.toBitVec_or, BitVec.getLsbD_or]
theorem gb_and (x y : Int64) (i : Nat) : gb (x &&& y) i = (gb x i && gb y i) := by
  unfold gb
  rw [Int64.toBitVec_and, BitVec.getLsbD_and]
theorem gb_not (x : Int64) {i : Nat} (hi : i < 64) : gb (x ^^^ (-1)) i = !gb x i := by
  have ha : (-1 : Int64).toBitVec = BitVec.allOnes 64 := by decide
  unfold gb
  rw [Int64.toBitVec_xor, BitVec.getLsbD_xor, ha, BitVec.getLsbD_allOnes]
  simp [hi]
theorem gb_0 (i : Nat) : gb 0 i = false := by
  show (0#64).getLsbD i = false
  simp
theorem gb_m1 {i : Nat} (hi : i < 64) : gb (-1) i = true := by
  have ha : (-1 : Int64).toBitVec = BitVec.allOnes 64 := by decide
  unfold gb
  rw [ha, BitVec.getLsbD_allOnes]
  simp [hi]
theorem gb_ne {x : Int64} {i : Nat} (h : gb x i = true) : x ≠ 0 := by
  intro e
  rw [e, gb_0] at h
  cases h
theorem gb_some {x : Int64} (h : x ≠ 0) : ∃ i, i < 64 ∧ gb x i = true := by
  apply Classical.byContradiction
  intro hn
  apply h
  apply gb_ext
  intro i hi
  rw [gb_0]
  cases hx : gb x i with
  | false => rfl
  | true => exact absurd ⟨i, hi, hx⟩ hn
theorem gw_bv : ∀ i, i < 64 → (gw i).toBitVec = BitVec.twoPow 64 i := by decide +kernel
theorem gb_w {i : Nat} (hi : i < 64) (j : Nat) : gb (gw i) j = decide (i = j) := by
  unfold gb
  rw [gw_bv i hi, BitVec.getLsbD_twoPow]
  simp [hi]
theorem gc_sh : ∀ j, j < 64 → ((nI j).toInt64.toUInt64 &&& Int64.toUInt64 63).toNat = j := by decide +kernel
theorem gc_sm : ∀ j, j < 64 → (((nI j).toInt64 &&& 63).toBitVec.smod 64).toNat = j := by decide +kernel
theorem gb_bit0 {v : BitVec 64} {b : Bool} (h : v.getLsbD 0 = b) : v &&& 1#64 = if b then 1#64 else 0#64 := by
  apply BitVec.eq_of_getLsbD_eq
  intro i hi
  cases i with
  | zero =>
    rw [BitVec.getLsbD_and, h]
    cases b <;> simp
  | succ i => cases b <;> simp
theorem gb_ite (b : Bool) : (if b then (1 : Int64) else 0).toBitVec = if b then 1#64 else 0#64 := by cases b <;> rfl
/-- Java's (x >>> j) & 1 -/
theorem gb_has (x : Int64) {j : Nat} (hj : j < 64) : ((x.toUInt64 >>> ((nI j).toInt64.toUInt64 &&& Int64.toUInt64 63)).toInt64 &&& 1) = if gb x j then 1 else 0 := by
  have e : (x.toUInt64 >>> ((nI j).toInt64.toUInt64 &&& Int64.toUInt64 63)).toInt64.toBitVec = x.toBitVec >>> j := by
    apply BitVec.eq_of_toNat_eq
    show (x.toUInt64 >>> ((nI j).toInt64.toUInt64 &&& Int64.toUInt64 63)).toNat = _
    rw [UInt64.toNat_shiftRight, gc_sh j hj, Nat.mod_eq_of_lt hj, BitVec.toNat_ushiftRight]
    rfl
  apply Int64.toBitVec_inj.mp
  rw [Int64.toBitVec_and, e, gb_ite]
  refine gb_bit0 ?_
  rw [BitVec.getLsbD_ushiftRight]
  rfl
/-- Java's (x >> j) & 1 -/
theorem gb_in (x : Int64) {j : Nat} (hj : j < 64) : ((x >>> ((nI j).toInt64 &&& 63)) &&& 1) = if gb x j then 1 else 0 := by
  apply Int64.toBitVec_inj.mp
  rw [Int64.toBitVec_and, Int64.toBitVec_shiftRight, gb_ite]
  refine gb_bit0 ?_
  rw [BitVec.getLsbD_sshiftRight', gc_sm j hj]
  unfold gb
  simp [hj]
theorem gb_one {b : Bool} : (if b then (1 : Int64) else 0) = 1 ↔ b = true := by cases b <;> decide
/-- how many states of a word lie below n -/
def gc_ct (x : Int64) : Nat → Nat
  | 0 => 0
  | n + 1 => gc_ct x n + (if gb x n then 1 else 0)
theorem gc_ct_le (x : Int64) : ∀ n, gc_ct x n ≤ n
  | 0 => Nat.le_refl 0
  | n + 1 => by
    have := gc_ct_le x n
    show gc_ct x n + (if gb x n then 1 else 0) ≤ n + 1
    split <;> omega
theorem gc_ct_add (x : Int64) (j : Nat) : nI (gc_ct x j) + (if gb x j then (1 : Int64) else 0).toInt32 = nI (gc_ct x (j + 1)) := by
  show _ = nI (gc_ct x j + (if gb x j then 1 else 0))
  cases gb x j with
  | true => exact nI_1 _
  | false =>
    show nI (gc_ct x j) + (0 : Int64).toInt32 = nI (gc_ct x j + 0)
    rw [show (0 : Int64).toInt32 = nI 0 from rfl, nI_add]
/-- a loop over the states below n -/
def gc_up {α : Type} (f : Nat → α → α) : Nat → α → α
  | 0, a => a
  | n + 1, a => f n (gc_up f n a)
theorem gc_up_cong {α : Type} {f g : Nat → α → α} : ∀ {n : Nat} {a : α}, (∀ k, k < n → ∀ x, f k x = g k x) → gc_up f n a = gc_up g n a
  | 0, _, _ => rfl
  | n + 1, a, h => by
    show f n (gc_up f n a) = g n (gc_up g n a)
    rw [gc_up_cong (fun k hk x => h k (Nat.lt_succ_of_lt hk) x), h n (Nat.lt_succ_self n)]
/-- part of -/
def gc_in (x y : Int64) : Prop := ∀ i, i < 64 → gb x i = true → gb y i = true
theorem gc_in_rf {x : Int64} : gc_in x x := fun _ _ h => h
theorem gc_in_tr {x y z : Int64} (h1 : gc_in x y) (h2 : gc_in y z) : gc_in x z := fun i hi h => h2 i hi (h1 i hi h)
theorem gc_in_eq {x y : Int64} (h1 : gc_in x y) (h2 : gc_in y x) : x = y := by
  apply gb_ext
  intro i hi
  cases hx : gb x i with
  | true => exact (h1 i hi hx).symm
  | false =>
    cases hy : gb y i with
    | false => rfl
    | true =>
      rw [h2 i hi hy] at hx
      cases hx
theorem gc_in_or {x y z : Int64} (h1 : gc_in x z) (h2 : gc_in y z) : gc_in (x ||| y) z := by
  intro i hi h
  rw [gb_or] at h
  rcases (Bool.or_eq_true _ _).mp h with h | h
  · exact h1 i hi h
  · exact h2 i hi h
theorem gc_in_l {x y : Int64} : gc_in x (x ||| y) := fun i _ h => by rw [gb_or, h]; rfl
theorem gc_in_r {x y : Int64} : gc_in y (x ||| y) := fun i _ h => by rw [gb_or, h]; simp
theorem gc_in_w {k : Nat} {z : Int64} (hk : k < 64) : gc_in (gw k) z ↔ gb z k = true := by
  constructor
  · intro h
    exact h k hk (by rw [gb_w hk]; simp)
  · intro h i hi hx
    rw [gb_w hk] at hx
    have e : k = i := of_decide_eq_true hx
    rw [← e]
    exact h
/-- Java's (x & ~y) == 0 -/
theorem gc_part {x y : Int64} : x &&& (y ^^^ (-1)) = 0 ↔ gc_in x y := by
  constructor
  · intro h i hi hx
    have t : gb (x &&& (y ^^^ (-1))) i = false := by rw [h, gb_0]
    rw [gb_and, gb_not y hi, hx] at t
    simpa using t
  · intro h
    apply gb_ext
    intro i hi
    rw [gb_0, gb_and, gb_not y hi]
    cases hx : gb x i with
    | false => rfl
    | true =>
      rw [h i hi hx]
      rfl
theorem gc_ct_in {x y : Int64} (h : gc_in x y) : ∀ n, n ≤ 64 → gc_ct x n ≤ gc_ct y n
  | 0, _ => Nat.le_refl 0
  | n + 1, hn => by
    have := gc_ct_in h n (by omega)
    show gc_ct x n + (if gb x n then 1 else 0) ≤ gc_ct y n + (if gb y n then 1 else 0)
    cases hx : gb x n with
    | false => simp; omega
    | true =>
      rw [h n (by omega) hx]
      simp
      omega
theorem gc_ct_lt {x y : Int64} (h : gc_in x y) {k : Nat} (hx : gb x k = false) (hy : gb y k = true) : ∀ n, n ≤ 64 → k < n → gc_ct x n < gc_ct y n
  | 0, _, hk => absurd hk (Nat.not_lt_zero _)
  | n + 1, hn, hk => by
    show gc_ct x n + (if gb x n then 1 else 0) < gc_ct y n + (if gb y n then 1 else 0)
    rcases Nat.lt_or_ge k n with q | q
    · have := gc_ct_lt h hx hy n (by omega) q
      cases hz : gb x n with
      | false => simp; omega
      | true =>
        rw [h n (by omega) hz]
        simp
        omega
    · have e : k = n := by omega
      subst e
      have := gc_ct_in h k (by omega)
      rw [hx, hy]
      simp
      omega
/-- a word that grew counts more -/
theorem gc_ct_grow {x y : Int64} (h : gc_in x y) (hne : y ≠ x) : gc_ct x 64 < gc_ct y 64 := by
  have hn : ¬ gc_in y x := fun q => hne (gc_in_eq q h)
  have hk : ∃ k, k < 64 ∧ gb y k = true ∧ gb x k = false := by
    apply Classical.byContradiction
    intro q
    apply hn
    intro i hi hy
    cases hx : gb x i with
    | true => rfl
    | false => exact absurd ⟨i, hi, hy, hx⟩ q
  obtain ⟨k, hk, hy, hx⟩ := hk
  exact gc_ct_lt h hx hy 64 (Nat.le_refl _) hk
/-! words that grow state by state -/
section GROW
variable {P : Nat → Int64 → Bool} {st : Nat → Int64}
def gc_fg (P : Nat → Int64 → Bool) (st : Nat → Int64) : Nat → Int64 → Int64 := fun k acc => if P k acc then acc ||| st k else acc
theorem gc_fg_1 (k : Nat) (x : Int64) : gc_in x (gc_fg P st k x) := by
  unfold gc_fg
  split
  · exact gc_in_l
  · exact gc_in_rf
theorem gc_fg_up (a : Int64) : ∀ n, gc_in a (gc_up (gc_fg P st) n a)
  | 0 => gc_in_rf
  | n + 1 => gc_in_tr (gc_fg_up a n) (gc_fg_1 n _)
theorem gc_fg_mono (a : Int64) {m : Nat} : ∀ n, gc_in (gc_up (gc_fg P st) m a) (gc_up (gc_fg P st) (m + n) a)
  | 0 => gc_in_rf
  | n + 1 => gc_in_tr (gc_fg_mono a n) (gc_fg_1 (m + n) _)
theorem gc_fg_in (a : Int64) {k n : Nat} (hk : k < n) (h : P k (gc_up (gc_fg P st) k a) = true) : gc_in (st k) (gc_up (gc_fg P st) n a) := by
  have h1 : gc_in (st k) (gc_up (gc_fg P st) (k + 1) a) := by
    show gc_in (st k) (gc_fg P st k (gc_up (gc_fg P st) k a))
    unfold gc_fg
    unfold gc_fg at h
    rw [if_pos h]
    exact gc_in_r
  have h2 := gc_fg_mono (P := P) (st := st) a (m := k + 1) (n - (k + 1))
  rw [show k + 1 + (n - (k + 1)) = n by omega] at h2
  exact gc_in_tr h1 h2
theorem gc_fg_le {a z : Int64} (ha : gc_in a z) : ∀ n, (∀ k, k < n → ∀ x, gc_in x z → P k x = true → gc_in (st k) z) → gc_in (gc_up (gc_fg P st) n a) z
  | 0, _ => ha
  | n + 1, h => by
    have h1 := gc_fg_le ha n (fun k hk => h k (Nat.lt_succ_of_lt hk))
    show gc_in (gc_fg P st n (gc_up (gc_fg P st) n a)) z
    unfold gc_fg
    unfold gc_fg at h1
    split
    · rename_i hp
      exact gc_in_or h1 (h n (Nat.lt_succ_self n) _ h1 hp)
    · exact h1
end GROW
/-! a set of states told state by state -/
theorem gc_tell (C : Nat → Bool) : ∀ n, n ≤ 64 → ∀ i, i < 64 → gb (gc_up (fun s acc => if C s then acc ||| gw s else acc) n 0) i = (decide (i < n) && C i)
  | 0, _, i, _ => by
    show gb 0 i = _
    rw [gb_0]
    simp
  | n + 1, hn, i, hi => by
    have ih := gc_tell C n (by omega) i hi
    show gb (if C n then gc_up (fun s acc => if C s then acc ||| gw s else acc) n 0 ||| gw n else gc_up (fun s acc => if C s then acc ||| gw s else acc) n 0) i = _
    by_cases e : n = i
    · subst e
      cases hc : C n with
      | true =>
        rw [if_pos rfl, gb_or, gb_w (by omega)]
        simp
      | false =>
        rw [if_neg (by decide), ih]
        simp
    · have h2 : decide (i < n + 1) = decide (i < n) := by
        apply decide_eq_decide.mpr
        omega
      rw [h2, ← ih]
      split
      · rw [gb_or, gb_w (by omega)]
        simp [e]
      · rfl
/-! one state alone -/
theorem gc_pow : ∀ i, i < 64 → gw i &&& (gw i - 1) = 0 := by decide +kernel
theorem gc_w_ct : ∀ i, i < 64 → gc_ct (gw i) 64 = 1 := by decide +kernel
theorem gc_pow_of {x : Int64} (hx : x ≠ 0) (h : x &&& (x - 1) = 0) : ∃ i, i < 64 ∧ x = gw i := by
  have hn : x.toBitVec.toNat ≠ 0 := by
    intro e
    apply hx
    apply Int64.toBitVec_inj.mp
    apply BitVec.eq_of_toNat_eq
    rw [e]
    rfl
  have hlt : x.toBitVec.toNat < 2 ^ 64 := x.toBitVec.isLt
  have h1 : (x.toBitVec - 1#64).toNat = x.toBitVec.toNat - 1 := by
    rw [BitVec.toNat_sub]
    show (2 ^ 64 - 1 + x.toBitVec.toNat) % 2 ^ 64 = _
    omega
  have h2 : x.toBitVec.toNat &&& (x.toBitVec.toNat - 1) = 0 := by
    rw [← h1, ← BitVec.toNat_and]
    have h3 : x.toBitVec &&& (x.toBitVec - 1#64) = 0#64 := by
      have t := congrArg Int64.toBitVec h
      rw [Int64.toBitVec_and, Int64.toBitVec_sub] at t
      exact t
    rw [h3]
    rfl
  obtain ⟨k, hk⟩ := (Nat.and_sub_one_eq_zero_iff_isPowerOfTwo hn).mp h2
  have hk64 : k < 64 := by
    rcases Nat.lt_or_ge k 64 with q | q
    · exact q
    · have := Nat.pow_le_pow_right (show 0 < 2 by decide) q
      omega
  refine ⟨k, hk64, ?_⟩
  apply Int64.toBitVec_inj.mp
  rw [gw_bv k hk64]
  apply BitVec.eq_of_toNat_eq
  rw [hk, BitVec.toNat_twoPow, Nat.mod_eq_of_lt (by omega)]
theorem gc_one_of {x : Int64} (h : gc_ct x 64 = 1) : ∃ i, i < 64 ∧ x = gw i := by
  have hx : x ≠ 0 := by
    intro e
    subst e
    exact absurd h (by decide +kernel)
  obtain ⟨i, hi, hb⟩ := gb_some hx
  refine ⟨i, hi, ?_⟩
  apply Classical.byContradiction
  intro hne
  have h1 : gc_in (gw i) x := (gc_in_w hi).mpr hb
  have h2 := gc_ct_grow h1 hne
  rw [gc_w_ct i hi] at h2
  omega
/-- not empty: at most one state by Java's x & (x - 1) is just one by count -/
theorem gc_single {x : Int64} (hx : x ≠ 0) : x &&& (x - 1) = 0 ↔ gc_ct x 64 = 1 := by
  constructor
  · intro h
    obtain ⟨i, hi, rfl⟩ := gc_pow_of hx h
    exact gc_w_ct i hi
  · intro h
    obtain ⟨i, hi, rfl⟩ := gc_one_of h
    exact gc_pow i hi
end
section
/-! PURE: what loops come to, and when they are sure -/
/-- a set that no step leaves -/
def gc_cl (st : Nat → Int64) (z : Int64) : Prop := ∀ k, k < 64 → gb z k = true → gc_in (st k) z
/-- r is the least set that holds s and that no step leaves -/
def gc_least (st : Nat → Int64) (s : Nat) (r : Int64) : Prop := gb r s = true ∧ gc_cl st r ∧ ∀ z, gb z s = true → gc_cl st z → gc_in r z
theorem gc_least_one {st : Nat → Int64} {s : Nat} {r r' : Int64} (h : gc_least st s r) (h' : gc_least st s r') : r = r' :=
  gc_in_eq (h.2.2 r' h'.1 h'.2.1) (h'.2.2 r h.1 h.2.1)
/-- one round of the class: only the states that came last are asked -/
def gc_fX (st : Nat → Int64) (set done : Int64) : Int64 := gc_up (gc_fg (fun k _ => gb (set &&& (done ^^^ (-1))) k) st) 64 set
/-- one round of the reference: all states that are there when asked -/
def gc_fM (st : Nat → Int64) (all : Int64) : Int64 := gc_up (gc_fg (fun k acc => gb acc k) st) 64 all
def gc_rX (st : Nat → Int64) : Nat → Int64 → Int64 → Int64
  | 0, set, _ => set
  | n + 1, set, done => if set = done then set else gc_rX st n (gc_fX st set done) set
def gc_rM (st : Nat → Int64) : Nat → Int64 → Int64 → Int64
  | 0, all, _ => all
  | n + 1, all, old => if all = old then all else gc_rM st n (gc_fM st all) all
/-- what holds between rounds -/
def gc_mid (st : Nat → Int64) (s : Nat) (set done : Int64) : Prop :=
  gb set s = true ∧ gc_in done set ∧ (∀ k, k < 64 → gb done k = true → gc_in (st k) set) ∧ ∀ z, gb z s = true → gc_cl st z → gc_in set z
theorem gc_mid_0 {st : Nat → Int64} {s : Nat} (hs : s < 64) : gc_mid st s (gw s) 0 := by
  refine ⟨by rw [gb_w hs]; simp, fun i _ h => ?_, fun k _ h => ?_, fun z hz _ => (gc_in_w hs).mpr hz⟩
  · rw [gb_0] at h
    cases h
  · rw [gb_0] at h
    cases h
theorem gc_mid_end {st : Nat → Int64} {s : Nat} {set : Int64} (h : gc_mid st s set set) : gc_least st s set := ⟨h.1, h.2.2.1, h.2.2.2⟩
theorem gc_mid_X {st : Nat → Int64} {s : Nat} {set done : Int64} (hs : s < 64) (h : gc_mid st s set done) : gc_mid st s (gc_fX st set done) set := by
  obtain ⟨h1, h2, h3, h4⟩ := h
  have hg : gc_in set (gc_fX st set done) := gc_fg_up set 64
  refine ⟨hg s hs h1, hg, fun k hk hb => ?_, fun z hz hc => ?_⟩
  · cases hd : gb done k with
    | true => exact gc_in_tr (h3 k hk hd) hg
    | false =>
      refine gc_fg_in set hk ?_
      show gb (set &&& (done ^^^ (-1))) k = true
      rw [gb_and, gb_not done hk, hb, hd]
      rfl
  · refine gc_fg_le (h4 z hz hc) 64 (fun k hk x _ hp => hc k hk (h4 z hz hc k hk ?_))
    have hp : gb (set &&& (done ^^^ (-1))) k = true := hp
    rw [gb_and] at hp
    exact ((Bool.and_eq_true _ _).mp hp).1
theorem gc_mid_M {st : Nat → Int64} {s : Nat} {all old : Int64} (hs : s < 64) (h : gc_mid st s all old) : gc_mid st s (gc_fM st all) all := by
  obtain ⟨h1, h2, h3, h4⟩ := h
  have hg : gc_in all (gc_fM st all) := gc_fg_up all 64
  refine ⟨hg s hs h1, hg, fun k hk hb => ?_, fun z hz hc => ?_⟩
  · refine gc_fg_in all hk ?_
    exact gc_fg_up all k k hk hb
  · exact gc_fg_le (h4 z hz hc) 64 (fun k hk x hx hp => hc k hk (hx k hk hp))
theorem gc_rX_least {st : Nat → Int64} {s : Nat} (hs : s < 64) : ∀ (n : Nat) (set done : Int64), gc_mid st s set done → 65 ≤ gc_ct done 64 + n → gc_least st s (gc_rX st n set done) := by
  intro n
  induction n with
  | zero =>
    intro set done _ h
    have := gc_ct_le done 64
    omega
  | succ n ih =>
    intro set done hm h
    show gc_least st s (if set = done then set else gc_rX st n (gc_fX st set done) set)
    by_cases e : set = done
    · rw [if_pos e]
      subst e
      exact gc_mid_end hm
    · rw [if_neg e]
      have := gc_ct_grow hm.2.1 e
      exact ih _ _ (gc_mid_X hs hm) (by omega)
theorem gc_rM_least {st : Nat → Int64} {s : Nat} (hs : s < 64) : ∀ (n : Nat) (all old : Int64), gc_mid st s all old → 65 ≤ gc_ct old 64 + n → gc_least st s (gc_rM st n all old) := by
  intro n
  induction n with
  | zero =>
    intro set done _ h
    have := gc_ct_le done 64
    omega
  | succ n ih =>
    intro all old hm h
    show gc_least st s (if all = old then all else gc_rM st n (gc_fM st all) all)
    by_cases e : all = old
    · rw [if_pos e]
      subst e
      exact gc_mid_end hm
    · rw [if_neg e]
      have := gc_ct_grow hm.2.1 e
      exact ih _ _ (gc_mid_M hs hm) (by omega)
/-- the states that a loop can come to from s -/
def gc_rch (st : Nat → Int64) (s : Nat) : Int64 := gc_rM st 65 (gw s) 0
theorem gc_rch_least (st : Nat → Int64) {s : Nat} (hs : s < 64) : gc_least st s (gc_rch st s) := gc_rM_least hs 65 _ _ (gc_mid_0 hs) (by omega)
/-- the class comes to the same states as the reference -/
theorem gc_rch_X (st : Nat → Int64) {s : Nat} (hs : s < 64) : gc_rX st 65 (gw s) 0 = gc_rch st s :=
  gc_least_one (gc_rX_least hs 65 _ _ (gc_mid_0 hs) (by omega)) (gc_rch_least st hs)
theorem gc_cl_cong {st st' : Nat → Int64} (h : ∀ k, k < 64 → st k = st' k) {z : Int64} (hc : gc_cl st z) : gc_cl st' z := fun k hk hb => by
  rw [← h k hk]
  exact hc k hk hb
theorem gc_rch_cong {st st' : Nat → Int64} (h : ∀ k, k < 64 → st k = st' k) {s : Nat} (hs : s < 64) : gc_rch st s = gc_rch st' s := by
  have a := gc_rch_least st hs
  exact gc_least_one (st := st') ⟨a.1, gc_cl_cong h a.2.1, fun z hz hc => a.2.2 z hz (gc_cl_cong (fun k hk => (h k hk).symm) hc)⟩ (gc_rch_least st' hs)
theorem gc_rch_step (st : Nat → Int64) {s t : Nat} (hs : s < 64) (ht : t < 64) (h : gb (st s) t = true) : gc_in (gc_rch st t) (gc_rch st s) := by
  have a := gc_rch_least st hs
  exact (gc_rch_least st ht).2.2 _ (a.2.1 s hs a.1 t ht h) a.2.1
/-! the sure states of a loop -/
/-- a state is crossed off if C says so and all that may follow is crossed off -/
def gc_sf (st : Nat → Int64) (C : Nat → Bool) : Nat → Int64 → Int64 := gc_fg (fun s acc => C s && decide (st s &&& (acc ^^^ (-1)) = 0)) gw
/-- the class asks also that it isn't crossed off yet, and nothing of the conditions -/
def gc_sX (st : Nat → Int64) (C : Nat → Bool) : Nat → Int64 → Int64 := gc_fg (fun s acc => !gb acc s && C s && decide (st s &&& (acc ^^^ (-1)) = 0)) gw
def gc_lX (f : Int64 → Int64) : Nat → Int64 → Int32 → Int64
  | 0, x, _ => x
  | n + 1, x, ch => if ch = 0 then x else gc_lX f n (f x) (if f x = x then 0 else 1)
def gc_lM (f : Int64 → Int64) : Nat → Int64 → Int64 → Int64
  | 0, x, _ => x
  | n + 1, x, old => if x = old then x else gc_lM f n (f x) x
theorem gc_fg_cong {P P' : Nat → Int64 → Bool} {st st' : Nat → Int64} {k : Nat} {x : Int64} (hp : P k x = P' k x) (hs : st k = st' k) : gc_fg P st k x = gc_fg P' st' k x := by
  unfold gc_fg
  rw [hp, hs]
theorem gc_fg_id {P : Nat → Int64 → Bool} {st : Nat → Int64} {k : Nat} {x : Int64} (h : x ||| st k = x) : gc_fg P st k x = x := by
  unfold gc_fg
  rw [h]
  split <;> rfl
theorem gc_sX_1 {st : Nat → Int64} {C D : Nat → Bool} {x : Int64} {s : Nat} (hs : s < 64) (h : gb x s = false → D s = true) : gc_sX st C s x = gc_sf st (fun k => D k && C k) s x := by
  unfold gc_sX gc_sf
  cases hx : gb x s with
  | false =>
    refine gc_fg_cong ?_ rfl
    show (!gb x s && C s && decide (st s &&& (x ^^^ (-1)) = 0)) = (D s && C s && decide (st s &&& (x ^^^ (-1)) = 0))
    rw [hx, h hx]
    rfl
  | true =>
    have e : x ||| gw s = x := gc_in_eq (gc_in_or gc_in_rf ((gc_in_w hs).mpr hx)) gc_in_l
    rw [gc_fg_id e, gc_fg_id e]
theorem gc_sX_up {st : Nat → Int64} {C D : Nat → Bool} {x o : Int64} (ho : gc_in o x) (hD : ∀ s, s < 64 → gb o s = false → D s = true) : ∀ n, n ≤ 64 → gc_up (gc_sX st C) n x = gc_up (gc_sf st (fun k => D k && C k)) n x
  | 0, _ => rfl
  | n + 1, hn => by
    show gc_sX st C n (gc_up (gc_sX st C) n x) = gc_sf st (fun k => D k && C k) n (gc_up (gc_sf st (fun k => D k && C k)) n x)
    rw [gc_sX_up ho hD n (by omega)]
    refine gc_sX_1 (by omega) (fun h => hD n (by omega) ?_)
    cases hq : gb o n with
    | false => rfl
    | true =>
      have h2 : gb (gc_up (gc_sf st (fun k => D k && C k)) n x) n = true := gc_fg_up x n n (by omega) (ho n (by omega) hq)
      rw [h2] at h
      cases h
theorem gc_lXM {f g : Int64 → Int64} {o : Int64} (hfg : ∀ x, gc_in o x → f x = g x) (hg : ∀ x, gc_in x (g x)) : ∀ (n : Nat) (x : Int64) (ch : Int32) (old : Int64), gc_in o x → (ch = 0 ↔ x = old) → gc_lX f n x ch = gc_lM g n x old := by
  intro n
  induction n with
  | zero => intro x ch old _ _; rfl
  | succ n ih =>
    intro x ch old ho h
    show (if ch = 0 then x else gc_lX f n (f x) (if f x = x then 0 else 1)) = if x = old then x else gc_lM g n (g x) x
    by_cases e : x = old
    · rw [if_pos e, if_pos (h.mpr e)]
    · rw [if_neg e, if_neg (fun q => e (h.mp q)), hfg x ho]
      refine ih _ _ _ (gc_in_tr ho (hg x)) ?_
      constructor
      · intro q
        by_cases e2 : g x = x
        · exact e2
        · rw [if_neg e2] at q
          exact absurd q (by decide)
      · intro q
        rw [if_pos q]
theorem gc_lM_keep {f : Int64 → Int64} {I : Int64 → Prop} (hI : ∀ x, I x → I (f x)) : ∀ (n : Nat) (x old : Int64), I x → I (gc_lM f n x old) := by
  intro n
  induction n with
  | zero => intro x old h; exact h
  | succ n ih =>
    intro x old h
    show I (if x = old then x else gc_lM f n (f x) x)
    by_cases e : x = old
    · rw [if_pos e]
      exact h
    · rw [if_neg e]
      exact ih _ _ (hI x h)
theorem gc_up_keep {α : Type} {f : Nat → α → α} {I : α → Prop} : ∀ {n : Nat} {a : α}, I a → (∀ k, k < n → ∀ x, I x → I (f k x)) → I (gc_up f n a)
  | 0, _, h, _ => h
  | n + 1, a, h, hf => hf n (Nat.lt_succ_self n) _ (gc_up_keep h (fun k hk => hf k (Nat.lt_succ_of_lt hk)))
/-! THE STATE: ends (64 rows a program), sure sets, the two conditions, the number of programs -/
abbrev gc_St : Type := (Nat → Int64) × (Nat → Int64) × (Nat → Int64) × Nat
/-- E with f written to the first n places of row k -/
def gc_row (E : Nat → Int64) (k : Nat) (f : Nat → Int64) (n : Nat) : Nat → Int64 := fun j => if 64 * k ≤ j ∧ j < 64 * k + n then f (j - 64 * k) else E j
theorem gc_row_0 (E : Nat → Int64) (k : Nat) (f : Nat → Int64) : gc_row E k f 0 = E := funext fun j => if_neg (by omega)
theorem gc_row_1 (E : Nat → Int64) (k : Nat) (f : Nat → Int64) (n : Nat) : vp_updL (gc_row E k f n) (64 * k + n) (f n) = gc_row E k f (n + 1) := by
  funext j
  unfold vp_updL gc_row
  by_cases e : j = 64 * k + n
  · subst e
    rw [if_pos rfl, if_pos (by omega), show 64 * k + n - 64 * k = n by omega]
  · rw [if_neg e]
    by_cases q : 64 * k ≤ j ∧ j < 64 * k + n
    · rw [if_pos q, if_pos (by omega)]
    · rw [if_neg q, if_neg (by omega)]
theorem gc_row_old {E : Nat → Int64} {k a s n : Nat} {f : Nat → Int64} (ha : a < k) (hs : s < 64) : gc_row E k f n (64 * a + s) = E (64 * a + s) := if_neg (by omega)
theorem gc_row_new {E : Nat → Int64} {k s : Nat} {f : Nat → Int64} (hs : s < 64) : gc_row E k f 64 (64 * k + s) = f s := by
  unfold gc_row
  rw [if_pos (by omega), show 64 * k + s - 64 * k = s by omega]
/-- a form's value at a state -/
def gc_fv (f j : Nat) : Nat := (f / 64 * (j / 8) + f / 8 % 8 * (j % 8) + f % 8) % 8
theorem gc_fv_lt (f j : Nat) : gc_fv f j < 8 := Nat.mod_lt _ (by decide)
/-- where an assignment leads -/
def gc_to (w : Int32) (f j : Nat) : Nat := if w = 0 then 8 * gc_fv f j + j % 8 else 8 * (j / 8) + gc_fv f j
theorem gc_to_lt {w : Int32} {f j : Nat} (hj : j < 64) : gc_to w f j < 64 := by
  have := gc_fv_lt f j
  unfold gc_to
  split <;> omega
def gc_cmp (f b : Nat) : Int64 := gc_up (fun s acc => if gc_fv f s < b then acc ||| gw s else acc) 64 0
def gc_img (E : Nat → Int64) (a : Nat) (x : Int64) : Int64 := gc_up (fun s acc => if gb x s then acc ||| E (64 * a + s) else acc) 64 0
def gc_stp (E G : Nat → Int64) (a b : Nat) (s : Nat) : Int64 := (if gb (G 0) s then E (64 * a + s) else 0) ||| (if gb (G 1) s then E (64 * b + s) else 0)
def gc_wk (E : Nat → Int64) (a : Nat) (c : Int64) : Int64 := gc_up (fun s acc => if E (64 * a + s) &&& (c ^^^ (-1)) = 0 then acc ||| gw s else acc) 64 0
/-- whichever of the two may be chosen is sure -/
def gc_good (S G : Nat → Int64) (a b s : Nat) : Bool := (!gb (G 0) s || gb (S a) s) && (!gb (G 1) s || gb (S b) s)
def gc_seqs (E S : Nat → Int64) (a b : Nat) : Int64 := gc_up (fun s acc => if gb (S a) s && decide (E (64 * a + s) &&& (S b ^^^ (-1)) = 0) then acc ||| gw s else acc) 64 0
def gc_chs (S G : Nat → Int64) (a b : Nat) : Int64 := gc_up (fun s acc => if gb (G 0 ||| G 1) s && gc_good S G a b s then acc ||| gw s else acc) 64 0
def gc_out (G : Nat → Int64) : Int64 := (G 0 ||| G 1) ^^^ (-1)
def gc_los (E S G : Nat → Int64) (a b : Nat) : Int64 := gc_lM (gc_up (gc_sf (gc_stp E G a b) (fun k => gb (G 0 ||| G 1) k && gc_good S G a b k)) 64) 65 (gc_out G) (gc_out G ^^^ (-1))
theorem gc_img_row {E : Nat → Int64} {k a n : Nat} {f : Nat → Int64} {x : Int64} (ha : a < k) : gc_img (gc_row E k f n) a x = gc_img E a x :=
  gc_up_cong (fun s hs acc => by rw [gc_row_old ha hs])
theorem gc_stp_row {E G : Nat → Int64} {k a b n s : Nat} {f : Nat → Int64} (ha : a < k) (hb : b < k) (hs : s < 64) : gc_stp (gc_row E k f n) G a b s = gc_stp E G a b s := by
  unfold gc_stp
  rw [gc_row_old ha hs, gc_row_old hb hs]
theorem gc_rch_row {E G : Nat → Int64} {k a b n s : Nat} {f : Nat → Int64} (ha : a < k) (hb : b < k) (hs : s < 64) : gc_rch (gc_stp (gc_row E k f n) G a b) s = gc_rch (gc_stp E G a b) s :=
  gc_rch_cong (fun _ hq => gc_stp_row ha hb hq) hs
theorem gc_lM_cong {f g : Int64 → Int64} (h : ∀ x, f x = g x) : ∀ (n : Nat) (x old : Int64), gc_lM f n x old = gc_lM g n x old := by
  have e : f = g := funext h
  subst e
  intro n x old
  rfl
theorem gc_los_row {E S G : Nat → Int64} {k a b n : Nat} {f : Nat → Int64} (ha : a < k) (hb : b < k) : gc_los (gc_row E k f n) S G a b = gc_los E S G a b := by
  unfold gc_los
  refine gc_lM_cong (fun x => gc_up_cong (fun s hs y => ?_)) _ _ _
  unfold gc_sf
  refine gc_fg_cong ?_ rfl
  show (_ && decide (gc_stp (gc_row E k f n) G a b s &&& (y ^^^ (-1)) = 0)) = (_ && decide (gc_stp E G a b s &&& (y ^^^ (-1)) = 0))
  rw [gc_stp_row ha hb hs]
/-- the class's sure states of a loop are the reference's -/
theorem gc_los_X (E S G : Nat → Int64) (a b : Nat) : gc_lX (gc_up (gc_sX (gc_stp E G a b) (gc_good S G a b)) 64) 65 (gc_out G) 1 = gc_los E S G a b := by
  refine gc_lXM (o := gc_out G) (fun x ho => gc_sX_up ho (fun s hs h => ?_) 64 (Nat.le_refl _)) (fun x => gc_fg_up x 64) 65 _ _ _ gc_in_rf ?_
  · unfold gc_out at h
    rw [gb_not _ hs] at h
    simpa using h
  · constructor
    · intro h
      exact absurd h (by decide)
    · intro h
      have h1 : gb (gc_out G) 0 = gb (gc_out G ^^^ (-1)) 0 := by rw [← h]
      rw [gb_not _ (by decide)] at h1
      cases hq : gb (gc_out G) 0 <;> rw [hq] at h1 <;> cases h1
/-- the class's sure states of a choice are the reference's -/
theorem gc_chs_X (S G : Nat → Int64) (a b : Nat) : (((G 0 ||| G 1) &&& (S a ||| (G 0 ^^^ (-1)))) &&& (S b ||| (G 1 ^^^ (-1)))) = gc_chs S G a b := by
  apply gb_ext
  intro i hi
  have h := gc_tell (fun s => gb (G 0 ||| G 1) s && gc_good S G a b s) 64 (Nat.le_refl _) i hi
  unfold gc_chs
  rw [h, gb_and, gb_and, gb_or (S a), gb_or (S b), gb_not _ hi, gb_not _ hi]
  unfold gc_good
  cases gb (G 0 ||| G 1) i <;> cases gb (S a) i <;> cases gb (S b) i <;> cases gb (G 0) i <;> cases gb (G 1) i <;> simp [hi]
end
section
/-! THE OPERATIONS: what each answers, and the state behind it: the same for the class and for its reference -/
/-- a program's number is good -/
abbrev gc_gd (p : Int32) (k : Nat) : Prop := ¬ p < 0 ∧ ¬ nI k ≤ p
theorem gc_gd_of {p : Int32} {k : Nat} (h : gc_gd p k) (hk : k < 2 ^ 31) : ∃ j, j < k ∧ p = nI j := by
  rcases pk_ix p hk with q | q | q
  · exact absurd q h.1
  · exact absurd q h.2
  · exact q
theorem gc_gd_nI {j k : Nat} (h : j < k) (hk : k < 2 ^ 31) : gc_gd (nI j) k := ⟨nI_pos (by omega), nI_ge h hk⟩
def o_guard (st : gc_St) (w : Int32) (c : Int64) : Int32 × gc_St := (nI (gc_ct c 64), (st.1, st.2.1, vp_updL st.2.2.1 (if w = 0 then 0 else 1) c, st.2.2.2))
def o_compare (st : gc_St) (w f b : Int32) : Int32 × gc_St := if f < 0 ∨ ¬ f ≤ nI 511 then (-1, st) else if b < 0 ∨ ¬ b ≤ nI 8 then (-2, st) else o_guard st w (gc_cmp f.toNatClampNeg b.toNatClampNeg)
def o_oppose (st : gc_St) (w : Int32) : Int32 × gc_St := o_guard st w (st.2.2.1 (if w = 0 then 0 else 1) ^^^ (-1))
def o_new (st : gc_St) (f : Nat → Int64) (x : Int64) : Int32 × gc_St := (nI st.2.2.2, (gc_row st.1 st.2.2.2 f 64, vp_updL st.2.1 st.2.2.2 x, st.2.2.1, st.2.2.2 + 1))
def o_skip (st : gc_St) : Int32 × gc_St := if st.2.2.2 = 30 then (-1, st) else o_new st gw (-1)
def o_fail (st : gc_St) : Int32 × gc_St := if st.2.2.2 = 30 then (-1, st) else o_new st (fun _ => 0) 0
def o_assign (st : gc_St) (w f : Int32) : Int32 × gc_St := if f < 0 ∨ ¬ f ≤ nI 511 then (-1, st) else if st.2.2.2 = 30 then (-2, st) else o_new st (fun s => gw (gc_to w f.toNatClampNeg s)) (-1)
def o_two (st : gc_St) (a b : Int32) (f : Nat → Int64) (x : Int64) : Int32 × gc_St := if ¬ (gc_gd a st.2.2.2 ∧ gc_gd b st.2.2.2) then (-1, st) else if st.2.2.2 = 30 then (-2, st) else o_new st f x
def o_seq (st : gc_St) (a b : Int32) : Int32 × gc_St := o_two st a b (fun s => gc_img st.1 b.toNatClampNeg (st.1 (64 * a.toNatClampNeg + s))) (gc_seqs st.1 st.2.1 a.toNatClampNeg b.toNatClampNeg)
def o_choice (st : gc_St) (a b : Int32) : Int32 × gc_St := o_two st a b (gc_stp st.1 st.2.2.1 a.toNatClampNeg b.toNatClampNeg) (gc_chs st.2.1 st.2.2.1 a.toNatClampNeg b.toNatClampNeg)
def o_loop (st : gc_St) (a b : Int32) : Int32 × gc_St := o_two st a b (fun s => gc_rch (gc_stp st.1 st.2.2.1 a.toNatClampNeg b.toNatClampNeg) s &&& gc_out st.2.2.1) (gc_los st.1 st.2.1 st.2.2.1 a.toNatClampNeg b.toNatClampNeg)
def q_ends (st : gc_St) (p s : Int32) : Int64 := if gc_gd p st.2.2.2 ∧ ¬ s < 0 ∧ ¬ nI 64 ≤ s then st.1 (64 * p.toNatClampNeg + s.toNatClampNeg) else 0
def q_sure (st : gc_St) (p : Int32) : Int64 := if gc_gd p st.2.2.2 then st.2.1 p.toNatClampNeg else 0
def q_dem (st : gc_St) (p : Int32) (c : Int64) : Int64 := if gc_gd p st.2.2.2 then st.2.1 p.toNatClampNeg &&& gc_wk st.1 p.toNatClampNeg c else 0
def q_weak (st : gc_St) (p : Int32) (c : Int64) : Int64 := if gc_gd p st.2.2.2 then gc_wk st.1 p.toNatClampNeg c else 0
def q_img (st : gc_St) (p : Int32) (c : Int64) : Int64 := if gc_gd p st.2.2.2 then gc_img st.1 p.toNatClampNeg c else 0
/-- what a state asks of a program that stands for another -/
def gc_rf (E S : Nat → Int64) (a b s : Nat) : Bool := !gb (S a) s || (gb (S b) s && decide (E (64 * b + s) &&& (E (64 * a + s) ^^^ (-1)) = 0))
def gc_se (E S : Nat → Int64) (a s : Nat) : Bool := !gb (S a) s || decide (gc_ct (E (64 * a + s)) 64 = 1)
def gc_all (f : Nat → Bool) : Nat → Bool
  | 0 => true
  | n + 1 => gc_all f n && f n
theorem gc_all_f {f : Nat → Bool} {i : Nat} (h : f i = false) : ∀ n, i < n → gc_all f n = false
  | 0, hn => absurd hn (Nat.not_lt_zero _)
  | n + 1, hn => by
    show (gc_all f n && f n) = false
    rcases Nat.lt_or_ge i n with q | q
    · rw [gc_all_f h n q]
      rfl
    · rw [show n = i by omega, h, Bool.and_false]
theorem gc_all_s {f : Nat → Bool} {n : Nat} (h : gc_all f n = true) (hf : f n = true) : gc_all f (n + 1) = true := by
  show (gc_all f n && f n) = true
  rw [h, hf]
  rfl
def q_ref (st : gc_St) (a b : Int32) : Int32 := if ¬ (gc_gd a st.2.2.2 ∧ gc_gd b st.2.2.2) then -1 else if gc_all (gc_rf st.1 st.2.1 a.toNatClampNeg b.toNatClampNeg) 64 then 1 else 0
def q_set (st : gc_St) (p : Int32) : Int32 := if ¬ gc_gd p st.2.2.2 then -1 else if gc_all (gc_se st.1 st.2.1 p.toNatClampNeg) 64 then 1 else 0
def gc_wid (E : Nat → Int64) (a n : Nat) : Nat := gc_up (fun s acc => if acc < gc_ct (E (64 * a + s)) 64 then gc_ct (E (64 * a + s)) 64 else acc) n 0
theorem gc_wid_le (E : Nat → Int64) (a n : Nat) : gc_wid E a n ≤ 64 := by
  refine gc_up_keep (I := fun x : Nat => x ≤ 64) (Nat.zero_le _) (fun k _ x hx => ?_)
  have := gc_ct_le (E (64 * a + k)) 64
  show (if x < gc_ct (E (64 * a + k)) 64 then gc_ct (E (64 * a + k)) 64 else x) ≤ 64
  split
  · exact this
  · exact hx
theorem gc_wid_s (E : Nat → Int64) (a n : Nat) : gc_wid E a (n + 1) = if gc_wid E a n < gc_ct (E (64 * a + n)) 64 then gc_ct (E (64 * a + n)) 64 else gc_wid E a n := rfl
def q_wid (st : gc_St) (p : Int32) : Int32 := if ¬ gc_gd p st.2.2.2 then -1 else nI (gc_wid st.1 p.toNatClampNeg 64)
/-- what holds of every state that a script comes to: at most 30 programs; where a program is sure it has an end -/
def gc_ok (st : gc_St) : Prop := st.2.2.2 ≤ 30 ∧ ∀ p, p < st.2.2.2 → ∀ s, s < 64 → gb (st.2.1 p) s = true → st.1 (64 * p + s) ≠ 0
theorem ok_0 (E S G : Nat → Int64) : gc_ok (E, S, G, 0) := ⟨Nat.zero_le _, fun p hp => absurd hp (Nat.not_lt_zero _)⟩
theorem ok_guard {st : gc_St} (h : gc_ok st) (w : Int32) (c : Int64) : gc_ok (o_guard st w c).2 := h
theorem ok_compare {st : gc_St} (h : gc_ok st) (w f b : Int32) : gc_ok (o_compare st w f b).2 := by
  unfold o_compare
  split
  · exact h
  · split
    · exact h
    · exact h
theorem ok_oppose {st : gc_St} (h : gc_ok st) (w : Int32) : gc_ok (o_oppose st w).2 := h
theorem ok_new {st : gc_St} (h : gc_ok st) (hk : ¬ st.2.2.2 = 30) {f : Nat → Int64} {x : Int64} (hf : ∀ s, s < 64 → gb x s = true → f s ≠ 0) : gc_ok (o_new st f x).2 := by
  obtain ⟨E, S, G, k⟩ := st
  obtain ⟨h1, h2⟩ := h
  have h1 : k ≤ 30 := h1
  have hk : ¬ k = 30 := hk
  refine ⟨show k + 1 ≤ 30 by omega, fun p hp s hs hb => ?_⟩
  have hp : p < k + 1 := hp
  have hb : gb (vp_updL S k x p) s = true := hb
  show gc_row E k f 64 (64 * p + s) ≠ 0
  rcases Nat.lt_or_ge p k with q | q
  · rw [pk_uLn (by omega)] at hb
    rw [gc_row_old q hs]
    exact h2 p q s hs hb
  · have e : p = k := by omega
    subst e
    rw [pk_uLs] at hb
    rw [gc_row_new hs]
    exact hf s hs hb
theorem gw_ne {i : Nat} (hi : i < 64) : gw i ≠ 0 := gb_ne (i := i) (by rw [gb_w hi]; simp)
theorem ok_skip {st : gc_St} (h : gc_ok st) : gc_ok (o_skip st).2 := by
  unfold o_skip
  split
  · exact h
  · rename_i hk
    exact ok_new h hk (fun s hs _ => gw_ne hs)
theorem ok_fail {st : gc_St} (h : gc_ok st) : gc_ok (o_fail st).2 := by
  unfold o_fail
  split
  · exact h
  · rename_i hk
    refine ok_new h hk (fun s hs hb => ?_)
    rw [gb_0] at hb
    cases hb
theorem ok_assign {st : gc_St} (h : gc_ok st) (w f : Int32) : gc_ok (o_assign st w f).2 := by
  unfold o_assign
  split
  · exact h
  · split
    · exact h
    · rename_i hk
      exact ok_new h hk (fun s hs _ => gw_ne (gc_to_lt hs))
theorem ok_two {st : gc_St} (h : gc_ok st) {a b : Int32} {f : Nat → Int64} {x : Int64} (hf : ∀ i j, i < st.2.2.2 → j < st.2.2.2 → a = nI i → b = nI j → ∀ s, s < 64 → gb x s = true → f s ≠ 0) : gc_ok (o_two st a b f x).2 := by
  unfold o_two
  split
  · exact h
  · split
    · exact h
    · rename_i hg hk
      have hg := Classical.not_not.mp hg
      have hb : st.2.2.2 < 2 ^ 31 := Nat.lt_of_le_of_lt h.1 (by decide)
      obtain ⟨i, hi, ei⟩ := gc_gd_of hg.1 hb
      obtain ⟨j, hj, ej⟩ := gc_gd_of hg.2 hb
      exact ok_new h hk (hf i j hi hj ei ej)
theorem gc_cl30 {st : gc_St} (h : gc_ok st) {i : Nat} (hi : i < st.2.2.2) : (nI i).toNatClampNeg = i := nI_clamp (Nat.lt_of_lt_of_le hi (Nat.le_trans h.1 (by decide)))
theorem ok_seq {st : gc_St} (h : gc_ok st) (a b : Int32) : gc_ok (o_seq st a b).2 := by
  unfold o_seq
  refine ok_two h (fun i j hi hj ei ej s hs hb => ?_)
  rw [ei, ej, gc_cl30 h hi, gc_cl30 h hj] at *
  unfold gc_seqs at hb
  have ht := gc_tell (fun s => gb (st.2.1 i) s && decide (st.1 (64 * i + s) &&& (st.2.1 j ^^^ (-1)) = 0)) 64 (Nat.le_refl _) s hs
  rw [ht] at hb
  have hb2 := (Bool.and_eq_true _ _).mp ((Bool.and_eq_true _ _).mp hb).2
  have hne := h.2 i hi s hs hb2.1
  have hin : gc_in (st.1 (64 * i + s)) (st.2.1 j) := gc_part.mp (of_decide_eq_true hb2.2)
  obtain ⟨t, ht, hbt⟩ := gb_some hne
  have hne2 := h.2 j hj t ht (hin t ht hbt)
  obtain ⟨u, hu, hbu⟩ := gb_some hne2
  refine gb_ne (i := u) ?_
  have key : gc_in (st.1 (64 * j + t)) (gc_img st.1 j (st.1 (64 * i + s))) := gc_fg_in (P := fun k _ => gb (st.1 (64 * i + s)) k) (st := fun k => st.1 (64 * j + k)) 0 ht hbt
  exact key u hu hbu
theorem gc_stp_ne {st : gc_St} (h : gc_ok st) {i j s : Nat} (hi : i < st.2.2.2) (hj : j < st.2.2.2) (hs : s < 64) (hg : gb (st.2.2.1 0 ||| st.2.2.1 1) s = true) (hgood : gc_good st.2.1 st.2.2.1 i j s = true) : gc_stp st.1 st.2.2.1 i j s ≠ 0 := by
  rw [gb_or] at hg
  unfold gc_good at hgood
  obtain ⟨g1, g2⟩ := (Bool.and_eq_true _ _).mp hgood
  unfold gc_stp
  rcases (Bool.or_eq_true _ _).mp hg with q | q
  · rw [q] at g1
    have hne := h.2 i hi s hs (by simpa using g1)
    obtain ⟨u, hu, hbu⟩ := gb_some hne
    refine gb_ne (i := u) ?_
    rw [if_pos q, gb_or, hbu]
    rfl
  · rw [q] at g2
    have hne := h.2 j hj s hs (by simpa using g2)
    obtain ⟨u, hu, hbu⟩ := gb_some hne
    refine gb_ne (i := u) ?_
    rw [if_pos q, gb_or, hbu, Bool.or_true]
theorem ok_choice {st : gc_St} (h : gc_ok st) (a b : Int32) : gc_ok (o_choice st a b).2 := by
  unfold o_choice
  refine ok_two h (fun i j hi hj ei ej s hs hb => ?_)
  rw [ei, ej, gc_cl30 h hi, gc_cl30 h hj] at *
  unfold gc_chs at hb
  have ht := gc_tell (fun s => gb (st.2.2.1 0 ||| st.2.2.1 1) s && gc_good st.2.1 st.2.2.1 i j s) 64 (Nat.le_refl _) s hs
  rw [ht] at hb
  have hb2 := (Bool.and_eq_true _ _).mp ((Bool.and_eq_true _ _).mp hb).2
  exact gc_stp_ne h hi hj hs hb2.1 hb2.2
/-- from a sure state a loop can come to an end -/
def gc_ends (E G : Nat → Int64) (i j : Nat) (x : Int64) : Prop := ∀ s, s < 64 → gb x s = true → ∃ u, u < 64 ∧ gb (gc_rch (gc_stp E G i j) s) u = true ∧ gb (gc_out G) u = true
theorem gc_ends_1 {st : gc_St} (h : gc_ok st) {i j : Nat} (hi : i < st.2.2.2) (hj : j < st.2.2.2) (k : Nat) (hk : k < 64) (x : Int64) (hx : gc_ends st.1 st.2.2.1 i j x) : gc_ends st.1 st.2.2.1 i j (gc_sf (gc_stp st.1 st.2.2.1 i j) (fun k => gb (st.2.2.1 0 ||| st.2.2.1 1) k && gc_good st.2.1 st.2.2.1 i j k) k x) := by
  unfold gc_sf gc_fg
  split
  · rename_i hc
    obtain ⟨hc1, hc2⟩ := (Bool.and_eq_true _ _).mp hc
    obtain ⟨hc3, hc4⟩ := (Bool.and_eq_true _ _).mp hc1
    have hin : gc_in (gc_stp st.1 st.2.2.1 i j k) x := gc_part.mp (of_decide_eq_true hc2)
    intro s hs hb
    rw [gb_or] at hb
    rcases (Bool.or_eq_true _ _).mp hb with q | q
    · exact hx s hs q
    · rw [gb_w hk] at q
      have e : k = s := of_decide_eq_true q
      subst e
      obtain ⟨t, ht, hbt⟩ := gb_some (gc_stp_ne h hi hj hk hc3 hc4)
      obtain ⟨u, hu, hu1, hu2⟩ := hx t ht (hin t ht hbt)
      exact ⟨u, hu, gc_rch_step _ hk ht hbt u hu hu1, hu2⟩
  · exact hx
theorem ok_loop {st : gc_St} (h : gc_ok st) (a b : Int32) : gc_ok (o_loop st a b).2 := by
  unfold o_loop
  refine ok_two h (fun i j hi hj ei ej s hs hb => ?_)
  rw [ei, ej, gc_cl30 h hi, gc_cl30 h hj] at *
  have key : gc_ends st.1 st.2.2.1 i j (gc_los st.1 st.2.1 st.2.2.1 i j) := by
    refine gc_lM_keep (I := gc_ends st.1 st.2.2.1 i j) (fun x hx => gc_up_keep hx (fun k hk y hy => gc_ends_1 h hi hj k hk y hy)) 65 _ _ (fun t ht hbt => ?_)
    exact ⟨t, ht, (gc_rch_least _ ht).1, hbt⟩
  obtain ⟨u, hu, hu1, hu2⟩ := key s hs hb
  refine gb_ne (i := u) ?_
  rw [gb_and, hu1, hu2]
  rfl
/-! numbers -/
theorem gc_fvX {f j : Nat} (hf : f < 512) (hj : j < 64) : ((nI f >>> (nI 6 &&& 31)) * (nI j >>> ((3 : Int32) &&& 31)) + ((nI f >>> ((3 : Int32) &&& 31)) &&& nI 7) * (nI j &&& nI 7) + (nI f &&& nI 7)) &&& nI 7 = nI (gc_fv f j) := by
  have a1 : f / 64 < 8 := by omega
  have a2 : j / 8 < 8 := by omega
  have a3 : f / 8 % 8 < 8 := by omega
  have a4 : j % 8 < 8 := by omega
  have b1 : f / 64 * (j / 8) ≤ 7 * 7 := Nat.mul_le_mul (by omega) (by omega)
  have b2 : f / 8 % 8 * (j % 8) ≤ 7 * 7 := Nat.mul_le_mul (by omega) (by omega)
  rw [pk_shrN (n := f) (by omega) _ 6 (by decide), pk_shrN (n := j) (by omega) _ 3 (by decide), pk_shrN (n := f) (by omega) _ 3 (by decide)]
  rw [pk_andN (n := f / 2 ^ 3) (by omega) 3 (by decide), pk_andN (n := j) (by omega) 3 (by decide), pk_andN (n := f) (by omega) 3 (by decide)]
  rw [pk_mul, pk_mul, nI_add, nI_add]
  show nI (f / 64 * (j / 8) + f / 8 % 8 * (j % 8) + f % 8) &&& nI 7 = _
  rw [pk_andN (by omega) 3 (by decide)]
  rfl
theorem gc_fvM {f j : Nat} (hf : f < 512) (hj : j < 64) : (nI f / nI 64 * (nI j / nI 8) + (nI f / nI 8 - nI f / nI 8 / nI 8 * nI 8) * (nI j - nI j / nI 8 * nI 8) + (nI f - nI f / nI 8 * nI 8)) - (nI f / nI 64 * (nI j / nI 8) + (nI f / nI 8 - nI f / nI 8 / nI 8 * nI 8) * (nI j - nI j / nI 8 * nI 8) + (nI f - nI f / nI 8 * nI 8)) / nI 8 * nI 8 = nI (gc_fv f j) := by
  have a1 : f / 64 < 8 := by omega
  have a2 : j / 8 < 8 := by omega
  have a3 : f / 8 % 8 < 8 := by omega
  have a4 : j % 8 < 8 := by omega
  have b1 : f / 64 * (j / 8) ≤ 7 * 7 := Nat.mul_le_mul (by omega) (by omega)
  have b2 : f / 8 % 8 * (j % 8) ≤ 7 * 7 := Nat.mul_le_mul (by omega) (by omega)
  rw [pk_rem (a := f) (by omega) (by decide) (by decide), pk_rem (a := j) (by omega) (by decide) (by decide), pk_div (a := f) (d := 8) (by omega) (by decide) (by decide), pk_rem (a := f / 8) (by omega) (by decide) (by decide), pk_div (a := f) (d := 64) (by omega) (by decide) (by decide), pk_div (a := j) (d := 8) (by omega) (by decide) (by decide)]
  rw [pk_mul, pk_mul, nI_add, nI_add, pk_rem (by omega) (by decide) (by decide)]
  rfl
theorem gc_56 : ∀ j, j < 64 → nI j &&& nI 56 = nI (8 * (j / 8)) := by decide +kernel
theorem gc_7 {j : Nat} (hj : j < 64) : nI j &&& nI 7 = nI (j % 8) := pk_andN (by omega) 3 (by decide)
/-- 64 * a + s, as the bytecode has it -/
theorem gc_ix (a s : Nat) : nI 64 * nI a + nI s = nI (64 * a + s) := by rw [pk_mul, nI_add]
theorem gc_b0 {c : Prop} [Decidable c] : (if c then (1 : Int32) else 0) = 0 ↔ ¬ c := by
  by_cases h : c
  · rw [if_pos h]
    exact ⟨fun q => absurd q (by decide), fun q => absurd h q⟩
  · rw [if_neg h]
    exact ⟨fun _ => h, fun _ => rfl⟩
theorem gc_up_s {α : Type} (f : Nat → α → α) (n : Nat) (a : α) : gc_up f (n + 1) a = f n (gc_up f n a) := rfl
theorem gc_or0 (x : Int64) : x ||| 0 = x := gb_ext (fun i _ => by rw [gb_or, gb_0, Bool.or_false])
theorem gc_0or (x : Int64) : 0 ||| x = x := gb_ext (fun i _ => by rw [gb_or, gb_0, Bool.false_or])
theorem gc_andc (x y : Int64) : x &&& y = y &&& x := gb_ext (fun i _ => by rw [gb_and, gb_and, Bool.and_comm])
theorem ww_lt {k N : Nat} (hk : k ≤ N) (hN : N < 2 ^ 31) (h : ¬ nI N ≤ nI k) : k < N := by
  rcases Nat.lt_or_ge k N with q | q
  · exact q
  · exact absurd (nI_le q (by omega)) h
theorem ww_eq {k N : Nat} (hk : k ≤ N) (hN : N < 2 ^ 31) (h : nI N ≤ nI k) : k = N := by
  have := (nI_leI hN (by omega)).mp h
  omega
end
section
/-! THE WALK's own rows: worlds of the class (X0) and of its reference (X1), loops, calls that change nothing -/
set_option maxRecDepth 100000
abbrev vwCl : List vw_C := [(RX0, TX0, 4), (RX1, TX1, 5)]
/-- the class's cells -/
abbrev gX (h0 hE hS hG : Nat) (d : ClassId) (E S G : Nat → Int64) (k : Nat) : va_W := [(h0, .inr (0, [.ref hE, .ref hS, .ref hG, .int (nI k)])), (hE, .inl (d, 1920, .inr (.inl E))), (hS, .inl (d, 30, .inr (.inl S))), (hG, .inl (d, 2, .inr (.inl G)))]
/-- the reference's cells -/
abbrev gM (h0 hE hS : Nat) (d : ClassId) (E S : Nat → Int64) (g h : Int64) (k : Nat) : va_W := [(h0, .inr (1, [.long g, .long h, .int (nI k), .ref hE, .ref hS])), (hE, .inl (d, 1920, .inr (.inl E))), (hS, .inl (d, 30, .inr (.inl S)))]
abbrev gXs (h0 hE hS hG : Nat) (d : ClassId) (st : gc_St) : va_W := gX h0 hE hS hG d st.1 st.2.1 st.2.2.1 st.2.2.2
abbrev gMs (h0 hE hS : Nat) (d : ClassId) (st : gc_St) : va_W := gM h0 hE hS d st.1 st.2.1 (st.2.2.1 0) (st.2.2.1 1) st.2.2.2
/-- a start that reads a world only -/
abbrev gP (D : va_G) (d : ClassId) (ws : va_W) : State → Prop := fun U => va_P D vwCl ws U.heap ∧ va_K D vwCl [(d, .long)] U
theorem gP_blind {av : List Value} {D : va_G} {d : ClassId} {ws : va_W} : FrameBlind (va_Pc av (gP D d ws)) := fun a U g mk q => ⟨q.1, q.2.1, va_K.moved (u := U) (U := U.calling g mk a) (Vm.Alike.refl U.vm) q.2.2⟩
/-- a start that may change its world -/
abbrev gC (D : va_G) (d : ClassId) (sz : Nat) (ws : va_W) : State → Prop := fun U => U.heap.size = sz ∧ va_P D vwCl ws U.heap ∧ va_K D vwCl [(d, .long)] U ∧ va_D (fun _ => True) ws
theorem gC_blind {av : List Value} {D : va_G} {d : ClassId} {sz : Nat} {ws : va_W} : FrameBlind (va_Pc av (gC D d sz ws)) := fun a U g mk q => ⟨q.1, q.2.1, q.2.2.1, va_K.moved (u := U) (U := U.calling g mk a) (Vm.Alike.refl U.vm) q.2.2.2.1, q.2.2.2.2⟩
/-- its end: the answer r, the world w2 -/
abbrev gQ (D : va_G) (d : ClassId) (sz : Nat) (ws : va_W) (r : Int32) (w2 : va_W) : Array Value → State → Outcome → State → Prop := va_Qi (fun (r0 : Int32) (_ : Unit) => r0 = r) (fun _ t => va_P D vwCl w2 t.heap ∧ va_K D vwCl [(d, .long)] t ∧ va_D (va_A ws sz) w2) (va_A ws sz)
section WW
variable {p : Program} {l : Launch} {e : Env} {R : Room} {s : State} {m : MethodId} {args : Array Value} {below : List Frame} {meth : Method} {c : Code} {H : Heap} {locs : List Loc} {cells slots : Nat} {Q : State → Prop}
variable {pc : Nat} {ls : Array Slot} {rest : List Value}
theorem ww_ti {x v : Int32} (h : x = v) (k : W p l e R s m args below meth c H locs cells slots Q (F0 m pc ls (.int v :: rest))) : W p l e R s m args below meth c H locs cells slots Q (F0 m pc ls (.int x :: rest)) := h ▸ k
theorem ww_tl {x v : Int64} (h : x = v) (k : W p l e R s m args below meth c H locs cells slots Q (F0 m pc ls (.long v :: rest))) : W p l e R s m args below meth c H locs cells slots Q (F0 m pc ls (.long x :: rest)) := h ▸ k
/-- where two ways meet: the goal behind it is had once -/
theorem ww_join {tgt : Nat} {st st0 : List Value} (kJ : W p l e R s m args below meth c H locs cells slots Q (F0 m tgt ls st)) (k : W p l e R s m args below meth c H locs cells slots Q (F0 m tgt ls st) → W p l e R s m args below meth c H locs cells slots Q (F0 m pc ls st0)) : W p l e R s m args below meth c H locs cells slots Q (F0 m pc ls st0) := k kJ
/-- a loop that counts up to N and writes no cell -/
theorem ww_for {nL : Nat} (N : Nat) (I : Nat → Prop) (lv : Nat → List (Nat × Value)) (h0 : I 0) (hl : lv_has ls nL (lv 0))
    (body : ∀ k, k ≤ N → I k → (k < N → I (k + 1) → ∀ ls, lv_has ls nL (lv (k + 1)) → W p l e R s m args below meth c H locs cells slots Q (F0 m pc ls [])) → ∀ ls, lv_has ls nL (lv k) → W p l e R s m args below meth c H locs cells slots Q (F0 m pc ls [])) : W p l e R s m args below meth c H locs cells slots Q (F0 m pc ls []) := by
  have key : ∀ n k, k + n = N → I k → ∀ ls, lv_has ls nL (lv k) → W p l e R s m args below meth c H locs cells slots Q (F0 m pc ls []) := by
    intro n
    induction n with
    | zero =>
      intro k hk hI ls hl
      exact body k (by omega) hI (fun h => absurd h (by omega)) ls hl
    | succ n ih =>
      intro k hk hI ls hl
      exact body k (by omega) hI (fun _ hI' ls hl => ih (k + 1) (by omega) hI' ls hl) ls hl
  exact key N 0 (by omega) h0 ls hl
/-- a loop of at most N rounds, by what is left, that writes no cell -/
theorem ww_fuel {σ : Type} {nL : Nat} (N : Nat) (I : Nat → σ → Prop) (lv : Nat → σ → List (Nat × Value)) (x0 : σ) (h0 : I N x0) (hl : lv_has ls nL (lv N x0))
    (body : ∀ n x, n ≤ N → I n x → (∀ n', n = n' + 1 → ∀ x', I n' x' → ∀ ls, lv_has ls nL (lv n' x') → W p l e R s m args below meth c H locs cells slots Q (F0 m pc ls [])) → ∀ ls, lv_has ls nL (lv n x) → W p l e R s m args below meth c H locs cells slots Q (F0 m pc ls [])) : W p l e R s m args below meth c H locs cells slots Q (F0 m pc ls []) := by
  have key : ∀ n, n ≤ N → ∀ x, I n x → ∀ ls, lv_has ls nL (lv n x) → W p l e R s m args below meth c H locs cells slots Q (F0 m pc ls []) := by
    intro n
    induction n with
    | zero =>
      intro hn x hI ls hl
      exact body 0 x hn hI (fun n' h => by omega) ls hl
    | succ n ih =>
      intro hn x hI ls hl
      exact body (n + 1) x hn hI (fun n' h x' hI' ls2 hl2 => by
        have e : n' = n := by omega
        rw [e] at hI' hl2
        exact ih (by omega) x' hI' ls2 hl2) ls hl
  exact key N (Nat.le_refl _) x0 h0 ls hl
/-- a loop that counts up to N and writes cells -/
theorem ww_forH {nL : Nat} {D : va_G} {cl : List vw_C} {A : Nat → Prop} {H0 : Heap} (N : Nat) (ws : Nat → va_W) (lv : Nat → List (Nat × Value)) (hP : va_P D cl (ws 0) H) (hD : va_D A (ws 0)) (hS : va_S A H0 H locs) (hl : lv_has ls nL (lv 0))
    (body : ∀ k, k ≤ N → (k < N → ∀ (H : Heap) (locs : List Loc), va_P D cl (ws (k + 1)) H → va_D A (ws (k + 1)) → va_S A H0 H locs → ∀ ls, lv_has ls nL (lv (k + 1)) → W p l e R s m args below meth c H locs cells slots Q (F0 m pc ls [])) → ∀ (H : Heap) (locs : List Loc), va_P D cl (ws k) H → va_D A (ws k) → va_S A H0 H locs → ∀ ls, lv_has ls nL (lv k) → W p l e R s m args below meth c H locs cells slots Q (F0 m pc ls [])) : W p l e R s m args below meth c H locs cells slots Q (F0 m pc ls []) := by
  have key : ∀ n k, k + n = N → ∀ (H : Heap) (locs : List Loc), va_P D cl (ws k) H → va_D A (ws k) → va_S A H0 H locs → ∀ ls, lv_has ls nL (lv k) → W p l e R s m args below meth c H locs cells slots Q (F0 m pc ls []) := by
    intro n
    induction n with
    | zero =>
      intro k hk H locs hP hD hS ls hl
      exact body k (by omega) (fun h => absurd h (by omega)) H locs hP hD hS ls hl
    | succ n ih =>
      intro k hk H locs hP hD hS ls hl
      exact body k (by omega) (fun _ H locs hP hD hS ls hl => ih (k + 1) (by omega) H locs hP hD hS ls hl) H locs hP hD hS ls hl
  exact key N 0 (by omega) H locs hP hD hS ls hl
/-- a contract out of the walk of a body -/
theorem ww_met {y : MethodName} {cc : ByteArray} {maxL : Nat} {ret : Option FieldType} {rm : Room} {av : List Value} {Pre : State → Prop} {Qc : Array Value → State → Outcome → State → Prop} {mc ms : Nat} {free : Addr → Prop} (hy : plainName y.cls = true) (hlen : (lg_sl av).length ≤ maxL)
    (body : ∀ (p : Program) (e : Env) (s : State) (m : MethodId) (below : List Frame) (meth : Method) (c : Code), CallFix p m c cc maxL s av.toArray lw_all y.cls → meth.sig.returnType = ret → meth.locks = false → meth.name = y.name → Pre s → ∀ ls, lv_has ls maxL (lv_args 0 av) → W p l e rm s m av.toArray below meth c s.heap [] 0 0 (MQ below Qc av.toArray s mc ms free) (F0 m 0 ls [])) : Met l y (ws_ y cc maxL ret) rm (va_Pc av Pre) Qc mc ms free := by
  refine Met.ofW (cc := cc) (maxL := maxL) (ret := ret) hy rfl ?_
  intro p e s m args below meth c s₁ B hml hv
  obtain ⟨rfl, hv⟩ := hv
  have hts := atoms_spec (ws := ws_ y cc maxL ret) B.pre
  have hfix : CallFix p m c cc maxL s av.toArray lw_all y.cls := ⟨B.exec, B.bytes, hml, findClass_of_methodNamed B.named, fun w h => hts w (List.mem_cons_of_mem _ h)⟩
  rw [lg_entry_eq]
  exact body p e s m below meth c hfix B.returns B.notSynchronized (name_of_methodNamed B.named B.method).1 hv _ (lv_entry av hlen)
theorem gc_b1 {q : Prop} [Decidable q] (h : ¬ (if q then (1 : Int32) else 0) = 0) : q := Classical.not_not.mp (fun z => h (gc_b0.mpr z))
theorem gc_nb0 {b : Bool} (h : ¬ (if b then (1 : Int32) else 0) = 0) : b = true := gc_b1 h
theorem ww_inc (k : Nat) : nI k + Int32.ofInt 1 = nI (k + 1) := nI_1 k
variable {cc : ByteArray} {nL : Nat} {own : String} {D : va_G} {cl : List vw_C} {tys : List (ClassId × FieldType)} {ws : va_W} {A : Nat → Prop} {H0 : Heap} {a : Nat}
theorem ww_lald (C0 : CallFix p m c cc nL s args lw_all own) (hK : va_K D cl tys s) (hP : va_P D cl ws H) (q0 t0 : Nat) {cA : ClassId} {N : Nat} {f : Nat → Int64} (ha : ws[q0]? = some (a, .inl (cA, N, .inr (.inl f)))) (ht : tys[t0]? = some (cA, .long)) {i : Int32} {j : Nat} (hi : i = nI j) (hj : j < N) (hN : N < 2 ^ 31) (hdg : decode cc pc = .ok (.laload, 1))
    (kk : W p l e R s m args below meth c H locs cells slots Q (F0 m (pc + 1) ls (.long (f j) :: rest))) : W p l e R s m args below meth c H locs cells slots Q (F0 m pc ls (.int i :: .ref a :: rest)) := by
  subst hi
  refine va_lald C0.1 C0.2.1 hK hP q0 t0 ha ht (vp_in_nI hj hN) hdg ?_
  rw [nI_clamp (Nat.lt_trans hj hN)]
  exact kk
theorem ww_last (C0 : CallFix p m c cc nL s args lw_all own) (hK : va_K D cl tys s) (hP : va_P D cl ws H) (hD : va_D A ws) (hS : va_S A H0 H locs) (q0 t0 : Nat) {cA : ClassId} {N : Nat} {f : Nat → Int64} (ha : ws[q0]? = some (a, .inl (cA, N, .inr (.inl f)))) (ht : tys[t0]? = some (cA, .long)) {i : Int32} {x : Int64} {j : Nat} (hi : i = nI j) (hj : j < N) (hN : N < 2 ^ 31) (hdg : decode cc pc = .ok (.lastore, 1))
    (kk : ∀ (H1 : Heap) (locs1 : List Loc), va_P D cl (ws.set q0 (a, .inl (cA, N, .inr (.inl (vp_updL f j x))))) H1 → va_D A (ws.set q0 (a, .inl (cA, N, .inr (.inl (vp_updL f j x))))) → va_S A H0 H1 locs1 → W p l e R s m args below meth c H1 locs1 cells slots Q (F0 m (pc + 1) ls rest)) : W p l e R s m args below meth c H locs cells slots Q (F0 m pc ls (.long x :: .int i :: .ref a :: rest)) := by
  subst hi
  refine va_last C0.1 C0.2.1 hK hP hD hS q0 t0 ha ht (vp_in_nI hj hN) hdg ?_
  rw [nI_clamp (Nat.lt_trans hj hN)]
  exact kk
variable {h0 hE hS' hG : Nat} {d : ClassId} {E S G : Nat → Int64} {g h x : Int64} {k : Nat}
/-! the class's fields -/
theorem xg_E (C0 : CallFix p m c cc nL s args lw_all RX0) (hK : va_K D vwCl tys s) (hP : va_P D vwCl (gX h0 hE hS' hG d E S G k) H) (hdg : decode cc pc = .ok (.getfield 7, 3)) (kk : W p l e R s m args below meth c H locs cells slots Q (F0 m (pc + 3) ls (.ref hE :: rest))) : W p l e R s m args below meth c H locs cells slots Q (F0 m pc ls (.ref h0 :: rest)) :=
  va_get (D := D) (ci := 0) (v := .ref hE) (C := RX0) (T := TX0) (N := 4) C0.1 C0.2.1 C0.2.2.2.2 in_X0 C0.2.2.2.1 hK hP 0 rfl rfl 0 (by decide) (C0.2.2.2.2 _ q32) (fun _ h9 => h9) rfl hdg kk
theorem xg_S (C0 : CallFix p m c cc nL s args lw_all RX0) (hK : va_K D vwCl tys s) (hP : va_P D vwCl (gX h0 hE hS' hG d E S G k) H) (hdg : decode cc pc = .ok (.getfield 13, 3)) (kk : W p l e R s m args below meth c H locs cells slots Q (F0 m (pc + 3) ls (.ref hS' :: rest))) : W p l e R s m args below meth c H locs cells slots Q (F0 m pc ls (.ref h0 :: rest)) :=
  va_get (D := D) (ci := 0) (v := .ref hS') (C := RX0) (T := TX0) (N := 4) C0.1 C0.2.1 C0.2.2.2.2 in_X0 C0.2.2.2.1 hK hP 0 rfl rfl 1 (by decide) (C0.2.2.2.2 _ q33) (fun _ h9 => h9) rfl hdg kk
theorem xg_G (C0 : CallFix p m c cc nL s args lw_all RX0) (hK : va_K D vwCl tys s) (hP : va_P D vwCl (gX h0 hE hS' hG d E S G k) H) (hdg : decode cc pc = .ok (.getfield 16, 3)) (kk : W p l e R s m args below meth c H locs cells slots Q (F0 m (pc + 3) ls (.ref hG :: rest))) : W p l e R s m args below meth c H locs cells slots Q (F0 m pc ls (.ref h0 :: rest)) :=
  va_get (D := D) (ci := 0) (v := .ref hG) (C := RX0) (T := TX0) (N := 4) C0.1 C0.2.1 C0.2.2.2.2 in_X0 C0.2.2.2.1 hK hP 0 rfl rfl 2 (by decide) (C0.2.2.2.2 _ q34) (fun _ h9 => h9) rfl hdg kk
theorem xg_k (C0 : CallFix p m c cc nL s args lw_all RX0) (hK : va_K D vwCl tys s) (hP : va_P D vwCl (gX h0 hE hS' hG d E S G k) H) (hdg : decode cc pc = .ok (.getfield 19, 3)) (kk : W p l e R s m args below meth c H locs cells slots Q (F0 m (pc + 3) ls (.int (nI k) :: rest))) : W p l e R s m args below meth c H locs cells slots Q (F0 m pc ls (.ref h0 :: rest)) :=
  va_get (D := D) (ci := 0) (v := .int (nI k)) (C := RX0) (T := TX0) (N := 4) C0.1 C0.2.1 C0.2.2.2.2 in_X0 C0.2.2.2.1 hK hP 0 rfl rfl 3 (by decide) (C0.2.2.2.2 _ q35) (fun _ h9 => h9) rfl hdg kk
theorem xp_k (C0 : CallFix p m c cc nL s args lw_all RX0) (hK : va_K D vwCl tys s) (hP : va_P D vwCl (gX h0 hE hS' hG d E S G k) H) (hD : va_D A (gX h0 hE hS' hG d E S G k)) (hS : va_S A H0 H locs) {k' : Nat} (hdg : decode cc pc = .ok (.putfield 19, 3)) (kk : ∀ (H : Heap) (locs : List Loc), va_P D vwCl (gX h0 hE hS' hG d E S G k') H → va_D A (gX h0 hE hS' hG d E S G k') → va_S A H0 H locs → W p l e R s m args below meth c H locs cells slots Q (F0 m (pc + 3) ls rest)) : W p l e R s m args below meth c H locs cells slots Q (F0 m pc ls (.int (nI k') :: .ref h0 :: rest)) :=
  va_put (D := D) (ci := 0) (v := .int (nI k')) (ty := .int) (C := RX0) (T := TX0) (N := 4) C0.1 C0.2.1 C0.2.2.2.2 in_X0 tyX0 tyX0_ok nmX0 C0.2.2.2.1 hK hP hD hS 0 rfl rfl 3 (by decide) (C0.2.2.2.2 _ q35) (fun _ h9 => h9) rfl (by decide +kernel) rfl rfl (Nat.le_of_ble_eq_true rfl) hdg (fun H locs hP hD hS => kk H locs hP hD hS)
/-! the reference's fields -/
theorem mg_g (C0 : CallFix p m c cc nL s args lw_all RX1) (hK : va_K D vwCl tys s) (hP : va_P D vwCl (gM h0 hE hS' d E S g h k) H) (hdg : decode cc pc = .ok (.getfield 20, 3)) (kk : W p l e R s m args below meth c H locs cells slots Q (F0 m (pc + 3) ls (.long g :: rest))) : W p l e R s m args below meth c H locs cells slots Q (F0 m pc ls (.ref h0 :: rest)) :=
  va_get (D := D) (ci := 1) (v := .long g) (C := RX1) (T := TX1) (N := 5) C0.1 C0.2.1 C0.2.2.2.2 in_X1 C0.2.2.2.1 hK hP 0 rfl rfl 0 (by decide) (C0.2.2.2.2 _ q162) (fun _ h9 => h9) rfl hdg kk
theorem mg_h (C0 : CallFix p m c cc nL s args lw_all RX1) (hK : va_K D vwCl tys s) (hP : va_P D vwCl (gM h0 hE hS' d E S g h k) H) (hdg : decode cc pc = .ok (.getfield 24, 3)) (kk : W p l e R s m args below meth c H locs cells slots Q (F0 m (pc + 3) ls (.long h :: rest))) : W p l e R s m args below meth c H locs cells slots Q (F0 m pc ls (.ref h0 :: rest)) :=
  va_get (D := D) (ci := 1) (v := .long h) (C := RX1) (T := TX1) (N := 5) C0.1 C0.2.1 C0.2.2.2.2 in_X1 C0.2.2.2.1 hK hP 0 rfl rfl 1 (by decide) (C0.2.2.2.2 _ q163) (fun _ h9 => h9) rfl hdg kk
theorem mg_k (C0 : CallFix p m c cc nL s args lw_all RX1) (hK : va_K D vwCl tys s) (hP : va_P D vwCl (gM h0 hE hS' d E S g h k) H) (hdg : decode cc pc = .ok (.getfield 41, 3)) (kk : W p l e R s m args below meth c H locs cells slots Q (F0 m (pc + 3) ls (.int (nI k) :: rest))) : W p l e R s m args below meth c H locs cells slots Q (F0 m pc ls (.ref h0 :: rest)) :=
  va_get (D := D) (ci := 1) (v := .int (nI k)) (C := RX1) (T := TX1) (N := 5) C0.1 C0.2.1 C0.2.2.2.2 in_X1 C0.2.2.2.1 hK hP 0 rfl rfl 2 (by decide) (C0.2.2.2.2 _ q164) (fun _ h9 => h9) rfl hdg kk
theorem mg_E (C0 : CallFix p m c cc nL s args lw_all RX1) (hK : va_K D vwCl tys s) (hP : va_P D vwCl (gM h0 hE hS' d E S g h k) H) (hdg : decode cc pc = .ok (.getfield 7, 3)) (kk : W p l e R s m args below meth c H locs cells slots Q (F0 m (pc + 3) ls (.ref hE :: rest))) : W p l e R s m args below meth c H locs cells slots Q (F0 m pc ls (.ref h0 :: rest)) :=
  va_get (D := D) (ci := 1) (v := .ref hE) (C := RX1) (T := TX1) (N := 5) C0.1 C0.2.1 C0.2.2.2.2 in_X1 C0.2.2.2.1 hK hP 0 rfl rfl 3 (by decide) (C0.2.2.2.2 _ q165) (fun _ h9 => h9) rfl hdg kk
theorem mg_S (C0 : CallFix p m c cc nL s args lw_all RX1) (hK : va_K D vwCl tys s) (hP : va_P D vwCl (gM h0 hE hS' d E S g h k) H) (hdg : decode cc pc = .ok (.getfield 13, 3)) (kk : W p l e R s m args below meth c H locs cells slots Q (F0 m (pc + 3) ls (.ref hS' :: rest))) : W p l e R s m args below meth c H locs cells slots Q (F0 m pc ls (.ref h0 :: rest)) :=
  va_get (D := D) (ci := 1) (v := .ref hS') (C := RX1) (T := TX1) (N := 5) C0.1 C0.2.1 C0.2.2.2.2 in_X1 C0.2.2.2.1 hK hP 0 rfl rfl 4 (by decide) (C0.2.2.2.2 _ q166) (fun _ h9 => h9) rfl hdg kk
theorem mp_g (C0 : CallFix p m c cc nL s args lw_all RX1) (hK : va_K D vwCl tys s) (hP : va_P D vwCl (gM h0 hE hS' d E S g h k) H) (hD : va_D A (gM h0 hE hS' d E S g h k)) (hS : va_S A H0 H locs) (hdg : decode cc pc = .ok (.putfield 20, 3)) (kk : ∀ (H : Heap) (locs : List Loc), va_P D vwCl (gM h0 hE hS' d E S x h k) H → va_D A (gM h0 hE hS' d E S x h k) → va_S A H0 H locs → W p l e R s m args below meth c H locs cells slots Q (F0 m (pc + 3) ls rest)) : W p l e R s m args below meth c H locs cells slots Q (F0 m pc ls (.long x :: .ref h0 :: rest)) :=
  va_put (D := D) (ci := 1) (v := .long x) (ty := .long) (C := RX1) (T := TX1) (N := 5) C0.1 C0.2.1 C0.2.2.2.2 in_X1 tyX1 tyX1_ok nmX1 C0.2.2.2.1 hK hP hD hS 0 rfl rfl 0 (by decide) (C0.2.2.2.2 _ q162) (fun _ h9 => h9) rfl (by decide +kernel) rfl rfl (Nat.le_of_ble_eq_true rfl) hdg (fun H locs hP hD hS => kk H locs hP hD hS)
theorem mp_h (C0 : CallFix p m c cc nL s args lw_all RX1) (hK : va_K D vwCl tys s) (hP : va_P D vwCl (gM h0 hE hS' d E S g h k) H) (hD : va_D A (gM h0 hE hS' d E S g h k)) (hS : va_S A H0 H locs) (hdg : decode cc pc = .ok (.putfield 24, 3)) (kk : ∀ (H : Heap) (locs : List Loc), va_P D vwCl (gM h0 hE hS' d E S g x k) H → va_D A (gM h0 hE hS' d E S g x k) → va_S A H0 H locs → W p l e R s m args below meth c H locs cells slots Q (F0 m (pc + 3) ls rest)) : W p l e R s m args below meth c H locs cells slots Q (F0 m pc ls (.long x :: .ref h0 :: rest)) :=
  va_put (D := D) (ci := 1) (v := .long x) (ty := .long) (C := RX1) (T := TX1) (N := 5) C0.1 C0.2.1 C0.2.2.2.2 in_X1 tyX1 tyX1_ok nmX1 C0.2.2.2.1 hK hP hD hS 0 rfl rfl 1 (by decide) (C0.2.2.2.2 _ q163) (fun _ h9 => h9) rfl (by decide +kernel) rfl rfl (Nat.le_of_ble_eq_true rfl) hdg (fun H locs hP hD hS => kk H locs hP hD hS)
theorem mp_k (C0 : CallFix p m c cc nL s args lw_all RX1) (hK : va_K D vwCl tys s) (hP : va_P D vwCl (gM h0 hE hS' d E S g h k) H) (hD : va_D A (gM h0 hE hS' d E S g h k)) (hS : va_S A H0 H locs) {k' : Nat} (hdg : decode cc pc = .ok (.putfield 41, 3)) (kk : ∀ (H : Heap) (locs : List Loc), va_P D vwCl (gM h0 hE hS' d E S g h k') H → va_D A (gM h0 hE hS' d E S g h k') → va_S A H0 H locs → W p l e R s m args below meth c H locs cells slots Q (F0 m (pc + 3) ls rest)) : W p l e R s m args below meth c H locs cells slots Q (F0 m pc ls (.int (nI k') :: .ref h0 :: rest)) :=
  va_put (D := D) (ci := 1) (v := .int (nI k')) (ty := .int) (C := RX1) (T := TX1) (N := 5) C0.1 C0.2.1 C0.2.2.2.2 in_X1 tyX1 tyX1_ok nmX1 C0.2.2.2.1 hK hP hD hS 0 rfl rfl 2 (by decide) (C0.2.2.2.2 _ q164) (fun _ h9 => h9) rfl (by decide +kernel) rfl rfl (Nat.le_of_ble_eq_true rfl) hdg (fun H locs hP hD hS => kk H locs hP hD hS)
/-! ends of methods -/
theorem ww_iret {v : Int32} {post : Int32 → Prop} (C0 : CallFix p m c cc nL s args lw_all own) (hr : meth.sig.returnType = some .int) (hlk : meth.locks = false) (hp : post v) (hdg : decode cc pc = .ok (.ireturn, 1)) : W p l e R s m args below meth c s.heap [] cells slots (MQ below (vp_Si post) args s cells slots (fun _ => False)) (F0 m pc ls [.int v]) :=
  W.iret (v := v) C0.1 C0.2.1 hr (fun t ht _ => ⟨v, rfl, hp, ht⟩) (fun q h => by cases h) hdg
theorem ww_zret {v : Int32} {post : Int32 → Prop} (C0 : CallFix p m c cc nL s args lw_all own) (hr : meth.sig.returnType = some .boolean) (hlk : meth.locks = false) (hn : narrow .boolean (.int v) = .int v) (hp : post v) (hdg : decode cc pc = .ok (.ireturn, 1)) : W p l e R s m args below meth c s.heap [] cells slots (MQ below (vp_Si post) args s cells slots (fun _ => False)) (F0 m pc ls [.int v]) :=
  W.zret (v := v) C0.1 C0.2.1 hr hn (fun t ht _ => ⟨v, rfl, hp, ht⟩) (fun q h => by cases h) hdg
theorem ww_lret {v : Int64} {post : Int64 → Prop} (C0 : CallFix p m c cc nL s args lw_all own) (hr : meth.sig.returnType = some .long) (hlk : meth.locks = false) (hp : post v) (hdg : decode cc pc = .ok (.lreturn, 1)) : W p l e R s m args below meth c s.heap [] cells slots (MQ below (vp_Sl post) args s cells slots (fun _ => False)) (F0 m pc ls [.long v]) :=
  W.lret (v := v) C0.1 C0.2.1 hr (fun t ht _ => ⟨v, rfl, hp, ht⟩) (fun q h => by cases h) hdg
/-- the end of a method that changes its world -/
theorem ww_cret {v r : Int32} {ws0 w2 : va_W} (C0 : CallFix p m c cc nL s args lw_all own) (hr : meth.sig.returnType = some .int) (hlk : meth.locks = false) (hK : va_K D vwCl [(d, .long)] s) (hP : va_P D vwCl w2 H) (hD : va_D (va_A ws0 s.heap.size) w2) (hS : va_S (va_A ws0 s.heap.size) s.heap H locs) (hv : v = r) (hdg : decode cc pc = .ok (.ireturn, 1)) : W p l e R s m args below meth c H locs cells slots (MQ below (gQ D d s.heap.size ws0 r w2) args s cells slots (va_A ws0 s.heap.size)) (F0 m pc ls [.int v]) :=
  W.iret (v := v) C0.1 C0.2.1 hr (fun t ht hW => ⟨⟨v, (), rfl, hv, by rw [ht]; exact hP, va_K.moved hW.alike hK, hD⟩, hS.F ht⟩) hS.2.2 hdg
/-! calls that change nothing -/
theorem ww_callZ {y : MethodName} {bytes : ByteArray} {maxL n index : Nat} {ret : Option FieldType} {rm : Room} {As : List Value} {post : Int32 → Prop} (C0 : CallFix p m c cc nL s args lw_all own) (hM : Met l y (ws_ y bytes maxL ret) rm (va_Pc As (fun _ => True)) (vp_Si post) 0 0 (fun _ => False)) (cw : CallB R s args own index y bytes maxL ret (ws_ y bytes maxL ret) rm 0 0 n ∧ (Cond.static y).before args s = true) (hn : As.length = n) {st0 : List Value} (hst : st0 = As.reverse ++ rest) (hsz : ls.size = nL) (hrm : (rest.map fun v => v.category).sum ≤ 8) (hf : cells ≤ R.cells ∧ slots ≤ R.slots) (hdg : decode cc pc = .ok (.invokestatic index, 3))
    (kk : ∀ r : Int32, post r → W p l e R s m args below meth c H locs cells slots Q (F0 m (pc + 3) ls (.int r :: rest))) : W p l e R s m args below meth c H locs cells slots Q (F0 m pc ls st0) := by
  subst hst
  exact vp_callSi (W.runS (As := As) (rest := rest) C0 hM cw ⟨fun a U g mk q => q, fun U hU hW => ⟨rfl, trivial⟩⟩ rfl hn hsz rfl (lv_room hrm) hdg hf) kk
theorem ww_callI {y : MethodName} {bytes : ByteArray} {maxL n index ci : Nat} {ret : Option FieldType} {rm : Room} {As : List Value} {post : Int32 → Prop} {fs : List Value} {ws' : va_W} {q : vw_C} (C0 : CallFix p m c cc nL s args lw_all own) (hK : va_K D vwCl [(d, .long)] s) (hP : va_P D vwCl ((h0, .inr (ci, fs)) :: ws') H) (hc : vwCl[ci]? = some q) (hM : Met l y (ws_ y bytes maxL ret) rm (va_Pc (.ref h0 :: As) (gP D d ((h0, .inr (ci, fs)) :: ws'))) (vp_Si post) 0 0 (fun _ => False)) (cw : CallW R s args own q.1 index y bytes maxL ret (ws_ y bytes maxL ret) rm 0 0 n) (hn : As.length = n) {st0 : List Value} (hst : st0 = As.reverse ++ .ref h0 :: rest) (hsz : ls.size = nL) (hrm : (rest.map fun v => v.category).sum ≤ 8) (hf : cells ≤ R.cells ∧ slots ≤ R.slots) (hdg : decode cc pc = .ok (.invokevirtual index, 3))
    (kk : ∀ r : Int32, post r → W p l e R s m args below meth c H locs cells slots Q (F0 m (pc + 3) ls (.int r :: rest))) : W p l e R s m args below meth c H locs cells slots Q (F0 m pc ls st0) := by
  subst hst
  exact vp_callSi (W.runV (As := As) (rest := rest) C0 hM cw ⟨gP_blind, va_recv hK hP (q0 := 0) hc rfl, fun U hU hW => ⟨rfl, by rw [hU]; exact hP, va_K.moved hW.alike hK⟩⟩ rfl hn hsz rfl (lv_room hrm) hdg hf) kk
theorem ww_callL {y : MethodName} {bytes : ByteArray} {maxL n index ci : Nat} {ret : Option FieldType} {rm : Room} {As : List Value} {post : Int64 → Prop} {fs : List Value} {ws' : va_W} {q : vw_C} (C0 : CallFix p m c cc nL s args lw_all own) (hK : va_K D vwCl [(d, .long)] s) (hP : va_P D vwCl ((h0, .inr (ci, fs)) :: ws') H) (hc : vwCl[ci]? = some q) (hM : Met l y (ws_ y bytes maxL ret) rm (va_Pc (.ref h0 :: As) (gP D d ((h0, .inr (ci, fs)) :: ws'))) (vp_Sl post) 0 0 (fun _ => False)) (cw : CallW R s args own q.1 index y bytes maxL ret (ws_ y bytes maxL ret) rm 0 0 n) (hn : As.length = n) {st0 : List Value} (hst : st0 = As.reverse ++ .ref h0 :: rest) (hsz : ls.size = nL) (hrm : (rest.map fun v => v.category).sum ≤ 8) (hf : cells ≤ R.cells ∧ slots ≤ R.slots) (hdg : decode cc pc = .ok (.invokevirtual index, 3))
    (kk : ∀ r : Int64, post r → W p l e R s m args below meth c H locs cells slots Q (F0 m (pc + 3) ls (.long r :: rest))) : W p l e R s m args below meth c H locs cells slots Q (F0 m pc ls st0) := by
  subst hst
  exact vp_callSl (W.runV (As := As) (rest := rest) C0 hM cw ⟨gP_blind, va_recv hK hP (q0 := 0) hc rfl, fun U hU hW => ⟨rfl, by rw [hU]; exact hP, va_K.moved hW.alike hK⟩⟩ rfl hn hsz rfl (lv_room hrm) hdg hf) kk
/-- a call that changes a world: the world is all that the caller has -/
theorem ww_callC {y : MethodName} {bytes : ByteArray} {maxL n index ci : Nat} {rm : Room} {As : List Value} {v : Int32} {fs : List Value} {ws' w2 : va_W} {q : vw_C} (C0 : CallFix p m c cc nL s args lw_all own) (hK : va_K D vwCl [(d, .long)] s) (hP : va_P D vwCl ((h0, .inr (ci, fs)) :: ws') H) (hD : va_D A ((h0, .inr (ci, fs)) :: ws')) (hS : va_S A H0 H locs) (hA : ∀ q, H0.size ≤ q → A q) (hc : vwCl[ci]? = some q) (hM : Met l y (ws_ y bytes maxL (some .int)) rm (va_Pc (.ref h0 :: As) (gC D d H.size ((h0, .inr (ci, fs)) :: ws'))) (gQ D d H.size ((h0, .inr (ci, fs)) :: ws') v w2) 0 0 (va_A ((h0, .inr (ci, fs)) :: ws') H.size)) (cw : CallW R s args own q.1 index y bytes maxL (some .int) (ws_ y bytes maxL (some .int)) rm 0 0 n) (hn : As.length = n) {st0 : List Value} (hst : st0 = As.reverse ++ .ref h0 :: rest) (hsz : ls.size = nL) (hrm : (rest.map fun v => v.category).sum ≤ 8) (hf : cells ≤ R.cells ∧ slots ≤ R.slots) (hdg : decode cc pc = .ok (.invokevirtual index, 3))
    (kk : ∀ (H : Heap) (locs : List Loc), va_P D vwCl w2 H → va_D A w2 → va_S A H0 H locs → W p l e R s m args below meth c H locs cells slots Q (F0 m (pc + 3) ls (.int v :: rest))) : W p l e R s m args below meth c H locs cells slots Q (F0 m pc ls st0) := by
  subst hst
  have hF : ∀ q, va_A ((h0, .inr (ci, fs)) :: ws') H.size q → A q := by
    intro q hq
    rcases hq with ⟨k, e, hk⟩ | hq
    · exact hD.2 k _ hk
    · exact hA q (Nat.le_trans hS.1 hq)
  refine va_calli (va_runV (As := As) (rest := rest) C0 hM cw ⟨gC_blind, va_recv hK hP (q0 := 0) hc rfl, fun U hU hW => ⟨rfl, by rw [hU], by rw [hU]; exact hP, va_K.moved hW.alike hK, hD.weaken (fun _ _ _ _ => trivial)⟩⟩ rfl hn hsz rfl (lv_room hrm) hdg hf) hS (fun q _ h => hF q h) hF (fun r u t H1 locs1 ht hvm hr hB hz hk hS1 => ?_)
  obtain ⟨hP1, hK1, hD1⟩ := hB
  rw [ht] at hP1
  subst hr
  exact kk H1 locs1 hP1 (hD1.weaken (fun _ _ _ h => hF _ h)) hS1
end WW
end
section
/-! the operations' values, way by way -/
section OPS2
variable {E S G : Nat → Int64} {k a b : Nat} {a0 b0 : Int32} {f : Nat → Int64} {x c : Int64}
theorem k30 (hk : k ≤ 30) : nI k = nI 30 ↔ k = 30 := nI_eq (by omega) (by decide)
theorem cl30 (h : a < 30) : (nI a).toNatClampNeg = a := nI_clamp (by omega)
theorem o_two_bad (h : ¬ (gc_gd a0 k ∧ gc_gd b0 k)) : o_two (E, S, G, k) a0 b0 f x = (-1, (E, S, G, k)) := if_pos h
theorem o_two_full (h : gc_gd a0 k ∧ gc_gd b0 k) (hk : k = 30) : o_two (E, S, G, k) a0 b0 f x = (-2, (E, S, G, k)) := by
  unfold o_two
  rw [if_neg (fun q => q h), if_pos hk]
theorem o_two_new (h : gc_gd a0 k ∧ gc_gd b0 k) (hk : ¬ k = 30) : o_two (E, S, G, k) a0 b0 f x = o_new (E, S, G, k) f x := by
  unfold o_two
  rw [if_neg (fun q => q h), if_neg hk]
theorem o_seq_new (ha : a < k) (hb : b < k) (hk : k < 30) : o_seq (E, S, G, k) (nI a) (nI b) = o_new (E, S, G, k) (fun s => gc_img E b (E (64 * a + s))) (gc_seqs E S a b) := by
  unfold o_seq
  rw [cl30 (by omega), cl30 (by omega)]
  exact o_two_new ⟨gc_gd_nI ha (by omega), gc_gd_nI hb (by omega)⟩ (by omega)
theorem o_choice_new (ha : a < k) (hb : b < k) (hk : k < 30) : o_choice (E, S, G, k) (nI a) (nI b) = o_new (E, S, G, k) (gc_stp E G a b) (gc_chs S G a b) := by
  unfold o_choice
  rw [cl30 (by omega), cl30 (by omega)]
  exact o_two_new ⟨gc_gd_nI ha (by omega), gc_gd_nI hb (by omega)⟩ (by omega)
theorem o_loop_new (ha : a < k) (hb : b < k) (hk : k < 30) : o_loop (E, S, G, k) (nI a) (nI b) = o_new (E, S, G, k) (fun s => gc_rch (gc_stp E G a b) s &&& gc_out G) (gc_los E S G a b) := by
  unfold o_loop
  rw [cl30 (by omega), cl30 (by omega)]
  exact o_two_new ⟨gc_gd_nI ha (by omega), gc_gd_nI hb (by omega)⟩ (by omega)
theorem o_skip_full (hk : k = 30) : o_skip (E, S, G, k) = (-1, (E, S, G, k)) := if_pos hk
theorem o_skip_new (hk : ¬ k = 30) : o_skip (E, S, G, k) = o_new (E, S, G, k) gw (-1) := if_neg hk
theorem o_fail_full (hk : k = 30) : o_fail (E, S, G, k) = (-1, (E, S, G, k)) := if_pos hk
theorem o_fail_new (hk : ¬ k = 30) : o_fail (E, S, G, k) = o_new (E, S, G, k) (fun _ => 0) 0 := if_neg hk
theorem o_assign_bad {w f0 : Int32} (h : f0 < 0 ∨ ¬ f0 ≤ nI 511) : o_assign (E, S, G, k) w f0 = (-1, (E, S, G, k)) := if_pos h
theorem o_assign_full {w f0 : Int32} (h : ¬ (f0 < 0 ∨ ¬ f0 ≤ nI 511)) (hk : k = 30) : o_assign (E, S, G, k) w f0 = (-2, (E, S, G, k)) := by
  unfold o_assign
  rw [if_neg h, if_pos hk]
theorem f511 {f0 : Int32} (h1 : ¬ f0 < 0) (h2 : f0 ≤ nI 511) : ∃ j : Nat, j < 512 ∧ f0 = nI j := by
  obtain ⟨j, hj, e⟩ := nI_of2 (n := 511) (M := nI 511) (by decide) h1 h2
  exact ⟨j, by omega, e⟩
theorem f8 {f0 : Int32} (h1 : ¬ f0 < 0) (h2 : f0 ≤ nI 8) : ∃ j : Nat, j < 9 ∧ f0 = nI j := by
  obtain ⟨j, hj, e⟩ := nI_of2 (n := 8) (M := nI 8) (by decide) h1 h2
  exact ⟨j, by omega, e⟩
theorem f511n {f : Nat} (h : f < 512) : ¬ (nI f < 0 ∨ ¬ nI f ≤ nI 511) := by
  intro q
  rcases q with q | q
  · exact nI_pos (by omega) q
  · exact q (nI_le (by omega) (by decide))
theorem f8n {f : Nat} (h : f < 9) : ¬ (nI f < 0 ∨ ¬ nI f ≤ nI 8) := by
  intro q
  rcases q with q | q
  · exact nI_pos (by omega) q
  · exact q (nI_le (by omega) (by decide))
theorem o_assign_new {w : Int32} {f : Nat} (h : f < 512) (hk : ¬ k = 30) : o_assign (E, S, G, k) w (nI f) = o_new (E, S, G, k) (fun s => gw (gc_to w f s)) (-1) := by
  unfold o_assign
  rw [if_neg (f511n h), if_neg hk, nI_clamp (by omega)]
theorem o_compare_bad {w f0 b0 : Int32} (h : f0 < 0 ∨ ¬ f0 ≤ nI 511) : o_compare (E, S, G, k) w f0 b0 = (-1, (E, S, G, k)) := if_pos h
theorem o_compare_bad2 {w f0 b0 : Int32} (h : ¬ (f0 < 0 ∨ ¬ f0 ≤ nI 511)) (h2 : b0 < 0 ∨ ¬ b0 ≤ nI 8) : o_compare (E, S, G, k) w f0 b0 = (-2, (E, S, G, k)) := by
  unfold o_compare
  rw [if_neg h, if_pos h2]
theorem o_compare_ok {w : Int32} {f b : Nat} (h : f < 512) (h2 : b < 9) : o_compare (E, S, G, k) w (nI f) (nI b) = o_guard (E, S, G, k) w (gc_cmp f b) := by
  unfold o_compare
  rw [if_neg (f511n h), if_neg (f8n h2), nI_clamp (by omega), nI_clamp (by omega)]
theorem q_sure_bad (h : ¬ gc_gd a0 k) : q_sure (E, S, G, k) a0 = 0 := if_neg h
theorem q_sure_ok (h : a < k) (hk : k ≤ 30) : q_sure (E, S, G, k) (nI a) = S a := by
  have hk31 : k < 2 ^ 31 := by omega
  unfold q_sure
  rw [if_pos (gc_gd_nI h hk31), cl30 (by omega)]
theorem q_dem_bad (h : ¬ gc_gd a0 k) : q_dem (E, S, G, k) a0 c = 0 := if_neg h
theorem q_dem_ok (h : a < k) (hk : k ≤ 30) : q_dem (E, S, G, k) (nI a) c = S a &&& gc_wk E a c := by
  have hk31 : k < 2 ^ 31 := by omega
  unfold q_dem
  rw [if_pos (gc_gd_nI h hk31), cl30 (by omega)]
theorem q_weak_bad (h : ¬ gc_gd a0 k) : q_weak (E, S, G, k) a0 c = 0 := if_neg h
theorem q_weak_ok (h : a < k) (hk : k ≤ 30) : q_weak (E, S, G, k) (nI a) c = gc_wk E a c := by
  have hk31 : k < 2 ^ 31 := by omega
  unfold q_weak
  rw [if_pos (gc_gd_nI h hk31), cl30 (by omega)]
theorem q_img_bad (h : ¬ gc_gd a0 k) : q_img (E, S, G, k) a0 c = 0 := if_neg h
theorem q_img_ok (h : a < k) (hk : k ≤ 30) : q_img (E, S, G, k) (nI a) c = gc_img E a c := by
  have hk31 : k < 2 ^ 31 := by omega
  unfold q_img
  rw [if_pos (gc_gd_nI h hk31), cl30 (by omega)]
theorem q_ends_bad {s0 : Int32} (h : ¬ (gc_gd a0 k ∧ ¬ s0 < 0 ∧ ¬ nI 64 ≤ s0)) : q_ends (E, S, G, k) a0 s0 = 0 := if_neg h
theorem q_ends_ok {j : Nat} (h : a < k) (hk : k ≤ 30) (hj : j < 64) : q_ends (E, S, G, k) (nI a) (nI j) = E (64 * a + j) := by
  have hk31 : k < 2 ^ 31 := by omega
  unfold q_ends
  rw [if_pos ⟨gc_gd_nI h hk31, nI_pos (by omega), nI_ge hj (by decide)⟩, cl30 (by omega), nI_clamp (by omega)]
theorem s64 {s0 : Int32} (h1 : ¬ s0 < 0) (h2 : ¬ nI 64 ≤ s0) : ∃ j : Nat, j < 64 ∧ s0 = nI j := by
  rcases pk_ix s0 (n := 64) (by decide) with q | q | q
  · exact absurd q h1
  · exact absurd q h2
  · exact q
theorem q_ref_bad (h : ¬ (gc_gd a0 k ∧ gc_gd b0 k)) : q_ref (E, S, G, k) a0 b0 = -1 := if_pos h
theorem q_ref_ok (ha : a < k) (hb : b < k) (hk : k ≤ 30) : q_ref (E, S, G, k) (nI a) (nI b) = if gc_all (gc_rf E S a b) 64 then 1 else 0 := by
  have hk31 : k < 2 ^ 31 := by omega
  unfold q_ref
  rw [if_neg (fun q => q ⟨gc_gd_nI ha hk31, gc_gd_nI hb hk31⟩), cl30 (by omega), cl30 (by omega)]
theorem q_set_bad (h : ¬ gc_gd a0 k) : q_set (E, S, G, k) a0 = -1 := if_pos h
theorem q_set_ok (ha : a < k) (hk : k ≤ 30) : q_set (E, S, G, k) (nI a) = if gc_all (gc_se E S a) 64 then 1 else 0 := by
  have hk31 : k < 2 ^ 31 := by omega
  unfold q_set
  rw [if_neg (fun q => q (gc_gd_nI ha hk31)), cl30 (by omega)]
theorem q_wid_bad (h : ¬ gc_gd a0 k) : q_wid (E, S, G, k) a0 = -1 := if_pos h
theorem q_wid_ok (ha : a < k) (hk : k ≤ 30) : q_wid (E, S, G, k) (nI a) = nI (gc_wid E a 64) := by
  have hk31 : k < 2 ^ 31 := by omega
  unfold q_wid
  rw [if_neg (fun q => q (gc_gd_nI ha hk31)), cl30 (by omega)]
end OPS2
end
section
/-! THE CLASS: contracts of its helpers -/
set_option maxRecDepth 100000
section X0H
variable {p : Program} {l : Launch} {e : Env} {R : Room} {s : State} {m : MethodId} {args : Array Value} {below : List Frame} {meth : Method} {c : Code} {H : Heap} {locs : List Loc} {cells slots : Nat} {Q : State → Prop} {pc : Nat} {ls : Array Slot} {rest : List Value} {cc : ByteArray} {nL : Nat} {D : va_G} {d : ClassId} {A : Nat → Prop} {H0 : Heap} {h0 hE hS hG : Nat} {E S G : Nat → Int64} {g h : Int64} {k : Nat}
set_option maxHeartbeats 4000000 in
set_option maxRecDepth 100000 in
/-- has(x, j): bit j of x -/
theorem mX0_has (l : Launch)  (x : Int64) (j : Nat) (hj : j < 64) : Met l yX0_has (ws_ yX0_has cX0_has 3 (some .boolean)) ({ frames := 0, cells := 0, slots := 0, locals := 0 }) (va_Pc [.long x, .int (nI j)] (fun _ => True)) (vp_Si (fun r => r = if gb x j then 1 else 0)) 0 0 (fun _ => False) := by
  refine ww_met (by decide) (Nat.le_of_ble_eq_true rfl) ?_
  intro p e s m below meth c C0 hr hlk hnm hv ls hl
  have C0 : CallFix p m c cX0_has 3 s _ lw_all RX0 := C0
  have hl : lv_has ls 3 [(0, .long x), (2, .int (nI j))] := hl
  refine lv_lload_n C0.1 C0.2.1 dX0_has_0 rfl (lv_at hl 0 rfl) ?_
  refine lv_iload_n C0.1 C0.2.1 dX0_has_1 rfl (lv_at hl 1 rfl) ?_
  refine lv_lushr (v := (x.toUInt64 >>> ((nI j).toInt64.toUInt64 &&& Int64.toUInt64 63)).toInt64) C0.1 C0.2.1 dX0_has_2 rfl ?_
  refine lv_lconst (v := 1) C0.1 C0.2.1 dX0_has_3 (by decide) ?_
  refine lv_land C0.1 C0.2.1 dX0_has_4 ?_
  refine ww_tl (v := if gb x j then 1 else 0) (gb_has x hj) ?_
  refine lv_lconst (v := 1) C0.1 C0.2.1 dX0_has_5 (by decide) ?_
  refine W.lcmp C0.1 C0.2.1 dX0_has_6 ?_
  refine lv_if_ne (tgt := 14) C0.1 C0.2.1 dX0_has_7 (by decide) (fun cc => ?_) (fun cc => ?_)
  · refine lv_iconst (v := 0) C0.1 C0.2.1 dX0_has_14 (by decide) ?_
    exact ww_zret C0 hr hlk rfl (show (0 : Int32) = if gb x j then 1 else 0 from (if_neg (fun q => cc ((lg_cmp_eq _ _).mpr (gb_one.mpr q)))).symm) dX0_has_15
  · refine lv_iconst (v := 1) C0.1 C0.2.1 dX0_has_10 (by decide) ?_
    refine lv_goto (tgt := 15) C0.1 C0.2.1 dX0_has_11 (by decide) ?_
    exact ww_zret C0 hr hlk rfl (show (1 : Int32) = if gb x j then 1 else 0 from (if_pos (gb_one.mp ((lg_cmp_eq _ _).mp cc))).symm) dX0_has_15
theorem go_has (C0 : CallFix p m c cc nL s args lw_all RX0) (hsz : ls.size = nL) (hR : 1 ≤ R.frames ∧ 22 ≤ R.locals ∧ cells ≤ R.cells ∧ slots ≤ R.slots) (hrm : (rest.map fun v => v.category).sum ≤ 8) {x : Int64} {j : Nat} (hj : j < 64) (hdg : decode cc pc = .ok (.invokestatic 45, 3)) (kk : W p l e R s m args below meth c H locs cells slots Q (F0 m (pc + 3) ls (.int (if gb x j then 1 else 0) :: rest))) : W p l e R s m args below meth c H locs cells slots Q (F0 m pc ls (.int (nI j) :: .long x :: rest)) :=
  ww_callZ C0 (mX0_has l x j hj) (va_cwS 2 C0.2.2.2.2 (lw_S q93 q94 q22 q95) rfl rfl rfl (by decide +kernel) ⟨hR.1, hR.2.1⟩) rfl rfl hsz hrm hR.2.2 hdg (fun r hr => by rw [hr]; exact kk)
set_option maxHeartbeats 4000000 in
set_option maxRecDepth 100000 in
/-- ones(x): how many bits -/
theorem mX0_ones (l : Launch)  (x : Int64) : Met l yX0_ones (ws_ yX0_ones cX0_ones 4 (some .int)) ({ frames := 0, cells := 0, slots := 0, locals := 0 }) (va_Pc [.long x] (fun _ => True)) (vp_Si (fun r => r = nI (gc_ct x 64))) 0 0 (fun _ => False) := by
  refine ww_met (by decide) (Nat.le_of_ble_eq_true rfl) ?_
  intro p e s m below meth c C0 hr hlk hnm hv ls hl
  have C0 : CallFix p m c cX0_ones 4 s _ lw_all RX0 := C0
  have hl : lv_has ls 4 [(0, .long x)] := hl
  refine lv_iconst (v := 0) C0.1 C0.2.1 dX0_ones_0 (by decide) ?_
  refine lv_istore_n (lv' := [(2, .int 0), (0, .long x)]) C0.1 C0.2.1 dX0_ones_1 rfl hl (by decide) rfl (fun ls hl => ?_)
  refine lv_iconst (v := 0) C0.1 C0.2.1 dX0_ones_2 (by decide) ?_
  refine lv_istore_n (lv' := [(3, .int 0), (2, .int 0), (0, .long x)]) C0.1 C0.2.1 dX0_ones_3 rfl hl (by decide) rfl (fun ls hl => ?_)
  refine ww_for (nL := 4) 64 (fun _ => True) (fun i => [(0, .long x), (2, .int (nI (gc_ct x i))), (3, .int (nI i))]) trivial (lv_sub hl [2, 1, 0] rfl) ?_
  intro i hi hI ih ls hl
  have hl : lv_has ls 4 [(0, .long x), (2, .int (nI (gc_ct x i))), (3, .int (nI i))] := hl
  refine lv_iload_n C0.1 C0.2.1 dX0_ones_4 rfl (lv_at hl 2 rfl) ?_
  refine lv_bipush (v := nI 64) C0.1 C0.2.1 dX0_ones_5 (by decide) ?_
  refine lv_icmp_ge (tgt := 25) C0.1 C0.2.1 dX0_ones_7 (by decide) (fun cc => ?_) (fun cc => ?_)
  · have e : i = 64 := ww_eq hi (by decide) cc
    subst e
    refine lv_iload_n C0.1 C0.2.1 dX0_ones_25 rfl (lv_at hl 1 rfl) ?_
    exact ww_iret C0 hr hlk rfl dX0_ones_26
  · have lt : i < 64 := ww_lt hi (by decide) cc
    refine lv_iload_n C0.1 C0.2.1 dX0_ones_10 rfl (lv_at hl 1 rfl) ?_
    refine lv_lload_n C0.1 C0.2.1 dX0_ones_11 rfl (lv_at hl 0 rfl) ?_
    refine lv_iload_n C0.1 C0.2.1 dX0_ones_12 rfl (lv_at hl 2 rfl) ?_
    refine lv_lushr (v := (x.toUInt64 >>> ((nI i).toInt64.toUInt64 &&& Int64.toUInt64 63)).toInt64) C0.1 C0.2.1 dX0_ones_13 rfl ?_
    refine lv_lconst (v := 1) C0.1 C0.2.1 dX0_ones_14 (by decide) ?_
    refine lv_land C0.1 C0.2.1 dX0_ones_15 ?_
    refine ww_tl (v := if gb x i then 1 else 0) (gb_has x lt) ?_
    refine lv_l2i (v := (if gb x i then 1 else 0 : Int64).toInt32) C0.1 C0.2.1 dX0_ones_16 rfl ?_
    refine lv_iadd C0.1 C0.2.1 dX0_ones_17 ?_
    refine ww_ti (v := nI (gc_ct x (i + 1))) (gc_ct_add x i) ?_
    refine lv_istore_n (lv' := [(2, .int (nI (gc_ct x (i + 1)))), (0, .long x), (3, .int (nI i))]) C0.1 C0.2.1 dX0_ones_18 rfl hl (by decide) rfl (fun ls hl => ?_)
    refine lv_iinc (v := nI (i + 1)) (lv' := [(3, .int (nI (i + 1))), (2, .int (nI (gc_ct x (i + 1)))), (0, .long x)]) C0.1 C0.2.1 dX0_ones_19 hl (k := 2) rfl (ww_inc i) (by decide) rfl (fun ls hl => ?_)
    refine lv_goto (tgt := 4) C0.1 C0.2.1 dX0_ones_22 (by decide) ?_
    exact ih lt trivial ls (lv_sub hl [2, 1, 0] rfl)
theorem go_ones (C0 : CallFix p m c cc nL s args lw_all RX0) (hsz : ls.size = nL) (hR : 1 ≤ R.frames ∧ 23 ≤ R.locals ∧ cells ≤ R.cells ∧ slots ≤ R.slots) (hrm : (rest.map fun v => v.category).sum ≤ 8) {x : Int64} (hdg : decode cc pc = .ok (.invokestatic 23, 3)) (kk : W p l e R s m args below meth c H locs cells slots Q (F0 m (pc + 3) ls (.int (nI (gc_ct x 64)) :: rest))) : W p l e R s m args below meth c H locs cells slots Q (F0 m pc ls (.long x :: rest)) :=
  ww_callZ C0 (mX0_ones l x) (va_cwS 1 C0.2.2.2.2 (lw_S q50 q51 q22 q52) rfl rfl rfl (by decide +kernel) ⟨hR.1, hR.2.1⟩) rfl rfl hsz hrm hR.2.2 hdg (fun r hr => by rw [hr]; exact kk)
set_option maxHeartbeats 4000000 in
set_option maxRecDepth 100000 in
/-- formValue(f, j) -/
theorem mX0_formValue (l : Launch)  (f j : Nat) (hf : f < 512) (hj : j < 64) : Met l yX0_formValue (ws_ yX0_formValue cX0_formValue 5 (some .int)) ({ frames := 0, cells := 0, slots := 0, locals := 0 }) (va_Pc [.int (nI f), .int (nI j)] (fun _ => True)) (vp_Si (fun r => r = nI (gc_fv f j))) 0 0 (fun _ => False) := by
  refine ww_met (by decide) (Nat.le_of_ble_eq_true rfl) ?_
  intro p e s m below meth c C0 hr hlk hnm hv ls hl
  have C0 : CallFix p m c cX0_formValue 5 s _ lw_all RX0 := C0
  have hl : lv_has ls 5 [(0, .int (nI f)), (1, .int (nI j))] := hl
  refine lv_iload_n C0.1 C0.2.1 dX0_formValue_0 rfl (lv_at hl 0 rfl) ?_
  refine lv_bipush (v := nI 6) C0.1 C0.2.1 dX0_formValue_1 (by decide) ?_
  refine lv_ishr C0.1 C0.2.1 dX0_formValue_3 ?_
  refine lv_istore_n (lv' := [(2, .int ((nI f) >>> ((nI 6) &&& 31))), (0, .int (nI f)), (1, .int (nI j))]) C0.1 C0.2.1 dX0_formValue_4 rfl hl (by decide) rfl (fun ls hl => ?_)
  refine lv_iload_n C0.1 C0.2.1 dX0_formValue_5 rfl (lv_at hl 1 rfl) ?_
  refine lv_iconst (v := 3) C0.1 C0.2.1 dX0_formValue_6 (by decide) ?_
  refine lv_ishr C0.1 C0.2.1 dX0_formValue_7 ?_
  refine lv_bipush (v := nI 7) C0.1 C0.2.1 dX0_formValue_8 (by decide) ?_
  refine lv_iand C0.1 C0.2.1 dX0_formValue_10 ?_
  refine lv_istore_n (lv' := [(3, .int (((nI f) >>> (3 &&& 31)) &&& (nI 7))), (2, .int ((nI f) >>> ((nI 6) &&& 31))), (0, .int (nI f)), (1, .int (nI j))]) C0.1 C0.2.1 dX0_formValue_11 rfl hl (by decide) rfl (fun ls hl => ?_)
  refine lv_iload_n C0.1 C0.2.1 dX0_formValue_12 rfl (lv_at hl 2 rfl) ?_
  refine lv_bipush (v := nI 7) C0.1 C0.2.1 dX0_formValue_13 (by decide) ?_
  refine lv_iand C0.1 C0.2.1 dX0_formValue_15 ?_
  refine lv_istore (lv' := [(4, .int ((nI f) &&& (nI 7))), (3, .int (((nI f) >>> (3 &&& 31)) &&& (nI 7))), (2, .int ((nI f) >>> ((nI 6) &&& 31))), (0, .int (nI f)), (1, .int (nI j))]) C0.1 C0.2.1 dX0_formValue_16 hl (by decide) rfl (fun ls hl => ?_)
  refine lv_iload_n C0.1 C0.2.1 dX0_formValue_18 rfl (lv_at hl 2 rfl) ?_
  refine lv_iload_n C0.1 C0.2.1 dX0_formValue_19 rfl (lv_at hl 4 rfl) ?_
  refine lv_iconst (v := 3) C0.1 C0.2.1 dX0_formValue_20 (by decide) ?_
  refine lv_ishr C0.1 C0.2.1 dX0_formValue_21 ?_
  refine lv_imul C0.1 C0.2.1 dX0_formValue_22 ?_
  refine lv_iload_n C0.1 C0.2.1 dX0_formValue_23 rfl (lv_at hl 1 rfl) ?_
  refine lv_iload_n C0.1 C0.2.1 dX0_formValue_24 rfl (lv_at hl 4 rfl) ?_
  refine lv_bipush (v := nI 7) C0.1 C0.2.1 dX0_formValue_25 (by decide) ?_
  refine lv_iand C0.1 C0.2.1 dX0_formValue_27 ?_
  refine lv_imul C0.1 C0.2.1 dX0_formValue_28 ?_
  refine lv_iadd C0.1 C0.2.1 dX0_formValue_29 ?_
  refine lv_iload C0.1 C0.2.1 dX0_formValue_30 (lv_at hl 0 rfl) ?_
  refine lv_iadd C0.1 C0.2.1 dX0_formValue_32 ?_
  refine lv_bipush (v := nI 7) C0.1 C0.2.1 dX0_formValue_33 (by decide) ?_
  refine lv_iand C0.1 C0.2.1 dX0_formValue_35 ?_
  refine ww_ti (v := nI (gc_fv f j)) (gc_fvX hf hj) ?_
  exact ww_iret C0 hr hlk rfl dX0_formValue_36
theorem go_formValue (C0 : CallFix p m c cc nL s args lw_all RX0) (hsz : ls.size = nL) (hR : 1 ≤ R.frames ∧ 24 ≤ R.locals ∧ cells ≤ R.cells ∧ slots ≤ R.slots) (hrm : (rest.map fun v => v.category).sum ≤ 8) {f j : Nat} (hf : f < 512) (hj : j < 64) (hdg : decode cc pc = .ok (.invokestatic 27, 3)) (kk : W p l e R s m args below meth c H locs cells slots Q (F0 m (pc + 3) ls (.int (nI (gc_fv f j)) :: rest))) : W p l e R s m args below meth c H locs cells slots Q (F0 m pc ls (.int (nI j) :: .int (nI f) :: rest)) :=
  ww_callZ C0 (mX0_formValue l f j hf hj) (va_cwS 2 C0.2.2.2.2 (lw_S q57 q58 q22 q59) rfl rfl rfl (by decide +kernel) ⟨hR.1, hR.2.1⟩) rfl rfl hsz hrm hR.2.2 hdg (fun r hr => by rw [hr]; exact kk)
set_option maxHeartbeats 4000000 in
set_option maxRecDepth 100000 in
/-- isGood(p) -/
theorem mX0_isGood (l : Launch) (D : va_G) (h0 hE hS hG : Nat) (d : ClassId) (E S G : Nat → Int64) (k : Nat) (p0 : Int32) : Met l yX0_isGood (ws_ yX0_isGood cX0_isGood 2 (some .boolean)) ({ frames := 0, cells := 0, slots := 0, locals := 0 }) (va_Pc [.ref h0, .int p0] (gP D d (gX h0 hE hS hG d E S G k))) (vp_Si (fun r => r = if gc_gd p0 k then 1 else 0)) 0 0 (fun _ => False) := by
  refine ww_met (by decide) (Nat.le_of_ble_eq_true rfl) ?_
  intro p e s m below meth c C0 hr hlk hnm hv ls hl
  have C0 : CallFix p m c cX0_isGood 2 s _ lw_all RX0 := C0
  obtain ⟨hP, hK⟩ := hv
  have hl : lv_has ls 2 [(0, .ref h0), (1, .int p0)] := hl
  refine lv_iload_n C0.1 C0.2.1 dX0_isGood_0 rfl (lv_at hl 1 rfl) ?_
  refine lv_if_lt (tgt := 16) C0.1 C0.2.1 dX0_isGood_1 (by decide) (fun c1 => ?_) (fun c1 => ?_)
  · refine lv_iconst (v := 0) C0.1 C0.2.1 dX0_isGood_16 (by decide) ?_
    exact ww_zret C0 hr hlk rfl (show (0 : Int32) = if gc_gd p0 k then 1 else 0 from (if_neg (fun q => q.1 c1)).symm) dX0_isGood_17
  · refine lv_iload_n C0.1 C0.2.1 dX0_isGood_4 rfl (lv_at hl 1 rfl) ?_
    refine lv_aload_n C0.1 C0.2.1 dX0_isGood_5 rfl (lv_at hl 0 rfl) ?_
    refine xg_k C0 hK hP dX0_isGood_6 ?_
    refine lv_icmp_ge (tgt := 16) C0.1 C0.2.1 dX0_isGood_9 (by decide) (fun c2 => ?_) (fun c2 => ?_)
    · refine lv_iconst (v := 0) C0.1 C0.2.1 dX0_isGood_16 (by decide) ?_
      exact ww_zret C0 hr hlk rfl (show (0 : Int32) = if gc_gd p0 k then 1 else 0 from (if_neg (fun q => q.2 c2)).symm) dX0_isGood_17
    · refine lv_iconst (v := 1) C0.1 C0.2.1 dX0_isGood_12 (by decide) ?_
      refine lv_goto (tgt := 17) C0.1 C0.2.1 dX0_isGood_13 (by decide) ?_
      exact ww_zret C0 hr hlk rfl (show (1 : Int32) = if gc_gd p0 k then 1 else 0 from (if_pos ⟨c1, c2⟩).symm) dX0_isGood_17
theorem go_isGood (C0 : CallFix p m c cc nL s args lw_all RX0) (hsz : ls.size = nL) (hR : 1 ≤ R.frames ∧ 21 ≤ R.locals ∧ cells ≤ R.cells ∧ slots ≤ R.slots) (hrm : (rest.map fun v => v.category).sum ≤ 8) (hK : va_K D vwCl [(d, .long)] s) (hP : va_P D vwCl (gX h0 hE hS hG d E S G k) H) {p0 : Int32} (hdg : decode cc pc = .ok (.invokevirtual 37, 3)) (kk : W p l e R s m args below meth c H locs cells slots Q (F0 m (pc + 3) ls (.int (if gc_gd p0 k then 1 else 0) :: rest))) : W p l e R s m args below meth c H locs cells slots Q (F0 m pc ls (.int p0 :: .ref h0 :: rest)) :=
  ww_callI C0 hK hP rfl (mX0_isGood l D h0 hE hS hG d E S G k p0) (cwV 1 C0.2.2.2.2 (lw_V q85 q87 qs1 q22 q88) rfl rfl rfl (by decide +kernel) ⟨hR.1, hR.2.1⟩) rfl rfl hsz hrm hR.2.2 hdg (fun r hr => by rw [hr]; exact kk)
set_option maxHeartbeats 4000000 in
set_option maxRecDepth 100000 in
/-- imageOf(a, x) -/
theorem mX0_imageOf (l : Launch) (D : va_G) (h0 hE hS hG : Nat) (d : ClassId) (E S G : Nat → Int64) (k : Nat) (a : Nat) (ha : a < 30) (x : Int64) : Met l yX0_imageOf (ws_ yX0_imageOf cX0_imageOf 7 (some .long)) ({ frames := 1, cells := 0, slots := 0, locals := 22 }) (va_Pc [.ref h0, .int (nI a), .long x] (gP D d (gX h0 hE hS hG d E S G k))) (vp_Sl (fun r => r = gc_img E a x)) 0 0 (fun _ => False) := by
  refine ww_met (by decide) (Nat.le_of_ble_eq_true rfl) ?_
  intro p e s m below meth c C0 hr hlk hnm hv ls hl
  have C0 : CallFix p m c cX0_imageOf 7 s _ lw_all RX0 := C0
  obtain ⟨hP, hK⟩ := hv
  have hl : lv_has ls 7 [(0, .ref h0), (1, .int (nI a)), (2, .long x)] := hl
  refine lv_lconst (v := 0) C0.1 C0.2.1 dX0_imageOf_0 (by decide) ?_
  refine lv_lstore (lv' := [(4, .long 0), (0, .ref h0), (1, .int (nI a)), (2, .long x)]) C0.1 C0.2.1 dX0_imageOf_1 hl (by decide) rfl (fun ls hl => ?_)
  refine lv_iconst (v := 0) C0.1 C0.2.1 dX0_imageOf_3 (by decide) ?_
  refine lv_istore (lv' := [(6, .int 0), (4, .long 0), (0, .ref h0), (1, .int (nI a)), (2, .long x)]) C0.1 C0.2.1 dX0_imageOf_4 hl (by decide) rfl (fun ls hl => ?_)
  refine ww_for (nL := 7) 64 (fun _ => True) (fun i => [(0, .ref h0), (1, .int (nI a)), (2, .long x), (4, .long (gc_up (fun s acc => if gb x s then acc ||| E (64 * a + s) else acc) i 0)), (6, .int (nI i))]) trivial (lv_sub hl [2, 3, 4, 1, 0] rfl) ?_
  intro i hi hI ih ls hl
  have hl : lv_has ls 7 [(0, .ref h0), (1, .int (nI a)), (2, .long x), (4, .long (gc_up (fun s acc => if gb x s then acc ||| E (64 * a + s) else acc) i 0)), (6, .int (nI i))] := hl
  refine lv_iload C0.1 C0.2.1 dX0_imageOf_6 (lv_at hl 4 rfl) ?_
  refine lv_bipush (v := nI 64) C0.1 C0.2.1 dX0_imageOf_8 (by decide) ?_
  refine lv_icmp_ge (tgt := 50) C0.1 C0.2.1 dX0_imageOf_10 (by decide) (fun cc => ?_) (fun cc => ?_)
  · have e : i = 64 := ww_eq hi (by decide) cc
    subst e
    refine lv_lload C0.1 C0.2.1 dX0_imageOf_50 (lv_at hl 3 rfl) ?_
    exact ww_lret C0 hr hlk rfl dX0_imageOf_52
  · have lt : i < 64 := ww_lt hi (by decide) cc
    refine lv_lload_n C0.1 C0.2.1 dX0_imageOf_13 rfl (lv_at hl 2 rfl) ?_
    refine lv_iload C0.1 C0.2.1 dX0_imageOf_14 (lv_at hl 4 rfl) ?_
    refine go_has C0 hl.1 ⟨Nat.le_of_ble_eq_true rfl, Nat.le_of_ble_eq_true rfl, Nat.le_of_ble_eq_true rfl, Nat.le_of_ble_eq_true rfl⟩ (Nat.le_of_ble_eq_true rfl) (j := i) (by omega) dX0_imageOf_16 ?_
    refine lv_if_eq (tgt := 40) C0.1 C0.2.1 dX0_imageOf_19 (by decide) (fun c2 => ?_) (fun c2 => ?_)
    · refine lv_lload C0.1 C0.2.1 dX0_imageOf_40 (lv_at hl 3 rfl) ?_
      refine ww_tl (v := gc_up (fun s acc => if gb x s then acc ||| E (64 * a + s) else acc) (i + 1) 0) (by rw [gc_up_s]; exact (if_neg (gc_b0.mp c2)).symm) ?_
      refine lv_lstore (lv' := [(4, .long (gc_up (fun s acc => if gb x s then acc ||| E (64 * a + s) else acc) (i + 1) 0)), (0, .ref h0), (1, .int (nI a)), (2, .long x), (6, .int (nI i))]) C0.1 C0.2.1 dX0_imageOf_42 hl (by decide) rfl (fun ls hl => ?_)
      refine lv_iinc (v := nI (i + 1)) (lv' := [(6, .int (nI (i + 1))), (4, .long (gc_up (fun s acc => if gb x s then acc ||| E (64 * a + s) else acc) (i + 1) 0)), (0, .ref h0), (1, .int (nI a)), (2, .long x)]) C0.1 C0.2.1 dX0_imageOf_44 hl (k := 4) rfl (ww_inc i) (by decide) rfl (fun ls hl => ?_)
      refine lv_goto (tgt := 6) C0.1 C0.2.1 dX0_imageOf_47 (by decide) ?_
      exact ih lt trivial ls (lv_sub hl [2, 3, 4, 1, 0] rfl)
    · refine lv_lload C0.1 C0.2.1 dX0_imageOf_22 (lv_at hl 3 rfl) ?_
      refine lv_aload_n C0.1 C0.2.1 dX0_imageOf_24 rfl (lv_at hl 0 rfl) ?_
      refine xg_E C0 hK hP dX0_imageOf_25 ?_
      refine lv_bipush (v := nI 64) C0.1 C0.2.1 dX0_imageOf_28 (by decide) ?_
      refine lv_iload_n C0.1 C0.2.1 dX0_imageOf_30 rfl (lv_at hl 1 rfl) ?_
      refine lv_imul C0.1 C0.2.1 dX0_imageOf_31 ?_
      refine lv_iload C0.1 C0.2.1 dX0_imageOf_32 (lv_at hl 4 rfl) ?_
      refine lv_iadd C0.1 C0.2.1 dX0_imageOf_34 ?_
      refine ww_lald C0 hK hP 1 0 rfl rfl (j := 64 * a + i) (gc_ix a i) (by omega) (by decide) dX0_imageOf_35 ?_
      refine lv_lor C0.1 C0.2.1 dX0_imageOf_36 ?_
      refine lv_goto (tgt := 42) C0.1 C0.2.1 dX0_imageOf_37 (by decide) ?_
      refine ww_tl (v := gc_up (fun s acc => if gb x s then acc ||| E (64 * a + s) else acc) (i + 1) 0) (by rw [gc_up_s]; exact (if_pos (Classical.not_not.mp (fun q => c2 (gc_b0.mpr q)))).symm) ?_
      refine lv_lstore (lv' := [(4, .long (gc_up (fun s acc => if gb x s then acc ||| E (64 * a + s) else acc) (i + 1) 0)), (0, .ref h0), (1, .int (nI a)), (2, .long x), (6, .int (nI i))]) C0.1 C0.2.1 dX0_imageOf_42 hl (by decide) rfl (fun ls hl => ?_)
      refine lv_iinc (v := nI (i + 1)) (lv' := [(6, .int (nI (i + 1))), (4, .long (gc_up (fun s acc => if gb x s then acc ||| E (64 * a + s) else acc) (i + 1) 0)), (0, .ref h0), (1, .int (nI a)), (2, .long x)]) C0.1 C0.2.1 dX0_imageOf_44 hl (k := 4) rfl (ww_inc i) (by decide) rfl (fun ls hl => ?_)
      refine lv_goto (tgt := 6) C0.1 C0.2.1 dX0_imageOf_47 (by decide) ?_
      exact ih lt trivial ls (lv_sub hl [2, 3, 4, 1, 0] rfl)
theorem go_imageOf (C0 : CallFix p m c cc nL s args lw_all RX0) (hsz : ls.size = nL) (hR : 2 ≤ R.frames ∧ 48 ≤ R.locals ∧ cells ≤ R.cells ∧ slots ≤ R.slots) (hrm : (rest.map fun v => v.category).sum ≤ 8) (hK : va_K D vwCl [(d, .long)] s) (hP : va_P D vwCl (gX h0 hE hS hG d E S G k) H) {a : Nat} (ha : a < 30) {x : Int64} (hdg : decode cc pc = .ok (.invokevirtual 41, 3)) (kk : W p l e R s m args below meth c H locs cells slots Q (F0 m (pc + 3) ls (.long (gc_img E a x) :: rest))) : W p l e R s m args below meth c H locs cells slots Q (F0 m pc ls (.long x :: .int (nI a) :: .ref h0 :: rest)) :=
  ww_callL C0 hK hP rfl (mX0_imageOf l D h0 hE hS hG d E S G k a ha x) (cwV 2 C0.2.2.2.2 (lw_V q89 q91 qs2 q22 q92) rfl rfl rfl (by decide +kernel) ⟨hR.1, hR.2.1⟩) rfl rfl hsz hrm hR.2.2 hdg (fun r hr => by rw [hr]; exact kk)
set_option maxHeartbeats 4000000 in
set_option maxRecDepth 100000 in
/-- step(a, b, j) -/
theorem mX0_step (l : Launch) (D : va_G) (h0 hE hS hG : Nat) (d : ClassId) (E S G : Nat → Int64) (k : Nat) (a b j : Nat) (ha : a < 30) (hb : b < 30) (hj : j < 64) : Met l yX0_step (ws_ yX0_step cX0_step 6 (some .long)) ({ frames := 1, cells := 0, slots := 0, locals := 22 }) (va_Pc [.ref h0, .int (nI a), .int (nI b), .int (nI j)] (gP D d (gX h0 hE hS hG d E S G k))) (vp_Sl (fun r => r = gc_stp E G a b j)) 0 0 (fun _ => False) := by
  refine ww_met (by decide) (Nat.le_of_ble_eq_true rfl) ?_
  intro p e s m below meth c C0 hr hlk hnm hv ls hl
  have C0 : CallFix p m c cX0_step 6 s _ lw_all RX0 := C0
  obtain ⟨hP, hK⟩ := hv
  have hl : lv_has ls 6 [(0, .ref h0), (1, .int (nI a)), (2, .int (nI b)), (3, .int (nI j))] := hl
  refine lv_aload_n C0.1 C0.2.1 dX0_step_0 rfl (lv_at hl 0 rfl) ?_
  refine xg_G C0 hK hP dX0_step_1 ?_
  refine lv_iconst (v := 0) C0.1 C0.2.1 dX0_step_4 (by decide) ?_
  refine ww_lald C0 hK hP 3 0 rfl rfl (j := 0) (show (0 : Int32) = nI 0 from rfl) (by omega) (by decide) dX0_step_5 ?_
  refine lv_iload_n C0.1 C0.2.1 dX0_step_6 rfl (lv_at hl 3 rfl) ?_
  refine go_has C0 hl.1 ⟨Nat.le_of_ble_eq_true rfl, Nat.le_of_ble_eq_true rfl, Nat.le_of_ble_eq_true rfl, Nat.le_of_ble_eq_true rfl⟩ (Nat.le_of_ble_eq_true rfl) (j := j) (by omega) dX0_step_7 ?_
  refine ww_join (tgt := 28) (st := [.long (if gb (G 0) j then E (64 * a + j) else 0)]) ?_ (fun hJ => ?_)
  · refine lv_lstore (lv' := [(4, .long (if gb (G 0) j then E (64 * a + j) else 0)), (0, .ref h0), (1, .int (nI a)), (2, .int (nI b)), (3, .int (nI j))]) C0.1 C0.2.1 dX0_step_28 hl (by decide) rfl (fun ls hl => ?_)
    refine lv_aload_n C0.1 C0.2.1 dX0_step_30 rfl (lv_at hl 1 rfl) ?_
    refine xg_G C0 hK hP dX0_step_31 ?_
    refine lv_iconst (v := 1) C0.1 C0.2.1 dX0_step_34 (by decide) ?_
    refine ww_lald C0 hK hP 3 0 rfl rfl (j := 1) (show (1 : Int32) = nI 1 from rfl) (by omega) (by decide) dX0_step_35 ?_
    refine lv_iload_n C0.1 C0.2.1 dX0_step_36 rfl (lv_at hl 4 rfl) ?_
    refine go_has C0 hl.1 ⟨Nat.le_of_ble_eq_true rfl, Nat.le_of_ble_eq_true rfl, Nat.le_of_ble_eq_true rfl, Nat.le_of_ble_eq_true rfl⟩ (Nat.le_of_ble_eq_true rfl) (j := j) (by omega) dX0_step_37 ?_
    refine lv_if_eq (tgt := 60) C0.1 C0.2.1 dX0_step_40 (by decide) (fun c2 => ?_) (fun c2 => ?_)
    · refine lv_lload C0.1 C0.2.1 dX0_step_60 (lv_at hl 0 rfl) ?_
      exact ww_lret C0 hr hlk (show (if gb (G 0) j then E (64 * a + j) else 0) = gc_stp E G a b j from by unfold gc_stp; rw [if_neg (gc_b0.mp c2), gc_or0]) dX0_step_62
    · refine lv_lload C0.1 C0.2.1 dX0_step_43 (lv_at hl 0 rfl) ?_
      refine lv_aload_n C0.1 C0.2.1 dX0_step_45 rfl (lv_at hl 1 rfl) ?_
      refine xg_E C0 hK hP dX0_step_46 ?_
      refine lv_bipush (v := nI 64) C0.1 C0.2.1 dX0_step_49 (by decide) ?_
      refine lv_iload_n C0.1 C0.2.1 dX0_step_51 rfl (lv_at hl 3 rfl) ?_
      refine lv_imul C0.1 C0.2.1 dX0_step_52 ?_
      refine lv_iload_n C0.1 C0.2.1 dX0_step_53 rfl (lv_at hl 4 rfl) ?_
      refine lv_iadd C0.1 C0.2.1 dX0_step_54 ?_
      refine ww_lald C0 hK hP 1 0 rfl rfl (j := 64 * b + j) (gc_ix b j) (by omega) (by decide) dX0_step_55 ?_
      refine lv_lor C0.1 C0.2.1 dX0_step_56 ?_
      refine lv_goto (tgt := 62) C0.1 C0.2.1 dX0_step_57 (by decide) ?_
      exact ww_lret C0 hr hlk (show (if gb (G 0) j then E (64 * a + j) else 0) ||| E (64 * b + j) = gc_stp E G a b j from by unfold gc_stp; rw [if_pos (Classical.not_not.mp (fun q => c2 (gc_b0.mpr q)))]) dX0_step_62
  · refine lv_if_eq (tgt := 27) C0.1 C0.2.1 dX0_step_10 (by decide) (fun c1 => ?_) (fun c1 => ?_)
    · refine lv_lconst (v := 0) C0.1 C0.2.1 dX0_step_27 (by decide) ?_
      refine ww_tl (v := if gb (G 0) j then E (64 * a + j) else 0) (if_neg (gc_b0.mp c1)).symm ?_
      exact hJ
    · refine lv_aload_n C0.1 C0.2.1 dX0_step_13 rfl (lv_at hl 0 rfl) ?_
      refine xg_E C0 hK hP dX0_step_14 ?_
      refine lv_bipush (v := nI 64) C0.1 C0.2.1 dX0_step_17 (by decide) ?_
      refine lv_iload_n C0.1 C0.2.1 dX0_step_19 rfl (lv_at hl 1 rfl) ?_
      refine lv_imul C0.1 C0.2.1 dX0_step_20 ?_
      refine lv_iload_n C0.1 C0.2.1 dX0_step_21 rfl (lv_at hl 3 rfl) ?_
      refine lv_iadd C0.1 C0.2.1 dX0_step_22 ?_
      refine ww_lald C0 hK hP 1 0 rfl rfl (j := 64 * a + j) (gc_ix a j) (by omega) (by decide) dX0_step_23 ?_
      refine lv_goto (tgt := 28) C0.1 C0.2.1 dX0_step_24 (by decide) ?_
      refine ww_tl (v := if gb (G 0) j then E (64 * a + j) else 0) (if_pos (Classical.not_not.mp (fun q => c1 (gc_b0.mpr q)))).symm ?_
      exact hJ
theorem go_step (C0 : CallFix p m c cc nL s args lw_all RX0) (hsz : ls.size = nL) (hR : 2 ≤ R.frames ∧ 47 ≤ R.locals ∧ cells ≤ R.cells ∧ slots ≤ R.slots) (hrm : (rest.map fun v => v.category).sum ≤ 8) (hK : va_K D vwCl [(d, .long)] s) (hP : va_P D vwCl (gX h0 hE hS hG d E S G k) H) {a b j : Nat} (ha : a < 30) (hb : b < 30) (hj : j < 64) (hdg : decode cc pc = .ok (.invokevirtual 49, 3)) (kk : W p l e R s m args below meth c H locs cells slots Q (F0 m (pc + 3) ls (.long (gc_stp E G a b j) :: rest))) : W p l e R s m args below meth c H locs cells slots Q (F0 m pc ls (.int (nI j) :: .int (nI b) :: .int (nI a) :: .ref h0 :: rest)) :=
  ww_callL C0 hK hP rfl (mX0_step l D h0 hE hS hG d E S G k a b j ha hb hj) (cwV 3 C0.2.2.2.2 (lw_V q100 q102 qs3 q22 q103) rfl rfl rfl (by decide +kernel) ⟨hR.1, hR.2.1⟩) rfl rfl hsz hrm hR.2.2 hdg (fun r hr => by rw [hr]; exact kk)
set_option maxHeartbeats 4000000 in
set_option maxRecDepth 100000 in
/-- weakOf(a, x) -/
theorem mX0_weakOf (l : Launch) (D : va_G) (h0 hE hS hG : Nat) (d : ClassId) (E S G : Nat → Int64) (k : Nat) (a : Nat) (ha : a < 30) (x : Int64) : Met l yX0_weakOf (ws_ yX0_weakOf cX0_weakOf 8 (some .long)) ({ frames := 0, cells := 0, slots := 0, locals := 0 }) (va_Pc [.ref h0, .int (nI a), .long x] (gP D d (gX h0 hE hS hG d E S G k))) (vp_Sl (fun r => r = gc_wk E a x)) 0 0 (fun _ => False) := by
  refine ww_met (by decide) (Nat.le_of_ble_eq_true rfl) ?_
  intro p e s m below meth c C0 hr hlk hnm hv ls hl
  have C0 : CallFix p m c cX0_weakOf 8 s _ lw_all RX0 := C0
  obtain ⟨hP, hK⟩ := hv
  have hl : lv_has ls 8 [(0, .ref h0), (1, .int (nI a)), (2, .long x)] := hl
  refine lv_lconst (v := 0) C0.1 C0.2.1 dX0_weakOf_0 (by decide) ?_
  refine lv_lstore (lv' := [(4, .long 0), (0, .ref h0), (1, .int (nI a)), (2, .long x)]) C0.1 C0.2.1 dX0_weakOf_1 hl (by decide) rfl (fun ls hl => ?_)
  refine lv_iconst (v := 0) C0.1 C0.2.1 dX0_weakOf_3 (by decide) ?_
  refine lv_istore (lv' := [(6, .int 0), (4, .long 0), (0, .ref h0), (1, .int (nI a)), (2, .long x)]) C0.1 C0.2.1 dX0_weakOf_4 hl (by decide) rfl (fun ls hl => ?_)
  refine ww_for (nL := 8) 64 (fun _ => True) (fun i => [(0, .ref h0), (1, .int (nI a)), (2, .long x), (4, .long (gc_up (fun s acc => if E (64 * a + s) &&& (x ^^^ (-1)) = 0 then acc ||| gw s else acc) i 0)), (6, .int (nI i))]) trivial (lv_sub hl [2, 3, 4, 1, 0] rfl) ?_
  intro i hi hI ih ls hl
  have hl : lv_has ls 8 [(0, .ref h0), (1, .int (nI a)), (2, .long x), (4, .long (gc_up (fun s acc => if E (64 * a + s) &&& (x ^^^ (-1)) = 0 then acc ||| gw s else acc) i 0)), (6, .int (nI i))] := hl
  refine lv_iload C0.1 C0.2.1 dX0_weakOf_6 (lv_at hl 4 rfl) ?_
  refine lv_bipush (v := nI 64) C0.1 C0.2.1 dX0_weakOf_8 (by decide) ?_
  refine lv_icmp_ge (tgt := 68) C0.1 C0.2.1 dX0_weakOf_10 (by decide) (fun cc => ?_) (fun cc => ?_)
  · have e : i = 64 := ww_eq hi (by decide) cc
    subst e
    refine lv_lload C0.1 C0.2.1 dX0_weakOf_68 (lv_at hl 3 rfl) ?_
    exact ww_lret C0 hr hlk rfl dX0_weakOf_70
  · have lt : i < 64 := ww_lt hi (by decide) cc
    refine lv_aload_n C0.1 C0.2.1 dX0_weakOf_13 rfl (lv_at hl 0 rfl) ?_
    refine xg_E C0 hK hP dX0_weakOf_14 ?_
    refine lv_bipush (v := nI 64) C0.1 C0.2.1 dX0_weakOf_17 (by decide) ?_
    refine lv_iload_n C0.1 C0.2.1 dX0_weakOf_19 rfl (lv_at hl 1 rfl) ?_
    refine lv_imul C0.1 C0.2.1 dX0_weakOf_20 ?_
    refine lv_iload C0.1 C0.2.1 dX0_weakOf_21 (lv_at hl 4 rfl) ?_
    refine lv_iadd C0.1 C0.2.1 dX0_weakOf_23 ?_
    refine ww_lald C0 hK hP 1 0 rfl rfl (j := 64 * a + i) (gc_ix a i) (by omega) (by decide) dX0_weakOf_24 ?_
    refine lv_lload_n C0.1 C0.2.1 dX0_weakOf_25 rfl (lv_at hl 2 rfl) ?_
    refine lv_ldc2 (v := -1) C0.1 C0.2.1 C0.2.2.2.1 (C0.2.2.2.2 _ q64) dX0_weakOf_26 ?_
    refine lv_lxor C0.1 C0.2.1 dX0_weakOf_29 ?_
    refine lv_land C0.1 C0.2.1 dX0_weakOf_30 ?_
    refine lv_lconst (v := 0) C0.1 C0.2.1 dX0_weakOf_31 (by decide) ?_
    refine W.lcmp C0.1 C0.2.1 dX0_weakOf_32 ?_
    have hz := lg_cmp_eq (E (64 * a + i) &&& (x ^^^ (-1))) 0
    refine ww_join (tgt := 41) (st := [.int (if E (64 * a + i) &&& (x ^^^ (-1)) = 0 then 1 else 0)]) ?_ (fun hJ => ?_)
    · refine lv_istore (lv' := [(7, .int (if E (64 * a + i) &&& (x ^^^ (-1)) = 0 then 1 else 0)), (0, .ref h0), (1, .int (nI a)), (2, .long x), (4, .long (gc_up (fun s acc => if E (64 * a + s) &&& (x ^^^ (-1)) = 0 then acc ||| gw s else acc) i 0)), (6, .int (nI i))]) C0.1 C0.2.1 dX0_weakOf_41 hl (by decide) rfl (fun ls hl => ?_)
      refine lv_iload C0.1 C0.2.1 dX0_weakOf_43 (lv_at hl 0 rfl) ?_
      refine lv_if_eq (tgt := 58) C0.1 C0.2.1 dX0_weakOf_45 (by decide) (fun c3 => ?_) (fun c3 => ?_)
      · refine lv_lload C0.1 C0.2.1 dX0_weakOf_58 (lv_at hl 4 rfl) ?_
        refine ww_tl (v := gc_up (fun s acc => if E (64 * a + s) &&& (x ^^^ (-1)) = 0 then acc ||| gw s else acc) (i + 1) 0) (by rw [gc_up_s]; exact (if_neg (gc_b0.mp c3)).symm) ?_
        refine lv_lstore (lv' := [(4, .long (gc_up (fun s acc => if E (64 * a + s) &&& (x ^^^ (-1)) = 0 then acc ||| gw s else acc) (i + 1) 0)), (7, .int (if E (64 * a + i) &&& (x ^^^ (-1)) = 0 then 1 else 0)), (0, .ref h0), (1, .int (nI a)), (2, .long x), (6, .int (nI i))]) C0.1 C0.2.1 dX0_weakOf_60 hl (by decide) rfl (fun ls hl => ?_)
        refine lv_iinc (v := nI (i + 1)) (lv' := [(6, .int (nI (i + 1))), (4, .long (gc_up (fun s acc => if E (64 * a + s) &&& (x ^^^ (-1)) = 0 then acc ||| gw s else acc) (i + 1) 0)), (7, .int (if E (64 * a + i) &&& (x ^^^ (-1)) = 0 then 1 else 0)), (0, .ref h0), (1, .int (nI a)), (2, .long x)]) C0.1 C0.2.1 dX0_weakOf_62 hl (k := 5) rfl (ww_inc i) (by decide) rfl (fun ls hl => ?_)
        refine lv_goto (tgt := 6) C0.1 C0.2.1 dX0_weakOf_65 (by decide) ?_
        exact ih lt trivial ls (lv_sub hl [3, 4, 5, 1, 0] rfl)
      · refine lv_lload C0.1 C0.2.1 dX0_weakOf_48 (lv_at hl 4 rfl) ?_
        refine lv_lconst (v := 1) C0.1 C0.2.1 dX0_weakOf_50 (by decide) ?_
        refine lv_iload C0.1 C0.2.1 dX0_weakOf_51 (lv_at hl 5 rfl) ?_
        refine lv_lshl (v := gw i) C0.1 C0.2.1 dX0_weakOf_53 rfl ?_
        refine lv_lor C0.1 C0.2.1 dX0_weakOf_54 ?_
        refine lv_goto (tgt := 60) C0.1 C0.2.1 dX0_weakOf_55 (by decide) ?_
        refine ww_tl (v := gc_up (fun s acc => if E (64 * a + s) &&& (x ^^^ (-1)) = 0 then acc ||| gw s else acc) (i + 1) 0) (by rw [gc_up_s]; exact (if_pos (gc_b1 c3)).symm) ?_
        refine lv_lstore (lv' := [(4, .long (gc_up (fun s acc => if E (64 * a + s) &&& (x ^^^ (-1)) = 0 then acc ||| gw s else acc) (i + 1) 0)), (7, .int (if E (64 * a + i) &&& (x ^^^ (-1)) = 0 then 1 else 0)), (0, .ref h0), (1, .int (nI a)), (2, .long x), (6, .int (nI i))]) C0.1 C0.2.1 dX0_weakOf_60 hl (by decide) rfl (fun ls hl => ?_)
        refine lv_iinc (v := nI (i + 1)) (lv' := [(6, .int (nI (i + 1))), (4, .long (gc_up (fun s acc => if E (64 * a + s) &&& (x ^^^ (-1)) = 0 then acc ||| gw s else acc) (i + 1) 0)), (7, .int (if E (64 * a + i) &&& (x ^^^ (-1)) = 0 then 1 else 0)), (0, .ref h0), (1, .int (nI a)), (2, .long x)]) C0.1 C0.2.1 dX0_weakOf_62 hl (k := 5) rfl (ww_inc i) (by decide) rfl (fun ls hl => ?_)
        refine lv_goto (tgt := 6) C0.1 C0.2.1 dX0_weakOf_65 (by decide) ?_
        exact ih lt trivial ls (lv_sub hl [3, 4, 5, 1, 0] rfl)
    · refine lv_if_ne (tgt := 40) C0.1 C0.2.1 dX0_weakOf_33 (by decide) (fun c2 => ?_) (fun c2 => ?_)
      · refine lv_iconst (v := 0) C0.1 C0.2.1 dX0_weakOf_40 (by decide) ?_
        refine ww_ti (v := if E (64 * a + i) &&& (x ^^^ (-1)) = 0 then 1 else 0) (if_neg (fun q => c2 (hz.mpr q))).symm ?_
        exact hJ
      · refine lv_iconst (v := 1) C0.1 C0.2.1 dX0_weakOf_36 (by decide) ?_
        refine lv_goto (tgt := 41) C0.1 C0.2.1 dX0_weakOf_37 (by decide) ?_
        refine ww_ti (v := if E (64 * a + i) &&& (x ^^^ (-1)) = 0 then 1 else 0) (if_pos (hz.mp c2)).symm ?_
        exact hJ
theorem go_weakOf (C0 : CallFix p m c cc nL s args lw_all RX0) (hsz : ls.size = nL) (hR : 1 ≤ R.frames ∧ 27 ≤ R.locals ∧ cells ≤ R.cells ∧ slots ≤ R.slots) (hrm : (rest.map fun v => v.category).sum ≤ 8) (hK : va_K D vwCl [(d, .long)] s) (hP : va_P D vwCl (gX h0 hE hS hG d E S G k) H) {a : Nat} (ha : a < 30) {x : Int64} (hdg : decode cc pc = .ok (.invokevirtual 60, 3)) (kk : W p l e R s m args below meth c H locs cells slots Q (F0 m (pc + 3) ls (.long (gc_wk E a x) :: rest))) : W p l e R s m args below meth c H locs cells slots Q (F0 m pc ls (.long x :: .int (nI a) :: .ref h0 :: rest)) :=
  ww_callL C0 hK hP rfl (mX0_weakOf l D h0 hE hS hG d E S G k a ha x) (cwV 2 C0.2.2.2.2 (lw_V q132 q134 qs6 q22 q135) rfl rfl rfl (by decide +kernel) ⟨hR.1, hR.2.1⟩) rfl rfl hsz hrm hR.2.2 hdg (fun r hr => by rw [hr]; exact kk)
set_option maxHeartbeats 4000000 in
set_option maxRecDepth 100000 in
/-- reached(a, b, j) -/
theorem mX0_reached (l : Launch) (D : va_G) (h0 hE hS hG : Nat) (d : ClassId) (E S G : Nat → Int64) (k : Nat) (a b j : Nat) (ha : a < 30) (hb : b < 30) (hj : j < 64) : Met l yX0_reached (ws_ yX0_reached cX0_reached 12 (some .long)) ({ frames := 2, cells := 0, slots := 0, locals := 47 }) (va_Pc [.ref h0, .int (nI a), .int (nI b), .int (nI j)] (gP D d (gX h0 hE hS hG d E S G k))) (vp_Sl (fun r => r = gc_rch (gc_stp E G a b) j)) 0 0 (fun _ => False) := by
  refine ww_met (by decide) (Nat.le_of_ble_eq_true rfl) ?_
  intro p e s m below meth c C0 hr hlk hnm hv ls hl
  have C0 : CallFix p m c cX0_reached 12 s _ lw_all RX0 := C0
  obtain ⟨hP, hK⟩ := hv
  have hl : lv_has ls 12 [(0, .ref h0), (1, .int (nI a)), (2, .int (nI b)), (3, .int (nI j))] := hl
  refine lv_lconst (v := 1) C0.1 C0.2.1 dX0_reached_0 (by decide) ?_
  refine lv_iload_n C0.1 C0.2.1 dX0_reached_1 rfl (lv_at hl 3 rfl) ?_
  refine lv_lshl (v := gw j) C0.1 C0.2.1 dX0_reached_2 rfl ?_
  refine lv_lstore (lv' := [(4, .long (gw j)), (0, .ref h0), (1, .int (nI a)), (2, .int (nI b)), (3, .int (nI j))]) C0.1 C0.2.1 dX0_reached_3 hl (by decide) rfl (fun ls hl => ?_)
  refine lv_lconst (v := 0) C0.1 C0.2.1 dX0_reached_5 (by decide) ?_
  refine lv_lstore (lv' := [(6, .long 0), (4, .long (gw j)), (0, .ref h0), (1, .int (nI a)), (2, .int (nI b)), (3, .int (nI j))]) C0.1 C0.2.1 dX0_reached_6 hl (by decide) rfl (fun ls hl => ?_)
  refine lv_iconst (v := 0) C0.1 C0.2.1 dX0_reached_8 (by decide) ?_
  refine lv_istore (lv' := [(8, .int 0), (6, .long 0), (4, .long (gw j)), (0, .ref h0), (1, .int (nI a)), (2, .int (nI b)), (3, .int (nI j))]) C0.1 C0.2.1 dX0_reached_9 hl (by decide) rfl (fun ls hl => ?_)
  refine ww_fuel (nL := 12) 65 (fun n (y : Int64 × Int64) => gc_rX (gc_stp E G a b) n y.1 y.2 = gc_rch (gc_stp E G a b) j) (fun n y => [(0, .ref h0), (1, .int (nI a)), (2, .int (nI b)), (4, .long y.1), (6, .long y.2), (8, .int (nI (65 - n)))]) (gw j, 0) (gc_rch_X _ hj) (lv_sub hl [3, 4, 5, 2, 1, 0] rfl) ?_
  intro n y hn hI ih ls hl
  obtain ⟨y1, y2⟩ := y
  have hl : lv_has ls 12 [(0, .ref h0), (1, .int (nI a)), (2, .int (nI b)), (4, .long y1), (6, .long y2), (8, .int (nI (65 - n)))] := hl
  have hI : gc_rX (gc_stp E G a b) n y1 y2 = gc_rch (gc_stp E G a b) j := hI
  refine lv_iload C0.1 C0.2.1 dX0_reached_11 (lv_at hl 5 rfl) ?_
  refine lv_bipush (v := nI 64) C0.1 C0.2.1 dX0_reached_13 (by decide) ?_
  refine lv_icmp_gt (tgt := 91) C0.1 C0.2.1 dX0_reached_15 (by decide) (fun c1 => ?_) (fun c1 => ?_)
  · have e : n = 0 := by have q := (nI_ltI (by decide) (by omega)).mp c1; omega
    subst e
    refine lv_lload C0.1 C0.2.1 dX0_reached_91 (lv_at hl 3 rfl) ?_
    exact ww_lret C0 hr hlk hI dX0_reached_93
  · obtain ⟨n, rfl⟩ : ∃ n', n = n' + 1 := ⟨n - 1, by have q : ¬ 64 < 65 - n := fun z => c1 (nI_lt z (by omega)); omega⟩
    refine lv_lload C0.1 C0.2.1 dX0_reached_18 (lv_at hl 3 rfl) ?_
    refine lv_lload C0.1 C0.2.1 dX0_reached_20 (lv_at hl 4 rfl) ?_
    refine W.lcmp C0.1 C0.2.1 dX0_reached_22 ?_
    refine lv_if_eq (tgt := 91) C0.1 C0.2.1 dX0_reached_23 (by decide) (fun c2 => ?_) (fun c2 => ?_)
    · have e : y1 = y2 := (lg_cmp_eq _ _).mp c2
      refine lv_lload C0.1 C0.2.1 dX0_reached_91 (lv_at hl 3 rfl) ?_
      exact ww_lret C0 hr hlk (show y1 = gc_rch (gc_stp E G a b) j from by rw [← hI]; exact (if_pos e).symm) dX0_reached_93
    · have ne : ¬ y1 = y2 := fun q => c2 ((lg_cmp_eq _ _).mpr q)
      have hI : gc_rX (gc_stp E G a b) n (gc_fX (gc_stp E G a b) y1 y2) y1 = gc_rch (gc_stp E G a b) j := by rw [← hI]; exact (if_neg ne).symm
      refine lv_lload C0.1 C0.2.1 dX0_reached_26 (lv_at hl 3 rfl) ?_
      refine lv_lload C0.1 C0.2.1 dX0_reached_28 (lv_at hl 4 rfl) ?_
      refine lv_ldc2 (v := -1) C0.1 C0.2.1 C0.2.2.2.1 (C0.2.2.2.2 _ q64) dX0_reached_30 ?_
      refine lv_lxor C0.1 C0.2.1 dX0_reached_33 ?_
      refine lv_land C0.1 C0.2.1 dX0_reached_34 ?_
      refine lv_lstore (lv' := [(9, .long (y1 &&& (y2 ^^^ (-1)))), (0, .ref h0), (1, .int (nI a)), (2, .int (nI b)), (4, .long y1), (6, .long y2), (8, .int (nI (65 - (n + 1))))]) C0.1 C0.2.1 dX0_reached_35 hl (by decide) rfl (fun ls hl => ?_)
      refine lv_lload C0.1 C0.2.1 dX0_reached_37 (lv_at hl 4 rfl) ?_
      refine lv_lstore (lv' := [(6, .long y1), (9, .long (y1 &&& (y2 ^^^ (-1)))), (0, .ref h0), (1, .int (nI a)), (2, .int (nI b)), (4, .long y1), (8, .int (nI (65 - (n + 1))))]) C0.1 C0.2.1 dX0_reached_39 hl (by decide) rfl (fun ls hl => ?_)
      refine lv_iconst (v := 0) C0.1 C0.2.1 dX0_reached_41 (by decide) ?_
      refine lv_istore (lv' := [(11, .int 0), (6, .long y1), (9, .long (y1 &&& (y2 ^^^ (-1)))), (0, .ref h0), (1, .int (nI a)), (2, .int (nI b)), (4, .long y1), (8, .int (nI (65 - (n + 1))))]) C0.1 C0.2.1 dX0_reached_42 hl (by decide) rfl (fun ls hl => ?_)
      refine ww_for (nL := 12) 64 (fun _ => True) (fun i => [(0, .ref h0), (1, .int (nI a)), (2, .int (nI b)), (4, .long (gc_up (gc_fg (fun k _ => gb (y1 &&& (y2 ^^^ (-1))) k) (gc_stp E G a b)) i y1)), (6, .long y1), (8, .int (nI (65 - (n + 1)))), (9, .long (y1 &&& (y2 ^^^ (-1)))), (11, .int (nI i))]) trivial (lv_sub hl [3, 4, 5, 6, 1, 7, 2, 0] rfl) ?_
      intro i hi2 hI2 ih2 ls hl
      have hl : lv_has ls 12 [(0, .ref h0), (1, .int (nI a)), (2, .int (nI b)), (4, .long (gc_up (gc_fg (fun k _ => gb (y1 &&& (y2 ^^^ (-1))) k) (gc_stp E G a b)) i y1)), (6, .long y1), (8, .int (nI (65 - (n + 1)))), (9, .long (y1 &&& (y2 ^^^ (-1)))), (11, .int (nI i))] := hl
      refine lv_iload C0.1 C0.2.1 dX0_reached_44 (lv_at hl 7 rfl) ?_
      refine lv_bipush (v := nI 64) C0.1 C0.2.1 dX0_reached_46 (by decide) ?_
      refine lv_icmp_ge (tgt := 85) C0.1 C0.2.1 dX0_reached_48 (by decide) (fun c3 => ?_) (fun c3 => ?_)
      · have e2 : i = 64 := ww_eq hi2 (by decide) c3
        subst e2
        have en : nI (65 - (n + 1)) + Int32.ofInt 1 = nI (65 - n) := by rw [ww_inc]; congr 1; omega
        refine lv_iinc (v := nI (65 - n)) (lv' := [(8, .int (nI (65 - n))), (0, .ref h0), (1, .int (nI a)), (2, .int (nI b)), (4, .long (gc_up (gc_fg (fun k _ => gb (y1 &&& (y2 ^^^ (-1))) k) (gc_stp E G a b)) 64 y1)), (6, .long y1), (9, .long (y1 &&& (y2 ^^^ (-1)))), (11, .int (nI 64))]) C0.1 C0.2.1 dX0_reached_85 hl (k := 5) rfl en (by decide) rfl (fun ls hl => ?_)
        refine lv_goto (tgt := 11) C0.1 C0.2.1 dX0_reached_88 (by decide) ?_
        exact ih n rfl (gc_fX (gc_stp E G a b) y1 y2, y1) hI ls (lv_sub hl [1, 2, 3, 4, 5, 0] rfl)
      · have lt2 : i < 64 := ww_lt hi2 (by decide) c3
        refine lv_lload C0.1 C0.2.1 dX0_reached_51 (lv_at hl 6 rfl) ?_
        refine lv_iload C0.1 C0.2.1 dX0_reached_53 (lv_at hl 7 rfl) ?_
        refine go_has C0 hl.1 ⟨Nat.le_of_ble_eq_true rfl, Nat.le_of_ble_eq_true rfl, Nat.le_of_ble_eq_true rfl, Nat.le_of_ble_eq_true rfl⟩ (Nat.le_of_ble_eq_true rfl) (j := i) (by omega) dX0_reached_55 ?_
        refine lv_if_eq (tgt := 75) C0.1 C0.2.1 dX0_reached_58 (by decide) (fun c4 => ?_) (fun c4 => ?_)
        · refine lv_lload C0.1 C0.2.1 dX0_reached_75 (lv_at hl 3 rfl) ?_
          refine ww_tl (v := gc_up (gc_fg (fun k _ => gb (y1 &&& (y2 ^^^ (-1))) k) (gc_stp E G a b)) (i + 1) y1) (by rw [gc_up_s]; exact (if_neg (gc_b0.mp c4)).symm) ?_
          refine lv_lstore (lv' := [(4, .long (gc_up (gc_fg (fun k _ => gb (y1 &&& (y2 ^^^ (-1))) k) (gc_stp E G a b)) (i + 1) y1)), (0, .ref h0), (1, .int (nI a)), (2, .int (nI b)), (6, .long y1), (8, .int (nI (65 - (n + 1)))), (9, .long (y1 &&& (y2 ^^^ (-1)))), (11, .int (nI i))]) C0.1 C0.2.1 dX0_reached_77 hl (by decide) rfl (fun ls hl => ?_)
          refine lv_iinc (v := nI (i + 1)) (lv' := [(11, .int (nI (i + 1))), (4, .long (gc_up (gc_fg (fun k _ => gb (y1 &&& (y2 ^^^ (-1))) k) (gc_stp E G a b)) (i + 1) y1)), (0, .ref h0), (1, .int (nI a)), (2, .int (nI b)), (6, .long y1), (8, .int (nI (65 - (n + 1)))), (9, .long (y1 &&& (y2 ^^^ (-1))))]) C0.1 C0.2.1 dX0_reached_79 hl (k := 7) rfl (ww_inc i) (by decide) rfl (fun ls hl => ?_)
          refine lv_goto (tgt := 44) C0.1 C0.2.1 dX0_reached_82 (by decide) ?_
          exact ih2 lt2 trivial ls (lv_sub hl [2, 3, 4, 1, 5, 6, 7, 0] rfl)
        · refine lv_lload C0.1 C0.2.1 dX0_reached_61 (lv_at hl 3 rfl) ?_
          refine lv_aload_n C0.1 C0.2.1 dX0_reached_63 rfl (lv_at hl 0 rfl) ?_
          refine lv_iload_n C0.1 C0.2.1 dX0_reached_64 rfl (lv_at hl 1 rfl) ?_
          refine lv_iload_n C0.1 C0.2.1 dX0_reached_65 rfl (lv_at hl 2 rfl) ?_
          refine lv_iload C0.1 C0.2.1 dX0_reached_66 (lv_at hl 7 rfl) ?_
          refine go_step C0 hl.1 ⟨Nat.le_of_ble_eq_true rfl, Nat.le_of_ble_eq_true rfl, Nat.le_of_ble_eq_true rfl, Nat.le_of_ble_eq_true rfl⟩ (Nat.le_of_ble_eq_true rfl) hK hP (a := a) (b := b) (j := i) (by omega) (by omega) (by omega) dX0_reached_68 ?_
          refine lv_lor C0.1 C0.2.1 dX0_reached_71 ?_
          refine lv_goto (tgt := 77) C0.1 C0.2.1 dX0_reached_72 (by decide) ?_
          refine ww_tl (v := gc_up (gc_fg (fun k _ => gb (y1 &&& (y2 ^^^ (-1))) k) (gc_stp E G a b)) (i + 1) y1) (by rw [gc_up_s]; exact (if_pos (gc_b1 c4)).symm) ?_
          refine lv_lstore (lv' := [(4, .long (gc_up (gc_fg (fun k _ => gb (y1 &&& (y2 ^^^ (-1))) k) (gc_stp E G a b)) (i + 1) y1)), (0, .ref h0), (1, .int (nI a)), (2, .int (nI b)), (6, .long y1), (8, .int (nI (65 - (n + 1)))), (9, .long (y1 &&& (y2 ^^^ (-1)))), (11, .int (nI i))]) C0.1 C0.2.1 dX0_reached_77 hl (by decide) rfl (fun ls hl => ?_)
          refine lv_iinc (v := nI (i + 1)) (lv' := [(11, .int (nI (i + 1))), (4, .long (gc_up (gc_fg (fun k _ => gb (y1 &&& (y2 ^^^ (-1))) k) (gc_stp E G a b)) (i + 1) y1)), (0, .ref h0), (1, .int (nI a)), (2, .int (nI b)), (6, .long y1), (8, .int (nI (65 - (n + 1)))), (9, .long (y1 &&& (y2 ^^^ (-1))))]) C0.1 C0.2.1 dX0_reached_79 hl (k := 7) rfl (ww_inc i) (by decide) rfl (fun ls hl => ?_)
          refine lv_goto (tgt := 44) C0.1 C0.2.1 dX0_reached_82 (by decide) ?_
          exact ih2 lt2 trivial ls (lv_sub hl [2, 3, 4, 1, 5, 6, 7, 0] rfl)
theorem go_reached (C0 : CallFix p m c cc nL s args lw_all RX0) (hsz : ls.size = nL) (hR : 3 ≤ R.frames ∧ 78 ≤ R.locals ∧ cells ≤ R.cells ∧ slots ≤ R.slots) (hrm : (rest.map fun v => v.category).sum ≤ 8) (hK : va_K D vwCl [(d, .long)] s) (hP : va_P D vwCl (gX h0 hE hS hG d E S G k) H) {a b j : Nat} (ha : a < 30) (hb : b < 30) (hj : j < 64) (hdg : decode cc pc = .ok (.invokevirtual 53, 3)) (kk : W p l e R s m args below meth c H locs cells slots Q (F0 m (pc + 3) ls (.long (gc_rch (gc_stp E G a b) j) :: rest))) : W p l e R s m args below meth c H locs cells slots Q (F0 m pc ls (.int (nI j) :: .int (nI b) :: .int (nI a) :: .ref h0 :: rest)) :=
  ww_callL C0 hK hP rfl (mX0_reached l D h0 hE hS hG d E S G k a b j ha hb hj) (cwV 3 C0.2.2.2.2 (lw_V q108 q110 qs4 q22 q111) rfl rfl rfl (by decide +kernel) ⟨hR.1, hR.2.1⟩) rfl rfl hsz hrm hR.2.2 hdg (fun r hr => by rw [hr]; exact kk)
set_option maxHeartbeats 4000000 in
set_option maxRecDepth 100000 in
/-- loopSure(a, b, outside) -/
theorem mX0_loopSure (l : Launch) (D : va_G) (h0 hE hS hG : Nat) (d : ClassId) (E S G : Nat → Int64) (k : Nat) (a b : Nat) (ha : a < 30) (hb : b < 30) : Met l yX0_loopSure (ws_ yX0_loopSure cX0_loopSure 13 (some .long)) ({ frames := 2, cells := 0, slots := 0, locals := 47 }) (va_Pc [.ref h0, .int (nI a), .int (nI b), .long (gc_out G)] (gP D d (gX h0 hE hS hG d E S G k))) (vp_Sl (fun r => r = gc_los E S G a b)) 0 0 (fun _ => False) := by
  refine ww_met (by decide) (Nat.le_of_ble_eq_true rfl) ?_
  intro p e s m below meth c C0 hr hlk hnm hv ls hl
  have C0 : CallFix p m c cX0_loopSure 13 s _ lw_all RX0 := C0
  obtain ⟨hP, hK⟩ := hv
  have hl : lv_has ls 13 [(0, .ref h0), (1, .int (nI a)), (2, .int (nI b)), (3, .long (gc_out G))] := hl
  refine lv_lload_n C0.1 C0.2.1 dX0_loopSure_0 rfl (lv_at hl 3 rfl) ?_
  refine lv_lstore (lv' := [(5, .long (gc_out G)), (0, .ref h0), (1, .int (nI a)), (2, .int (nI b)), (3, .long (gc_out G))]) C0.1 C0.2.1 dX0_loopSure_1 hl (by decide) rfl (fun ls hl => ?_)
  refine lv_iconst (v := 1) C0.1 C0.2.1 dX0_loopSure_3 (by decide) ?_
  refine lv_istore (lv' := [(7, .int 1), (5, .long (gc_out G)), (0, .ref h0), (1, .int (nI a)), (2, .int (nI b)), (3, .long (gc_out G))]) C0.1 C0.2.1 dX0_loopSure_4 hl (by decide) rfl (fun ls hl => ?_)
  refine lv_iconst (v := 0) C0.1 C0.2.1 dX0_loopSure_6 (by decide) ?_
  refine lv_istore (lv' := [(8, .int 0), (7, .int 1), (5, .long (gc_out G)), (0, .ref h0), (1, .int (nI a)), (2, .int (nI b)), (3, .long (gc_out G))]) C0.1 C0.2.1 dX0_loopSure_7 hl (by decide) rfl (fun ls hl => ?_)
  refine ww_fuel (nL := 13) 65 (fun n (y : Int64 × Int32) => gc_lX (gc_up (gc_sX (gc_stp E G a b) (gc_good S G a b)) 64) n y.1 y.2 = gc_los E S G a b) (fun n y => [(0, .ref h0), (1, .int (nI a)), (2, .int (nI b)), (5, .long y.1), (7, .int y.2), (8, .int (nI (65 - n)))]) (gc_out G, 1) (gc_los_X E S G a b) (lv_sub hl [3, 4, 5, 2, 1, 0] rfl) ?_
  intro n y hn hI ih ls hl
  obtain ⟨y1, y2⟩ := y
  have hl : lv_has ls 13 [(0, .ref h0), (1, .int (nI a)), (2, .int (nI b)), (5, .long y1), (7, .int y2), (8, .int (nI (65 - n)))] := hl
  have hI : gc_lX (gc_up (gc_sX (gc_stp E G a b) (gc_good S G a b)) 64) n y1 y2 = gc_los E S G a b := hI
  refine lv_iload C0.1 C0.2.1 dX0_loopSure_9 (lv_at hl 5 rfl) ?_
  refine lv_bipush (v := nI 64) C0.1 C0.2.1 dX0_loopSure_11 (by decide) ?_
  refine lv_icmp_gt (tgt := 180) C0.1 C0.2.1 dX0_loopSure_13 (by decide) (fun c1 => ?_) (fun c1 => ?_)
  · have e : n = 0 := by have q := (nI_ltI (by decide) (by omega)).mp c1; omega
    subst e
    refine lv_lload C0.1 C0.2.1 dX0_loopSure_180 (lv_at hl 3 rfl) ?_
    exact ww_lret C0 hr hlk hI dX0_loopSure_182
  · obtain ⟨n, rfl⟩ : ∃ n', n = n' + 1 := ⟨n - 1, by have q : ¬ 64 < 65 - n := fun z => c1 (nI_lt z (by omega)); omega⟩
    refine lv_iload C0.1 C0.2.1 dX0_loopSure_16 (lv_at hl 4 rfl) ?_
    refine lv_if_eq (tgt := 180) C0.1 C0.2.1 dX0_loopSure_18 (by decide) (fun c2 => ?_) (fun c2 => ?_)
    · refine lv_lload C0.1 C0.2.1 dX0_loopSure_180 (lv_at hl 3 rfl) ?_
      exact ww_lret C0 hr hlk (show y1 = gc_los E S G a b from by rw [← hI]; exact (if_pos c2).symm) dX0_loopSure_182
    · have hI : gc_lX (gc_up (gc_sX (gc_stp E G a b) (gc_good S G a b)) 64) n (gc_up (gc_sX (gc_stp E G a b) (gc_good S G a b)) 64 y1) (if gc_up (gc_sX (gc_stp E G a b) (gc_good S G a b)) 64 y1 = y1 then 0 else 1) = gc_los E S G a b := by rw [← hI]; exact (if_neg c2).symm
      refine lv_iconst (v := 0) C0.1 C0.2.1 dX0_loopSure_21 (by decide) ?_
      refine ww_ti (v := if gc_up (gc_sX (gc_stp E G a b) (gc_good S G a b)) 0 y1 = y1 then 0 else 1) (if_pos rfl).symm ?_
      refine lv_istore (lv' := [(7, .int (if gc_up (gc_sX (gc_stp E G a b) (gc_good S G a b)) 0 y1 = y1 then 0 else 1)), (0, .ref h0), (1, .int (nI a)), (2, .int (nI b)), (5, .long y1), (8, .int (nI (65 - (n + 1))))]) C0.1 C0.2.1 dX0_loopSure_22 hl (by decide) rfl (fun ls hl => ?_)
      refine lv_iconst (v := 0) C0.1 C0.2.1 dX0_loopSure_24 (by decide) ?_
      refine lv_istore (lv' := [(9, .int 0), (7, .int (if gc_up (gc_sX (gc_stp E G a b) (gc_good S G a b)) 0 y1 = y1 then 0 else 1)), (0, .ref h0), (1, .int (nI a)), (2, .int (nI b)), (5, .long y1), (8, .int (nI (65 - (n + 1))))]) C0.1 C0.2.1 dX0_loopSure_25 hl (by decide) rfl (fun ls hl => ?_)
      refine ww_for (nL := 13) 64 (fun _ => True) (fun i => [(0, .ref h0), (1, .int (nI a)), (2, .int (nI b)), (5, .long (gc_up (gc_sX (gc_stp E G a b) (gc_good S G a b)) i y1)), (7, .int (if gc_up (gc_sX (gc_stp E G a b) (gc_good S G a b)) i y1 = y1 then 0 else 1)), (8, .int (nI (65 - (n + 1)))), (9, .int (nI i))]) trivial (lv_sub hl [2, 3, 4, 5, 1, 6, 0] rfl) ?_
      intro i hi2 hI2 ih2 ls hl
      have hl : lv_has ls 13 [(0, .ref h0), (1, .int (nI a)), (2, .int (nI b)), (5, .long (gc_up (gc_sX (gc_stp E G a b) (gc_good S G a b)) i y1)), (7, .int (if gc_up (gc_sX (gc_stp E G a b) (gc_good S G a b)) i y1 = y1 then 0 else 1)), (8, .int (nI (65 - (n + 1)))), (9, .int (nI i))] := hl
      refine lv_iload C0.1 C0.2.1 dX0_loopSure_27 (lv_at hl 6 rfl) ?_
      refine lv_bipush (v := nI 64) C0.1 C0.2.1 dX0_loopSure_29 (by decide) ?_
      refine lv_icmp_ge (tgt := 174) C0.1 C0.2.1 dX0_loopSure_31 (by decide) (fun c3 => ?_) (fun c3 => ?_)
      · have e2 : i = 64 := ww_eq hi2 (by decide) c3
        subst e2
        have en : nI (65 - (n + 1)) + Int32.ofInt 1 = nI (65 - n) := by rw [ww_inc]; congr 1; omega
        refine lv_iinc (v := nI (65 - n)) (lv' := [(8, .int (nI (65 - n))), (0, .ref h0), (1, .int (nI a)), (2, .int (nI b)), (5, .long (gc_up (gc_sX (gc_stp E G a b) (gc_good S G a b)) 64 y1)), (7, .int (if gc_up (gc_sX (gc_stp E G a b) (gc_good S G a b)) 64 y1 = y1 then 0 else 1)), (9, .int (nI 64))]) C0.1 C0.2.1 dX0_loopSure_174 hl (k := 5) rfl en (by decide) rfl (fun ls hl => ?_)
        refine lv_goto (tgt := 9) C0.1 C0.2.1 dX0_loopSure_177 (by decide) ?_
        exact ih n rfl (_, _) hI ls (lv_sub hl [1, 2, 3, 4, 5, 0] rfl)
      · have lt2 : i < 64 := ww_lt hi2 (by decide) c3
        obtain ⟨acc, hacc⟩ : ∃ q, q = gc_up (gc_sX (gc_stp E G a b) (gc_good S G a b)) i y1 := ⟨_, rfl⟩
        rw [← hacc] at hl
        have hin : gc_in y1 acc := by rw [hacc]; exact gc_fg_up y1 i
        have hl : lv_has ls 13 [(0, .ref h0), (1, .int (nI a)), (2, .int (nI b)), (5, .long acc), (7, .int (if acc = y1 then 0 else 1)), (8, .int (nI (65 - (n + 1)))), (9, .int (nI i))] := hl
        refine lv_aload_n C0.1 C0.2.1 dX0_loopSure_34 rfl (lv_at hl 0 rfl) ?_
        refine xg_G C0 hK hP dX0_loopSure_35 ?_
        refine lv_iconst (v := 0) C0.1 C0.2.1 dX0_loopSure_38 (by decide) ?_
        refine ww_lald C0 hK hP 3 0 rfl rfl (j := 0) (show (0 : Int32) = nI 0 from rfl) (by omega) (by decide) dX0_loopSure_39 ?_
        refine lv_iload C0.1 C0.2.1 dX0_loopSure_40 (lv_at hl 6 rfl) ?_
        refine go_has C0 hl.1 ⟨Nat.le_of_ble_eq_true rfl, Nat.le_of_ble_eq_true rfl, Nat.le_of_ble_eq_true rfl, Nat.le_of_ble_eq_true rfl⟩ (Nat.le_of_ble_eq_true rfl) (j := i) (by omega) dX0_loopSure_42 ?_
        refine ww_join (tgt := 67) (st := [.int (if (!gb (G 0) i || gb (S a) i) then 1 else 0)]) ?_ (fun hJ1 => ?_)
        · refine lv_istore (lv' := [(10, .int (if (!gb (G 0) i || gb (S a) i) then 1 else 0)), (0, .ref h0), (1, .int (nI a)), (2, .int (nI b)), (5, .long acc), (7, .int (if acc = y1 then 0 else 1)), (8, .int (nI (65 - (n + 1)))), (9, .int (nI i))]) C0.1 C0.2.1 dX0_loopSure_67 hl (by decide) rfl (fun ls hl => ?_)
          refine lv_aload_n C0.1 C0.2.1 dX0_loopSure_69 rfl (lv_at hl 1 rfl) ?_
          refine xg_G C0 hK hP dX0_loopSure_70 ?_
          refine lv_iconst (v := 1) C0.1 C0.2.1 dX0_loopSure_73 (by decide) ?_
          refine ww_lald C0 hK hP 3 0 rfl rfl (j := 1) (show (1 : Int32) = nI 1 from rfl) (by omega) (by decide) dX0_loopSure_74 ?_
          refine lv_iload C0.1 C0.2.1 dX0_loopSure_75 (lv_at hl 7 rfl) ?_
          refine go_has C0 hl.1 ⟨Nat.le_of_ble_eq_true rfl, Nat.le_of_ble_eq_true rfl, Nat.le_of_ble_eq_true rfl, Nat.le_of_ble_eq_true rfl⟩ (Nat.le_of_ble_eq_true rfl) (j := i) (by omega) dX0_loopSure_77 ?_
          refine ww_join (tgt := 102) (st := [.int (if (!gb (G 1) i || gb (S b) i) then 1 else 0)]) ?_ (fun hJ2 => ?_)
          · refine lv_istore (lv' := [(11, .int (if (!gb (G 1) i || gb (S b) i) then 1 else 0)), (10, .int (if (!gb (G 0) i || gb (S a) i) then 1 else 0)), (0, .ref h0), (1, .int (nI a)), (2, .int (nI b)), (5, .long acc), (7, .int (if acc = y1 then 0 else 1)), (8, .int (nI (65 - (n + 1)))), (9, .int (nI i))]) C0.1 C0.2.1 dX0_loopSure_102 hl (by decide) rfl (fun ls hl => ?_)
            refine lv_aload_n C0.1 C0.2.1 dX0_loopSure_104 rfl (lv_at hl 2 rfl) ?_
            refine lv_iload_n C0.1 C0.2.1 dX0_loopSure_105 rfl (lv_at hl 3 rfl) ?_
            refine lv_iload_n C0.1 C0.2.1 dX0_loopSure_106 rfl (lv_at hl 4 rfl) ?_
            refine lv_iload C0.1 C0.2.1 dX0_loopSure_107 (lv_at hl 8 rfl) ?_
            refine go_step C0 hl.1 ⟨Nat.le_of_ble_eq_true rfl, Nat.le_of_ble_eq_true rfl, Nat.le_of_ble_eq_true rfl, Nat.le_of_ble_eq_true rfl⟩ (Nat.le_of_ble_eq_true rfl) hK hP (a := a) (b := b) (j := i) (by omega) (by omega) (by omega) dX0_loopSure_109 ?_
            refine lv_lload C0.1 C0.2.1 dX0_loopSure_112 (lv_at hl 5 rfl) ?_
            refine lv_ldc2 (v := -1) C0.1 C0.2.1 C0.2.2.2.1 (C0.2.2.2.2 _ q64) dX0_loopSure_114 ?_
            refine lv_lxor C0.1 C0.2.1 dX0_loopSure_117 ?_
            refine lv_land C0.1 C0.2.1 dX0_loopSure_118 ?_
            refine lv_lconst (v := 0) C0.1 C0.2.1 dX0_loopSure_119 (by decide) ?_
            refine W.lcmp C0.1 C0.2.1 dX0_loopSure_120 ?_
            have hz := lg_cmp_eq (gc_stp E G a b i &&& (acc ^^^ (-1))) 0
            refine ww_join (tgt := 129) (st := [.int (if gc_stp E G a b i &&& (acc ^^^ (-1)) = 0 then 1 else 0)]) ?_ (fun hJ3 => ?_)
            · refine lv_istore (lv' := [(12, .int (if gc_stp E G a b i &&& (acc ^^^ (-1)) = 0 then 1 else 0)), (11, .int (if (!gb (G 1) i || gb (S b) i) then 1 else 0)), (10, .int (if (!gb (G 0) i || gb (S a) i) then 1 else 0)), (0, .ref h0), (1, .int (nI a)), (2, .int (nI b)), (5, .long acc), (7, .int (if acc = y1 then 0 else 1)), (8, .int (nI (65 - (n + 1)))), (9, .int (nI i))]) C0.1 C0.2.1 dX0_loopSure_129 hl (by decide) rfl (fun ls hl => ?_)
              refine lv_lload C0.1 C0.2.1 dX0_loopSure_131 (lv_at hl 6 rfl) ?_
              refine lv_iload C0.1 C0.2.1 dX0_loopSure_133 (lv_at hl 9 rfl) ?_
              refine go_has C0 hl.1 ⟨Nat.le_of_ble_eq_true rfl, Nat.le_of_ble_eq_true rfl, Nat.le_of_ble_eq_true rfl, Nat.le_of_ble_eq_true rfl⟩ (Nat.le_of_ble_eq_true rfl) (j := i) (by omega) dX0_loopSure_135 ?_
              refine lv_if_ne (tgt := 168) C0.1 C0.2.1 dX0_loopSure_138 (by decide) (fun d1 => ?_) (fun d1 => ?_)
              · have ea : acc = gc_up (gc_sX (gc_stp E G a b) (gc_good S G a b)) (i + 1) y1 := by
                  rw [gc_up_s, ← hacc]; show acc = if (!gb acc i && gc_good S G a b i && decide (gc_stp E G a b i &&& (acc ^^^ (-1)) = 0)) then acc ||| gw i else acc
                  exact (if_neg (by unfold gc_good; rw [gc_nb0 d1]; simp)).symm
                rw [ea] at hl
                refine lv_iinc (v := nI (i + 1)) (lv' := [(9, .int (nI (i + 1))), (12, .int (if gc_stp E G a b i &&& (gc_up (gc_sX (gc_stp E G a b) (gc_good S G a b)) (i + 1) y1 ^^^ (-1)) = 0 then 1 else 0)), (11, .int (if (!gb (G 1) i || gb (S b) i) then 1 else 0)), (10, .int (if (!gb (G 0) i || gb (S a) i) then 1 else 0)), (0, .ref h0), (1, .int (nI a)), (2, .int (nI b)), (5, .long (gc_up (gc_sX (gc_stp E G a b) (gc_good S G a b)) (i + 1) y1)), (7, .int (if gc_up (gc_sX (gc_stp E G a b) (gc_good S G a b)) (i + 1) y1 = y1 then 0 else 1)), (8, .int (nI (65 - (n + 1))))]) C0.1 C0.2.1 dX0_loopSure_168 hl (k := 9) rfl (ww_inc i) (by decide) rfl (fun ls hl => ?_)
                refine lv_goto (tgt := 27) C0.1 C0.2.1 dX0_loopSure_171 (by decide) ?_
                exact ih2 lt2 trivial ls (lv_sub hl [4, 5, 6, 7, 8, 9, 0] rfl)
              · refine lv_iload C0.1 C0.2.1 dX0_loopSure_141 (lv_at hl 2 rfl) ?_
                refine lv_if_eq (tgt := 168) C0.1 C0.2.1 dX0_loopSure_143 (by decide) (fun d2 => ?_) (fun d2 => ?_)
                · have ea : acc = gc_up (gc_sX (gc_stp E G a b) (gc_good S G a b)) (i + 1) y1 := by
                    rw [gc_up_s, ← hacc]; show acc = if (!gb acc i && gc_good S G a b i && decide (gc_stp E G a b i &&& (acc ^^^ (-1)) = 0)) then acc ||| gw i else acc
                    exact (if_neg (by unfold gc_good; rw [Bool.eq_false_iff.mpr (gc_b0.mp d2)]; simp)).symm
                  rw [ea] at hl
                  refine lv_iinc (v := nI (i + 1)) (lv' := [(9, .int (nI (i + 1))), (12, .int (if gc_stp E G a b i &&& (gc_up (gc_sX (gc_stp E G a b) (gc_good S G a b)) (i + 1) y1 ^^^ (-1)) = 0 then 1 else 0)), (11, .int (if (!gb (G 1) i || gb (S b) i) then 1 else 0)), (10, .int (if (!gb (G 0) i || gb (S a) i) then 1 else 0)), (0, .ref h0), (1, .int (nI a)), (2, .int (nI b)), (5, .long (gc_up (gc_sX (gc_stp E G a b) (gc_good S G a b)) (i + 1) y1)), (7, .int (if gc_up (gc_sX (gc_stp E G a b) (gc_good S G a b)) (i + 1) y1 = y1 then 0 else 1)), (8, .int (nI (65 - (n + 1))))]) C0.1 C0.2.1 dX0_loopSure_168 hl (k := 9) rfl (ww_inc i) (by decide) rfl (fun ls hl => ?_)
                  refine lv_goto (tgt := 27) C0.1 C0.2.1 dX0_loopSure_171 (by decide) ?_
                  exact ih2 lt2 trivial ls (lv_sub hl [4, 5, 6, 7, 8, 9, 0] rfl)
                · refine lv_iload C0.1 C0.2.1 dX0_loopSure_146 (lv_at hl 1 rfl) ?_
                  refine lv_if_eq (tgt := 168) C0.1 C0.2.1 dX0_loopSure_148 (by decide) (fun d3 => ?_) (fun d3 => ?_)
                  · have ea : acc = gc_up (gc_sX (gc_stp E G a b) (gc_good S G a b)) (i + 1) y1 := by
                      rw [gc_up_s, ← hacc]; show acc = if (!gb acc i && gc_good S G a b i && decide (gc_stp E G a b i &&& (acc ^^^ (-1)) = 0)) then acc ||| gw i else acc
                      exact (if_neg (by unfold gc_good; rw [Bool.eq_false_iff.mpr (gc_b0.mp d3)]; simp)).symm
                    rw [ea] at hl
                    refine lv_iinc (v := nI (i + 1)) (lv' := [(9, .int (nI (i + 1))), (12, .int (if gc_stp E G a b i &&& (gc_up (gc_sX (gc_stp E G a b) (gc_good S G a b)) (i + 1) y1 ^^^ (-1)) = 0 then 1 else 0)), (11, .int (if (!gb (G 1) i || gb (S b) i) then 1 else 0)), (10, .int (if (!gb (G 0) i || gb (S a) i) then 1 else 0)), (0, .ref h0), (1, .int (nI a)), (2, .int (nI b)), (5, .long (gc_up (gc_sX (gc_stp E G a b) (gc_good S G a b)) (i + 1) y1)), (7, .int (if gc_up (gc_sX (gc_stp E G a b) (gc_good S G a b)) (i + 1) y1 = y1 then 0 else 1)), (8, .int (nI (65 - (n + 1))))]) C0.1 C0.2.1 dX0_loopSure_168 hl (k := 9) rfl (ww_inc i) (by decide) rfl (fun ls hl => ?_)
                    refine lv_goto (tgt := 27) C0.1 C0.2.1 dX0_loopSure_171 (by decide) ?_
                    exact ih2 lt2 trivial ls (lv_sub hl [4, 5, 6, 7, 8, 9, 0] rfl)
                  · refine lv_iload C0.1 C0.2.1 dX0_loopSure_151 (lv_at hl 0 rfl) ?_
                    refine lv_if_eq (tgt := 168) C0.1 C0.2.1 dX0_loopSure_153 (by decide) (fun d4 => ?_) (fun d4 => ?_)
                    · have ea : acc = gc_up (gc_sX (gc_stp E G a b) (gc_good S G a b)) (i + 1) y1 := by
                        rw [gc_up_s, ← hacc]; show acc = if (!gb acc i && gc_good S G a b i && decide (gc_stp E G a b i &&& (acc ^^^ (-1)) = 0)) then acc ||| gw i else acc
                        exact (if_neg (by unfold gc_good; rw [decide_eq_false (gc_b0.mp d4)]; simp)).symm
                      rw [ea] at hl
                      refine lv_iinc (v := nI (i + 1)) (lv' := [(9, .int (nI (i + 1))), (12, .int (if gc_stp E G a b i &&& (gc_up (gc_sX (gc_stp E G a b) (gc_good S G a b)) (i + 1) y1 ^^^ (-1)) = 0 then 1 else 0)), (11, .int (if (!gb (G 1) i || gb (S b) i) then 1 else 0)), (10, .int (if (!gb (G 0) i || gb (S a) i) then 1 else 0)), (0, .ref h0), (1, .int (nI a)), (2, .int (nI b)), (5, .long (gc_up (gc_sX (gc_stp E G a b) (gc_good S G a b)) (i + 1) y1)), (7, .int (if gc_up (gc_sX (gc_stp E G a b) (gc_good S G a b)) (i + 1) y1 = y1 then 0 else 1)), (8, .int (nI (65 - (n + 1))))]) C0.1 C0.2.1 dX0_loopSure_168 hl (k := 9) rfl (ww_inc i) (by decide) rfl (fun ls hl => ?_)
                      refine lv_goto (tgt := 27) C0.1 C0.2.1 dX0_loopSure_171 (by decide) ?_
                      exact ih2 lt2 trivial ls (lv_sub hl [4, 5, 6, 7, 8, 9, 0] rfl)
                    · refine lv_lload C0.1 C0.2.1 dX0_loopSure_156 (lv_at hl 6 rfl) ?_
                      refine lv_lconst (v := 1) C0.1 C0.2.1 dX0_loopSure_158 (by decide) ?_
                      refine lv_iload C0.1 C0.2.1 dX0_loopSure_159 (lv_at hl 9 rfl) ?_
                      refine lv_lshl (v := gw i) C0.1 C0.2.1 dX0_loopSure_161 rfl ?_
                      refine lv_lor C0.1 C0.2.1 dX0_loopSure_162 ?_
                      have hs : gb acc i = false := Bool.eq_false_iff.mpr (gc_b0.mp d1)
                      refine ww_tl (v := gc_up (gc_sX (gc_stp E G a b) (gc_good S G a b)) (i + 1) y1) (by rw [gc_up_s, ← hacc]; show _ = if (!gb acc i && gc_good S G a b i && decide (gc_stp E G a b i &&& (acc ^^^ (-1)) = 0)) then acc ||| gw i else acc; exact (if_pos (by unfold gc_good; rw [hs, gc_b1 d2, gc_b1 d3, decide_eq_true (gc_b1 d4)]; rfl)).symm) ?_
                      refine lv_lstore (lv' := [(5, .long (gc_up (gc_sX (gc_stp E G a b) (gc_good S G a b)) (i + 1) y1)), (12, .int (if gc_stp E G a b i &&& (acc ^^^ (-1)) = 0 then 1 else 0)), (11, .int (if (!gb (G 1) i || gb (S b) i) then 1 else 0)), (10, .int (if (!gb (G 0) i || gb (S a) i) then 1 else 0)), (0, .ref h0), (1, .int (nI a)), (2, .int (nI b)), (7, .int (if acc = y1 then 0 else 1)), (8, .int (nI (65 - (n + 1)))), (9, .int (nI i))]) C0.1 C0.2.1 dX0_loopSure_163 hl (by decide) rfl (fun ls hl => ?_)
                      refine lv_iconst (v := 1) C0.1 C0.2.1 dX0_loopSure_165 (by decide) ?_
                      have en : ¬ gc_up (gc_sX (gc_stp E G a b) (gc_good S G a b)) (i + 1) y1 = y1 := fun q => by
                        have h1 : gb (gc_up (gc_sX (gc_stp E G a b) (gc_good S G a b)) (i + 1) y1) i = true := by
                          rw [gc_up_s, ← hacc]; show gb (if (!gb acc i && gc_good S G a b i && decide (gc_stp E G a b i &&& (acc ^^^ (-1)) = 0)) then acc ||| gw i else acc) i = true
                          rw [if_pos (by unfold gc_good; rw [hs, gc_b1 d2, gc_b1 d3, decide_eq_true (gc_b1 d4)]; rfl), gb_or, gb_w lt2]; simp
                        rw [q] at h1
                        rw [hin i lt2 h1] at hs
                        cases hs
                      refine ww_ti (v := if gc_up (gc_sX (gc_stp E G a b) (gc_good S G a b)) (i + 1) y1 = y1 then 0 else 1) (if_neg en).symm ?_
                      refine lv_istore (lv' := [(7, .int (if gc_up (gc_sX (gc_stp E G a b) (gc_good S G a b)) (i + 1) y1 = y1 then 0 else 1)), (5, .long (gc_up (gc_sX (gc_stp E G a b) (gc_good S G a b)) (i + 1) y1)), (12, .int (if gc_stp E G a b i &&& (acc ^^^ (-1)) = 0 then 1 else 0)), (11, .int (if (!gb (G 1) i || gb (S b) i) then 1 else 0)), (10, .int (if (!gb (G 0) i || gb (S a) i) then 1 else 0)), (0, .ref h0), (1, .int (nI a)), (2, .int (nI b)), (8, .int (nI (65 - (n + 1)))), (9, .int (nI i))]) C0.1 C0.2.1 dX0_loopSure_166 hl (by decide) rfl (fun ls hl => ?_)
                      refine lv_iinc (v := nI (i + 1)) (lv' := [(9, .int (nI (i + 1))), (7, .int (if gc_up (gc_sX (gc_stp E G a b) (gc_good S G a b)) (i + 1) y1 = y1 then 0 else 1)), (5, .long (gc_up (gc_sX (gc_stp E G a b) (gc_good S G a b)) (i + 1) y1)), (12, .int (if gc_stp E G a b i &&& (acc ^^^ (-1)) = 0 then 1 else 0)), (11, .int (if (!gb (G 1) i || gb (S b) i) then 1 else 0)), (10, .int (if (!gb (G 0) i || gb (S a) i) then 1 else 0)), (0, .ref h0), (1, .int (nI a)), (2, .int (nI b)), (8, .int (nI (65 - (n + 1))))]) C0.1 C0.2.1 dX0_loopSure_168 hl (k := 9) rfl (ww_inc i) (by decide) rfl (fun ls hl => ?_)
                      refine lv_goto (tgt := 27) C0.1 C0.2.1 dX0_loopSure_171 (by decide) ?_
                      exact ih2 lt2 trivial ls (lv_sub hl [6, 7, 8, 2, 1, 9, 0] rfl)
            · refine lv_if_ne (tgt := 128) C0.1 C0.2.1 dX0_loopSure_121 (by decide) (fun d1 => ?_) (fun d1 => ?_)
              · refine lv_iconst (v := 0) C0.1 C0.2.1 dX0_loopSure_128 (by decide) ?_
                refine ww_ti (v := if gc_stp E G a b i &&& (acc ^^^ (-1)) = 0 then 1 else 0) (if_neg (fun q => d1 (hz.mpr q))).symm ?_
                exact hJ3
              · refine lv_iconst (v := 1) C0.1 C0.2.1 dX0_loopSure_124 (by decide) ?_
                refine lv_goto (tgt := 129) C0.1 C0.2.1 dX0_loopSure_125 (by decide) ?_
                refine ww_ti (v := if gc_stp E G a b i &&& (acc ^^^ (-1)) = 0 then 1 else 0) (if_pos (hz.mp d1)).symm ?_
                exact hJ3
          · refine lv_if_eq (tgt := 97) C0.1 C0.2.1 dX0_loopSure_80 (by decide) (fun d1 => ?_) (fun d1 => ?_)
            · refine lv_iconst (v := 1) C0.1 C0.2.1 dX0_loopSure_97 (by decide) ?_
              refine lv_goto (tgt := 102) C0.1 C0.2.1 dX0_loopSure_98 (by decide) ?_
              refine ww_ti (v := if (!gb (G 1) i || gb (S b) i) then 1 else 0) (if_pos (by rw [Bool.eq_false_iff.mpr (gc_b0.mp d1)]; rfl)).symm ?_
              exact hJ2
            · refine lv_aload_n C0.1 C0.2.1 dX0_loopSure_83 rfl (lv_at hl 1 rfl) ?_
              refine xg_S C0 hK hP dX0_loopSure_84 ?_
              refine lv_iload_n C0.1 C0.2.1 dX0_loopSure_87 rfl (lv_at hl 3 rfl) ?_
              refine ww_lald C0 hK hP 2 0 rfl rfl (j := b) rfl (by omega) (by decide) dX0_loopSure_88 ?_
              refine lv_iload C0.1 C0.2.1 dX0_loopSure_89 (lv_at hl 7 rfl) ?_
              refine go_has C0 hl.1 ⟨Nat.le_of_ble_eq_true rfl, Nat.le_of_ble_eq_true rfl, Nat.le_of_ble_eq_true rfl, Nat.le_of_ble_eq_true rfl⟩ (Nat.le_of_ble_eq_true rfl) (j := i) (by omega) dX0_loopSure_91 ?_
              refine lv_if_eq (tgt := 101) C0.1 C0.2.1 dX0_loopSure_94 (by decide) (fun d2 => ?_) (fun d2 => ?_)
              · refine lv_iconst (v := 0) C0.1 C0.2.1 dX0_loopSure_101 (by decide) ?_
                refine ww_ti (v := if (!gb (G 1) i || gb (S b) i) then 1 else 0) (if_neg (by rw [gc_b1 d1, Bool.eq_false_iff.mpr (gc_b0.mp d2)]; decide)).symm ?_
                exact hJ2
              · refine lv_iconst (v := 1) C0.1 C0.2.1 dX0_loopSure_97 (by decide) ?_
                refine lv_goto (tgt := 102) C0.1 C0.2.1 dX0_loopSure_98 (by decide) ?_
                refine ww_ti (v := if (!gb (G 1) i || gb (S b) i) then 1 else 0) (if_pos (by rw [gc_b1 d2, Bool.or_true])).symm ?_
                exact hJ2
        · refine lv_if_eq (tgt := 62) C0.1 C0.2.1 dX0_loopSure_45 (by decide) (fun d1 => ?_) (fun d1 => ?_)
          · refine lv_iconst (v := 1) C0.1 C0.2.1 dX0_loopSure_62 (by decide) ?_
            refine lv_goto (tgt := 67) C0.1 C0.2.1 dX0_loopSure_63 (by decide) ?_
            refine ww_ti (v := if (!gb (G 0) i || gb (S a) i) then 1 else 0) (if_pos (by rw [Bool.eq_false_iff.mpr (gc_b0.mp d1)]; rfl)).symm ?_
            exact hJ1
          · refine lv_aload_n C0.1 C0.2.1 dX0_loopSure_48 rfl (lv_at hl 0 rfl) ?_
            refine xg_S C0 hK hP dX0_loopSure_49 ?_
            refine lv_iload_n C0.1 C0.2.1 dX0_loopSure_52 rfl (lv_at hl 1 rfl) ?_
            refine ww_lald C0 hK hP 2 0 rfl rfl (j := a) rfl (by omega) (by decide) dX0_loopSure_53 ?_
            refine lv_iload C0.1 C0.2.1 dX0_loopSure_54 (lv_at hl 6 rfl) ?_
            refine go_has C0 hl.1 ⟨Nat.le_of_ble_eq_true rfl, Nat.le_of_ble_eq_true rfl, Nat.le_of_ble_eq_true rfl, Nat.le_of_ble_eq_true rfl⟩ (Nat.le_of_ble_eq_true rfl) (j := i) (by omega) dX0_loopSure_56 ?_
            refine lv_if_eq (tgt := 66) C0.1 C0.2.1 dX0_loopSure_59 (by decide) (fun d2 => ?_) (fun d2 => ?_)
            · refine lv_iconst (v := 0) C0.1 C0.2.1 dX0_loopSure_66 (by decide) ?_
              refine ww_ti (v := if (!gb (G 0) i || gb (S a) i) then 1 else 0) (if_neg (by rw [gc_b1 d1, Bool.eq_false_iff.mpr (gc_b0.mp d2)]; decide)).symm ?_
              exact hJ1
            · refine lv_iconst (v := 1) C0.1 C0.2.1 dX0_loopSure_62 (by decide) ?_
              refine lv_goto (tgt := 67) C0.1 C0.2.1 dX0_loopSure_63 (by decide) ?_
              refine ww_ti (v := if (!gb (G 0) i || gb (S a) i) then 1 else 0) (if_pos (by rw [gc_b1 d2, Bool.or_true])).symm ?_
              exact hJ1
theorem go_loopSure (C0 : CallFix p m c cc nL s args lw_all RX0) (hsz : ls.size = nL) (hR : 3 ≤ R.frames ∧ 79 ≤ R.locals ∧ cells ≤ R.cells ∧ slots ≤ R.slots) (hrm : (rest.map fun v => v.category).sum ≤ 8) (hK : va_K D vwCl [(d, .long)] s) (hP : va_P D vwCl (gX h0 hE hS hG d E S G k) H) {a b : Nat} (ha : a < 30) (hb : b < 30) (hdg : decode cc pc = .ok (.invokevirtual 56, 3)) (kk : W p l e R s m args below meth c H locs cells slots Q (F0 m (pc + 3) ls (.long (gc_los E S G a b) :: rest))) : W p l e R s m args below meth c H locs cells slots Q (F0 m pc ls (.long (gc_out G) :: .int (nI b) :: .int (nI a) :: .ref h0 :: rest)) :=
  ww_callL C0 hK hP rfl (mX0_loopSure l D h0 hE hS hG d E S G k a b ha hb) (cwV 3 C0.2.2.2.2 (lw_V q112 q114 qs5 q22 q115) rfl rfl rfl (by decide +kernel) ⟨hR.1, hR.2.1⟩) rfl rfl hsz hrm hR.2.2 hdg (fun r hr => by rw [hr]; exact kk)
end X0H
end
section
/-! THE CLASS: contracts of its operations that change it -/
set_option maxRecDepth 100000
section X0M
variable {p : Program} {l : Launch} {e : Env} {R : Room} {s : State} {m : MethodId} {args : Array Value} {below : List Frame} {meth : Method} {c : Code} {H : Heap} {locs : List Loc} {cells slots : Nat} {Q : State → Prop} {pc : Nat} {ls : Array Slot} {rest : List Value} {cc : ByteArray} {nL : Nat} {D : va_G} {d : ClassId} {A : Nat → Prop} {H0 : Heap} {h0 hE hS hG : Nat} {E S G : Nat → Int64} {g h : Int64} {k : Nat}
set_option maxHeartbeats 4000000 in
set_option maxRecDepth 100000 in
/-- close(): one program more -/
theorem mX0_close (l : Launch) (D : va_G) (h0 hE hS hG : Nat) (d : ClassId) (E S G : Nat → Int64) (k : Nat) (sz : Nat)  : Met l yX0_close (ws_ yX0_close cX0_close 1 (some .int)) ({ frames := 0, cells := 0, slots := 0, locals := 0 }) (va_Pc [.ref h0] (gC D d sz (gX h0 hE hS hG d E S G k))) (gQ D d sz (gX h0 hE hS hG d E S G k) (nI k) (gX h0 hE hS hG d E S G (k + 1))) 0 0 (va_A (gX h0 hE hS hG d E S G k) sz) := by
  refine ww_met (by decide) (Nat.le_of_ble_eq_true rfl) ?_
  intro p e s m below meth c C0 hr hlk hnm hv ls hl
  have C0 : CallFix p m c cX0_close 1 s _ lw_all RX0 := C0
  obtain ⟨hsz, hP, hK, hD0⟩ := hv
  subst hsz
  have hD : va_D (va_A (gX h0 hE hS hG d E S G k) s.heap.size) (gX h0 hE hS hG d E S G k) := hD0.self
  have hs : va_S (va_A (gX h0 hE hS hG d E S G k) s.heap.size) s.heap s.heap [] := va_S.rf
  have hA : ∀ q, s.heap.size ≤ q → va_A (gX h0 hE hS hG d E S G k) s.heap.size q := fun q h => Or.inr h
  have hl : lv_has ls 1 [(0, .ref h0)] := hl
  refine lv_aload_n C0.1 C0.2.1 dX0_close_0 rfl (lv_at hl 0 rfl) ?_
  refine lv_dup C0.1 C0.2.1 dX0_close_1 rfl ?_
  refine xg_k C0 hK hP dX0_close_2 ?_
  refine lv_iconst (v := 1) C0.1 C0.2.1 dX0_close_5 (by decide) ?_
  refine lv_iadd C0.1 C0.2.1 dX0_close_6 ?_
  refine ww_ti (v := nI (k + 1)) (nI_1 k) ?_
  refine xp_k C0 hK hP hD hs (k' := k + 1) dX0_close_7 (fun H locs hP hD hs => ?_)
  have hP : va_P D vwCl (gX h0 hE hS hG d E S G (k + 1)) H := by exact hP
  have hD : va_D (va_A (gX h0 hE hS hG d E S G k) s.heap.size) (gX h0 hE hS hG d E S G (k + 1)) := by exact hD
  refine lv_aload_n C0.1 C0.2.1 dX0_close_10 rfl (lv_at hl 0 rfl) ?_
  refine xg_k C0 hK hP dX0_close_11 ?_
  refine lv_iconst (v := 1) C0.1 C0.2.1 dX0_close_14 (by decide) ?_
  refine lv_isub C0.1 C0.2.1 dX0_close_15 ?_
  refine ww_ti (v := nI k) (nI_pred k) ?_
  exact ww_cret C0 hr hlk hK hP hD hs rfl dX0_close_16
theorem go_close (C0 : CallFix p m c cc nL s args lw_all RX0) (hsz : ls.size = nL) (hR : 1 ≤ R.frames ∧ 20 ≤ R.locals ∧ cells ≤ R.cells ∧ slots ≤ R.slots) (hrm : (rest.map fun v => v.category).sum ≤ 8) (hK : va_K D vwCl [(d, .long)] s) (hP : va_P D vwCl (gX h0 hE hS hG d E S G k) H) (hD : va_D A (gX h0 hE hS hG d E S G k)) (hs : va_S A H0 H locs) (hA : ∀ q, H0.size ≤ q → A q)  (hdg : decode cc pc = .ok (.invokevirtual 33, 3)) (kk : ∀ (H : Heap) (locs : List Loc), va_P D vwCl (gX h0 hE hS hG d E S G (k + 1)) H → va_D A (gX h0 hE hS hG d E S G (k + 1)) → va_S A H0 H locs → W p l e R s m args below meth c H locs cells slots Q (F0 m (pc + 3) ls (.int (nI k) :: rest))) : W p l e R s m args below meth c H locs cells slots Q (F0 m pc ls (.ref h0 :: rest)) :=
  ww_callC C0 hK hP hD hs hA rfl (mX0_close l D h0 hE hS hG d E S G k H.size ) (cwV 0 C0.2.2.2.2 (lw_V q69 q71 qs0 q22 q72) rfl rfl rfl (by decide +kernel) ⟨hR.1, hR.2.1⟩) rfl rfl hsz hrm hR.2.2 hdg kk
set_option maxHeartbeats 4000000 in
set_option maxRecDepth 100000 in
/-- guard(w, x) -/
theorem mX0_guard (l : Launch) (D : va_G) (h0 hE hS hG : Nat) (d : ClassId) (E S G : Nat → Int64) (k : Nat) (sz : Nat) (w0 : Int32) (x : Int64) : Met l yX0_guard (ws_ yX0_guard cX0_guard 4 (some .int)) ({ frames := 1, cells := 0, slots := 0, locals := 23 }) (va_Pc [.ref h0, .int w0, .long x] (gC D d sz (gX h0 hE hS hG d E S G k))) (gQ D d sz (gX h0 hE hS hG d E S G k) ((o_guard (E, S, G, k) w0 x).1) (gX h0 hE hS hG d ((o_guard (E, S, G, k) w0 x).2.1) ((o_guard (E, S, G, k) w0 x).2.2.1) ((o_guard (E, S, G, k) w0 x).2.2.2.1) ((o_guard (E, S, G, k) w0 x).2.2.2.2))) 0 0 (va_A (gX h0 hE hS hG d E S G k) sz) := by
  refine ww_met (by decide) (Nat.le_of_ble_eq_true rfl) ?_
  intro p e s m below meth c C0 hr hlk hnm hv ls hl
  have C0 : CallFix p m c cX0_guard 4 s _ lw_all RX0 := C0
  obtain ⟨hsz, hP, hK, hD0⟩ := hv
  subst hsz
  have hD : va_D (va_A (gX h0 hE hS hG d E S G k) s.heap.size) (gX h0 hE hS hG d E S G k) := hD0.self
  have hs : va_S (va_A (gX h0 hE hS hG d E S G k) s.heap.size) s.heap s.heap [] := va_S.rf
  have hA : ∀ q, s.heap.size ≤ q → va_A (gX h0 hE hS hG d E S G k) s.heap.size q := fun q h => Or.inr h
  have hl : lv_has ls 4 [(0, .ref h0), (1, .int w0), (2, .long x)] := hl
  refine lv_aload_n C0.1 C0.2.1 dX0_guard_0 rfl (lv_at hl 0 rfl) ?_
  refine xg_G C0 hK hP dX0_guard_1 ?_
  refine lv_iload_n C0.1 C0.2.1 dX0_guard_4 rfl (lv_at hl 1 rfl) ?_
  have hw : (if w0 = 0 then 0 else 1) < 2 := by split <;> omega
  refine ww_join (tgt := 13) (st := [.int (nI (if w0 = 0 then 0 else 1)), .ref hG]) ?_ (fun hJw => ?_)
  · refine lv_lload_n C0.1 C0.2.1 dX0_guard_13 rfl (lv_at hl 2 rfl) ?_
    refine ww_last C0 hK hP hD hs 3 0 rfl rfl (j := if w0 = 0 then 0 else 1) rfl (by omega) (by decide) dX0_guard_14 (fun H locs hP hD hs => ?_)
    have hP : va_P D vwCl (gX h0 hE hS hG d E S (vp_updL G (if w0 = 0 then 0 else 1) x) k) H := by exact hP
    have hD : va_D (va_A (gX h0 hE hS hG d E S G k) s.heap.size) (gX h0 hE hS hG d E S (vp_updL G (if w0 = 0 then 0 else 1) x) k) := by exact hD
    refine lv_lload_n C0.1 C0.2.1 dX0_guard_15 rfl (lv_at hl 2 rfl) ?_
    refine go_ones C0 hl.1 ⟨Nat.le_of_ble_eq_true rfl, Nat.le_of_ble_eq_true rfl, Nat.le_of_ble_eq_true rfl, Nat.le_of_ble_eq_true rfl⟩ (Nat.le_of_ble_eq_true rfl) dX0_guard_16 ?_
    exact ww_cret C0 hr hlk hK hP hD hs rfl dX0_guard_19
  · refine lv_if_ne (tgt := 12) C0.1 C0.2.1 dX0_guard_5 (by decide) (fun cw => ?_) (fun cw => ?_)
    · refine lv_iconst (v := 1) C0.1 C0.2.1 dX0_guard_12 (by decide) ?_
      refine ww_ti (v := nI (if w0 = 0 then 0 else 1)) (by rw [if_neg cw]; rfl) ?_
      exact hJw
    · refine lv_iconst (v := 0) C0.1 C0.2.1 dX0_guard_8 (by decide) ?_
      refine lv_goto (tgt := 13) C0.1 C0.2.1 dX0_guard_9 (by decide) ?_
      refine ww_ti (v := nI (if w0 = 0 then 0 else 1)) (by rw [if_pos cw]; rfl) ?_
      exact hJw
set_option maxHeartbeats 4000000 in
set_option maxRecDepth 100000 in
/-- compare(w, form, bound) -/
theorem mX0_compare (l : Launch) (D : va_G) (h0 hE hS hG : Nat) (d : ClassId) (E S G : Nat → Int64) (k : Nat) (sz : Nat) (w0 f0 b0 : Int32) : Met l yX0_compare (ws_ yX0_compare cX0_compare 7 (some .int)) ({ frames := 1, cells := 0, slots := 0, locals := 24 }) (va_Pc [.ref h0, .int w0, .int f0, .int b0] (gC D d sz (gX h0 hE hS hG d E S G k))) (gQ D d sz (gX h0 hE hS hG d E S G k) ((o_compare (E, S, G, k) w0 f0 b0).1) (gX h0 hE hS hG d ((o_compare (E, S, G, k) w0 f0 b0).2.1) ((o_compare (E, S, G, k) w0 f0 b0).2.2.1) ((o_compare (E, S, G, k) w0 f0 b0).2.2.2.1) ((o_compare (E, S, G, k) w0 f0 b0).2.2.2.2))) 0 0 (va_A (gX h0 hE hS hG d E S G k) sz) := by
  refine ww_met (by decide) (Nat.le_of_ble_eq_true rfl) ?_
  intro p e s m below meth c C0 hr hlk hnm hv ls hl
  have C0 : CallFix p m c cX0_compare 7 s _ lw_all RX0 := C0
  obtain ⟨hsz, hP, hK, hD0⟩ := hv
  subst hsz
  have hD : va_D (va_A (gX h0 hE hS hG d E S G k) s.heap.size) (gX h0 hE hS hG d E S G k) := hD0.self
  have hs : va_S (va_A (gX h0 hE hS hG d E S G k) s.heap.size) s.heap s.heap [] := va_S.rf
  have hA : ∀ q, s.heap.size ≤ q → va_A (gX h0 hE hS hG d E S G k) s.heap.size q := fun q h => Or.inr h
  have hl : lv_has ls 7 [(0, .ref h0), (1, .int w0), (2, .int f0), (3, .int b0)] := hl
  refine lv_iload_n C0.1 C0.2.1 dX0_compare_0 rfl (lv_at hl 2 rfl) ?_
  refine lv_if_lt (tgt := 11) C0.1 C0.2.1 dX0_compare_1 (by decide) (fun c1 => ?_) (fun c1 => ?_)
  · refine lv_iconst (v := -1) C0.1 C0.2.1 dX0_compare_11 (by decide) ?_
    rw [show o_compare (E, S, G, k) w0 f0 b0 = _ from o_compare_bad (Or.inl c1)]
    exact ww_cret C0 hr hlk hK hP hD hs rfl dX0_compare_12
  · refine lv_iload_n C0.1 C0.2.1 dX0_compare_4 rfl (lv_at hl 2 rfl) ?_
    refine lv_sipush (v := nI 511) C0.1 C0.2.1 dX0_compare_5 (by decide) ?_
    refine lv_icmp_le (tgt := 13) C0.1 C0.2.1 dX0_compare_8 (by decide) (fun c2 => ?_) (fun c2 => ?_)
    · obtain ⟨f, hf, rfl⟩ := f511 c1 c2
      refine lv_iload_n C0.1 C0.2.1 dX0_compare_13 rfl (lv_at hl 3 rfl) ?_
      refine lv_if_lt (tgt := 23) C0.1 C0.2.1 dX0_compare_14 (by decide) (fun c3 => ?_) (fun c3 => ?_)
      · refine lv_bipush (v := -2) C0.1 C0.2.1 dX0_compare_23 (by decide) ?_
        rw [show o_compare (E, S, G, k) w0 (nI f) b0 = _ from o_compare_bad2 (f511n hf) (Or.inl c3)]
        exact ww_cret C0 hr hlk hK hP hD hs rfl dX0_compare_25
      · refine lv_iload_n C0.1 C0.2.1 dX0_compare_17 rfl (lv_at hl 3 rfl) ?_
        refine lv_bipush (v := nI 8) C0.1 C0.2.1 dX0_compare_18 (by decide) ?_
        refine lv_icmp_le (tgt := 26) C0.1 C0.2.1 dX0_compare_20 (by decide) (fun c4 => ?_) (fun c4 => ?_)
        · obtain ⟨b, hb, rfl⟩ := f8 c3 c4
          refine lv_lconst (v := 0) C0.1 C0.2.1 dX0_compare_26 (by decide) ?_
          refine lv_lstore (lv' := [(4, .long 0), (0, .ref h0), (1, .int w0), (2, .int (nI f)), (3, .int (nI b))]) C0.1 C0.2.1 dX0_compare_27 hl (by decide) rfl (fun ls hl => ?_)
          refine lv_iconst (v := 0) C0.1 C0.2.1 dX0_compare_29 (by decide) ?_
          refine lv_istore (lv' := [(6, .int 0), (4, .long 0), (0, .ref h0), (1, .int w0), (2, .int (nI f)), (3, .int (nI b))]) C0.1 C0.2.1 dX0_compare_30 hl (by decide) rfl (fun ls hl => ?_)
          refine ww_for (nL := 7) 64 (fun _ => True) (fun i => [(0, .ref h0), (1, .int w0), (2, .int (nI f)), (3, .int (nI b)), (4, .long (gc_up (fun s acc => if gc_fv f s < b then acc ||| gw s else acc) i 0)), (6, .int (nI i))]) trivial (lv_sub hl [2, 3, 4, 5, 1, 0] rfl) ?_
          intro i hi hI ih ls hl
          have hl : lv_has ls 7 [(0, .ref h0), (1, .int w0), (2, .int (nI f)), (3, .int (nI b)), (4, .long (gc_up (fun s acc => if gc_fv f s < b then acc ||| gw s else acc) i 0)), (6, .int (nI i))] := hl
          refine lv_iload C0.1 C0.2.1 dX0_compare_32 (lv_at hl 5 rfl) ?_
          refine lv_bipush (v := nI 64) C0.1 C0.2.1 dX0_compare_34 (by decide) ?_
          refine lv_icmp_ge (tgt := 64) C0.1 C0.2.1 dX0_compare_36 (by decide) (fun c5 => ?_) (fun c5 => ?_)
          · have e : i = 64 := ww_eq hi (by decide) c5
            subst e
            refine lv_aload_n C0.1 C0.2.1 dX0_compare_64 rfl (lv_at hl 0 rfl) ?_
            refine xg_G C0 hK hP dX0_compare_65 ?_
            refine lv_iload_n C0.1 C0.2.1 dX0_compare_68 rfl (lv_at hl 1 rfl) ?_
            have hl : lv_has ls 7 [(0, .ref h0), (1, .int w0), (2, .int (nI f)), (3, .int (nI b)), (4, .long (gc_cmp f b)), (6, .int (nI 64))] := hl
            have hw : (if w0 = 0 then 0 else 1) < 2 := by split <;> omega
            refine ww_join (tgt := 77) (st := [.int (nI (if w0 = 0 then 0 else 1)), .ref hG]) ?_ (fun hJw => ?_)
            · refine lv_lload C0.1 C0.2.1 dX0_compare_77 (lv_at hl 4 rfl) ?_
              refine ww_last C0 hK hP hD hs 3 0 rfl rfl (j := if w0 = 0 then 0 else 1) rfl (by omega) (by decide) dX0_compare_79 (fun H locs hP hD hs => ?_)
              have hP : va_P D vwCl (gX h0 hE hS hG d E S (vp_updL G (if w0 = 0 then 0 else 1) (gc_cmp f b)) k) H := by exact hP
              have hD : va_D (va_A (gX h0 hE hS hG d E S G k) s.heap.size) (gX h0 hE hS hG d E S (vp_updL G (if w0 = 0 then 0 else 1) (gc_cmp f b)) k) := by exact hD
              refine lv_lload C0.1 C0.2.1 dX0_compare_80 (lv_at hl 4 rfl) ?_
              refine go_ones C0 hl.1 ⟨Nat.le_of_ble_eq_true rfl, Nat.le_of_ble_eq_true rfl, Nat.le_of_ble_eq_true rfl, Nat.le_of_ble_eq_true rfl⟩ (Nat.le_of_ble_eq_true rfl) dX0_compare_82 ?_
              rw [o_compare_ok hf hb]
              exact ww_cret C0 hr hlk hK hP hD hs rfl dX0_compare_85
            · refine lv_if_ne (tgt := 76) C0.1 C0.2.1 dX0_compare_69 (by decide) (fun cw => ?_) (fun cw => ?_)
              · refine lv_iconst (v := 1) C0.1 C0.2.1 dX0_compare_76 (by decide) ?_
                refine ww_ti (v := nI (if w0 = 0 then 0 else 1)) (by rw [if_neg cw]; rfl) ?_
                exact hJw
              · refine lv_iconst (v := 0) C0.1 C0.2.1 dX0_compare_72 (by decide) ?_
                refine lv_goto (tgt := 77) C0.1 C0.2.1 dX0_compare_73 (by decide) ?_
                refine ww_ti (v := nI (if w0 = 0 then 0 else 1)) (by rw [if_pos cw]; rfl) ?_
                exact hJw
          · have lt : i < 64 := ww_lt hi (by decide) c5
            have h7 := gc_fv_lt f i
            refine lv_iload_n C0.1 C0.2.1 dX0_compare_39 rfl (lv_at hl 2 rfl) ?_
            refine lv_iload C0.1 C0.2.1 dX0_compare_40 (lv_at hl 5 rfl) ?_
            refine go_formValue C0 hl.1 ⟨Nat.le_of_ble_eq_true rfl, Nat.le_of_ble_eq_true rfl, Nat.le_of_ble_eq_true rfl, Nat.le_of_ble_eq_true rfl⟩ (Nat.le_of_ble_eq_true rfl) (f := f) (j := i) (by omega) (by omega) dX0_compare_42 ?_
            refine lv_iload_n C0.1 C0.2.1 dX0_compare_45 rfl (lv_at hl 3 rfl) ?_
            refine lv_icmp_ge (tgt := 58) C0.1 C0.2.1 dX0_compare_46 (by decide) (fun c6 => ?_) (fun c6 => ?_)
            · have q6 : ¬ gc_fv f i < b := by have q := (nI_leI (by omega) (by omega)).mp c6; omega
              have ea : gc_up (fun s acc => if gc_fv f s < b then acc ||| gw s else acc) i 0 = gc_up (fun s acc => if gc_fv f s < b then acc ||| gw s else acc) (i + 1) 0 := by rw [gc_up_s]; exact (if_neg q6).symm
              rw [ea] at hl
              refine lv_iinc (v := nI (i + 1)) (lv' := [(6, .int (nI (i + 1))), (0, .ref h0), (1, .int w0), (2, .int (nI f)), (3, .int (nI b)), (4, .long (gc_up (fun s acc => if gc_fv f s < b then acc ||| gw s else acc) (i + 1) 0))]) C0.1 C0.2.1 dX0_compare_58 hl (k := 5) rfl (ww_inc i) (by decide) rfl (fun ls hl => ?_)
              refine lv_goto (tgt := 32) C0.1 C0.2.1 dX0_compare_61 (by decide) ?_
              exact ih lt trivial ls (lv_sub hl [1, 2, 3, 4, 5, 0] rfl)
            · have q6 : gc_fv f i < b := by have q : ¬ b ≤ gc_fv f i := fun z => c6 (nI_le z (by omega)); omega
              refine lv_lload C0.1 C0.2.1 dX0_compare_49 (lv_at hl 4 rfl) ?_
              refine lv_lconst (v := 1) C0.1 C0.2.1 dX0_compare_51 (by decide) ?_
              refine lv_iload C0.1 C0.2.1 dX0_compare_52 (lv_at hl 5 rfl) ?_
              refine lv_lshl (v := gw i) C0.1 C0.2.1 dX0_compare_54 rfl ?_
              refine lv_lor C0.1 C0.2.1 dX0_compare_55 ?_
              refine ww_tl (v := gc_up (fun s acc => if gc_fv f s < b then acc ||| gw s else acc) (i + 1) 0) (by rw [gc_up_s]; exact (if_pos q6).symm) ?_
              refine lv_lstore (lv' := [(4, .long (gc_up (fun s acc => if gc_fv f s < b then acc ||| gw s else acc) (i + 1) 0)), (0, .ref h0), (1, .int w0), (2, .int (nI f)), (3, .int (nI b)), (6, .int (nI i))]) C0.1 C0.2.1 dX0_compare_56 hl (by decide) rfl (fun ls hl => ?_)
              refine lv_iinc (v := nI (i + 1)) (lv' := [(6, .int (nI (i + 1))), (4, .long (gc_up (fun s acc => if gc_fv f s < b then acc ||| gw s else acc) (i + 1) 0)), (0, .ref h0), (1, .int w0), (2, .int (nI f)), (3, .int (nI b))]) C0.1 C0.2.1 dX0_compare_58 hl (k := 5) rfl (ww_inc i) (by decide) rfl (fun ls hl => ?_)
              refine lv_goto (tgt := 32) C0.1 C0.2.1 dX0_compare_61 (by decide) ?_
              exact ih lt trivial ls (lv_sub hl [2, 3, 4, 5, 1, 0] rfl)
        · refine lv_bipush (v := -2) C0.1 C0.2.1 dX0_compare_23 (by decide) ?_
          rw [show o_compare (E, S, G, k) w0 (nI f) b0 = _ from o_compare_bad2 (f511n hf) (Or.inr c4)]
          exact ww_cret C0 hr hlk hK hP hD hs rfl dX0_compare_25
    · refine lv_iconst (v := -1) C0.1 C0.2.1 dX0_compare_11 (by decide) ?_
      rw [show o_compare (E, S, G, k) w0 f0 b0 = _ from o_compare_bad (Or.inr c2)]
      exact ww_cret C0 hr hlk hK hP hD hs rfl dX0_compare_12
set_option maxHeartbeats 4000000 in
set_option maxRecDepth 100000 in
/-- oppose(w) -/
theorem mX0_oppose (l : Launch) (D : va_G) (h0 hE hS hG : Nat) (d : ClassId) (E S G : Nat → Int64) (k : Nat) (sz : Nat) (w0 : Int32) : Met l yX0_oppose (ws_ yX0_oppose cX0_oppose 3 (some .int)) ({ frames := 1, cells := 0, slots := 0, locals := 23 }) (va_Pc [.ref h0, .int w0] (gC D d sz (gX h0 hE hS hG d E S G k))) (gQ D d sz (gX h0 hE hS hG d E S G k) ((o_oppose (E, S, G, k) w0).1) (gX h0 hE hS hG d ((o_oppose (E, S, G, k) w0).2.1) ((o_oppose (E, S, G, k) w0).2.2.1) ((o_oppose (E, S, G, k) w0).2.2.2.1) ((o_oppose (E, S, G, k) w0).2.2.2.2))) 0 0 (va_A (gX h0 hE hS hG d E S G k) sz) := by
  refine ww_met (by decide) (Nat.le_of_ble_eq_true rfl) ?_
  intro p e s m below meth c C0 hr hlk hnm hv ls hl
  have C0 : CallFix p m c cX0_oppose 3 s _ lw_all RX0 := C0
  obtain ⟨hsz, hP, hK, hD0⟩ := hv
  subst hsz
  have hD : va_D (va_A (gX h0 hE hS hG d E S G k) s.heap.size) (gX h0 hE hS hG d E S G k) := hD0.self
  have hs : va_S (va_A (gX h0 hE hS hG d E S G k) s.heap.size) s.heap s.heap [] := va_S.rf
  have hA : ∀ q, s.heap.size ≤ q → va_A (gX h0 hE hS hG d E S G k) s.heap.size q := fun q h => Or.inr h
  have hl : lv_has ls 3 [(0, .ref h0), (1, .int w0)] := hl
  refine lv_iload_n C0.1 C0.2.1 dX0_oppose_0 rfl (lv_at hl 1 rfl) ?_
  have hw : (if w0 = 0 then 0 else 1) < 2 := by split <;> omega
  refine ww_join (tgt := 9) (st := [.int (nI (if w0 = 0 then 0 else 1))]) ?_ (fun hJw => ?_)
  · obtain ⟨wi, hwi⟩ : ∃ q : Nat, q = if w0 = 0 then 0 else 1 := ⟨_, rfl⟩
    rw [← hwi] at hw
    rw [← hwi]
    refine lv_istore_n (lv' := [(2, .int (nI wi)), (0, .ref h0), (1, .int w0)]) C0.1 C0.2.1 dX0_oppose_9 rfl hl (by decide) rfl (fun ls hl => ?_)
    refine lv_aload_n C0.1 C0.2.1 dX0_oppose_10 rfl (lv_at hl 1 rfl) ?_
    refine xg_G C0 hK hP dX0_oppose_11 ?_
    refine lv_iload_n C0.1 C0.2.1 dX0_oppose_14 rfl (lv_at hl 0 rfl) ?_
    refine lv_aload_n C0.1 C0.2.1 dX0_oppose_15 rfl (lv_at hl 1 rfl) ?_
    refine xg_G C0 hK hP dX0_oppose_16 ?_
    refine lv_iload_n C0.1 C0.2.1 dX0_oppose_19 rfl (lv_at hl 0 rfl) ?_
    refine ww_lald C0 hK hP 3 0 rfl rfl (j := wi) rfl (by omega) (by decide) dX0_oppose_20 ?_
    refine lv_ldc2 (v := -1) C0.1 C0.2.1 C0.2.2.2.1 (C0.2.2.2.2 _ q64) dX0_oppose_21 ?_
    refine lv_lxor C0.1 C0.2.1 dX0_oppose_24 ?_
    refine ww_last C0 hK hP hD hs 3 0 rfl rfl (j := wi) rfl (by omega) (by decide) dX0_oppose_25 (fun H locs hP hD hs => ?_)
    have hP : va_P D vwCl (gX h0 hE hS hG d E S (vp_updL G wi (G wi ^^^ (-1))) k) H := by exact hP
    have hD : va_D (va_A (gX h0 hE hS hG d E S G k) s.heap.size) (gX h0 hE hS hG d E S (vp_updL G wi (G wi ^^^ (-1))) k) := by exact hD
    refine lv_aload_n C0.1 C0.2.1 dX0_oppose_26 rfl (lv_at hl 1 rfl) ?_
    refine xg_G C0 hK hP dX0_oppose_27 ?_
    refine lv_iload_n C0.1 C0.2.1 dX0_oppose_30 rfl (lv_at hl 0 rfl) ?_
    refine ww_lald C0 hK hP 3 0 rfl rfl (j := wi) rfl (by omega) (by decide) dX0_oppose_31 ?_
    refine ww_tl (v := G wi ^^^ (-1)) pk_uLs ?_
    refine go_ones C0 hl.1 ⟨Nat.le_of_ble_eq_true rfl, Nat.le_of_ble_eq_true rfl, Nat.le_of_ble_eq_true rfl, Nat.le_of_ble_eq_true rfl⟩ (Nat.le_of_ble_eq_true rfl) dX0_oppose_32 ?_
    rw [show o_oppose (E, S, G, k) w0 = (nI (gc_ct (G wi ^^^ (-1)) 64), (E, S, vp_updL G wi (G wi ^^^ (-1)), k)) from by rw [hwi]; rfl]
    exact ww_cret C0 hr hlk hK hP hD hs rfl dX0_oppose_35
  · refine lv_if_ne (tgt := 8) C0.1 C0.2.1 dX0_oppose_1 (by decide) (fun cw => ?_) (fun cw => ?_)
    · refine lv_iconst (v := 1) C0.1 C0.2.1 dX0_oppose_8 (by decide) ?_
      refine ww_ti (v := nI (if w0 = 0 then 0 else 1)) (by rw [if_neg cw]; rfl) ?_
      exact hJw
    · refine lv_iconst (v := 0) C0.1 C0.2.1 dX0_oppose_4 (by decide) ?_
      refine lv_goto (tgt := 9) C0.1 C0.2.1 dX0_oppose_5 (by decide) ?_
      refine ww_ti (v := nI (if w0 = 0 then 0 else 1)) (by rw [if_pos cw]; rfl) ?_
      exact hJw
set_option maxHeartbeats 4000000 in
set_option maxRecDepth 100000 in
/-- skip() -/
theorem mX0_skip (l : Launch) (D : va_G) (h0 hE hS hG : Nat) (d : ClassId) (E S G : Nat → Int64) (k : Nat) (sz : Nat) (hk : k ≤ 30) : Met l yX0_skip (ws_ yX0_skip cX0_skip 2 (some .int)) ({ frames := 1, cells := 0, slots := 0, locals := 20 }) (va_Pc [.ref h0] (gC D d sz (gX h0 hE hS hG d E S G k))) (gQ D d sz (gX h0 hE hS hG d E S G k) ((o_skip (E, S, G, k)).1) (gX h0 hE hS hG d ((o_skip (E, S, G, k)).2.1) ((o_skip (E, S, G, k)).2.2.1) ((o_skip (E, S, G, k)).2.2.2.1) ((o_skip (E, S, G, k)).2.2.2.2))) 0 0 (va_A (gX h0 hE hS hG d E S G k) sz) := by
  refine ww_met (by decide) (Nat.le_of_ble_eq_true rfl) ?_
  intro p e s m below meth c C0 hr hlk hnm hv ls hl
  have C0 : CallFix p m c cX0_skip 2 s _ lw_all RX0 := C0
  obtain ⟨hsz, hP, hK, hD0⟩ := hv
  subst hsz
  have hD : va_D (va_A (gX h0 hE hS hG d E S G k) s.heap.size) (gX h0 hE hS hG d E S G k) := hD0.self
  have hs : va_S (va_A (gX h0 hE hS hG d E S G k) s.heap.size) s.heap s.heap [] := va_S.rf
  have hA : ∀ q, s.heap.size ≤ q → va_A (gX h0 hE hS hG d E S G k) s.heap.size q := fun q h => Or.inr h
  have hl : lv_has ls 2 [(0, .ref h0)] := hl
  refine lv_aload_n C0.1 C0.2.1 dX0_skip_0 rfl (lv_at hl 0 rfl) ?_
  refine xg_k C0 hK hP dX0_skip_1 ?_
  refine lv_bipush (v := nI 30) C0.1 C0.2.1 dX0_skip_4 (by decide) ?_
  refine lv_icmp_ne (tgt := 11) C0.1 C0.2.1 dX0_skip_6 (by decide) (fun c1 => ?_) (fun c1 => ?_)
  · have hk3 : k < 30 := by have q : ¬ k = 30 := fun z => c1 ((k30 hk).mpr z); omega
    refine lv_iconst (v := 0) C0.1 C0.2.1 dX0_skip_11 (by decide) ?_
    refine lv_istore_n (lv' := [(1, .int 0), (0, .ref h0)]) C0.1 C0.2.1 dX0_skip_12 rfl hl (by decide) rfl (fun ls hl => ?_)
    refine ww_forH (nL := 2) (D := D) (cl := vwCl) 64 (fun i => gX h0 hE hS hG d (gc_row E k gw i) S G k) (fun i => [(0, .ref h0), (1, .int (nI i))]) (by rw [gc_row_0]; exact hP) (by rw [gc_row_0]; exact hD) hs (lv_sub hl [1, 0] rfl) ?_
    intro i hi ih H locs hP hD hs ls hl
    have hl : lv_has ls 2 [(0, .ref h0), (1, .int (nI i))] := hl
    have hP : va_P D vwCl (gX h0 hE hS hG d (gc_row E k gw i) S G k) H := hP
    have hD : va_D (va_A (gX h0 hE hS hG d E S G k) s.heap.size) (gX h0 hE hS hG d (gc_row E k gw i) S G k) := hD
    refine lv_iload_n C0.1 C0.2.1 dX0_skip_13 rfl (lv_at hl 1 rfl) ?_
    refine lv_bipush (v := nI 64) C0.1 C0.2.1 dX0_skip_14 (by decide) ?_
    refine lv_icmp_ge (tgt := 42) C0.1 C0.2.1 dX0_skip_16 (by decide) (fun c2 => ?_) (fun c2 => ?_)
    · have e : i = 64 := ww_eq hi (by decide) c2
      subst e
      refine lv_aload_n C0.1 C0.2.1 dX0_skip_42 rfl (lv_at hl 0 rfl) ?_
      refine xg_S C0 hK hP dX0_skip_43 ?_
      refine lv_aload_n C0.1 C0.2.1 dX0_skip_46 rfl (lv_at hl 0 rfl) ?_
      refine xg_k C0 hK hP dX0_skip_47 ?_
      refine lv_ldc2 (v := -1) C0.1 C0.2.1 C0.2.2.2.1 (C0.2.2.2.2 _ q64) dX0_skip_50 ?_
      refine ww_last C0 hK hP hD hs 2 0 rfl rfl (j := k) rfl (by omega) (by decide) dX0_skip_53 (fun H locs hP hD hs => ?_)
      have hP : va_P D vwCl (gX h0 hE hS hG d (gc_row E k gw 64) (vp_updL S k (-1)) G k) H := by exact hP
      have hD : va_D (va_A (gX h0 hE hS hG d E S G k) s.heap.size) (gX h0 hE hS hG d (gc_row E k gw 64) (vp_updL S k (-1)) G k) := by exact hD
      refine lv_aload_n C0.1 C0.2.1 dX0_skip_54 rfl (lv_at hl 0 rfl) ?_
      refine go_close C0 hl.1 ⟨Nat.le_of_ble_eq_true rfl, Nat.le_of_ble_eq_true rfl, Nat.le_of_ble_eq_true rfl, Nat.le_of_ble_eq_true rfl⟩ (Nat.le_of_ble_eq_true rfl) hK hP hD hs hA dX0_skip_55 (fun H locs hP hD hs => ?_)
      have hP : va_P D vwCl (gX h0 hE hS hG d (gc_row E k gw 64) (vp_updL S k (-1)) G (k + 1)) H := by exact hP
      have hD : va_D (va_A (gX h0 hE hS hG d E S G k) s.heap.size) (gX h0 hE hS hG d (gc_row E k gw 64) (vp_updL S k (-1)) G (k + 1)) := by exact hD
      rw [o_skip_new (by omega)]
      exact ww_cret C0 hr hlk hK hP hD hs rfl dX0_skip_58
    · have lt : i < 64 := ww_lt hi (by decide) c2
      refine lv_aload_n C0.1 C0.2.1 dX0_skip_19 rfl (lv_at hl 0 rfl) ?_
      refine xg_E C0 hK hP dX0_skip_20 ?_
      refine lv_bipush (v := nI 64) C0.1 C0.2.1 dX0_skip_23 (by decide) ?_
      refine lv_aload_n C0.1 C0.2.1 dX0_skip_25 rfl (lv_at hl 0 rfl) ?_
      refine xg_k C0 hK hP dX0_skip_26 ?_
      refine lv_imul C0.1 C0.2.1 dX0_skip_29 ?_
      refine lv_iload_n C0.1 C0.2.1 dX0_skip_30 rfl (lv_at hl 1 rfl) ?_
      refine lv_iadd C0.1 C0.2.1 dX0_skip_31 ?_
      refine lv_lconst (v := 1) C0.1 C0.2.1 dX0_skip_32 (by decide) ?_
      refine lv_iload_n C0.1 C0.2.1 dX0_skip_33 rfl (lv_at hl 1 rfl) ?_
      refine lv_lshl (v := gw i) C0.1 C0.2.1 dX0_skip_34 rfl ?_
      refine ww_last C0 hK hP hD hs 1 0 rfl rfl (j := 64 * k + i) (gc_ix k i) (by omega) (by decide) dX0_skip_35 (fun H locs hP hD hs => ?_)
      have hP : va_P D vwCl (gX h0 hE hS hG d (gc_row E k gw (i + 1)) S G k) H := by rw [← gc_row_1]; exact hP
      have hD : va_D (va_A (gX h0 hE hS hG d E S G k) s.heap.size) (gX h0 hE hS hG d (gc_row E k gw (i + 1)) S G k) := by rw [← gc_row_1]; exact hD
      refine lv_iinc (v := nI (i + 1)) (lv' := [(1, .int (nI (i + 1))), (0, .ref h0)]) C0.1 C0.2.1 dX0_skip_36 hl (k := 1) rfl (ww_inc i) (by decide) rfl (fun ls hl => ?_)
      refine lv_goto (tgt := 13) C0.1 C0.2.1 dX0_skip_39 (by decide) ?_
      exact ih lt H locs hP hD hs ls (lv_sub hl [1, 0] rfl)
  · refine lv_iconst (v := -1) C0.1 C0.2.1 dX0_skip_9 (by decide) ?_
    rw [o_skip_full ((k30 hk).mp c1)]
    exact ww_cret C0 hr hlk hK hP hD hs rfl dX0_skip_10
set_option maxHeartbeats 4000000 in
set_option maxRecDepth 100000 in
/-- fail() -/
theorem mX0_fail (l : Launch) (D : va_G) (h0 hE hS hG : Nat) (d : ClassId) (E S G : Nat → Int64) (k : Nat) (sz : Nat) (hk : k ≤ 30) : Met l yX0_fail (ws_ yX0_fail cX0_fail 2 (some .int)) ({ frames := 1, cells := 0, slots := 0, locals := 20 }) (va_Pc [.ref h0] (gC D d sz (gX h0 hE hS hG d E S G k))) (gQ D d sz (gX h0 hE hS hG d E S G k) ((o_fail (E, S, G, k)).1) (gX h0 hE hS hG d ((o_fail (E, S, G, k)).2.1) ((o_fail (E, S, G, k)).2.2.1) ((o_fail (E, S, G, k)).2.2.2.1) ((o_fail (E, S, G, k)).2.2.2.2))) 0 0 (va_A (gX h0 hE hS hG d E S G k) sz) := by
  refine ww_met (by decide) (Nat.le_of_ble_eq_true rfl) ?_
  intro p e s m below meth c C0 hr hlk hnm hv ls hl
  have C0 : CallFix p m c cX0_fail 2 s _ lw_all RX0 := C0
  obtain ⟨hsz, hP, hK, hD0⟩ := hv
  subst hsz
  have hD : va_D (va_A (gX h0 hE hS hG d E S G k) s.heap.size) (gX h0 hE hS hG d E S G k) := hD0.self
  have hs : va_S (va_A (gX h0 hE hS hG d E S G k) s.heap.size) s.heap s.heap [] := va_S.rf
  have hA : ∀ q, s.heap.size ≤ q → va_A (gX h0 hE hS hG d E S G k) s.heap.size q := fun q h => Or.inr h
  have hl : lv_has ls 2 [(0, .ref h0)] := hl
  refine lv_aload_n C0.1 C0.2.1 dX0_fail_0 rfl (lv_at hl 0 rfl) ?_
  refine xg_k C0 hK hP dX0_fail_1 ?_
  refine lv_bipush (v := nI 30) C0.1 C0.2.1 dX0_fail_4 (by decide) ?_
  refine lv_icmp_ne (tgt := 11) C0.1 C0.2.1 dX0_fail_6 (by decide) (fun c1 => ?_) (fun c1 => ?_)
  · have hk3 : k < 30 := by have q : ¬ k = 30 := fun z => c1 ((k30 hk).mpr z); omega
    refine lv_iconst (v := 0) C0.1 C0.2.1 dX0_fail_11 (by decide) ?_
    refine lv_istore_n (lv' := [(1, .int 0), (0, .ref h0)]) C0.1 C0.2.1 dX0_fail_12 rfl hl (by decide) rfl (fun ls hl => ?_)
    refine ww_forH (nL := 2) (D := D) (cl := vwCl) 64 (fun i => gX h0 hE hS hG d (gc_row E k (fun _ => 0) i) S G k) (fun i => [(0, .ref h0), (1, .int (nI i))]) (by rw [gc_row_0]; exact hP) (by rw [gc_row_0]; exact hD) hs (lv_sub hl [1, 0] rfl) ?_
    intro i hi ih H locs hP hD hs ls hl
    have hl : lv_has ls 2 [(0, .ref h0), (1, .int (nI i))] := hl
    have hP : va_P D vwCl (gX h0 hE hS hG d (gc_row E k (fun _ => 0) i) S G k) H := hP
    have hD : va_D (va_A (gX h0 hE hS hG d E S G k) s.heap.size) (gX h0 hE hS hG d (gc_row E k (fun _ => 0) i) S G k) := hD
    refine lv_iload_n C0.1 C0.2.1 dX0_fail_13 rfl (lv_at hl 1 rfl) ?_
    refine lv_bipush (v := nI 64) C0.1 C0.2.1 dX0_fail_14 (by decide) ?_
    refine lv_icmp_ge (tgt := 40) C0.1 C0.2.1 dX0_fail_16 (by decide) (fun c2 => ?_) (fun c2 => ?_)
    · have e : i = 64 := ww_eq hi (by decide) c2
      subst e
      refine lv_aload_n C0.1 C0.2.1 dX0_fail_40 rfl (lv_at hl 0 rfl) ?_
      refine xg_S C0 hK hP dX0_fail_41 ?_
      refine lv_aload_n C0.1 C0.2.1 dX0_fail_44 rfl (lv_at hl 0 rfl) ?_
      refine xg_k C0 hK hP dX0_fail_45 ?_
      refine lv_lconst (v := 0) C0.1 C0.2.1 dX0_fail_48 (by decide) ?_
      refine ww_last C0 hK hP hD hs 2 0 rfl rfl (j := k) rfl (by omega) (by decide) dX0_fail_49 (fun H locs hP hD hs => ?_)
      have hP : va_P D vwCl (gX h0 hE hS hG d (gc_row E k (fun _ => 0) 64) (vp_updL S k (0)) G k) H := by exact hP
      have hD : va_D (va_A (gX h0 hE hS hG d E S G k) s.heap.size) (gX h0 hE hS hG d (gc_row E k (fun _ => 0) 64) (vp_updL S k (0)) G k) := by exact hD
      refine lv_aload_n C0.1 C0.2.1 dX0_fail_50 rfl (lv_at hl 0 rfl) ?_
      refine go_close C0 hl.1 ⟨Nat.le_of_ble_eq_true rfl, Nat.le_of_ble_eq_true rfl, Nat.le_of_ble_eq_true rfl, Nat.le_of_ble_eq_true rfl⟩ (Nat.le_of_ble_eq_true rfl) hK hP hD hs hA dX0_fail_51 (fun H locs hP hD hs => ?_)
      have hP : va_P D vwCl (gX h0 hE hS hG d (gc_row E k (fun _ => 0) 64) (vp_updL S k (0)) G (k + 1)) H := by exact hP
      have hD : va_D (va_A (gX h0 hE hS hG d E S G k) s.heap.size) (gX h0 hE hS hG d (gc_row E k (fun _ => 0) 64) (vp_updL S k (0)) G (k + 1)) := by exact hD
      rw [o_fail_new (by omega)]
      exact ww_cret C0 hr hlk hK hP hD hs rfl dX0_fail_54
    · have lt : i < 64 := ww_lt hi (by decide) c2
      refine lv_aload_n C0.1 C0.2.1 dX0_fail_19 rfl (lv_at hl 0 rfl) ?_
      refine xg_E C0 hK hP dX0_fail_20 ?_
      refine lv_bipush (v := nI 64) C0.1 C0.2.1 dX0_fail_23 (by decide) ?_
      refine lv_aload_n C0.1 C0.2.1 dX0_fail_25 rfl (lv_at hl 0 rfl) ?_
      refine xg_k C0 hK hP dX0_fail_26 ?_
      refine lv_imul C0.1 C0.2.1 dX0_fail_29 ?_
      refine lv_iload_n C0.1 C0.2.1 dX0_fail_30 rfl (lv_at hl 1 rfl) ?_
      refine lv_iadd C0.1 C0.2.1 dX0_fail_31 ?_
      refine lv_lconst (v := 0) C0.1 C0.2.1 dX0_fail_32 (by decide) ?_
      refine ww_last C0 hK hP hD hs 1 0 rfl rfl (j := 64 * k + i) (gc_ix k i) (by omega) (by decide) dX0_fail_33 (fun H locs hP hD hs => ?_)
      have hP : va_P D vwCl (gX h0 hE hS hG d (gc_row E k (fun _ => 0) (i + 1)) S G k) H := by rw [← gc_row_1]; exact hP
      have hD : va_D (va_A (gX h0 hE hS hG d E S G k) s.heap.size) (gX h0 hE hS hG d (gc_row E k (fun _ => 0) (i + 1)) S G k) := by rw [← gc_row_1]; exact hD
      refine lv_iinc (v := nI (i + 1)) (lv' := [(1, .int (nI (i + 1))), (0, .ref h0)]) C0.1 C0.2.1 dX0_fail_34 hl (k := 1) rfl (ww_inc i) (by decide) rfl (fun ls hl => ?_)
      refine lv_goto (tgt := 13) C0.1 C0.2.1 dX0_fail_37 (by decide) ?_
      exact ih lt H locs hP hD hs ls (lv_sub hl [1, 0] rfl)
  · refine lv_iconst (v := -1) C0.1 C0.2.1 dX0_fail_9 (by decide) ?_
    rw [o_fail_full ((k30 hk).mp c1)]
    exact ww_cret C0 hr hlk hK hP hD hs rfl dX0_fail_10
set_option maxHeartbeats 4000000 in
set_option maxRecDepth 100000 in
/-- assign(w, form) -/
theorem mX0_assign (l : Launch) (D : va_G) (h0 hE hS hG : Nat) (d : ClassId) (E S G : Nat → Int64) (k : Nat) (sz : Nat) (hk : k ≤ 30) (w0 f0 : Int32) : Met l yX0_assign (ws_ yX0_assign cX0_assign 6 (some .int)) ({ frames := 1, cells := 0, slots := 0, locals := 24 }) (va_Pc [.ref h0, .int w0, .int f0] (gC D d sz (gX h0 hE hS hG d E S G k))) (gQ D d sz (gX h0 hE hS hG d E S G k) ((o_assign (E, S, G, k) w0 f0).1) (gX h0 hE hS hG d ((o_assign (E, S, G, k) w0 f0).2.1) ((o_assign (E, S, G, k) w0 f0).2.2.1) ((o_assign (E, S, G, k) w0 f0).2.2.2.1) ((o_assign (E, S, G, k) w0 f0).2.2.2.2))) 0 0 (va_A (gX h0 hE hS hG d E S G k) sz) := by
  refine ww_met (by decide) (Nat.le_of_ble_eq_true rfl) ?_
  intro p e s m below meth c C0 hr hlk hnm hv ls hl
  have C0 : CallFix p m c cX0_assign 6 s _ lw_all RX0 := C0
  obtain ⟨hsz, hP, hK, hD0⟩ := hv
  subst hsz
  have hD : va_D (va_A (gX h0 hE hS hG d E S G k) s.heap.size) (gX h0 hE hS hG d E S G k) := hD0.self
  have hs : va_S (va_A (gX h0 hE hS hG d E S G k) s.heap.size) s.heap s.heap [] := va_S.rf
  have hA : ∀ q, s.heap.size ≤ q → va_A (gX h0 hE hS hG d E S G k) s.heap.size q := fun q h => Or.inr h
  have hl : lv_has ls 6 [(0, .ref h0), (1, .int w0), (2, .int f0)] := hl
  refine lv_iload_n C0.1 C0.2.1 dX0_assign_0 rfl (lv_at hl 2 rfl) ?_
  refine lv_if_lt (tgt := 11) C0.1 C0.2.1 dX0_assign_1 (by decide) (fun c1 => ?_) (fun c1 => ?_)
  · refine lv_iconst (v := -1) C0.1 C0.2.1 dX0_assign_11 (by decide) ?_
    rw [show o_assign (E, S, G, k) w0 f0 = _ from o_assign_bad (Or.inl c1)]
    exact ww_cret C0 hr hlk hK hP hD hs rfl dX0_assign_12
  · refine lv_iload_n C0.1 C0.2.1 dX0_assign_4 rfl (lv_at hl 2 rfl) ?_
    refine lv_sipush (v := nI 511) C0.1 C0.2.1 dX0_assign_5 (by decide) ?_
    refine lv_icmp_le (tgt := 13) C0.1 C0.2.1 dX0_assign_8 (by decide) (fun c2 => ?_) (fun c2 => ?_)
    · obtain ⟨f, hf, rfl⟩ := f511 c1 c2
      refine lv_aload_n C0.1 C0.2.1 dX0_assign_13 rfl (lv_at hl 0 rfl) ?_
      refine xg_k C0 hK hP dX0_assign_14 ?_
      refine lv_bipush (v := nI 30) C0.1 C0.2.1 dX0_assign_17 (by decide) ?_
      refine lv_icmp_ne (tgt := 25) C0.1 C0.2.1 dX0_assign_19 (by decide) (fun c3 => ?_) (fun c3 => ?_)
      · have hk3 : k < 30 := by have q : ¬ k = 30 := fun z => c3 ((k30 hk).mpr z); omega
        refine lv_iconst (v := 0) C0.1 C0.2.1 dX0_assign_25 (by decide) ?_
        refine lv_istore_n (lv' := [(3, .int 0), (0, .ref h0), (1, .int w0), (2, .int (nI f))]) C0.1 C0.2.1 dX0_assign_26 rfl hl (by decide) rfl (fun ls hl => ?_)
        refine ww_forH (nL := 6) (D := D) (cl := vwCl) 64 (fun i => gX h0 hE hS hG d (gc_row E k (fun s => gw (gc_to w0 f s)) i) S G k) (fun i => [(0, .ref h0), (1, .int w0), (2, .int (nI f)), (3, .int (nI i))]) (by rw [gc_row_0]; exact hP) (by rw [gc_row_0]; exact hD) hs (lv_sub hl [1, 2, 3, 0] rfl) ?_
        intro i hi ih H locs hP hD hs ls hl
        have hl : lv_has ls 6 [(0, .ref h0), (1, .int w0), (2, .int (nI f)), (3, .int (nI i))] := hl
        have hP : va_P D vwCl (gX h0 hE hS hG d (gc_row E k (fun s => gw (gc_to w0 f s)) i) S G k) H := hP
        have hD : va_D (va_A (gX h0 hE hS hG d E S G k) s.heap.size) (gX h0 hE hS hG d (gc_row E k (fun s => gw (gc_to w0 f s)) i) S G k) := hD
        refine lv_iload_n C0.1 C0.2.1 dX0_assign_27 rfl (lv_at hl 3 rfl) ?_
        refine lv_bipush (v := nI 64) C0.1 C0.2.1 dX0_assign_28 (by decide) ?_
        refine lv_icmp_ge (tgt := 90) C0.1 C0.2.1 dX0_assign_30 (by decide) (fun c4 => ?_) (fun c4 => ?_)
        · have e : i = 64 := ww_eq hi (by decide) c4
          subst e
          refine lv_aload_n C0.1 C0.2.1 dX0_assign_90 rfl (lv_at hl 0 rfl) ?_
          refine xg_S C0 hK hP dX0_assign_91 ?_
          refine lv_aload_n C0.1 C0.2.1 dX0_assign_94 rfl (lv_at hl 0 rfl) ?_
          refine xg_k C0 hK hP dX0_assign_95 ?_
          refine lv_ldc2 (v := -1) C0.1 C0.2.1 C0.2.2.2.1 (C0.2.2.2.2 _ q64) dX0_assign_98 ?_
          refine ww_last C0 hK hP hD hs 2 0 rfl rfl (j := k) rfl (by omega) (by decide) dX0_assign_101 (fun H locs hP hD hs => ?_)
          have hP : va_P D vwCl (gX h0 hE hS hG d (gc_row E k (fun s => gw (gc_to w0 f s)) 64) (vp_updL S k (-1)) G k) H := by exact hP
          have hD : va_D (va_A (gX h0 hE hS hG d E S G k) s.heap.size) (gX h0 hE hS hG d (gc_row E k (fun s => gw (gc_to w0 f s)) 64) (vp_updL S k (-1)) G k) := by exact hD
          refine lv_aload_n C0.1 C0.2.1 dX0_assign_102 rfl (lv_at hl 0 rfl) ?_
          refine go_close C0 hl.1 ⟨Nat.le_of_ble_eq_true rfl, Nat.le_of_ble_eq_true rfl, Nat.le_of_ble_eq_true rfl, Nat.le_of_ble_eq_true rfl⟩ (Nat.le_of_ble_eq_true rfl) hK hP hD hs hA dX0_assign_103 (fun H locs hP hD hs => ?_)
          have hP : va_P D vwCl (gX h0 hE hS hG d (gc_row E k (fun s => gw (gc_to w0 f s)) 64) (vp_updL S k (-1)) G (k + 1)) H := by exact hP
          have hD : va_D (va_A (gX h0 hE hS hG d E S G k) s.heap.size) (gX h0 hE hS hG d (gc_row E k (fun s => gw (gc_to w0 f s)) 64) (vp_updL S k (-1)) G (k + 1)) := by exact hD
          rw [o_assign_new hf (by omega)]
          exact ww_cret C0 hr hlk hK hP hD hs rfl dX0_assign_106
        · have lt : i < 64 := ww_lt hi (by decide) c4
          have h7 := gc_fv_lt f i
          refine lv_iload_n C0.1 C0.2.1 dX0_assign_33 rfl (lv_at hl 2 rfl) ?_
          refine lv_iload_n C0.1 C0.2.1 dX0_assign_34 rfl (lv_at hl 3 rfl) ?_
          refine go_formValue C0 hl.1 ⟨Nat.le_of_ble_eq_true rfl, Nat.le_of_ble_eq_true rfl, Nat.le_of_ble_eq_true rfl, Nat.le_of_ble_eq_true rfl⟩ (Nat.le_of_ble_eq_true rfl) (f := f) (j := i) (by omega) (by omega) dX0_assign_35 ?_
          refine lv_istore (lv' := [(4, .int (nI (gc_fv f i))), (0, .ref h0), (1, .int w0), (2, .int (nI f)), (3, .int (nI i))]) C0.1 C0.2.1 dX0_assign_38 hl (by decide) rfl (fun ls hl => ?_)
          refine lv_iload_n C0.1 C0.2.1 dX0_assign_40 rfl (lv_at hl 2 rfl) ?_
          refine ww_join (tgt := 64) (st := [.int (nI (gc_to w0 f i))]) ?_ (fun hJ => ?_)
          · have h8 : gc_to w0 f i < 64 := gc_to_lt lt
            refine lv_istore (lv' := [(5, .int (nI (gc_to w0 f i))), (4, .int (nI (gc_fv f i))), (0, .ref h0), (1, .int w0), (2, .int (nI f)), (3, .int (nI i))]) C0.1 C0.2.1 dX0_assign_64 hl (by decide) rfl (fun ls hl => ?_)
            refine lv_aload_n C0.1 C0.2.1 dX0_assign_66 rfl (lv_at hl 2 rfl) ?_
            refine xg_E C0 hK hP dX0_assign_67 ?_
            refine lv_bipush (v := nI 64) C0.1 C0.2.1 dX0_assign_70 (by decide) ?_
            refine lv_aload_n C0.1 C0.2.1 dX0_assign_72 rfl (lv_at hl 2 rfl) ?_
            refine xg_k C0 hK hP dX0_assign_73 ?_
            refine lv_imul C0.1 C0.2.1 dX0_assign_76 ?_
            refine lv_iload_n C0.1 C0.2.1 dX0_assign_77 rfl (lv_at hl 5 rfl) ?_
            refine lv_iadd C0.1 C0.2.1 dX0_assign_78 ?_
            refine lv_lconst (v := 1) C0.1 C0.2.1 dX0_assign_79 (by decide) ?_
            refine lv_iload C0.1 C0.2.1 dX0_assign_80 (lv_at hl 0 rfl) ?_
            refine lv_lshl (v := gw ((gc_to w0 f i))) C0.1 C0.2.1 dX0_assign_82 rfl ?_
            refine ww_last C0 hK hP hD hs 1 0 rfl rfl (j := 64 * k + i) (gc_ix k i) (by omega) (by decide) dX0_assign_83 (fun H locs hP hD hs => ?_)
            have hP : va_P D vwCl (gX h0 hE hS hG d (gc_row E k (fun s => gw (gc_to w0 f s)) (i + 1)) S G k) H := by rw [← gc_row_1]; exact hP
            have hD : va_D (va_A (gX h0 hE hS hG d E S G k) s.heap.size) (gX h0 hE hS hG d (gc_row E k (fun s => gw (gc_to w0 f s)) (i + 1)) S G k) := by rw [← gc_row_1]; exact hD
            refine lv_iinc (v := nI (i + 1)) (lv' := [(3, .int (nI (i + 1))), (5, .int (nI (gc_to w0 f i))), (4, .int (nI (gc_fv f i))), (0, .ref h0), (1, .int w0), (2, .int (nI f))]) C0.1 C0.2.1 dX0_assign_84 hl (k := 5) rfl (ww_inc i) (by decide) rfl (fun ls hl => ?_)
            refine lv_goto (tgt := 27) C0.1 C0.2.1 dX0_assign_87 (by decide) ?_
            exact ih lt H locs hP hD hs ls (lv_sub hl [3, 4, 5, 0] rfl)
          · refine lv_if_ne (tgt := 57) C0.1 C0.2.1 dX0_assign_41 (by decide) (fun c5 => ?_) (fun c5 => ?_)
            · refine lv_iload_n C0.1 C0.2.1 dX0_assign_57 rfl (lv_at hl 4 rfl) ?_
              refine lv_bipush (v := nI 56) C0.1 C0.2.1 dX0_assign_58 (by decide) ?_
              refine lv_iand C0.1 C0.2.1 dX0_assign_60 ?_
              refine lv_iload C0.1 C0.2.1 dX0_assign_61 (lv_at hl 0 rfl) ?_
              refine lv_iadd C0.1 C0.2.1 dX0_assign_63 ?_
              refine ww_ti (v := nI (gc_to w0 f i)) (by unfold gc_to; rw [if_neg c5, gc_56 i lt, nI_add]) ?_
              exact hJ
            · refine lv_bipush (v := nI 8) C0.1 C0.2.1 dX0_assign_44 (by decide) ?_
              refine lv_iload C0.1 C0.2.1 dX0_assign_46 (lv_at hl 0 rfl) ?_
              refine lv_imul C0.1 C0.2.1 dX0_assign_48 ?_
              refine lv_iload_n C0.1 C0.2.1 dX0_assign_49 rfl (lv_at hl 4 rfl) ?_
              refine lv_bipush (v := nI 7) C0.1 C0.2.1 dX0_assign_50 (by decide) ?_
              refine lv_iand C0.1 C0.2.1 dX0_assign_52 ?_
              refine lv_iadd C0.1 C0.2.1 dX0_assign_53 ?_
              refine lv_goto (tgt := 64) C0.1 C0.2.1 dX0_assign_54 (by decide) ?_
              refine ww_ti (v := nI (gc_to w0 f i)) (by unfold gc_to; rw [if_pos c5, gc_7 lt, pk_mul, nI_add]) ?_
              exact hJ
      · refine lv_bipush (v := -2) C0.1 C0.2.1 dX0_assign_22 (by decide) ?_
        rw [o_assign_full (f511n hf) ((k30 hk).mp c3)]
        exact ww_cret C0 hr hlk hK hP hD hs rfl dX0_assign_24
    · refine lv_iconst (v := -1) C0.1 C0.2.1 dX0_assign_11 (by decide) ?_
      rw [show o_assign (E, S, G, k) w0 f0 = _ from o_assign_bad (Or.inr c2)]
      exact ww_cret C0 hr hlk hK hP hD hs rfl dX0_assign_12
set_option maxHeartbeats 4000000 in
set_option maxRecDepth 100000 in
/-- sequence(a, b) -/
theorem mX0_sequence (l : Launch) (D : va_G) (h0 hE hS hG : Nat) (d : ClassId) (E S G : Nat → Int64) (k : Nat) (sz : Nat) (hk : k ≤ 30) (a0 b0 : Int32) : Met l yX0_sequence (ws_ yX0_sequence cX0_sequence 9 (some .int)) ({ frames := 2, cells := 0, slots := 0, locals := 48 }) (va_Pc [.ref h0, .int a0, .int b0] (gC D d sz (gX h0 hE hS hG d E S G k))) (gQ D d sz (gX h0 hE hS hG d E S G k) ((o_seq (E, S, G, k) a0 b0).1) (gX h0 hE hS hG d ((o_seq (E, S, G, k) a0 b0).2.1) ((o_seq (E, S, G, k) a0 b0).2.2.1) ((o_seq (E, S, G, k) a0 b0).2.2.2.1) ((o_seq (E, S, G, k) a0 b0).2.2.2.2))) 0 0 (va_A (gX h0 hE hS hG d E S G k) sz) := by
  refine ww_met (by decide) (Nat.le_of_ble_eq_true rfl) ?_
  intro p e s m below meth c C0 hr hlk hnm hv ls hl
  have C0 : CallFix p m c cX0_sequence 9 s _ lw_all RX0 := C0
  obtain ⟨hsz, hP, hK, hD0⟩ := hv
  subst hsz
  have hD : va_D (va_A (gX h0 hE hS hG d E S G k) s.heap.size) (gX h0 hE hS hG d E S G k) := hD0.self
  have hs : va_S (va_A (gX h0 hE hS hG d E S G k) s.heap.size) s.heap s.heap [] := va_S.rf
  have hA : ∀ q, s.heap.size ≤ q → va_A (gX h0 hE hS hG d E S G k) s.heap.size q := fun q h => Or.inr h
  have hl : lv_has ls 9 [(0, .ref h0), (1, .int a0), (2, .int b0)] := hl
  refine lv_aload_n C0.1 C0.2.1 dX0_sequence_0 rfl (lv_at hl 0 rfl) ?_
  refine lv_iload_n C0.1 C0.2.1 dX0_sequence_1 rfl (lv_at hl 1 rfl) ?_
  refine go_isGood C0 hl.1 ⟨Nat.le_of_ble_eq_true rfl, Nat.le_of_ble_eq_true rfl, Nat.le_of_ble_eq_true rfl, Nat.le_of_ble_eq_true rfl⟩ (Nat.le_of_ble_eq_true rfl) hK hP dX0_sequence_2 ?_
  refine lv_if_eq (tgt := 16) C0.1 C0.2.1 dX0_sequence_5 (by decide) (fun c1 => ?_) (fun c1 => ?_)
  · refine lv_iconst (v := -1) C0.1 C0.2.1 dX0_sequence_16 (by decide) ?_
    rw [show o_seq (E, S, G, k) a0 b0 = _ from o_two_bad (fun q => (gc_b0.mp c1) q.1)]
    exact ww_cret C0 hr hlk hK hP hD hs rfl dX0_sequence_17
  · refine lv_aload_n C0.1 C0.2.1 dX0_sequence_8 rfl (lv_at hl 0 rfl) ?_
    refine lv_iload_n C0.1 C0.2.1 dX0_sequence_9 rfl (lv_at hl 2 rfl) ?_
    refine go_isGood C0 hl.1 ⟨Nat.le_of_ble_eq_true rfl, Nat.le_of_ble_eq_true rfl, Nat.le_of_ble_eq_true rfl, Nat.le_of_ble_eq_true rfl⟩ (Nat.le_of_ble_eq_true rfl) hK hP dX0_sequence_10 ?_
    refine lv_if_ne (tgt := 18) C0.1 C0.2.1 dX0_sequence_13 (by decide) (fun c2 => ?_) (fun c2 => ?_)
    · have g1 := gc_b1 c1
      have g2 := gc_b1 c2
      refine lv_aload_n C0.1 C0.2.1 dX0_sequence_18 rfl (lv_at hl 0 rfl) ?_
      refine xg_k C0 hK hP dX0_sequence_19 ?_
      refine lv_bipush (v := nI 30) C0.1 C0.2.1 dX0_sequence_22 (by decide) ?_
      refine lv_icmp_ne (tgt := 30) C0.1 C0.2.1 dX0_sequence_24 (by decide) (fun c3 => ?_) (fun c3 => ?_)
      · have hk3 : k < 30 := by have q : ¬ k = 30 := fun z => c3 ((k30 hk).mpr z); omega
        obtain ⟨a, ha, rfl⟩ := gc_gd_of g1 (by omega)
        obtain ⟨b, hb, rfl⟩ := gc_gd_of g2 (by omega)
        refine lv_lconst (v := 0) C0.1 C0.2.1 dX0_sequence_30 (by decide) ?_
        refine lv_lstore_n (lv' := [(3, .long 0), (0, .ref h0), (1, .int (nI a)), (2, .int (nI b))]) C0.1 C0.2.1 dX0_sequence_31 rfl hl (by decide) rfl (fun ls hl => ?_)
        refine lv_iconst (v := 0) C0.1 C0.2.1 dX0_sequence_32 (by decide) ?_
        refine lv_istore (lv' := [(5, .int 0), (3, .long 0), (0, .ref h0), (1, .int (nI a)), (2, .int (nI b))]) C0.1 C0.2.1 dX0_sequence_33 hl (by decide) rfl (fun ls hl => ?_)
        refine ww_forH (nL := 9) (D := D) (cl := vwCl) 64 (fun i => gX h0 hE hS hG d (gc_row E k (fun s => gc_img E b (E (64 * a + s))) i) S G k) (fun i => [(0, .ref h0), (1, .int (nI a)), (2, .int (nI b)), (3, .long (gc_up (fun s acc => if gb (S a) s && decide (E (64 * a + s) &&& (S b ^^^ (-1)) = 0) then acc ||| gw s else acc) i 0)), (5, .int (nI i))]) (by rw [gc_row_0]; exact hP) (by rw [gc_row_0]; exact hD) hs (lv_sub hl [2, 3, 4, 1, 0] rfl) ?_
        intro i hi ih H locs hP hD hs ls hl
        have hl : lv_has ls 9 [(0, .ref h0), (1, .int (nI a)), (2, .int (nI b)), (3, .long (gc_up (fun s acc => if gb (S a) s && decide (E (64 * a + s) &&& (S b ^^^ (-1)) = 0) then acc ||| gw s else acc) i 0)), (5, .int (nI i))] := hl
        have hP : va_P D vwCl (gX h0 hE hS hG d (gc_row E k (fun s => gc_img E b (E (64 * a + s))) i) S G k) H := hP
        have hD : va_D (va_A (gX h0 hE hS hG d E S G k) s.heap.size) (gX h0 hE hS hG d (gc_row E k (fun s => gc_img E b (E (64 * a + s))) i) S G k) := hD
        refine lv_iload C0.1 C0.2.1 dX0_sequence_35 (lv_at hl 4 rfl) ?_
        refine lv_bipush (v := nI 64) C0.1 C0.2.1 dX0_sequence_37 (by decide) ?_
        refine lv_icmp_ge (tgt := 139) C0.1 C0.2.1 dX0_sequence_39 (by decide) (fun c4 => ?_) (fun c4 => ?_)
        · have e : i = 64 := ww_eq hi (by decide) c4
          subst e
          refine lv_aload_n C0.1 C0.2.1 dX0_sequence_139 rfl (lv_at hl 0 rfl) ?_
          refine xg_S C0 hK hP dX0_sequence_140 ?_
          refine lv_aload_n C0.1 C0.2.1 dX0_sequence_143 rfl (lv_at hl 0 rfl) ?_
          refine xg_k C0 hK hP dX0_sequence_144 ?_
          refine lv_lload_n C0.1 C0.2.1 dX0_sequence_147 rfl (lv_at hl 3 rfl) ?_
          have eS : gc_up (fun s acc => if gb (S a) s && decide (E (64 * a + s) &&& (S b ^^^ (-1)) = 0) then acc ||| gw s else acc) 64 0 = gc_seqs E S a b := rfl
          refine ww_last C0 hK hP hD hs 2 0 rfl rfl (j := k) rfl (by omega) (by decide) dX0_sequence_148 (fun H locs hP hD hs => ?_)
          have hP : va_P D vwCl (gX h0 hE hS hG d (gc_row E k (fun s => gc_img E b (E (64 * a + s))) 64) (vp_updL S k (gc_seqs E S a b)) G k) H := by exact hP
          have hD : va_D (va_A (gX h0 hE hS hG d E S G k) s.heap.size) (gX h0 hE hS hG d (gc_row E k (fun s => gc_img E b (E (64 * a + s))) 64) (vp_updL S k (gc_seqs E S a b)) G k) := by exact hD
          refine lv_aload_n C0.1 C0.2.1 dX0_sequence_149 rfl (lv_at hl 0 rfl) ?_
          refine go_close C0 hl.1 ⟨Nat.le_of_ble_eq_true rfl, Nat.le_of_ble_eq_true rfl, Nat.le_of_ble_eq_true rfl, Nat.le_of_ble_eq_true rfl⟩ (Nat.le_of_ble_eq_true rfl) hK hP hD hs hA dX0_sequence_150 (fun H locs hP hD hs => ?_)
          have hP : va_P D vwCl (gX h0 hE hS hG d (gc_row E k (fun s => gc_img E b (E (64 * a + s))) 64) (vp_updL S k (gc_seqs E S a b)) G (k + 1)) H := by exact hP
          have hD : va_D (va_A (gX h0 hE hS hG d E S G k) s.heap.size) (gX h0 hE hS hG d (gc_row E k (fun s => gc_img E b (E (64 * a + s))) 64) (vp_updL S k (gc_seqs E S a b)) G (k + 1)) := by exact hD
          rw [o_seq_new ha hb hk3]
          exact ww_cret C0 hr hlk hK hP hD hs rfl dX0_sequence_153
        · have lt : i < 64 := ww_lt hi (by decide) c4
          refine lv_aload_n C0.1 C0.2.1 dX0_sequence_42 rfl (lv_at hl 0 rfl) ?_
          refine xg_E C0 hK hP dX0_sequence_43 ?_
          refine lv_bipush (v := nI 64) C0.1 C0.2.1 dX0_sequence_46 (by decide) ?_
          refine lv_iload_n C0.1 C0.2.1 dX0_sequence_48 rfl (lv_at hl 1 rfl) ?_
          refine lv_imul C0.1 C0.2.1 dX0_sequence_49 ?_
          refine lv_iload C0.1 C0.2.1 dX0_sequence_50 (lv_at hl 4 rfl) ?_
          refine lv_iadd C0.1 C0.2.1 dX0_sequence_52 ?_
          refine ww_lald C0 hK hP 1 0 rfl rfl (j := 64 * a + i) (gc_ix a i) (by omega) (by decide) dX0_sequence_53 ?_
          refine ww_tl (v := E (64 * a + i)) (gc_row_old ha lt) ?_
          refine lv_lstore (lv' := [(6, .long (E (64 * a + i))), (0, .ref h0), (1, .int (nI a)), (2, .int (nI b)), (3, .long (gc_up (fun s acc => if gb (S a) s && decide (E (64 * a + s) &&& (S b ^^^ (-1)) = 0) then acc ||| gw s else acc) i 0)), (5, .int (nI i))]) C0.1 C0.2.1 dX0_sequence_54 hl (by decide) rfl (fun ls hl => ?_)
          refine lv_aload_n C0.1 C0.2.1 dX0_sequence_56 rfl (lv_at hl 1 rfl) ?_
          refine xg_E C0 hK hP dX0_sequence_57 ?_
          refine lv_bipush (v := nI 64) C0.1 C0.2.1 dX0_sequence_60 (by decide) ?_
          refine lv_aload_n C0.1 C0.2.1 dX0_sequence_62 rfl (lv_at hl 1 rfl) ?_
          refine xg_k C0 hK hP dX0_sequence_63 ?_
          refine lv_imul C0.1 C0.2.1 dX0_sequence_66 ?_
          refine lv_iload C0.1 C0.2.1 dX0_sequence_67 (lv_at hl 5 rfl) ?_
          refine lv_iadd C0.1 C0.2.1 dX0_sequence_69 ?_
          refine lv_aload_n C0.1 C0.2.1 dX0_sequence_70 rfl (lv_at hl 1 rfl) ?_
          refine lv_iload_n C0.1 C0.2.1 dX0_sequence_71 rfl (lv_at hl 3 rfl) ?_
          refine lv_lload C0.1 C0.2.1 dX0_sequence_72 (lv_at hl 0 rfl) ?_
          refine go_imageOf C0 hl.1 ⟨Nat.le_of_ble_eq_true rfl, Nat.le_of_ble_eq_true rfl, Nat.le_of_ble_eq_true rfl, Nat.le_of_ble_eq_true rfl⟩ (Nat.le_of_ble_eq_true rfl) hK hP (a := b) (by omega) dX0_sequence_74 ?_
          refine ww_tl (v := gc_img E b (E (64 * a + i))) (gc_img_row hb) ?_
          refine ww_last C0 hK hP hD hs 1 0 rfl rfl (j := 64 * k + i) (gc_ix k i) (by omega) (by decide) dX0_sequence_77 (fun H locs hP hD hs => ?_)
          have hP : va_P D vwCl (gX h0 hE hS hG d (gc_row E k (fun s => gc_img E b (E (64 * a + s))) (i + 1)) S G k) H := by rw [← gc_row_1]; exact hP
          have hD : va_D (va_A (gX h0 hE hS hG d E S G k) s.heap.size) (gX h0 hE hS hG d (gc_row E k (fun s => gc_img E b (E (64 * a + s))) (i + 1)) S G k) := by rw [← gc_row_1]; exact hD
          refine lv_aload_n C0.1 C0.2.1 dX0_sequence_78 rfl (lv_at hl 1 rfl) ?_
          refine xg_S C0 hK hP dX0_sequence_79 ?_
          refine lv_iload_n C0.1 C0.2.1 dX0_sequence_82 rfl (lv_at hl 2 rfl) ?_
          refine ww_lald C0 hK hP 2 0 rfl rfl (j := a) rfl (by omega) (by decide) dX0_sequence_83 ?_
          refine lv_iload C0.1 C0.2.1 dX0_sequence_84 (lv_at hl 5 rfl) ?_
          refine go_has C0 hl.1 ⟨Nat.le_of_ble_eq_true rfl, Nat.le_of_ble_eq_true rfl, Nat.le_of_ble_eq_true rfl, Nat.le_of_ble_eq_true rfl⟩ (Nat.le_of_ble_eq_true rfl) (j := i) (by omega) dX0_sequence_86 ?_
          have hz := lg_cmp_eq (E (64 * a + i) &&& (S b ^^^ (-1))) 0
          refine ww_join (tgt := 115) (st := [.int (if (gb (S a) i && decide (E (64 * a + i) &&& (S b ^^^ (-1)) = 0)) then 1 else 0)]) ?_ (fun hJ => ?_)
          · refine lv_istore (lv' := [(8, .int (if (gb (S a) i && decide (E (64 * a + i) &&& (S b ^^^ (-1)) = 0)) then 1 else 0)), (6, .long (E (64 * a + i))), (0, .ref h0), (1, .int (nI a)), (2, .int (nI b)), (3, .long (gc_up (fun s acc => if gb (S a) s && decide (E (64 * a + s) &&& (S b ^^^ (-1)) = 0) then acc ||| gw s else acc) i 0)), (5, .int (nI i))]) C0.1 C0.2.1 dX0_sequence_115 hl (by decide) rfl (fun ls hl => ?_)
            refine lv_lload_n C0.1 C0.2.1 dX0_sequence_117 rfl (lv_at hl 5 rfl) ?_
            refine lv_iload C0.1 C0.2.1 dX0_sequence_118 (lv_at hl 0 rfl) ?_
            refine lv_if_eq (tgt := 130) C0.1 C0.2.1 dX0_sequence_120 (by decide) (fun c5 => ?_) (fun c5 => ?_)
            · refine lv_lconst (v := 0) C0.1 C0.2.1 dX0_sequence_130 (by decide) ?_
              refine lv_lor C0.1 C0.2.1 dX0_sequence_131 ?_
              refine ww_tl (v := gc_up (fun s acc => if gb (S a) s && decide (E (64 * a + s) &&& (S b ^^^ (-1)) = 0) then acc ||| gw s else acc) (i + 1) 0) (by rw [gc_up_s, gc_or0]; exact (if_neg (gc_b0.mp c5)).symm) ?_
              refine lv_lstore_n (lv' := [(3, .long (gc_up (fun s acc => if gb (S a) s && decide (E (64 * a + s) &&& (S b ^^^ (-1)) = 0) then acc ||| gw s else acc) (i + 1) 0)), (8, .int (if (gb (S a) i && decide (E (64 * a + i) &&& (S b ^^^ (-1)) = 0)) then 1 else 0)), (6, .long (E (64 * a + i))), (0, .ref h0), (1, .int (nI a)), (2, .int (nI b)), (5, .int (nI i))]) C0.1 C0.2.1 dX0_sequence_132 rfl hl (by decide) rfl (fun ls hl => ?_)
              refine lv_iinc (v := nI (i + 1)) (lv' := [(5, .int (nI (i + 1))), (3, .long (gc_up (fun s acc => if gb (S a) s && decide (E (64 * a + s) &&& (S b ^^^ (-1)) = 0) then acc ||| gw s else acc) (i + 1) 0)), (8, .int (if (gb (S a) i && decide (E (64 * a + i) &&& (S b ^^^ (-1)) = 0)) then 1 else 0)), (6, .long (E (64 * a + i))), (0, .ref h0), (1, .int (nI a)), (2, .int (nI b))]) C0.1 C0.2.1 dX0_sequence_133 hl (k := 6) rfl (ww_inc i) (by decide) rfl (fun ls hl => ?_)
              refine lv_goto (tgt := 35) C0.1 C0.2.1 dX0_sequence_136 (by decide) ?_
              exact ih lt H locs hP hD hs ls (lv_sub hl [4, 5, 6, 1, 0] rfl)
            · refine lv_lconst (v := 1) C0.1 C0.2.1 dX0_sequence_123 (by decide) ?_
              refine lv_iload C0.1 C0.2.1 dX0_sequence_124 (lv_at hl 6 rfl) ?_
              refine lv_lshl (v := gw i) C0.1 C0.2.1 dX0_sequence_126 rfl ?_
              refine lv_goto (tgt := 131) C0.1 C0.2.1 dX0_sequence_127 (by decide) ?_
              refine lv_lor C0.1 C0.2.1 dX0_sequence_131 ?_
              refine ww_tl (v := gc_up (fun s acc => if gb (S a) s && decide (E (64 * a + s) &&& (S b ^^^ (-1)) = 0) then acc ||| gw s else acc) (i + 1) 0) (by rw [gc_up_s]; exact (if_pos (gc_b1 c5)).symm) ?_
              refine lv_lstore_n (lv' := [(3, .long (gc_up (fun s acc => if gb (S a) s && decide (E (64 * a + s) &&& (S b ^^^ (-1)) = 0) then acc ||| gw s else acc) (i + 1) 0)), (8, .int (if (gb (S a) i && decide (E (64 * a + i) &&& (S b ^^^ (-1)) = 0)) then 1 else 0)), (6, .long (E (64 * a + i))), (0, .ref h0), (1, .int (nI a)), (2, .int (nI b)), (5, .int (nI i))]) C0.1 C0.2.1 dX0_sequence_132 rfl hl (by decide) rfl (fun ls hl => ?_)
              refine lv_iinc (v := nI (i + 1)) (lv' := [(5, .int (nI (i + 1))), (3, .long (gc_up (fun s acc => if gb (S a) s && decide (E (64 * a + s) &&& (S b ^^^ (-1)) = 0) then acc ||| gw s else acc) (i + 1) 0)), (8, .int (if (gb (S a) i && decide (E (64 * a + i) &&& (S b ^^^ (-1)) = 0)) then 1 else 0)), (6, .long (E (64 * a + i))), (0, .ref h0), (1, .int (nI a)), (2, .int (nI b))]) C0.1 C0.2.1 dX0_sequence_133 hl (k := 6) rfl (ww_inc i) (by decide) rfl (fun ls hl => ?_)
              refine lv_goto (tgt := 35) C0.1 C0.2.1 dX0_sequence_136 (by decide) ?_
              exact ih lt H locs hP hD hs ls (lv_sub hl [4, 5, 6, 1, 0] rfl)
          · refine lv_if_eq (tgt := 114) C0.1 C0.2.1 dX0_sequence_89 (by decide) (fun d1 => ?_) (fun d1 => ?_)
            · refine lv_iconst (v := 0) C0.1 C0.2.1 dX0_sequence_114 (by decide) ?_
              refine ww_ti (v := if (gb (S a) i && decide (E (64 * a + i) &&& (S b ^^^ (-1)) = 0)) then 1 else 0) (if_neg (by rw [Bool.eq_false_iff.mpr (gc_b0.mp d1), Bool.false_and]; decide)).symm ?_
              exact hJ
            · refine lv_lload C0.1 C0.2.1 dX0_sequence_92 (lv_at hl 0 rfl) ?_
              refine lv_aload_n C0.1 C0.2.1 dX0_sequence_94 rfl (lv_at hl 1 rfl) ?_
              refine xg_S C0 hK hP dX0_sequence_95 ?_
              refine lv_iload_n C0.1 C0.2.1 dX0_sequence_98 rfl (lv_at hl 3 rfl) ?_
              refine ww_lald C0 hK hP 2 0 rfl rfl (j := b) rfl (by omega) (by decide) dX0_sequence_99 ?_
              refine lv_ldc2 (v := -1) C0.1 C0.2.1 C0.2.2.2.1 (C0.2.2.2.2 _ q64) dX0_sequence_100 ?_
              refine lv_lxor C0.1 C0.2.1 dX0_sequence_103 ?_
              refine lv_land C0.1 C0.2.1 dX0_sequence_104 ?_
              refine lv_lconst (v := 0) C0.1 C0.2.1 dX0_sequence_105 (by decide) ?_
              refine W.lcmp C0.1 C0.2.1 dX0_sequence_106 ?_
              refine lv_if_ne (tgt := 114) C0.1 C0.2.1 dX0_sequence_107 (by decide) (fun d2 => ?_) (fun d2 => ?_)
              · refine lv_iconst (v := 0) C0.1 C0.2.1 dX0_sequence_114 (by decide) ?_
                refine ww_ti (v := if (gb (S a) i && decide (E (64 * a + i) &&& (S b ^^^ (-1)) = 0)) then 1 else 0) (if_neg (by rw [decide_eq_false (fun q => d2 (hz.mpr q)), Bool.and_false]; decide)).symm ?_
                exact hJ
              · refine lv_iconst (v := 1) C0.1 C0.2.1 dX0_sequence_110 (by decide) ?_
                refine lv_goto (tgt := 115) C0.1 C0.2.1 dX0_sequence_111 (by decide) ?_
                refine ww_ti (v := if (gb (S a) i && decide (E (64 * a + i) &&& (S b ^^^ (-1)) = 0)) then 1 else 0) (if_pos (by rw [gc_b1 d1, decide_eq_true (hz.mp d2)]; rfl)).symm ?_
                exact hJ
      · refine lv_bipush (v := -2) C0.1 C0.2.1 dX0_sequence_27 (by decide) ?_
        rw [show o_seq (E, S, G, k) a0 b0 = _ from o_two_full ⟨g1, g2⟩ ((k30 hk).mp c3)]
        exact ww_cret C0 hr hlk hK hP hD hs rfl dX0_sequence_29
    · refine lv_iconst (v := -1) C0.1 C0.2.1 dX0_sequence_16 (by decide) ?_
      rw [show o_seq (E, S, G, k) a0 b0 = _ from o_two_bad (fun q => (gc_b0.mp c2) q.2)]
      exact ww_cret C0 hr hlk hK hP hD hs rfl dX0_sequence_17
set_option maxHeartbeats 4000000 in
set_option maxRecDepth 100000 in
/-- choice(a, b) -/
theorem mX0_choice (l : Launch) (D : va_G) (h0 hE hS hG : Nat) (d : ClassId) (E S G : Nat → Int64) (k : Nat) (sz : Nat) (hk : k ≤ 30) (a0 b0 : Int32) : Met l yX0_choice (ws_ yX0_choice cX0_choice 6 (some .int)) ({ frames := 2, cells := 0, slots := 0, locals := 47 }) (va_Pc [.ref h0, .int a0, .int b0] (gC D d sz (gX h0 hE hS hG d E S G k))) (gQ D d sz (gX h0 hE hS hG d E S G k) ((o_choice (E, S, G, k) a0 b0).1) (gX h0 hE hS hG d ((o_choice (E, S, G, k) a0 b0).2.1) ((o_choice (E, S, G, k) a0 b0).2.2.1) ((o_choice (E, S, G, k) a0 b0).2.2.2.1) ((o_choice (E, S, G, k) a0 b0).2.2.2.2))) 0 0 (va_A (gX h0 hE hS hG d E S G k) sz) := by
  refine ww_met (by decide) (Nat.le_of_ble_eq_true rfl) ?_
  intro p e s m below meth c C0 hr hlk hnm hv ls hl
  have C0 : CallFix p m c cX0_choice 6 s _ lw_all RX0 := C0
  obtain ⟨hsz, hP, hK, hD0⟩ := hv
  subst hsz
  have hD : va_D (va_A (gX h0 hE hS hG d E S G k) s.heap.size) (gX h0 hE hS hG d E S G k) := hD0.self
  have hs : va_S (va_A (gX h0 hE hS hG d E S G k) s.heap.size) s.heap s.heap [] := va_S.rf
  have hA : ∀ q, s.heap.size ≤ q → va_A (gX h0 hE hS hG d E S G k) s.heap.size q := fun q h => Or.inr h
  have hl : lv_has ls 6 [(0, .ref h0), (1, .int a0), (2, .int b0)] := hl
  refine lv_aload_n C0.1 C0.2.1 dX0_choice_0 rfl (lv_at hl 0 rfl) ?_
  refine lv_iload_n C0.1 C0.2.1 dX0_choice_1 rfl (lv_at hl 1 rfl) ?_
  refine go_isGood C0 hl.1 ⟨Nat.le_of_ble_eq_true rfl, Nat.le_of_ble_eq_true rfl, Nat.le_of_ble_eq_true rfl, Nat.le_of_ble_eq_true rfl⟩ (Nat.le_of_ble_eq_true rfl) hK hP dX0_choice_2 ?_
  refine lv_if_eq (tgt := 16) C0.1 C0.2.1 dX0_choice_5 (by decide) (fun c1 => ?_) (fun c1 => ?_)
  · refine lv_iconst (v := -1) C0.1 C0.2.1 dX0_choice_16 (by decide) ?_
    rw [show o_choice (E, S, G, k) a0 b0 = _ from o_two_bad (fun q => (gc_b0.mp c1) q.1)]
    exact ww_cret C0 hr hlk hK hP hD hs rfl dX0_choice_17
  · refine lv_aload_n C0.1 C0.2.1 dX0_choice_8 rfl (lv_at hl 0 rfl) ?_
    refine lv_iload_n C0.1 C0.2.1 dX0_choice_9 rfl (lv_at hl 2 rfl) ?_
    refine go_isGood C0 hl.1 ⟨Nat.le_of_ble_eq_true rfl, Nat.le_of_ble_eq_true rfl, Nat.le_of_ble_eq_true rfl, Nat.le_of_ble_eq_true rfl⟩ (Nat.le_of_ble_eq_true rfl) hK hP dX0_choice_10 ?_
    refine lv_if_ne (tgt := 18) C0.1 C0.2.1 dX0_choice_13 (by decide) (fun c2 => ?_) (fun c2 => ?_)
    · have g1 := gc_b1 c1
      have g2 := gc_b1 c2
      refine lv_aload_n C0.1 C0.2.1 dX0_choice_18 rfl (lv_at hl 0 rfl) ?_
      refine xg_k C0 hK hP dX0_choice_19 ?_
      refine lv_bipush (v := nI 30) C0.1 C0.2.1 dX0_choice_22 (by decide) ?_
      refine lv_icmp_ne (tgt := 30) C0.1 C0.2.1 dX0_choice_24 (by decide) (fun c3 => ?_) (fun c3 => ?_)
      · have hk3 : k < 30 := by have q : ¬ k = 30 := fun z => c3 ((k30 hk).mpr z); omega
        obtain ⟨a, ha, rfl⟩ := gc_gd_of g1 (by omega)
        obtain ⟨b, hb, rfl⟩ := gc_gd_of g2 (by omega)
        refine lv_aload_n C0.1 C0.2.1 dX0_choice_30 rfl (lv_at hl 0 rfl) ?_
        refine xg_G C0 hK hP dX0_choice_31 ?_
        refine lv_iconst (v := 0) C0.1 C0.2.1 dX0_choice_34 (by decide) ?_
        refine ww_lald C0 hK hP 3 0 rfl rfl (j := 0) (show (0 : Int32) = nI 0 from rfl) (by omega) (by decide) dX0_choice_35 ?_
        refine lv_aload_n C0.1 C0.2.1 dX0_choice_36 rfl (lv_at hl 0 rfl) ?_
        refine xg_G C0 hK hP dX0_choice_37 ?_
        refine lv_iconst (v := 1) C0.1 C0.2.1 dX0_choice_40 (by decide) ?_
        refine ww_lald C0 hK hP 3 0 rfl rfl (j := 1) (show (1 : Int32) = nI 1 from rfl) (by omega) (by decide) dX0_choice_41 ?_
        refine lv_lor C0.1 C0.2.1 dX0_choice_42 ?_
        refine lv_lstore_n (lv' := [(3, .long ((G 0) ||| (G 1))), (0, .ref h0), (1, .int (nI a)), (2, .int (nI b))]) C0.1 C0.2.1 dX0_choice_43 rfl hl (by decide) rfl (fun ls hl => ?_)
        refine lv_lload_n C0.1 C0.2.1 dX0_choice_44 rfl (lv_at hl 0 rfl) ?_
        refine lv_aload_n C0.1 C0.2.1 dX0_choice_45 rfl (lv_at hl 1 rfl) ?_
        refine xg_S C0 hK hP dX0_choice_46 ?_
        refine lv_iload_n C0.1 C0.2.1 dX0_choice_49 rfl (lv_at hl 2 rfl) ?_
        refine ww_lald C0 hK hP 2 0 rfl rfl (j := a) rfl (by omega) (by decide) dX0_choice_50 ?_
        refine lv_aload_n C0.1 C0.2.1 dX0_choice_51 rfl (lv_at hl 1 rfl) ?_
        refine xg_G C0 hK hP dX0_choice_52 ?_
        refine lv_iconst (v := 0) C0.1 C0.2.1 dX0_choice_55 (by decide) ?_
        refine ww_lald C0 hK hP 3 0 rfl rfl (j := 0) (show (0 : Int32) = nI 0 from rfl) (by omega) (by decide) dX0_choice_56 ?_
        refine lv_ldc2 (v := -1) C0.1 C0.2.1 C0.2.2.2.1 (C0.2.2.2.2 _ q64) dX0_choice_57 ?_
        refine lv_lxor C0.1 C0.2.1 dX0_choice_60 ?_
        refine lv_lor C0.1 C0.2.1 dX0_choice_61 ?_
        refine lv_land C0.1 C0.2.1 dX0_choice_62 ?_
        refine lv_aload_n C0.1 C0.2.1 dX0_choice_63 rfl (lv_at hl 1 rfl) ?_
        refine xg_S C0 hK hP dX0_choice_64 ?_
        refine lv_iload_n C0.1 C0.2.1 dX0_choice_67 rfl (lv_at hl 3 rfl) ?_
        refine ww_lald C0 hK hP 2 0 rfl rfl (j := b) rfl (by omega) (by decide) dX0_choice_68 ?_
        refine lv_aload_n C0.1 C0.2.1 dX0_choice_69 rfl (lv_at hl 1 rfl) ?_
        refine xg_G C0 hK hP dX0_choice_70 ?_
        refine lv_iconst (v := 1) C0.1 C0.2.1 dX0_choice_73 (by decide) ?_
        refine ww_lald C0 hK hP 3 0 rfl rfl (j := 1) (show (1 : Int32) = nI 1 from rfl) (by omega) (by decide) dX0_choice_74 ?_
        refine lv_ldc2 (v := -1) C0.1 C0.2.1 C0.2.2.2.1 (C0.2.2.2.2 _ q64) dX0_choice_75 ?_
        refine lv_lxor C0.1 C0.2.1 dX0_choice_78 ?_
        refine lv_lor C0.1 C0.2.1 dX0_choice_79 ?_
        refine lv_land C0.1 C0.2.1 dX0_choice_80 ?_
        refine ww_tl (v := gc_chs S G a b) (gc_chs_X S G a b) ?_
        refine lv_lstore_n (lv' := [(3, .long (gc_chs S G a b)), (0, .ref h0), (1, .int (nI a)), (2, .int (nI b))]) C0.1 C0.2.1 dX0_choice_81 rfl hl (by decide) rfl (fun ls hl => ?_)
        refine lv_iconst (v := 0) C0.1 C0.2.1 dX0_choice_82 (by decide) ?_
        refine lv_istore (lv' := [(5, .int 0), (3, .long (gc_chs S G a b)), (0, .ref h0), (1, .int (nI a)), (2, .int (nI b))]) C0.1 C0.2.1 dX0_choice_83 hl (by decide) rfl (fun ls hl => ?_)
        refine ww_forH (nL := 6) (D := D) (cl := vwCl) 64 (fun i => gX h0 hE hS hG d (gc_row E k (gc_stp E G a b) i) S G k) (fun i => [(0, .ref h0), (1, .int (nI a)), (2, .int (nI b)), (3, .long (gc_chs S G a b)), (5, .int (nI i))]) (by rw [gc_row_0]; exact hP) (by rw [gc_row_0]; exact hD) hs (lv_sub hl [2, 3, 4, 1, 0] rfl) ?_
        intro i hi ih H locs hP hD hs ls hl
        have hl : lv_has ls 6 [(0, .ref h0), (1, .int (nI a)), (2, .int (nI b)), (3, .long (gc_chs S G a b)), (5, .int (nI i))] := hl
        have hP : va_P D vwCl (gX h0 hE hS hG d (gc_row E k (gc_stp E G a b) i) S G k) H := hP
        have hD : va_D (va_A (gX h0 hE hS hG d E S G k) s.heap.size) (gX h0 hE hS hG d (gc_row E k (gc_stp E G a b) i) S G k) := hD
        refine lv_iload C0.1 C0.2.1 dX0_choice_85 (lv_at hl 4 rfl) ?_
        refine lv_bipush (v := nI 64) C0.1 C0.2.1 dX0_choice_87 (by decide) ?_
        refine lv_icmp_ge (tgt := 121) C0.1 C0.2.1 dX0_choice_89 (by decide) (fun c4 => ?_) (fun c4 => ?_)
        · have e : i = 64 := ww_eq hi (by decide) c4
          subst e
          refine lv_aload_n C0.1 C0.2.1 dX0_choice_121 rfl (lv_at hl 0 rfl) ?_
          refine xg_S C0 hK hP dX0_choice_122 ?_
          refine lv_aload_n C0.1 C0.2.1 dX0_choice_125 rfl (lv_at hl 0 rfl) ?_
          refine xg_k C0 hK hP dX0_choice_126 ?_
          refine lv_lload_n C0.1 C0.2.1 dX0_choice_129 rfl (lv_at hl 3 rfl) ?_
          refine ww_last C0 hK hP hD hs 2 0 rfl rfl (j := k) rfl (by omega) (by decide) dX0_choice_130 (fun H locs hP hD hs => ?_)
          have hP : va_P D vwCl (gX h0 hE hS hG d (gc_row E k (gc_stp E G a b) 64) (vp_updL S k (gc_chs S G a b)) G k) H := by exact hP
          have hD : va_D (va_A (gX h0 hE hS hG d E S G k) s.heap.size) (gX h0 hE hS hG d (gc_row E k (gc_stp E G a b) 64) (vp_updL S k (gc_chs S G a b)) G k) := by exact hD
          refine lv_aload_n C0.1 C0.2.1 dX0_choice_131 rfl (lv_at hl 0 rfl) ?_
          refine go_close C0 hl.1 ⟨Nat.le_of_ble_eq_true rfl, Nat.le_of_ble_eq_true rfl, Nat.le_of_ble_eq_true rfl, Nat.le_of_ble_eq_true rfl⟩ (Nat.le_of_ble_eq_true rfl) hK hP hD hs hA dX0_choice_132 (fun H locs hP hD hs => ?_)
          have hP : va_P D vwCl (gX h0 hE hS hG d (gc_row E k (gc_stp E G a b) 64) (vp_updL S k (gc_chs S G a b)) G (k + 1)) H := by exact hP
          have hD : va_D (va_A (gX h0 hE hS hG d E S G k) s.heap.size) (gX h0 hE hS hG d (gc_row E k (gc_stp E G a b) 64) (vp_updL S k (gc_chs S G a b)) G (k + 1)) := by exact hD
          rw [o_choice_new ha hb hk3]
          exact ww_cret C0 hr hlk hK hP hD hs rfl dX0_choice_135
        · have lt : i < 64 := ww_lt hi (by decide) c4
          refine lv_aload_n C0.1 C0.2.1 dX0_choice_92 rfl (lv_at hl 0 rfl) ?_
          refine xg_E C0 hK hP dX0_choice_93 ?_
          refine lv_bipush (v := nI 64) C0.1 C0.2.1 dX0_choice_96 (by decide) ?_
          refine lv_aload_n C0.1 C0.2.1 dX0_choice_98 rfl (lv_at hl 0 rfl) ?_
          refine xg_k C0 hK hP dX0_choice_99 ?_
          refine lv_imul C0.1 C0.2.1 dX0_choice_102 ?_
          refine lv_iload C0.1 C0.2.1 dX0_choice_103 (lv_at hl 4 rfl) ?_
          refine lv_iadd C0.1 C0.2.1 dX0_choice_105 ?_
          refine lv_aload_n C0.1 C0.2.1 dX0_choice_106 rfl (lv_at hl 0 rfl) ?_
          refine lv_iload_n C0.1 C0.2.1 dX0_choice_107 rfl (lv_at hl 1 rfl) ?_
          refine lv_iload_n C0.1 C0.2.1 dX0_choice_108 rfl (lv_at hl 2 rfl) ?_
          refine lv_iload C0.1 C0.2.1 dX0_choice_109 (lv_at hl 4 rfl) ?_
          refine go_step C0 hl.1 ⟨Nat.le_of_ble_eq_true rfl, Nat.le_of_ble_eq_true rfl, Nat.le_of_ble_eq_true rfl, Nat.le_of_ble_eq_true rfl⟩ (Nat.le_of_ble_eq_true rfl) hK hP (a := a) (b := b) (j := i) (by omega) (by omega) (by omega) dX0_choice_111 ?_
          refine ww_tl (v := gc_stp E G a b i) (gc_stp_row ha hb lt) ?_
          refine ww_last C0 hK hP hD hs 1 0 rfl rfl (j := 64 * k + i) (gc_ix k i) (by omega) (by decide) dX0_choice_114 (fun H locs hP hD hs => ?_)
          have hP : va_P D vwCl (gX h0 hE hS hG d (gc_row E k (gc_stp E G a b) (i + 1)) S G k) H := by rw [← gc_row_1]; exact hP
          have hD : va_D (va_A (gX h0 hE hS hG d E S G k) s.heap.size) (gX h0 hE hS hG d (gc_row E k (gc_stp E G a b) (i + 1)) S G k) := by rw [← gc_row_1]; exact hD
          refine lv_iinc (v := nI (i + 1)) (lv' := [(5, .int (nI (i + 1))), (0, .ref h0), (1, .int (nI a)), (2, .int (nI b)), (3, .long (gc_chs S G a b))]) C0.1 C0.2.1 dX0_choice_115 hl (k := 4) rfl (ww_inc i) (by decide) rfl (fun ls hl => ?_)
          refine lv_goto (tgt := 85) C0.1 C0.2.1 dX0_choice_118 (by decide) ?_
          exact ih lt H locs hP hD hs ls (lv_sub hl [1, 2, 3, 4, 0] rfl)
      · refine lv_bipush (v := -2) C0.1 C0.2.1 dX0_choice_27 (by decide) ?_
        rw [show o_choice (E, S, G, k) a0 b0 = _ from o_two_full ⟨g1, g2⟩ ((k30 hk).mp c3)]
        exact ww_cret C0 hr hlk hK hP hD hs rfl dX0_choice_29
    · refine lv_iconst (v := -1) C0.1 C0.2.1 dX0_choice_16 (by decide) ?_
      rw [show o_choice (E, S, G, k) a0 b0 = _ from o_two_bad (fun q => (gc_b0.mp c2) q.2)]
      exact ww_cret C0 hr hlk hK hP hD hs rfl dX0_choice_17
set_option maxHeartbeats 4000000 in
set_option maxRecDepth 100000 in
/-- loop(a, b) -/
theorem mX0_loop (l : Launch) (D : va_G) (h0 hE hS hG : Nat) (d : ClassId) (E S G : Nat → Int64) (k : Nat) (sz : Nat) (hk : k ≤ 30) (a0 b0 : Int32) : Met l yX0_loop (ws_ yX0_loop cX0_loop 6 (some .int)) ({ frames := 3, cells := 0, slots := 0, locals := 79 }) (va_Pc [.ref h0, .int a0, .int b0] (gC D d sz (gX h0 hE hS hG d E S G k))) (gQ D d sz (gX h0 hE hS hG d E S G k) ((o_loop (E, S, G, k) a0 b0).1) (gX h0 hE hS hG d ((o_loop (E, S, G, k) a0 b0).2.1) ((o_loop (E, S, G, k) a0 b0).2.2.1) ((o_loop (E, S, G, k) a0 b0).2.2.2.1) ((o_loop (E, S, G, k) a0 b0).2.2.2.2))) 0 0 (va_A (gX h0 hE hS hG d E S G k) sz) := by
  refine ww_met (by decide) (Nat.le_of_ble_eq_true rfl) ?_
  intro p e s m below meth c C0 hr hlk hnm hv ls hl
  have C0 : CallFix p m c cX0_loop 6 s _ lw_all RX0 := C0
  obtain ⟨hsz, hP, hK, hD0⟩ := hv
  subst hsz
  have hD : va_D (va_A (gX h0 hE hS hG d E S G k) s.heap.size) (gX h0 hE hS hG d E S G k) := hD0.self
  have hs : va_S (va_A (gX h0 hE hS hG d E S G k) s.heap.size) s.heap s.heap [] := va_S.rf
  have hA : ∀ q, s.heap.size ≤ q → va_A (gX h0 hE hS hG d E S G k) s.heap.size q := fun q h => Or.inr h
  have hl : lv_has ls 6 [(0, .ref h0), (1, .int a0), (2, .int b0)] := hl
  refine lv_aload_n C0.1 C0.2.1 dX0_loop_0 rfl (lv_at hl 0 rfl) ?_
  refine lv_iload_n C0.1 C0.2.1 dX0_loop_1 rfl (lv_at hl 1 rfl) ?_
  refine go_isGood C0 hl.1 ⟨Nat.le_of_ble_eq_true rfl, Nat.le_of_ble_eq_true rfl, Nat.le_of_ble_eq_true rfl, Nat.le_of_ble_eq_true rfl⟩ (Nat.le_of_ble_eq_true rfl) hK hP dX0_loop_2 ?_
  refine lv_if_eq (tgt := 16) C0.1 C0.2.1 dX0_loop_5 (by decide) (fun c1 => ?_) (fun c1 => ?_)
  · refine lv_iconst (v := -1) C0.1 C0.2.1 dX0_loop_16 (by decide) ?_
    rw [show o_loop (E, S, G, k) a0 b0 = _ from o_two_bad (fun q => (gc_b0.mp c1) q.1)]
    exact ww_cret C0 hr hlk hK hP hD hs rfl dX0_loop_17
  · refine lv_aload_n C0.1 C0.2.1 dX0_loop_8 rfl (lv_at hl 0 rfl) ?_
    refine lv_iload_n C0.1 C0.2.1 dX0_loop_9 rfl (lv_at hl 2 rfl) ?_
    refine go_isGood C0 hl.1 ⟨Nat.le_of_ble_eq_true rfl, Nat.le_of_ble_eq_true rfl, Nat.le_of_ble_eq_true rfl, Nat.le_of_ble_eq_true rfl⟩ (Nat.le_of_ble_eq_true rfl) hK hP dX0_loop_10 ?_
    refine lv_if_ne (tgt := 18) C0.1 C0.2.1 dX0_loop_13 (by decide) (fun c2 => ?_) (fun c2 => ?_)
    · have g1 := gc_b1 c1
      have g2 := gc_b1 c2
      refine lv_aload_n C0.1 C0.2.1 dX0_loop_18 rfl (lv_at hl 0 rfl) ?_
      refine xg_k C0 hK hP dX0_loop_19 ?_
      refine lv_bipush (v := nI 30) C0.1 C0.2.1 dX0_loop_22 (by decide) ?_
      refine lv_icmp_ne (tgt := 30) C0.1 C0.2.1 dX0_loop_24 (by decide) (fun c3 => ?_) (fun c3 => ?_)
      · have hk3 : k < 30 := by have q : ¬ k = 30 := fun z => c3 ((k30 hk).mpr z); omega
        obtain ⟨a, ha, rfl⟩ := gc_gd_of g1 (by omega)
        obtain ⟨b, hb, rfl⟩ := gc_gd_of g2 (by omega)
        refine lv_aload_n C0.1 C0.2.1 dX0_loop_30 rfl (lv_at hl 0 rfl) ?_
        refine xg_G C0 hK hP dX0_loop_31 ?_
        refine lv_iconst (v := 0) C0.1 C0.2.1 dX0_loop_34 (by decide) ?_
        refine ww_lald C0 hK hP 3 0 rfl rfl (j := 0) (show (0 : Int32) = nI 0 from rfl) (by omega) (by decide) dX0_loop_35 ?_
        refine lv_aload_n C0.1 C0.2.1 dX0_loop_36 rfl (lv_at hl 0 rfl) ?_
        refine xg_G C0 hK hP dX0_loop_37 ?_
        refine lv_iconst (v := 1) C0.1 C0.2.1 dX0_loop_40 (by decide) ?_
        refine ww_lald C0 hK hP 3 0 rfl rfl (j := 1) (show (1 : Int32) = nI 1 from rfl) (by omega) (by decide) dX0_loop_41 ?_
        refine lv_lor C0.1 C0.2.1 dX0_loop_42 ?_
        refine lv_ldc2 (v := -1) C0.1 C0.2.1 C0.2.2.2.1 (C0.2.2.2.2 _ q64) dX0_loop_43 ?_
        refine lv_lxor C0.1 C0.2.1 dX0_loop_46 ?_
        refine ww_tl (v := gc_out G) rfl ?_
        refine lv_lstore_n (lv' := [(3, .long (gc_out G)), (0, .ref h0), (1, .int (nI a)), (2, .int (nI b))]) C0.1 C0.2.1 dX0_loop_47 rfl hl (by decide) rfl (fun ls hl => ?_)
        refine lv_iconst (v := 0) C0.1 C0.2.1 dX0_loop_48 (by decide) ?_
        refine lv_istore (lv' := [(5, .int 0), (3, .long (gc_out G)), (0, .ref h0), (1, .int (nI a)), (2, .int (nI b))]) C0.1 C0.2.1 dX0_loop_49 hl (by decide) rfl (fun ls hl => ?_)
        refine ww_forH (nL := 6) (D := D) (cl := vwCl) 64 (fun i => gX h0 hE hS hG d (gc_row E k (fun s => gc_rch (gc_stp E G a b) s &&& gc_out G) i) S G k) (fun i => [(0, .ref h0), (1, .int (nI a)), (2, .int (nI b)), (3, .long (gc_out G)), (5, .int (nI i))]) (by rw [gc_row_0]; exact hP) (by rw [gc_row_0]; exact hD) hs (lv_sub hl [2, 3, 4, 1, 0] rfl) ?_
        intro i hi ih H locs hP hD hs ls hl
        have hl : lv_has ls 6 [(0, .ref h0), (1, .int (nI a)), (2, .int (nI b)), (3, .long (gc_out G)), (5, .int (nI i))] := hl
        have hP : va_P D vwCl (gX h0 hE hS hG d (gc_row E k (fun s => gc_rch (gc_stp E G a b) s &&& gc_out G) i) S G k) H := hP
        have hD : va_D (va_A (gX h0 hE hS hG d E S G k) s.heap.size) (gX h0 hE hS hG d (gc_row E k (fun s => gc_rch (gc_stp E G a b) s &&& gc_out G) i) S G k) := hD
        refine lv_iload C0.1 C0.2.1 dX0_loop_51 (lv_at hl 4 rfl) ?_
        refine lv_bipush (v := nI 64) C0.1 C0.2.1 dX0_loop_53 (by decide) ?_
        refine lv_icmp_ge (tgt := 89) C0.1 C0.2.1 dX0_loop_55 (by decide) (fun c4 => ?_) (fun c4 => ?_)
        · have e : i = 64 := ww_eq hi (by decide) c4
          subst e
          refine lv_aload_n C0.1 C0.2.1 dX0_loop_89 rfl (lv_at hl 0 rfl) ?_
          refine xg_S C0 hK hP dX0_loop_90 ?_
          refine lv_aload_n C0.1 C0.2.1 dX0_loop_93 rfl (lv_at hl 0 rfl) ?_
          refine xg_k C0 hK hP dX0_loop_94 ?_
          refine lv_aload_n C0.1 C0.2.1 dX0_loop_97 rfl (lv_at hl 0 rfl) ?_
          refine lv_iload_n C0.1 C0.2.1 dX0_loop_98 rfl (lv_at hl 1 rfl) ?_
          refine lv_iload_n C0.1 C0.2.1 dX0_loop_99 rfl (lv_at hl 2 rfl) ?_
          refine lv_lload_n C0.1 C0.2.1 dX0_loop_100 rfl (lv_at hl 3 rfl) ?_
          refine go_loopSure C0 hl.1 ⟨Nat.le_of_ble_eq_true rfl, Nat.le_of_ble_eq_true rfl, Nat.le_of_ble_eq_true rfl, Nat.le_of_ble_eq_true rfl⟩ (Nat.le_of_ble_eq_true rfl) hK hP (a := a) (b := b) (by omega) (by omega) dX0_loop_101 ?_
          refine ww_tl (v := gc_los E S G a b) (gc_los_row ha hb) ?_
          refine ww_last C0 hK hP hD hs 2 0 rfl rfl (j := k) rfl (by omega) (by decide) dX0_loop_104 (fun H locs hP hD hs => ?_)
          have hP : va_P D vwCl (gX h0 hE hS hG d (gc_row E k (fun s => gc_rch (gc_stp E G a b) s &&& gc_out G) 64) (vp_updL S k (gc_los E S G a b)) G k) H := by exact hP
          have hD : va_D (va_A (gX h0 hE hS hG d E S G k) s.heap.size) (gX h0 hE hS hG d (gc_row E k (fun s => gc_rch (gc_stp E G a b) s &&& gc_out G) 64) (vp_updL S k (gc_los E S G a b)) G k) := by exact hD
          refine lv_aload_n C0.1 C0.2.1 dX0_loop_105 rfl (lv_at hl 0 rfl) ?_
          refine go_close C0 hl.1 ⟨Nat.le_of_ble_eq_true rfl, Nat.le_of_ble_eq_true rfl, Nat.le_of_ble_eq_true rfl, Nat.le_of_ble_eq_true rfl⟩ (Nat.le_of_ble_eq_true rfl) hK hP hD hs hA dX0_loop_106 (fun H locs hP hD hs => ?_)
          have hP : va_P D vwCl (gX h0 hE hS hG d (gc_row E k (fun s => gc_rch (gc_stp E G a b) s &&& gc_out G) 64) (vp_updL S k (gc_los E S G a b)) G (k + 1)) H := by exact hP
          have hD : va_D (va_A (gX h0 hE hS hG d E S G k) s.heap.size) (gX h0 hE hS hG d (gc_row E k (fun s => gc_rch (gc_stp E G a b) s &&& gc_out G) 64) (vp_updL S k (gc_los E S G a b)) G (k + 1)) := by exact hD
          rw [o_loop_new ha hb hk3]
          exact ww_cret C0 hr hlk hK hP hD hs rfl dX0_loop_109
        · have lt : i < 64 := ww_lt hi (by decide) c4
          refine lv_aload_n C0.1 C0.2.1 dX0_loop_58 rfl (lv_at hl 0 rfl) ?_
          refine xg_E C0 hK hP dX0_loop_59 ?_
          refine lv_bipush (v := nI 64) C0.1 C0.2.1 dX0_loop_62 (by decide) ?_
          refine lv_aload_n C0.1 C0.2.1 dX0_loop_64 rfl (lv_at hl 0 rfl) ?_
          refine xg_k C0 hK hP dX0_loop_65 ?_
          refine lv_imul C0.1 C0.2.1 dX0_loop_68 ?_
          refine lv_iload C0.1 C0.2.1 dX0_loop_69 (lv_at hl 4 rfl) ?_
          refine lv_iadd C0.1 C0.2.1 dX0_loop_71 ?_
          refine lv_aload_n C0.1 C0.2.1 dX0_loop_72 rfl (lv_at hl 0 rfl) ?_
          refine lv_iload_n C0.1 C0.2.1 dX0_loop_73 rfl (lv_at hl 1 rfl) ?_
          refine lv_iload_n C0.1 C0.2.1 dX0_loop_74 rfl (lv_at hl 2 rfl) ?_
          refine lv_iload C0.1 C0.2.1 dX0_loop_75 (lv_at hl 4 rfl) ?_
          refine go_reached C0 hl.1 ⟨Nat.le_of_ble_eq_true rfl, Nat.le_of_ble_eq_true rfl, Nat.le_of_ble_eq_true rfl, Nat.le_of_ble_eq_true rfl⟩ (Nat.le_of_ble_eq_true rfl) hK hP (a := a) (b := b) (j := i) (by omega) (by omega) (by omega) dX0_loop_77 ?_
          refine ww_tl (v := gc_rch (gc_stp E G a b) i) (gc_rch_row ha hb lt) ?_
          refine lv_lload_n C0.1 C0.2.1 dX0_loop_80 rfl (lv_at hl 3 rfl) ?_
          refine lv_land C0.1 C0.2.1 dX0_loop_81 ?_
          refine ww_last C0 hK hP hD hs 1 0 rfl rfl (j := 64 * k + i) (gc_ix k i) (by omega) (by decide) dX0_loop_82 (fun H locs hP hD hs => ?_)
          have hP : va_P D vwCl (gX h0 hE hS hG d (gc_row E k (fun s => gc_rch (gc_stp E G a b) s &&& gc_out G) (i + 1)) S G k) H := by rw [← gc_row_1]; exact hP
          have hD : va_D (va_A (gX h0 hE hS hG d E S G k) s.heap.size) (gX h0 hE hS hG d (gc_row E k (fun s => gc_rch (gc_stp E G a b) s &&& gc_out G) (i + 1)) S G k) := by rw [← gc_row_1]; exact hD
          refine lv_iinc (v := nI (i + 1)) (lv' := [(5, .int (nI (i + 1))), (0, .ref h0), (1, .int (nI a)), (2, .int (nI b)), (3, .long (gc_out G))]) C0.1 C0.2.1 dX0_loop_83 hl (k := 4) rfl (ww_inc i) (by decide) rfl (fun ls hl => ?_)
          refine lv_goto (tgt := 51) C0.1 C0.2.1 dX0_loop_86 (by decide) ?_
          exact ih lt H locs hP hD hs ls (lv_sub hl [1, 2, 3, 4, 0] rfl)
      · refine lv_bipush (v := -2) C0.1 C0.2.1 dX0_loop_27 (by decide) ?_
        rw [show o_loop (E, S, G, k) a0 b0 = _ from o_two_full ⟨g1, g2⟩ ((k30 hk).mp c3)]
        exact ww_cret C0 hr hlk hK hP hD hs rfl dX0_loop_29
    · refine lv_iconst (v := -1) C0.1 C0.2.1 dX0_loop_16 (by decide) ?_
      rw [show o_loop (E, S, G, k) a0 b0 = _ from o_two_bad (fun q => (gc_b0.mp c2) q.2)]
      exact ww_cret C0 hr hlk hK hP hD hs rfl dX0_loop_17
end X0M
end
section
/-! THE CLASS: contracts of its questions -/
set_option maxRecDepth 100000
section X0Q
variable {p : Program} {l : Launch} {e : Env} {R : Room} {s : State} {m : MethodId} {args : Array Value} {below : List Frame} {meth : Method} {c : Code} {H : Heap} {locs : List Loc} {cells slots : Nat} {Q : State → Prop} {pc : Nat} {ls : Array Slot} {rest : List Value} {cc : ByteArray} {nL : Nat} {D : va_G} {d : ClassId} {A : Nat → Prop} {H0 : Heap} {h0 hE hS hG : Nat} {E S G : Nat → Int64} {g h : Int64} {k : Nat}
set_option maxHeartbeats 4000000 in
set_option maxRecDepth 100000 in
/-- programs() -/
theorem mX0_programs (l : Launch) (D : va_G) (h0 hE hS hG : Nat) (d : ClassId) (E S G : Nat → Int64) (k : Nat)  : Met l yX0_programs (ws_ yX0_programs cX0_programs 1 (some .int)) ({ frames := 0, cells := 0, slots := 0, locals := 0 }) (va_Pc [.ref h0] (gP D d (gX h0 hE hS hG d E S G k))) (vp_Si (fun r => r = nI k)) 0 0 (fun _ => False) := by
  refine ww_met (by decide) (Nat.le_of_ble_eq_true rfl) ?_
  intro p e s m below meth c C0 hr hlk hnm hv ls hl
  have C0 : CallFix p m c cX0_programs 1 s _ lw_all RX0 := C0
  obtain ⟨hP, hK⟩ := hv
  have hl : lv_has ls 1 [(0, .ref h0)] := hl
  refine lv_aload_n C0.1 C0.2.1 dX0_programs_0 rfl (lv_at hl 0 rfl) ?_
  refine xg_k C0 hK hP dX0_programs_1 ?_
  exact ww_iret C0 hr hlk rfl dX0_programs_4
set_option maxHeartbeats 4000000 in
set_option maxRecDepth 100000 in
/-- ends(p, s) -/
theorem mX0_ends (l : Launch) (D : va_G) (h0 hE hS hG : Nat) (d : ClassId) (E S G : Nat → Int64) (k : Nat) (hk : k ≤ 30) (a0 s0 : Int32) : Met l yX0_ends (ws_ yX0_ends cX0_ends 4 (some .long)) ({ frames := 1, cells := 0, slots := 0, locals := 21 }) (va_Pc [.ref h0, .int a0, .int s0] (gP D d (gX h0 hE hS hG d E S G k))) (vp_Sl (fun r => r = q_ends (E, S, G, k) a0 s0)) 0 0 (fun _ => False) := by
  refine ww_met (by decide) (Nat.le_of_ble_eq_true rfl) ?_
  intro p e s m below meth c C0 hr hlk hnm hv ls hl
  have C0 : CallFix p m c cX0_ends 4 s _ lw_all RX0 := C0
  obtain ⟨hP, hK⟩ := hv
  have hl : lv_has ls 4 [(0, .ref h0), (1, .int a0), (2, .int s0)] := hl
  refine lv_aload_n C0.1 C0.2.1 dX0_ends_0 rfl (lv_at hl 0 rfl) ?_
  refine lv_iload_n C0.1 C0.2.1 dX0_ends_1 rfl (lv_at hl 1 rfl) ?_
  refine go_isGood C0 hl.1 ⟨Nat.le_of_ble_eq_true rfl, Nat.le_of_ble_eq_true rfl, Nat.le_of_ble_eq_true rfl, Nat.le_of_ble_eq_true rfl⟩ (Nat.le_of_ble_eq_true rfl) hK hP dX0_ends_2 ?_
  refine ww_join (tgt := 23) (st := [.int (if gc_gd a0 k ∧ ¬ s0 < 0 ∧ ¬ nI 64 ≤ s0 then 1 else 0)]) ?_ (fun hJ => ?_)
  · refine lv_istore_n (lv' := [(3, .int (if gc_gd a0 k ∧ ¬ s0 < 0 ∧ ¬ nI 64 ≤ s0 then 1 else 0)), (0, .ref h0), (1, .int a0), (2, .int s0)]) C0.1 C0.2.1 dX0_ends_23 rfl hl (by decide) rfl (fun ls hl => ?_)
    refine lv_iload_n C0.1 C0.2.1 dX0_ends_24 rfl (lv_at hl 0 rfl) ?_
    refine lv_if_eq (tgt := 42) C0.1 C0.2.1 dX0_ends_25 (by decide) (fun c1 => ?_) (fun c1 => ?_)
    · refine lv_lconst (v := 0) C0.1 C0.2.1 dX0_ends_42 (by decide) ?_
      exact ww_lret C0 hr hlk (show (0 : Int64) = q_ends (E, S, G, k) a0 s0 from (q_ends_bad (gc_b0.mp c1)).symm) dX0_ends_43
    · obtain ⟨g1, g2, g3⟩ := gc_b1 c1
      obtain ⟨a, ha, rfl⟩ := gc_gd_of g1 (by omega)
      obtain ⟨j, hj, rfl⟩ := s64 g2 g3
      refine lv_aload_n C0.1 C0.2.1 dX0_ends_28 rfl (lv_at hl 1 rfl) ?_
      refine xg_E C0 hK hP dX0_ends_29 ?_
      refine lv_bipush (v := nI 64) C0.1 C0.2.1 dX0_ends_32 (by decide) ?_
      refine lv_iload_n C0.1 C0.2.1 dX0_ends_34 rfl (lv_at hl 2 rfl) ?_
      refine lv_imul C0.1 C0.2.1 dX0_ends_35 ?_
      refine lv_iload_n C0.1 C0.2.1 dX0_ends_36 rfl (lv_at hl 3 rfl) ?_
      refine lv_iadd C0.1 C0.2.1 dX0_ends_37 ?_
      refine ww_lald C0 hK hP 1 0 rfl rfl (j := 64 * a + j) (gc_ix a j) (by omega) (by decide) dX0_ends_38 ?_
      refine lv_goto (tgt := 43) C0.1 C0.2.1 dX0_ends_39 (by decide) ?_
      exact ww_lret C0 hr hlk (show (E (64 * a + j) : Int64) = q_ends (E, S, G, k) (nI a) (nI j) from (q_ends_ok ha hk hj).symm) dX0_ends_43
  · refine lv_if_eq (tgt := 22) C0.1 C0.2.1 dX0_ends_5 (by decide) (fun d1 => ?_) (fun d1 => ?_)
    · refine lv_iconst (v := 0) C0.1 C0.2.1 dX0_ends_22 (by decide) ?_
      refine ww_ti (v := if gc_gd a0 k ∧ ¬ s0 < 0 ∧ ¬ nI 64 ≤ s0 then 1 else 0) (if_neg (fun q => (gc_b0.mp d1) q.1)).symm ?_
      exact hJ
    · refine lv_iload_n C0.1 C0.2.1 dX0_ends_8 rfl (lv_at hl 2 rfl) ?_
      refine lv_if_lt (tgt := 22) C0.1 C0.2.1 dX0_ends_9 (by decide) (fun d2 => ?_) (fun d2 => ?_)
      · refine lv_iconst (v := 0) C0.1 C0.2.1 dX0_ends_22 (by decide) ?_
        refine ww_ti (v := if gc_gd a0 k ∧ ¬ s0 < 0 ∧ ¬ nI 64 ≤ s0 then 1 else 0) (if_neg (fun q => q.2.1 d2)).symm ?_
        exact hJ
      · refine lv_iload_n C0.1 C0.2.1 dX0_ends_12 rfl (lv_at hl 2 rfl) ?_
        refine lv_bipush (v := nI 64) C0.1 C0.2.1 dX0_ends_13 (by decide) ?_
        refine lv_icmp_ge (tgt := 22) C0.1 C0.2.1 dX0_ends_15 (by decide) (fun d3 => ?_) (fun d3 => ?_)
        · refine lv_iconst (v := 0) C0.1 C0.2.1 dX0_ends_22 (by decide) ?_
          refine ww_ti (v := if gc_gd a0 k ∧ ¬ s0 < 0 ∧ ¬ nI 64 ≤ s0 then 1 else 0) (if_neg (fun q => q.2.2 d3)).symm ?_
          exact hJ
        · refine lv_iconst (v := 1) C0.1 C0.2.1 dX0_ends_18 (by decide) ?_
          refine lv_goto (tgt := 23) C0.1 C0.2.1 dX0_ends_19 (by decide) ?_
          refine ww_ti (v := if gc_gd a0 k ∧ ¬ s0 < 0 ∧ ¬ nI 64 ≤ s0 then 1 else 0) (if_pos ⟨gc_b1 d1, d2, d3⟩).symm ?_
          exact hJ
set_option maxHeartbeats 4000000 in
set_option maxRecDepth 100000 in
/-- sure(p) -/
theorem mX0_sure (l : Launch) (D : va_G) (h0 hE hS hG : Nat) (d : ClassId) (E S G : Nat → Int64) (k : Nat) (hk : k ≤ 30) (a0 : Int32) : Met l yX0_sure (ws_ yX0_sure cX0_sure 2 (some .long)) ({ frames := 1, cells := 0, slots := 0, locals := 21 }) (va_Pc [.ref h0, .int a0] (gP D d (gX h0 hE hS hG d E S G k))) (vp_Sl (fun r => r = q_sure (E, S, G, k) a0)) 0 0 (fun _ => False) := by
  refine ww_met (by decide) (Nat.le_of_ble_eq_true rfl) ?_
  intro p e s m below meth c C0 hr hlk hnm hv ls hl
  have C0 : CallFix p m c cX0_sure 2 s _ lw_all RX0 := C0
  obtain ⟨hP, hK⟩ := hv
  have hl : lv_has ls 2 [(0, .ref h0), (1, .int a0)] := hl
  refine lv_aload_n C0.1 C0.2.1 dX0_sure_0 rfl (lv_at hl 0 rfl) ?_
  refine lv_iload_n C0.1 C0.2.1 dX0_sure_1 rfl (lv_at hl 1 rfl) ?_
  refine go_isGood C0 hl.1 ⟨Nat.le_of_ble_eq_true rfl, Nat.le_of_ble_eq_true rfl, Nat.le_of_ble_eq_true rfl, Nat.le_of_ble_eq_true rfl⟩ (Nat.le_of_ble_eq_true rfl) hK hP dX0_sure_2 ?_
  refine lv_if_eq (tgt := 17) C0.1 C0.2.1 dX0_sure_5 (by decide) (fun c1 => ?_) (fun c1 => ?_)
  · refine lv_lconst (v := 0) C0.1 C0.2.1 dX0_sure_17 (by decide) ?_
    exact ww_lret C0 hr hlk (show (0 : Int64) = q_sure (E, S, G, k) a0 from (q_sure_bad (gc_b0.mp c1)).symm) dX0_sure_18
  · obtain ⟨a, ha, rfl⟩ := gc_gd_of (gc_b1 c1) (by omega)
    refine lv_aload_n C0.1 C0.2.1 dX0_sure_8 rfl (lv_at hl 0 rfl) ?_
    refine xg_S C0 hK hP dX0_sure_9 ?_
    refine lv_iload_n C0.1 C0.2.1 dX0_sure_12 rfl (lv_at hl 1 rfl) ?_
    refine ww_lald C0 hK hP 2 0 rfl rfl (j := a) rfl (by omega) (by decide) dX0_sure_13 ?_
    refine lv_goto (tgt := 18) C0.1 C0.2.1 dX0_sure_14 (by decide) ?_
    exact ww_lret C0 hr hlk (show (S a : Int64) = q_sure (E, S, G, k) (nI a) from (q_sure_ok ha hk).symm) dX0_sure_18
set_option maxHeartbeats 4000000 in
set_option maxRecDepth 100000 in
/-- demand(p, x) -/
theorem mX0_demand (l : Launch) (D : va_G) (h0 hE hS hG : Nat) (d : ClassId) (E S G : Nat → Int64) (k : Nat) (hk : k ≤ 30) (a0 : Int32) (x : Int64) : Met l yX0_demand (ws_ yX0_demand cX0_demand 4 (some .long)) ({ frames := 1, cells := 0, slots := 0, locals := 27 }) (va_Pc [.ref h0, .int a0, .long x] (gP D d (gX h0 hE hS hG d E S G k))) (vp_Sl (fun r => r = q_dem (E, S, G, k) a0 x)) 0 0 (fun _ => False) := by
  refine ww_met (by decide) (Nat.le_of_ble_eq_true rfl) ?_
  intro p e s m below meth c C0 hr hlk hnm hv ls hl
  have C0 : CallFix p m c cX0_demand 4 s _ lw_all RX0 := C0
  obtain ⟨hP, hK⟩ := hv
  have hl : lv_has ls 4 [(0, .ref h0), (1, .int a0), (2, .long x)] := hl
  refine lv_aload_n C0.1 C0.2.1 dX0_demand_0 rfl (lv_at hl 0 rfl) ?_
  refine lv_iload_n C0.1 C0.2.1 dX0_demand_1 rfl (lv_at hl 1 rfl) ?_
  refine go_isGood C0 hl.1 ⟨Nat.le_of_ble_eq_true rfl, Nat.le_of_ble_eq_true rfl, Nat.le_of_ble_eq_true rfl, Nat.le_of_ble_eq_true rfl⟩ (Nat.le_of_ble_eq_true rfl) hK hP dX0_demand_2 ?_
  refine lv_if_ne (tgt := 10) C0.1 C0.2.1 dX0_demand_5 (by decide) (fun c1 => ?_) (fun c1 => ?_)
  · obtain ⟨a, ha, rfl⟩ := gc_gd_of (gc_b1 c1) (by omega)
    refine lv_aload_n C0.1 C0.2.1 dX0_demand_10 rfl (lv_at hl 0 rfl) ?_
    refine xg_S C0 hK hP dX0_demand_11 ?_
    refine lv_iload_n C0.1 C0.2.1 dX0_demand_14 rfl (lv_at hl 1 rfl) ?_
    refine ww_lald C0 hK hP 2 0 rfl rfl (j := a) rfl (by omega) (by decide) dX0_demand_15 ?_
    refine lv_aload_n C0.1 C0.2.1 dX0_demand_16 rfl (lv_at hl 0 rfl) ?_
    refine lv_iload_n C0.1 C0.2.1 dX0_demand_17 rfl (lv_at hl 1 rfl) ?_
    refine lv_lload_n C0.1 C0.2.1 dX0_demand_18 rfl (lv_at hl 2 rfl) ?_
    refine go_weakOf C0 hl.1 ⟨Nat.le_of_ble_eq_true rfl, Nat.le_of_ble_eq_true rfl, Nat.le_of_ble_eq_true rfl, Nat.le_of_ble_eq_true rfl⟩ (Nat.le_of_ble_eq_true rfl) hK hP (a := a) (by omega) dX0_demand_19 ?_
    refine lv_land C0.1 C0.2.1 dX0_demand_22 ?_
    exact ww_lret C0 hr hlk (show ((S a) &&& (gc_wk E a x) : Int64) = q_dem (E, S, G, k) (nI a) x from (q_dem_ok ha hk).symm) dX0_demand_23
  · refine lv_lconst (v := 0) C0.1 C0.2.1 dX0_demand_8 (by decide) ?_
    exact ww_lret C0 hr hlk (show (0 : Int64) = q_dem (E, S, G, k) a0 x from (q_dem_bad (gc_b0.mp c1)).symm) dX0_demand_9
set_option maxHeartbeats 4000000 in
set_option maxRecDepth 100000 in
/-- weakDemand(p, x) -/
theorem mX0_weakDemand (l : Launch) (D : va_G) (h0 hE hS hG : Nat) (d : ClassId) (E S G : Nat → Int64) (k : Nat) (hk : k ≤ 30) (a0 : Int32) (x : Int64) : Met l yX0_weakDemand (ws_ yX0_weakDemand cX0_weakDemand 4 (some .long)) ({ frames := 1, cells := 0, slots := 0, locals := 27 }) (va_Pc [.ref h0, .int a0, .long x] (gP D d (gX h0 hE hS hG d E S G k))) (vp_Sl (fun r => r = q_weak (E, S, G, k) a0 x)) 0 0 (fun _ => False) := by
  refine ww_met (by decide) (Nat.le_of_ble_eq_true rfl) ?_
  intro p e s m below meth c C0 hr hlk hnm hv ls hl
  have C0 : CallFix p m c cX0_weakDemand 4 s _ lw_all RX0 := C0
  obtain ⟨hP, hK⟩ := hv
  have hl : lv_has ls 4 [(0, .ref h0), (1, .int a0), (2, .long x)] := hl
  refine lv_aload_n C0.1 C0.2.1 dX0_weakDemand_0 rfl (lv_at hl 0 rfl) ?_
  refine lv_iload_n C0.1 C0.2.1 dX0_weakDemand_1 rfl (lv_at hl 1 rfl) ?_
  refine go_isGood C0 hl.1 ⟨Nat.le_of_ble_eq_true rfl, Nat.le_of_ble_eq_true rfl, Nat.le_of_ble_eq_true rfl, Nat.le_of_ble_eq_true rfl⟩ (Nat.le_of_ble_eq_true rfl) hK hP dX0_weakDemand_2 ?_
  refine lv_if_eq (tgt := 17) C0.1 C0.2.1 dX0_weakDemand_5 (by decide) (fun c1 => ?_) (fun c1 => ?_)
  · refine lv_lconst (v := 0) C0.1 C0.2.1 dX0_weakDemand_17 (by decide) ?_
    exact ww_lret C0 hr hlk (show (0 : Int64) = q_weak (E, S, G, k) a0 x from (q_weak_bad (gc_b0.mp c1)).symm) dX0_weakDemand_18
  · obtain ⟨a, ha, rfl⟩ := gc_gd_of (gc_b1 c1) (by omega)
    refine lv_aload_n C0.1 C0.2.1 dX0_weakDemand_8 rfl (lv_at hl 0 rfl) ?_
    refine lv_iload_n C0.1 C0.2.1 dX0_weakDemand_9 rfl (lv_at hl 1 rfl) ?_
    refine lv_lload_n C0.1 C0.2.1 dX0_weakDemand_10 rfl (lv_at hl 2 rfl) ?_
    refine go_weakOf C0 hl.1 ⟨Nat.le_of_ble_eq_true rfl, Nat.le_of_ble_eq_true rfl, Nat.le_of_ble_eq_true rfl, Nat.le_of_ble_eq_true rfl⟩ (Nat.le_of_ble_eq_true rfl) hK hP (a := a) (by omega) dX0_weakDemand_11 ?_
    refine lv_goto (tgt := 18) C0.1 C0.2.1 dX0_weakDemand_14 (by decide) ?_
    exact ww_lret C0 hr hlk (show (gc_wk E a x : Int64) = q_weak (E, S, G, k) (nI a) x from (q_weak_ok ha hk).symm) dX0_weakDemand_18
set_option maxHeartbeats 4000000 in
set_option maxRecDepth 100000 in
/-- image(p, x) -/
theorem mX0_image (l : Launch) (D : va_G) (h0 hE hS hG : Nat) (d : ClassId) (E S G : Nat → Int64) (k : Nat) (hk : k ≤ 30) (a0 : Int32) (x : Int64) : Met l yX0_image (ws_ yX0_image cX0_image 4 (some .long)) ({ frames := 2, cells := 0, slots := 0, locals := 48 }) (va_Pc [.ref h0, .int a0, .long x] (gP D d (gX h0 hE hS hG d E S G k))) (vp_Sl (fun r => r = q_img (E, S, G, k) a0 x)) 0 0 (fun _ => False) := by
  refine ww_met (by decide) (Nat.le_of_ble_eq_true rfl) ?_
  intro p e s m below meth c C0 hr hlk hnm hv ls hl
  have C0 : CallFix p m c cX0_image 4 s _ lw_all RX0 := C0
  obtain ⟨hP, hK⟩ := hv
  have hl : lv_has ls 4 [(0, .ref h0), (1, .int a0), (2, .long x)] := hl
  refine lv_aload_n C0.1 C0.2.1 dX0_image_0 rfl (lv_at hl 0 rfl) ?_
  refine lv_iload_n C0.1 C0.2.1 dX0_image_1 rfl (lv_at hl 1 rfl) ?_
  refine go_isGood C0 hl.1 ⟨Nat.le_of_ble_eq_true rfl, Nat.le_of_ble_eq_true rfl, Nat.le_of_ble_eq_true rfl, Nat.le_of_ble_eq_true rfl⟩ (Nat.le_of_ble_eq_true rfl) hK hP dX0_image_2 ?_
  refine lv_if_eq (tgt := 17) C0.1 C0.2.1 dX0_image_5 (by decide) (fun c1 => ?_) (fun c1 => ?_)
  · refine lv_lconst (v := 0) C0.1 C0.2.1 dX0_image_17 (by decide) ?_
    exact ww_lret C0 hr hlk (show (0 : Int64) = q_img (E, S, G, k) a0 x from (q_img_bad (gc_b0.mp c1)).symm) dX0_image_18
  · obtain ⟨a, ha, rfl⟩ := gc_gd_of (gc_b1 c1) (by omega)
    refine lv_aload_n C0.1 C0.2.1 dX0_image_8 rfl (lv_at hl 0 rfl) ?_
    refine lv_iload_n C0.1 C0.2.1 dX0_image_9 rfl (lv_at hl 1 rfl) ?_
    refine lv_lload_n C0.1 C0.2.1 dX0_image_10 rfl (lv_at hl 2 rfl) ?_
    refine go_imageOf C0 hl.1 ⟨Nat.le_of_ble_eq_true rfl, Nat.le_of_ble_eq_true rfl, Nat.le_of_ble_eq_true rfl, Nat.le_of_ble_eq_true rfl⟩ (Nat.le_of_ble_eq_true rfl) hK hP (a := a) (by omega) dX0_image_11 ?_
    refine lv_goto (tgt := 18) C0.1 C0.2.1 dX0_image_14 (by decide) ?_
    exact ww_lret C0 hr hlk (show (gc_img E a x : Int64) = q_img (E, S, G, k) (nI a) x from (q_img_ok ha hk).symm) dX0_image_18
set_option maxHeartbeats 4000000 in
set_option maxRecDepth 100000 in
/-- refines(a, b) -/
theorem mX0_refines (l : Launch) (D : va_G) (h0 hE hS hG : Nat) (d : ClassId) (E S G : Nat → Int64) (k : Nat) (hk : k ≤ 30) (a0 b0 : Int32) : Met l yX0_refines (ws_ yX0_refines cX0_refines 6 (some .int)) ({ frames := 1, cells := 0, slots := 0, locals := 22 }) (va_Pc [.ref h0, .int a0, .int b0] (gP D d (gX h0 hE hS hG d E S G k))) (vp_Si (fun r => r = q_ref (E, S, G, k) a0 b0)) 0 0 (fun _ => False) := by
  refine ww_met (by decide) (Nat.le_of_ble_eq_true rfl) ?_
  intro p e s m below meth c C0 hr hlk hnm hv ls hl
  have C0 : CallFix p m c cX0_refines 6 s _ lw_all RX0 := C0
  obtain ⟨hP, hK⟩ := hv
  have hl : lv_has ls 6 [(0, .ref h0), (1, .int a0), (2, .int b0)] := hl
  refine lv_aload_n C0.1 C0.2.1 dX0_refines_0 rfl (lv_at hl 0 rfl) ?_
  refine lv_iload_n C0.1 C0.2.1 dX0_refines_1 rfl (lv_at hl 1 rfl) ?_
  refine go_isGood C0 hl.1 ⟨Nat.le_of_ble_eq_true rfl, Nat.le_of_ble_eq_true rfl, Nat.le_of_ble_eq_true rfl, Nat.le_of_ble_eq_true rfl⟩ (Nat.le_of_ble_eq_true rfl) hK hP dX0_refines_2 ?_
  refine lv_if_eq (tgt := 16) C0.1 C0.2.1 dX0_refines_5 (by decide) (fun c1 => ?_) (fun c1 => ?_)
  · refine lv_iconst (v := -1) C0.1 C0.2.1 dX0_refines_16 (by decide) ?_
    exact ww_iret C0 hr hlk (show (-1 : Int32) = q_ref (E, S, G, k) a0 b0 from (q_ref_bad (fun q => (gc_b0.mp c1) q.1)).symm) dX0_refines_17
  · refine lv_aload_n C0.1 C0.2.1 dX0_refines_8 rfl (lv_at hl 0 rfl) ?_
    refine lv_iload_n C0.1 C0.2.1 dX0_refines_9 rfl (lv_at hl 2 rfl) ?_
    refine go_isGood C0 hl.1 ⟨Nat.le_of_ble_eq_true rfl, Nat.le_of_ble_eq_true rfl, Nat.le_of_ble_eq_true rfl, Nat.le_of_ble_eq_true rfl⟩ (Nat.le_of_ble_eq_true rfl) hK hP dX0_refines_10 ?_
    refine lv_if_ne (tgt := 18) C0.1 C0.2.1 dX0_refines_13 (by decide) (fun c2 => ?_) (fun c2 => ?_)
    · obtain ⟨a, ha, rfl⟩ := gc_gd_of (gc_b1 c1) (by omega)
      obtain ⟨b, hb, rfl⟩ := gc_gd_of (gc_b1 c2) (by omega)
      rw [show q_ref (E, S, G, k) (nI a) (nI b) = _ from q_ref_ok ha hb hk]
      refine lv_iconst (v := 0) C0.1 C0.2.1 dX0_refines_18 (by decide) ?_
      refine lv_istore_n (lv' := [(3, .int 0), (0, .ref h0), (1, .int (nI a)), (2, .int (nI b))]) C0.1 C0.2.1 dX0_refines_19 rfl hl (by decide) rfl (fun ls hl => ?_)
      refine ww_for (nL := 6) 64 (fun i => gc_all (gc_rf E S a b) i = true) (fun i => [(0, .ref h0), (1, .int (nI a)), (2, .int (nI b)), (3, .int (nI i))]) rfl (lv_sub hl [1, 2, 3, 0] rfl) ?_
      intro i hi hI ih ls hl
      have hl : lv_has ls 6 [(0, .ref h0), (1, .int (nI a)), (2, .int (nI b)), (3, .int (nI i))] := hl
      refine lv_iload_n C0.1 C0.2.1 dX0_refines_20 rfl (lv_at hl 3 rfl) ?_
      refine lv_bipush (v := nI 64) C0.1 C0.2.1 dX0_refines_21 (by decide) ?_
      refine lv_icmp_ge (tgt := 96) C0.1 C0.2.1 dX0_refines_23 (by decide) (fun c3 => ?_) (fun c3 => ?_)
      · have e : i = 64 := ww_eq hi (by decide) c3
        subst e
        refine lv_iconst (v := 1) C0.1 C0.2.1 dX0_refines_96 (by decide) ?_
        exact ww_iret C0 hr hlk (show 1 = (if gc_all (gc_rf E S a b) 64 then 1 else 0) from (if_pos hI).symm) dX0_refines_97
      · have lt : i < 64 := ww_lt hi (by decide) c3
        refine lv_aload_n C0.1 C0.2.1 dX0_refines_26 rfl (lv_at hl 0 rfl) ?_
        refine xg_S C0 hK hP dX0_refines_27 ?_
        refine lv_iload_n C0.1 C0.2.1 dX0_refines_30 rfl (lv_at hl 1 rfl) ?_
        refine ww_lald C0 hK hP 2 0 rfl rfl (j := a) rfl (by omega) (by decide) dX0_refines_31 ?_
        refine lv_iload_n C0.1 C0.2.1 dX0_refines_32 rfl (lv_at hl 3 rfl) ?_
        refine go_has C0 hl.1 ⟨Nat.le_of_ble_eq_true rfl, Nat.le_of_ble_eq_true rfl, Nat.le_of_ble_eq_true rfl, Nat.le_of_ble_eq_true rfl⟩ (Nat.le_of_ble_eq_true rfl) (j := i) (by omega) dX0_refines_33 ?_
        refine lv_if_eq (tgt := 90) C0.1 C0.2.1 dX0_refines_36 (by decide) (fun c4 => ?_) (fun c4 => ?_)
        · have hn : gc_rf E S a b i = true := by unfold gc_rf; rw [Bool.eq_false_iff.mpr (gc_b0.mp c4)]; rfl
          refine lv_iinc (v := nI (i + 1)) (lv' := [(3, .int (nI (i + 1))), (0, .ref h0), (1, .int (nI a)), (2, .int (nI b))]) C0.1 C0.2.1 dX0_refines_90 hl (k := 3) rfl (ww_inc i) (by decide) rfl (fun ls hl => ?_)
          refine lv_goto (tgt := 20) C0.1 C0.2.1 dX0_refines_93 (by decide) ?_
          exact ih lt (gc_all_s hI hn) ls (lv_sub hl [1, 2, 3, 0] rfl)
        · refine lv_aload_n C0.1 C0.2.1 dX0_refines_39 rfl (lv_at hl 0 rfl) ?_
          refine xg_E C0 hK hP dX0_refines_40 ?_
          refine lv_bipush (v := nI 64) C0.1 C0.2.1 dX0_refines_43 (by decide) ?_
          refine lv_iload_n C0.1 C0.2.1 dX0_refines_45 rfl (lv_at hl 2 rfl) ?_
          refine lv_imul C0.1 C0.2.1 dX0_refines_46 ?_
          refine lv_iload_n C0.1 C0.2.1 dX0_refines_47 rfl (lv_at hl 3 rfl) ?_
          refine lv_iadd C0.1 C0.2.1 dX0_refines_48 ?_
          refine ww_lald C0 hK hP 1 0 rfl rfl (j := 64 * b + i) (gc_ix b i) (by omega) (by decide) dX0_refines_49 ?_
          refine lv_aload_n C0.1 C0.2.1 dX0_refines_50 rfl (lv_at hl 0 rfl) ?_
          refine xg_E C0 hK hP dX0_refines_51 ?_
          refine lv_bipush (v := nI 64) C0.1 C0.2.1 dX0_refines_54 (by decide) ?_
          refine lv_iload_n C0.1 C0.2.1 dX0_refines_56 rfl (lv_at hl 1 rfl) ?_
          refine lv_imul C0.1 C0.2.1 dX0_refines_57 ?_
          refine lv_iload_n C0.1 C0.2.1 dX0_refines_58 rfl (lv_at hl 3 rfl) ?_
          refine lv_iadd C0.1 C0.2.1 dX0_refines_59 ?_
          refine ww_lald C0 hK hP 1 0 rfl rfl (j := 64 * a + i) (gc_ix a i) (by omega) (by decide) dX0_refines_60 ?_
          refine lv_ldc2 (v := -1) C0.1 C0.2.1 C0.2.2.2.1 (C0.2.2.2.2 _ q64) dX0_refines_61 ?_
          refine lv_lxor C0.1 C0.2.1 dX0_refines_64 ?_
          refine lv_land C0.1 C0.2.1 dX0_refines_65 ?_
          refine lv_lstore (lv' := [(4, .long ((E (64 * b + i)) &&& ((E (64 * a + i)) ^^^ (-1)))), (0, .ref h0), (1, .int (nI a)), (2, .int (nI b)), (3, .int (nI i))]) C0.1 C0.2.1 dX0_refines_66 hl (by decide) rfl (fun ls hl => ?_)
          refine lv_aload_n C0.1 C0.2.1 dX0_refines_68 rfl (lv_at hl 1 rfl) ?_
          refine xg_S C0 hK hP dX0_refines_69 ?_
          refine lv_iload_n C0.1 C0.2.1 dX0_refines_72 rfl (lv_at hl 3 rfl) ?_
          refine ww_lald C0 hK hP 2 0 rfl rfl (j := b) rfl (by omega) (by decide) dX0_refines_73 ?_
          refine lv_iload_n C0.1 C0.2.1 dX0_refines_74 rfl (lv_at hl 4 rfl) ?_
          refine go_has C0 hl.1 ⟨Nat.le_of_ble_eq_true rfl, Nat.le_of_ble_eq_true rfl, Nat.le_of_ble_eq_true rfl, Nat.le_of_ble_eq_true rfl⟩ (Nat.le_of_ble_eq_true rfl) (j := i) (by omega) dX0_refines_75 ?_
          refine lv_if_eq (tgt := 88) C0.1 C0.2.1 dX0_refines_78 (by decide) (fun c5 => ?_) (fun c5 => ?_)
          · have hn : gc_rf E S a b i = false := by unfold gc_rf; rw [gc_b1 c4, Bool.eq_false_iff.mpr (gc_b0.mp c5)]; rfl
            refine lv_iconst (v := 0) C0.1 C0.2.1 dX0_refines_88 (by decide) ?_
            exact ww_iret C0 hr hlk (show 0 = (if gc_all (gc_rf E S a b) 64 then 1 else 0) from (if_neg (by rw [gc_all_f hn 64 lt]; decide)).symm) dX0_refines_89
          · have hz := lg_cmp_eq (E (64 * b + i) &&& (E (64 * a + i) ^^^ (-1))) 0
            refine lv_lload C0.1 C0.2.1 dX0_refines_81 (lv_at hl 0 rfl) ?_
            refine lv_lconst (v := 0) C0.1 C0.2.1 dX0_refines_83 (by decide) ?_
            refine W.lcmp C0.1 C0.2.1 dX0_refines_84 ?_
            refine lv_if_eq (tgt := 90) C0.1 C0.2.1 dX0_refines_85 (by decide) (fun c6 => ?_) (fun c6 => ?_)
            · have hn : gc_rf E S a b i = true := by unfold gc_rf; rw [gc_b1 c5, decide_eq_true (hz.mp c6)]; simp
              refine lv_iinc (v := nI (i + 1)) (lv' := [(3, .int (nI (i + 1))), (4, .long ((E (64 * b + i)) &&& ((E (64 * a + i)) ^^^ (-1)))), (0, .ref h0), (1, .int (nI a)), (2, .int (nI b))]) C0.1 C0.2.1 dX0_refines_90 hl (k := 4) rfl (ww_inc i) (by decide) rfl (fun ls hl => ?_)
              refine lv_goto (tgt := 20) C0.1 C0.2.1 dX0_refines_93 (by decide) ?_
              exact ih lt (gc_all_s hI hn) ls (lv_sub hl [2, 3, 4, 0] rfl)
            · have hn : gc_rf E S a b i = false := by unfold gc_rf; rw [gc_b1 c4, decide_eq_false (fun q => c6 (hz.mpr q))]; simp
              refine lv_iconst (v := 0) C0.1 C0.2.1 dX0_refines_88 (by decide) ?_
              exact ww_iret C0 hr hlk (show 0 = (if gc_all (gc_rf E S a b) 64 then 1 else 0) from (if_neg (by rw [gc_all_f hn 64 lt]; decide)).symm) dX0_refines_89
    · refine lv_iconst (v := -1) C0.1 C0.2.1 dX0_refines_16 (by decide) ?_
      exact ww_iret C0 hr hlk (show (-1 : Int32) = q_ref (E, S, G, k) a0 b0 from (q_ref_bad (fun q => (gc_b0.mp c2) q.2)).symm) dX0_refines_17
set_option maxHeartbeats 4000000 in
set_option maxRecDepth 100000 in
/-- settled(p) -/
theorem mX0_settled (l : Launch) (D : va_G) (h0 hE hS hG : Nat) (d : ClassId) (E S G : Nat → Int64) (k : Nat) (hk : k ≤ 30) (hok : ∀ p, p < k → ∀ s, s < 64 → gb (S p) s = true → E (64 * p + s) ≠ 0) (a0 : Int32) : Met l yX0_settled (ws_ yX0_settled cX0_settled 5 (some .int)) ({ frames := 1, cells := 0, slots := 0, locals := 22 }) (va_Pc [.ref h0, .int a0] (gP D d (gX h0 hE hS hG d E S G k))) (vp_Si (fun r => r = q_set (E, S, G, k) a0)) 0 0 (fun _ => False) := by
  refine ww_met (by decide) (Nat.le_of_ble_eq_true rfl) ?_
  intro p e s m below meth c C0 hr hlk hnm hv ls hl
  have C0 : CallFix p m c cX0_settled 5 s _ lw_all RX0 := C0
  obtain ⟨hP, hK⟩ := hv
  have hl : lv_has ls 5 [(0, .ref h0), (1, .int a0)] := hl
  refine lv_aload_n C0.1 C0.2.1 dX0_settled_0 rfl (lv_at hl 0 rfl) ?_
  refine lv_iload_n C0.1 C0.2.1 dX0_settled_1 rfl (lv_at hl 1 rfl) ?_
  refine go_isGood C0 hl.1 ⟨Nat.le_of_ble_eq_true rfl, Nat.le_of_ble_eq_true rfl, Nat.le_of_ble_eq_true rfl, Nat.le_of_ble_eq_true rfl⟩ (Nat.le_of_ble_eq_true rfl) hK hP dX0_settled_2 ?_
  refine lv_if_ne (tgt := 10) C0.1 C0.2.1 dX0_settled_5 (by decide) (fun c1 => ?_) (fun c1 => ?_)
  · obtain ⟨a, ha, rfl⟩ := gc_gd_of (gc_b1 c1) (by omega)
    rw [show q_set (E, S, G, k) (nI a) = _ from q_set_ok ha hk]
    refine lv_iconst (v := 0) C0.1 C0.2.1 dX0_settled_10 (by decide) ?_
    refine lv_istore_n (lv' := [(2, .int 0), (0, .ref h0), (1, .int (nI a))]) C0.1 C0.2.1 dX0_settled_11 rfl hl (by decide) rfl (fun ls hl => ?_)
    refine ww_for (nL := 5) 64 (fun i => gc_all (gc_se E S a) i = true) (fun i => [(0, .ref h0), (1, .int (nI a)), (2, .int (nI i))]) rfl (lv_sub hl [1, 2, 0] rfl) ?_
    intro i hi hI ih ls hl
    have hl : lv_has ls 5 [(0, .ref h0), (1, .int (nI a)), (2, .int (nI i))] := hl
    refine lv_iload_n C0.1 C0.2.1 dX0_settled_12 rfl (lv_at hl 2 rfl) ?_
    refine lv_bipush (v := nI 64) C0.1 C0.2.1 dX0_settled_13 (by decide) ?_
    refine lv_icmp_ge (tgt := 61) C0.1 C0.2.1 dX0_settled_15 (by decide) (fun c3 => ?_) (fun c3 => ?_)
    · have e : i = 64 := ww_eq hi (by decide) c3
      subst e
      refine lv_iconst (v := 1) C0.1 C0.2.1 dX0_settled_61 (by decide) ?_
      exact ww_iret C0 hr hlk (show 1 = (if gc_all (gc_se E S a) 64 then 1 else 0) from (if_pos hI).symm) dX0_settled_62
    · have lt : i < 64 := ww_lt hi (by decide) c3
      refine lv_aload_n C0.1 C0.2.1 dX0_settled_18 rfl (lv_at hl 0 rfl) ?_
      refine xg_E C0 hK hP dX0_settled_19 ?_
      refine lv_bipush (v := nI 64) C0.1 C0.2.1 dX0_settled_22 (by decide) ?_
      refine lv_iload_n C0.1 C0.2.1 dX0_settled_24 rfl (lv_at hl 1 rfl) ?_
      refine lv_imul C0.1 C0.2.1 dX0_settled_25 ?_
      refine lv_iload_n C0.1 C0.2.1 dX0_settled_26 rfl (lv_at hl 2 rfl) ?_
      refine lv_iadd C0.1 C0.2.1 dX0_settled_27 ?_
      refine ww_lald C0 hK hP 1 0 rfl rfl (j := 64 * a + i) (gc_ix a i) (by omega) (by decide) dX0_settled_28 ?_
      refine lv_lstore_n (lv' := [(3, .long (E (64 * a + i))), (0, .ref h0), (1, .int (nI a)), (2, .int (nI i))]) C0.1 C0.2.1 dX0_settled_29 rfl hl (by decide) rfl (fun ls hl => ?_)
      refine lv_aload_n C0.1 C0.2.1 dX0_settled_30 rfl (lv_at hl 1 rfl) ?_
      refine xg_S C0 hK hP dX0_settled_31 ?_
      refine lv_iload_n C0.1 C0.2.1 dX0_settled_34 rfl (lv_at hl 2 rfl) ?_
      refine ww_lald C0 hK hP 2 0 rfl rfl (j := a) rfl (by omega) (by decide) dX0_settled_35 ?_
      refine lv_iload_n C0.1 C0.2.1 dX0_settled_36 rfl (lv_at hl 3 rfl) ?_
      refine go_has C0 hl.1 ⟨Nat.le_of_ble_eq_true rfl, Nat.le_of_ble_eq_true rfl, Nat.le_of_ble_eq_true rfl, Nat.le_of_ble_eq_true rfl⟩ (Nat.le_of_ble_eq_true rfl) (j := i) (by omega) dX0_settled_37 ?_
      refine lv_if_eq (tgt := 55) C0.1 C0.2.1 dX0_settled_40 (by decide) (fun c4 => ?_) (fun c4 => ?_)
      · have hn : gc_se E S a i = true := by unfold gc_se; rw [Bool.eq_false_iff.mpr (gc_b0.mp c4)]; rfl
        refine lv_iinc (v := nI (i + 1)) (lv' := [(2, .int (nI (i + 1))), (3, .long (E (64 * a + i))), (0, .ref h0), (1, .int (nI a))]) C0.1 C0.2.1 dX0_settled_55 hl (k := 3) rfl (ww_inc i) (by decide) rfl (fun ls hl => ?_)
        refine lv_goto (tgt := 12) C0.1 C0.2.1 dX0_settled_58 (by decide) ?_
        exact ih lt (gc_all_s hI hn) ls (lv_sub hl [2, 3, 0] rfl)
      · have h1 := gc_single (hok a ha i lt (gc_b1 c4))
        have hz := lg_cmp_eq (E (64 * a + i) &&& (E (64 * a + i) - 1)) 0
        refine lv_lload_n C0.1 C0.2.1 dX0_settled_43 rfl (lv_at hl 0 rfl) ?_
        refine lv_lload_n C0.1 C0.2.1 dX0_settled_44 rfl (lv_at hl 0 rfl) ?_
        refine lv_lconst (v := 1) C0.1 C0.2.1 dX0_settled_45 (by decide) ?_
        refine lv_lsub C0.1 C0.2.1 dX0_settled_46 ?_
        refine lv_land C0.1 C0.2.1 dX0_settled_47 ?_
        refine lv_lconst (v := 0) C0.1 C0.2.1 dX0_settled_48 (by decide) ?_
        refine W.lcmp C0.1 C0.2.1 dX0_settled_49 ?_
        refine lv_if_eq (tgt := 55) C0.1 C0.2.1 dX0_settled_50 (by decide) (fun c6 => ?_) (fun c6 => ?_)
        · have hn : gc_se E S a i = true := by unfold gc_se; rw [decide_eq_true (h1.mp (hz.mp c6))]; simp
          refine lv_iinc (v := nI (i + 1)) (lv' := [(2, .int (nI (i + 1))), (3, .long (E (64 * a + i))), (0, .ref h0), (1, .int (nI a))]) C0.1 C0.2.1 dX0_settled_55 hl (k := 3) rfl (ww_inc i) (by decide) rfl (fun ls hl => ?_)
          refine lv_goto (tgt := 12) C0.1 C0.2.1 dX0_settled_58 (by decide) ?_
          exact ih lt (gc_all_s hI hn) ls (lv_sub hl [2, 3, 0] rfl)
        · have hn : gc_se E S a i = false := by unfold gc_se; rw [gc_b1 c4, decide_eq_false (fun q => c6 (hz.mpr (h1.mpr q)))]; rfl
          refine lv_iconst (v := 0) C0.1 C0.2.1 dX0_settled_53 (by decide) ?_
          exact ww_iret C0 hr hlk (show 0 = (if gc_all (gc_se E S a) 64 then 1 else 0) from (if_neg (by rw [gc_all_f hn 64 lt]; decide)).symm) dX0_settled_54
  · refine lv_iconst (v := -1) C0.1 C0.2.1 dX0_settled_8 (by decide) ?_
    exact ww_iret C0 hr hlk (show (-1 : Int32) = q_set (E, S, G, k) a0 from (q_set_bad (gc_b0.mp c1)).symm) dX0_settled_9
set_option maxHeartbeats 4000000 in
set_option maxRecDepth 100000 in
/-- widest(p) -/
theorem mX0_widest (l : Launch) (D : va_G) (h0 hE hS hG : Nat) (d : ClassId) (E S G : Nat → Int64) (k : Nat) (hk : k ≤ 30) (a0 : Int32) : Met l yX0_widest (ws_ yX0_widest cX0_widest 5 (some .int)) ({ frames := 1, cells := 0, slots := 0, locals := 23 }) (va_Pc [.ref h0, .int a0] (gP D d (gX h0 hE hS hG d E S G k))) (vp_Si (fun r => r = q_wid (E, S, G, k) a0)) 0 0 (fun _ => False) := by
  refine ww_met (by decide) (Nat.le_of_ble_eq_true rfl) ?_
  intro p e s m below meth c C0 hr hlk hnm hv ls hl
  have C0 : CallFix p m c cX0_widest 5 s _ lw_all RX0 := C0
  obtain ⟨hP, hK⟩ := hv
  have hl : lv_has ls 5 [(0, .ref h0), (1, .int a0)] := hl
  refine lv_aload_n C0.1 C0.2.1 dX0_widest_0 rfl (lv_at hl 0 rfl) ?_
  refine lv_iload_n C0.1 C0.2.1 dX0_widest_1 rfl (lv_at hl 1 rfl) ?_
  refine go_isGood C0 hl.1 ⟨Nat.le_of_ble_eq_true rfl, Nat.le_of_ble_eq_true rfl, Nat.le_of_ble_eq_true rfl, Nat.le_of_ble_eq_true rfl⟩ (Nat.le_of_ble_eq_true rfl) hK hP dX0_widest_2 ?_
  refine lv_if_ne (tgt := 10) C0.1 C0.2.1 dX0_widest_5 (by decide) (fun c1 => ?_) (fun c1 => ?_)
  · obtain ⟨a, ha, rfl⟩ := gc_gd_of (gc_b1 c1) (by omega)
    rw [show q_wid (E, S, G, k) (nI a) = _ from q_wid_ok ha hk]
    refine lv_iconst (v := 0) C0.1 C0.2.1 dX0_widest_10 (by decide) ?_
    refine lv_istore_n (lv' := [(2, .int 0), (0, .ref h0), (1, .int (nI a))]) C0.1 C0.2.1 dX0_widest_11 rfl hl (by decide) rfl (fun ls hl => ?_)
    refine lv_iconst (v := 0) C0.1 C0.2.1 dX0_widest_12 (by decide) ?_
    refine lv_istore_n (lv' := [(3, .int 0), (2, .int 0), (0, .ref h0), (1, .int (nI a))]) C0.1 C0.2.1 dX0_widest_13 rfl hl (by decide) rfl (fun ls hl => ?_)
    refine ww_for (nL := 5) 64 (fun _ => True) (fun i => [(0, .ref h0), (1, .int (nI a)), (2, .int (nI (gc_wid E a i))), (3, .int (nI i))]) trivial (lv_sub hl [2, 3, 1, 0] rfl) ?_
    intro i hi hI ih ls hl
    have hl : lv_has ls 5 [(0, .ref h0), (1, .int (nI a)), (2, .int (nI (gc_wid E a i))), (3, .int (nI i))] := hl
    refine lv_iload_n C0.1 C0.2.1 dX0_widest_14 rfl (lv_at hl 3 rfl) ?_
    refine lv_bipush (v := nI 64) C0.1 C0.2.1 dX0_widest_15 (by decide) ?_
    refine lv_icmp_ge (tgt := 55) C0.1 C0.2.1 dX0_widest_17 (by decide) (fun c3 => ?_) (fun c3 => ?_)
    · have e : i = 64 := ww_eq hi (by decide) c3
      subst e
      refine lv_iload_n C0.1 C0.2.1 dX0_widest_55 rfl (lv_at hl 2 rfl) ?_
      exact ww_iret C0 hr hlk rfl dX0_widest_56
    · have lt : i < 64 := ww_lt hi (by decide) c3
      have h1 := gc_wid_le E a i
      have h2 := gc_ct_le (E (64 * a + i)) 64
      refine lv_aload_n C0.1 C0.2.1 dX0_widest_20 rfl (lv_at hl 0 rfl) ?_
      refine xg_E C0 hK hP dX0_widest_21 ?_
      refine lv_bipush (v := nI 64) C0.1 C0.2.1 dX0_widest_24 (by decide) ?_
      refine lv_iload_n C0.1 C0.2.1 dX0_widest_26 rfl (lv_at hl 1 rfl) ?_
      refine lv_imul C0.1 C0.2.1 dX0_widest_27 ?_
      refine lv_iload_n C0.1 C0.2.1 dX0_widest_28 rfl (lv_at hl 3 rfl) ?_
      refine lv_iadd C0.1 C0.2.1 dX0_widest_29 ?_
      refine ww_lald C0 hK hP 1 0 rfl rfl (j := 64 * a + i) (gc_ix a i) (by omega) (by decide) dX0_widest_30 ?_
      refine go_ones C0 hl.1 ⟨Nat.le_of_ble_eq_true rfl, Nat.le_of_ble_eq_true rfl, Nat.le_of_ble_eq_true rfl, Nat.le_of_ble_eq_true rfl⟩ (Nat.le_of_ble_eq_true rfl) dX0_widest_31 ?_
      refine lv_istore (lv' := [(4, .int (nI (gc_ct (E (64 * a + i)) 64))), (0, .ref h0), (1, .int (nI a)), (2, .int (nI (gc_wid E a i))), (3, .int (nI i))]) C0.1 C0.2.1 dX0_widest_34 hl (by decide) rfl (fun ls hl => ?_)
      refine lv_iload C0.1 C0.2.1 dX0_widest_36 (lv_at hl 0 rfl) ?_
      refine lv_iload_n C0.1 C0.2.1 dX0_widest_38 rfl (lv_at hl 3 rfl) ?_
      refine lv_icmp_le (tgt := 47) C0.1 C0.2.1 dX0_widest_39 (by decide) (fun c4 => ?_) (fun c4 => ?_)
      · refine lv_iload_n C0.1 C0.2.1 dX0_widest_47 rfl (lv_at hl 3 rfl) ?_
        refine ww_ti (v := nI (gc_wid E a (i + 1))) (by have q := (nI_leI (by omega) (by omega)).mp c4; rw [gc_wid_s, if_neg (by omega)]) ?_
        refine lv_istore_n (lv' := [(2, .int (nI (gc_wid E a (i + 1)))), (4, .int (nI (gc_ct (E (64 * a + i)) 64))), (0, .ref h0), (1, .int (nI a)), (3, .int (nI i))]) C0.1 C0.2.1 dX0_widest_48 rfl hl (by decide) rfl (fun ls hl => ?_)
        refine lv_iinc (v := nI (i + 1)) (lv' := [(3, .int (nI (i + 1))), (2, .int (nI (gc_wid E a (i + 1)))), (4, .int (nI (gc_ct (E (64 * a + i)) 64))), (0, .ref h0), (1, .int (nI a))]) C0.1 C0.2.1 dX0_widest_49 hl (k := 4) rfl (ww_inc i) (by decide) rfl (fun ls hl => ?_)
        refine lv_goto (tgt := 14) C0.1 C0.2.1 dX0_widest_52 (by decide) ?_
        exact ih lt trivial ls (lv_sub hl [3, 4, 1, 0] rfl)
      · refine lv_iload C0.1 C0.2.1 dX0_widest_42 (lv_at hl 0 rfl) ?_
        refine lv_goto (tgt := 48) C0.1 C0.2.1 dX0_widest_44 (by decide) ?_
        refine ww_ti (v := nI (gc_wid E a (i + 1))) (by have q : ¬ gc_ct (E (64 * a + i)) 64 ≤ gc_wid E a i := fun z => c4 (nI_le z (by omega)); rw [gc_wid_s, if_pos (by omega)]) ?_
        refine lv_istore_n (lv' := [(2, .int (nI (gc_wid E a (i + 1)))), (4, .int (nI (gc_ct (E (64 * a + i)) 64))), (0, .ref h0), (1, .int (nI a)), (3, .int (nI i))]) C0.1 C0.2.1 dX0_widest_48 rfl hl (by decide) rfl (fun ls hl => ?_)
        refine lv_iinc (v := nI (i + 1)) (lv' := [(3, .int (nI (i + 1))), (2, .int (nI (gc_wid E a (i + 1)))), (4, .int (nI (gc_ct (E (64 * a + i)) 64))), (0, .ref h0), (1, .int (nI a))]) C0.1 C0.2.1 dX0_widest_49 hl (k := 4) rfl (ww_inc i) (by decide) rfl (fun ls hl => ?_)
        refine lv_goto (tgt := 14) C0.1 C0.2.1 dX0_widest_52 (by decide) ?_
        exact ih lt trivial ls (lv_sub hl [3, 4, 1, 0] rfl)
  · refine lv_iconst (v := -1) C0.1 C0.2.1 dX0_widest_8 (by decide) ?_
    exact ww_iret C0 hr hlk (show (-1 : Int32) = q_wid (E, S, G, k) a0 from (q_wid_bad (gc_b0.mp c1)).symm) dX0_widest_9
end X0Q
end
section
/-! THE REFERENCE: contracts of its helpers -/
set_option maxRecDepth 100000
section X1H
variable {p : Program} {l : Launch} {e : Env} {R : Room} {s : State} {m : MethodId} {args : Array Value} {below : List Frame} {meth : Method} {c : Code} {H : Heap} {locs : List Loc} {cells slots : Nat} {Q : State → Prop} {pc : Nat} {ls : Array Slot} {rest : List Value} {cc : ByteArray} {nL : Nat} {D : va_G} {d : ClassId} {A : Nat → Prop} {H0 : Heap} {h0 hE hS hG : Nat} {E S G : Nat → Int64} {g h : Int64} {k : Nat}
theorem gc_d0 {q : Prop} [Decidable q] : (if q then (0 : Int32) else 1) = 0 ↔ q := by
  by_cases h : q
  · rw [if_pos h]
    exact ⟨fun _ => h, fun _ => rfl⟩
  · rw [if_neg h]
    exact ⟨fun z => absurd z (by decide), fun z => absurd z h⟩
set_option maxHeartbeats 4000000 in
set_option maxRecDepth 100000 in
/-- in(x, j): bit j of x -/
theorem mX1_in (l : Launch) (D : va_G) (h0 hE hS : Nat) (d : ClassId) (E S G : Nat → Int64) (k : Nat) (x : Int64) (j : Nat) (hj : j < 64) : Met l yX1_in (ws_ yX1_in cX1_in 4 (some .boolean)) ({ frames := 0, cells := 0, slots := 0, locals := 0 }) (va_Pc [.ref h0, .long x, .int (nI j)] (gP D d (gM h0 hE hS d E S (G 0) (G 1) k))) (vp_Si (fun r => r = if gb x j then 1 else 0)) 0 0 (fun _ => False) := by
  refine ww_met (by decide) (Nat.le_of_ble_eq_true rfl) ?_
  intro p e s m below meth c C0 hr hlk hnm hv ls hl
  have C0 : CallFix p m c cX1_in 4 s _ lw_all RX1 := C0
  obtain ⟨hP, hK⟩ := hv
  have hl : lv_has ls 4 [(0, .ref h0), (1, .long x), (3, .int (nI j))] := hl
  refine lv_lload_n C0.1 C0.2.1 dX1_in_0 rfl (lv_at hl 1 rfl) ?_
  refine lv_iload_n C0.1 C0.2.1 dX1_in_1 rfl (lv_at hl 2 rfl) ?_
  refine lv_lshr (v := x >>> ((nI j).toInt64 &&& 63)) C0.1 C0.2.1 dX1_in_2 rfl ?_
  refine lv_lconst (v := 1) C0.1 C0.2.1 dX1_in_3 (by decide) ?_
  refine lv_land C0.1 C0.2.1 dX1_in_4 ?_
  refine ww_tl (v := if gb x j then 1 else 0) (gb_in x hj) ?_
  refine lv_lconst (v := 1) C0.1 C0.2.1 dX1_in_5 (by decide) ?_
  refine W.lcmp C0.1 C0.2.1 dX1_in_6 ?_
  refine lv_if_ne (tgt := 14) C0.1 C0.2.1 dX1_in_7 (by decide) (fun cc => ?_) (fun cc => ?_)
  · refine lv_iconst (v := 0) C0.1 C0.2.1 dX1_in_14 (by decide) ?_
    exact ww_zret C0 hr hlk rfl (show (0 : Int32) = if gb x j then 1 else 0 from (if_neg (fun q => cc ((lg_cmp_eq _ _).mpr (gb_one.mpr q)))).symm) dX1_in_15
  · refine lv_iconst (v := 1) C0.1 C0.2.1 dX1_in_10 (by decide) ?_
    refine lv_goto (tgt := 15) C0.1 C0.2.1 dX1_in_11 (by decide) ?_
    exact ww_zret C0 hr hlk rfl (show (1 : Int32) = if gb x j then 1 else 0 from (if_pos (gb_one.mp ((lg_cmp_eq _ _).mp cc))).symm) dX1_in_15
theorem go_in (C0 : CallFix p m c cc nL s args lw_all RX1) (hsz : ls.size = nL) (hR : 1 ≤ R.frames ∧ 23 ≤ R.locals ∧ cells ≤ R.cells ∧ slots ≤ R.slots) (hrm : (rest.map fun v => v.category).sum ≤ 8) (hK : va_K D vwCl [(d, .long)] s) (hP : va_P D vwCl (gM h0 hE hS d E S (G 0) (G 1) k) H) {x : Int64} {j : Nat} (hj : j < 64) (hdg : decode cc pc = .ok (.invokevirtual 16, 3)) (kk : W p l e R s m args below meth c H locs cells slots Q (F0 m (pc + 3) ls (.int (if gb x j then 1 else 0) :: rest))) : W p l e R s m args below meth c H locs cells slots Q (F0 m pc ls (.int (nI j) :: .long x :: .ref h0 :: rest)) :=
  ww_callI C0 hK hP rfl (mX1_in l D h0 hE hS d E S G k x j hj) (cwV 2 C0.2.2.2.2 (lw_V q190 q192 qs9 q23 q193) rfl rfl rfl (by decide +kernel) ⟨hR.1, hR.2.1⟩) rfl rfl hsz hrm hR.2.2 hdg (fun r hr => by rw [hr]; exact kk)
set_option maxHeartbeats 4000000 in
set_option maxRecDepth 100000 in
/-- size(x): how many bits -/
theorem mX1_size (l : Launch) (D : va_G) (h0 hE hS : Nat) (d : ClassId) (E S G : Nat → Int64) (k : Nat) (x : Int64) : Met l yX1_size (ws_ yX1_size cX1_size 5 (some .int)) ({ frames := 1, cells := 0, slots := 0, locals := 23 }) (va_Pc [.ref h0, .long x] (gP D d (gM h0 hE hS d E S (G 0) (G 1) k))) (vp_Si (fun r => r = nI (gc_ct x 64))) 0 0 (fun _ => False) := by
  refine ww_met (by decide) (Nat.le_of_ble_eq_true rfl) ?_
  intro p e s m below meth c C0 hr hlk hnm hv ls hl
  have C0 : CallFix p m c cX1_size 5 s _ lw_all RX1 := C0
  obtain ⟨hP, hK⟩ := hv
  have hl : lv_has ls 5 [(0, .ref h0), (1, .long x)] := hl
  refine lv_iconst (v := 0) C0.1 C0.2.1 dX1_size_0 (by decide) ?_
  refine lv_istore_n (lv' := [(3, .int 0), (0, .ref h0), (1, .long x)]) C0.1 C0.2.1 dX1_size_1 rfl hl (by decide) rfl (fun ls hl => ?_)
  refine lv_iconst (v := 0) C0.1 C0.2.1 dX1_size_2 (by decide) ?_
  refine lv_istore (lv' := [(4, .int 0), (3, .int 0), (0, .ref h0), (1, .long x)]) C0.1 C0.2.1 dX1_size_3 hl (by decide) rfl (fun ls hl => ?_)
  refine ww_for (nL := 5) 64 (fun _ => True) (fun i => [(0, .ref h0), (1, .long x), (3, .int (nI (gc_ct x i))), (4, .int (nI i))]) trivial (lv_sub hl [2, 3, 1, 0] rfl) ?_
  intro i hi hI ih ls hl
  have hl : lv_has ls 5 [(0, .ref h0), (1, .long x), (3, .int (nI (gc_ct x i))), (4, .int (nI i))] := hl
  refine lv_iload C0.1 C0.2.1 dX1_size_5 (lv_at hl 3 rfl) ?_
  refine lv_bipush (v := nI 64) C0.1 C0.2.1 dX1_size_7 (by decide) ?_
  refine lv_icmp_ge (tgt := 31) C0.1 C0.2.1 dX1_size_9 (by decide) (fun cc => ?_) (fun cc => ?_)
  · have e : i = 64 := ww_eq hi (by decide) cc
    subst e
    refine lv_iload_n C0.1 C0.2.1 dX1_size_31 rfl (lv_at hl 2 rfl) ?_
    exact ww_iret C0 hr hlk rfl dX1_size_32
  · have lt : i < 64 := ww_lt hi (by decide) cc
    refine lv_aload_n C0.1 C0.2.1 dX1_size_12 rfl (lv_at hl 0 rfl) ?_
    refine lv_lload_n C0.1 C0.2.1 dX1_size_13 rfl (lv_at hl 1 rfl) ?_
    refine lv_iload C0.1 C0.2.1 dX1_size_14 (lv_at hl 3 rfl) ?_
    refine go_in C0 hl.1 ⟨Nat.le_of_ble_eq_true rfl, Nat.le_of_ble_eq_true rfl, Nat.le_of_ble_eq_true rfl, Nat.le_of_ble_eq_true rfl⟩ (Nat.le_of_ble_eq_true rfl) hK (G := G) hP (j := i) (by omega) dX1_size_16 ?_
    refine lv_if_eq (tgt := 25) C0.1 C0.2.1 dX1_size_19 (by decide) (fun c2 => ?_) (fun c2 => ?_)
    · have ea : gc_ct x i = gc_ct x (i + 1) := by show _ = gc_ct x i + (if gb x i then 1 else 0); rw [if_neg (gc_b0.mp c2)]; rfl
      rw [ea] at hl
      refine lv_iinc (v := nI (i + 1)) (lv' := [(4, .int (nI (i + 1))), (0, .ref h0), (1, .long x), (3, .int (nI (gc_ct x (i + 1))))]) C0.1 C0.2.1 dX1_size_25 hl (k := 3) rfl (ww_inc i) (by decide) rfl (fun ls hl => ?_)
      refine lv_goto (tgt := 5) C0.1 C0.2.1 dX1_size_28 (by decide) ?_
      exact ih lt trivial ls (lv_sub hl [1, 2, 3, 0] rfl)
    · refine lv_iinc (v := nI (gc_ct x (i + 1))) (lv' := [(3, .int (nI (gc_ct x (i + 1)))), (0, .ref h0), (1, .long x), (4, .int (nI i))]) C0.1 C0.2.1 dX1_size_22 hl (k := 2) rfl (by rw [ww_inc]; show _ = nI (gc_ct x i + (if gb x i then 1 else 0)); rw [if_pos (gc_b1 c2)]) (by decide) rfl (fun ls hl => ?_)
      refine lv_iinc (v := nI (i + 1)) (lv' := [(4, .int (nI (i + 1))), (3, .int (nI (gc_ct x (i + 1)))), (0, .ref h0), (1, .long x)]) C0.1 C0.2.1 dX1_size_25 hl (k := 3) rfl (ww_inc i) (by decide) rfl (fun ls hl => ?_)
      refine lv_goto (tgt := 5) C0.1 C0.2.1 dX1_size_28 (by decide) ?_
      exact ih lt trivial ls (lv_sub hl [2, 3, 1, 0] rfl)
theorem go_size (C0 : CallFix p m c cc nL s args lw_all RX1) (hsz : ls.size = nL) (hR : 2 ≤ R.frames ∧ 47 ≤ R.locals ∧ cells ≤ R.cells ∧ slots ≤ R.slots) (hrm : (rest.map fun v => v.category).sum ≤ 8) (hK : va_K D vwCl [(d, .long)] s) (hP : va_P D vwCl (gM h0 hE hS d E S (G 0) (G 1) k) H) {x : Int64} (hdg : decode cc pc = .ok (.invokevirtual 27, 3)) (kk : W p l e R s m args below meth c H locs cells slots Q (F0 m (pc + 3) ls (.int (nI (gc_ct x 64)) :: rest))) : W p l e R s m args below meth c H locs cells slots Q (F0 m pc ls (.long x :: .ref h0 :: rest)) :=
  ww_callI C0 hK hP rfl (mX1_size l D h0 hE hS d E S G k x) (cwV 1 C0.2.2.2.2 (lw_V q186 q188 qs8 q23 q189) rfl rfl rfl (by decide +kernel) ⟨hR.1, hR.2.1⟩) rfl rfl hsz hrm hR.2.2 hdg (fun r hr => by rw [hr]; exact kk)
set_option maxHeartbeats 4000000 in
set_option maxRecDepth 100000 in
/-- worth(f, j) -/
theorem mX1_worth (l : Launch) (D : va_G) (h0 hE hS : Nat) (d : ClassId) (E S G : Nat → Int64) (k : Nat) (f j : Nat) (hf : f < 512) (hj : j < 64) : Met l yX1_worth (ws_ yX1_worth cX1_worth 3 (some .int)) ({ frames := 0, cells := 0, slots := 0, locals := 0 }) (va_Pc [.ref h0, .int (nI f), .int (nI j)] (gP D d (gM h0 hE hS d E S (G 0) (G 1) k))) (vp_Si (fun r => r = nI (gc_fv f j))) 0 0 (fun _ => False) := by
  refine ww_met (by decide) (Nat.le_of_ble_eq_true rfl) ?_
  intro p e s m below meth c C0 hr hlk hnm hv ls hl
  have C0 : CallFix p m c cX1_worth 3 s _ lw_all RX1 := C0
  obtain ⟨hP, hK⟩ := hv
  have hl : lv_has ls 3 [(0, .ref h0), (1, .int (nI f)), (2, .int (nI j))] := hl
  refine lv_iload_n C0.1 C0.2.1 dX1_worth_0 rfl (lv_at hl 1 rfl) ?_
  refine lv_bipush (v := nI 64) C0.1 C0.2.1 dX1_worth_1 (by decide) ?_
  refine lv_idiv C0.1 C0.2.1 dX1_worth_3 (by decide) ?_
  refine lv_iload_n C0.1 C0.2.1 dX1_worth_4 rfl (lv_at hl 2 rfl) ?_
  refine lv_bipush (v := nI 8) C0.1 C0.2.1 dX1_worth_5 (by decide) ?_
  refine lv_idiv C0.1 C0.2.1 dX1_worth_7 (by decide) ?_
  refine lv_imul C0.1 C0.2.1 dX1_worth_8 ?_
  refine lv_iload_n C0.1 C0.2.1 dX1_worth_9 rfl (lv_at hl 1 rfl) ?_
  refine lv_bipush (v := nI 8) C0.1 C0.2.1 dX1_worth_10 (by decide) ?_
  refine lv_idiv C0.1 C0.2.1 dX1_worth_12 (by decide) ?_
  refine lv_bipush (v := nI 8) C0.1 C0.2.1 dX1_worth_13 (by decide) ?_
  refine lv_irem C0.1 C0.2.1 dX1_worth_15 (by decide) ?_
  refine lv_iload_n C0.1 C0.2.1 dX1_worth_16 rfl (lv_at hl 2 rfl) ?_
  refine lv_bipush (v := nI 8) C0.1 C0.2.1 dX1_worth_17 (by decide) ?_
  refine lv_irem C0.1 C0.2.1 dX1_worth_19 (by decide) ?_
  refine lv_imul C0.1 C0.2.1 dX1_worth_20 ?_
  refine lv_iadd C0.1 C0.2.1 dX1_worth_21 ?_
  refine lv_iload_n C0.1 C0.2.1 dX1_worth_22 rfl (lv_at hl 1 rfl) ?_
  refine lv_bipush (v := nI 8) C0.1 C0.2.1 dX1_worth_23 (by decide) ?_
  refine lv_irem C0.1 C0.2.1 dX1_worth_25 (by decide) ?_
  refine lv_iadd C0.1 C0.2.1 dX1_worth_26 ?_
  refine lv_bipush (v := nI 8) C0.1 C0.2.1 dX1_worth_27 (by decide) ?_
  refine lv_irem C0.1 C0.2.1 dX1_worth_29 (by decide) ?_
  refine ww_ti (v := nI (gc_fv f j)) (gc_fvM hf hj) ?_
  exact ww_iret C0 hr hlk rfl dX1_worth_30
theorem go_worth (C0 : CallFix p m c cc nL s args lw_all RX1) (hsz : ls.size = nL) (hR : 1 ≤ R.frames ∧ 22 ≤ R.locals ∧ cells ≤ R.cells ∧ slots ≤ R.slots) (hrm : (rest.map fun v => v.category).sum ≤ 8) (hK : va_K D vwCl [(d, .long)] s) (hP : va_P D vwCl (gM h0 hE hS d E S (G 0) (G 1) k) H) {f j : Nat} (hf : f < 512) (hj : j < 64) (hdg : decode cc pc = .ok (.invokevirtual 35, 3)) (kk : W p l e R s m args below meth c H locs cells slots Q (F0 m (pc + 3) ls (.int (nI (gc_fv f j)) :: rest))) : W p l e R s m args below meth c H locs cells slots Q (F0 m pc ls (.int (nI j) :: .int (nI f) :: .ref h0 :: rest)) :=
  ww_callI C0 hK hP rfl (mX1_worth l D h0 hE hS d E S G k f j hf hj) (cwV 2 C0.2.2.2.2 (lw_V q198 q200 qs10 q23 q201) rfl rfl rfl (by decide +kernel) ⟨hR.1, hR.2.1⟩) rfl rfl hsz hrm hR.2.2 hdg (fun r hr => by rw [hr]; exact kk)
set_option maxHeartbeats 4000000 in
set_option maxRecDepth 100000 in
/-- full() -/
theorem mX1_full (l : Launch) (D : va_G) (h0 hE hS : Nat) (d : ClassId) (E S G : Nat → Int64) (k : Nat) (hk : k ≤ 30) : Met l yX1_full (ws_ yX1_full cX1_full 1 (some .boolean)) ({ frames := 0, cells := 0, slots := 0, locals := 0 }) (va_Pc [.ref h0] (gP D d (gM h0 hE hS d E S (G 0) (G 1) k))) (vp_Si (fun r => r = if k = 30 then 1 else 0)) 0 0 (fun _ => False) := by
  refine ww_met (by decide) (Nat.le_of_ble_eq_true rfl) ?_
  intro p e s m below meth c C0 hr hlk hnm hv ls hl
  have C0 : CallFix p m c cX1_full 1 s _ lw_all RX1 := C0
  obtain ⟨hP, hK⟩ := hv
  have hl : lv_has ls 1 [(0, .ref h0)] := hl
  refine lv_aload_n C0.1 C0.2.1 dX1_full_0 rfl (lv_at hl 0 rfl) ?_
  refine mg_k C0 hK hP dX1_full_1 ?_
  refine lv_bipush (v := nI 29) C0.1 C0.2.1 dX1_full_4 (by decide) ?_
  refine lv_icmp_le (tgt := 13) C0.1 C0.2.1 dX1_full_6 (by decide) (fun cc => ?_) (fun cc => ?_)
  · refine lv_iconst (v := 0) C0.1 C0.2.1 dX1_full_13 (by decide) ?_
    exact ww_zret C0 hr hlk rfl (show (0 : Int32) = if k = 30 then 1 else 0 from (if_neg (by have q := (nI_leI (by omega) (by decide)).mp cc; omega)).symm) dX1_full_14
  · refine lv_iconst (v := 1) C0.1 C0.2.1 dX1_full_9 (by decide) ?_
    refine lv_goto (tgt := 14) C0.1 C0.2.1 dX1_full_10 (by decide) ?_
    exact ww_zret C0 hr hlk rfl (show (1 : Int32) = if k = 30 then 1 else 0 from (if_pos (by have q : ¬ k ≤ 29 := fun z => cc (nI_le z (by decide)); omega)).symm) dX1_full_14
theorem go_full (C0 : CallFix p m c cc nL s args lw_all RX1) (hsz : ls.size = nL) (hR : 1 ≤ R.frames ∧ 20 ≤ R.locals ∧ cells ≤ R.cells ∧ slots ≤ R.slots) (hrm : (rest.map fun v => v.category).sum ≤ 8) (hK : va_K D vwCl [(d, .long)] s) (hP : va_P D vwCl (gM h0 hE hS d E S (G 0) (G 1) k) H) (hk : k ≤ 30) (hdg : decode cc pc = .ok (.invokevirtual 45, 3)) (kk : W p l e R s m args below meth c H locs cells slots Q (F0 m (pc + 3) ls (.int (if k = 30 then 1 else 0) :: rest))) : W p l e R s m args below meth c H locs cells slots Q (F0 m pc ls (.ref h0 :: rest)) :=
  ww_callI C0 hK hP rfl (mX1_full l D h0 hE hS d E S G k hk) (cwV 0 C0.2.2.2.2 (lw_V q215 q217 qs12 q23 q218) rfl rfl rfl (by decide +kernel) ⟨hR.1, hR.2.1⟩) rfl rfl hsz hrm hR.2.2 hdg (fun r hr => by rw [hr]; exact kk)
set_option maxHeartbeats 4000000 in
set_option maxRecDepth 100000 in
/-- bad(p) -/
theorem mX1_bad (l : Launch) (D : va_G) (h0 hE hS : Nat) (d : ClassId) (E S G : Nat → Int64) (k : Nat) (hk : k ≤ 30) (p0 : Int32) : Met l yX1_bad (ws_ yX1_bad cX1_bad 2 (some .boolean)) ({ frames := 0, cells := 0, slots := 0, locals := 0 }) (va_Pc [.ref h0, .int p0] (gP D d (gM h0 hE hS d E S (G 0) (G 1) k))) (vp_Si (fun r => r = if gc_gd p0 k then 0 else 1)) 0 0 (fun _ => False) := by
  refine ww_met (by decide) (Nat.le_of_ble_eq_true rfl) ?_
  intro p e s m below meth c C0 hr hlk hnm hv ls hl
  have C0 : CallFix p m c cX1_bad 2 s _ lw_all RX1 := C0
  obtain ⟨hP, hK⟩ := hv
  have hl : lv_has ls 2 [(0, .ref h0), (1, .int p0)] := hl
  refine lv_iload_n C0.1 C0.2.1 dX1_bad_0 rfl (lv_at hl 1 rfl) ?_
  refine lv_if_lt (tgt := 18) C0.1 C0.2.1 dX1_bad_1 (by decide) (fun c1 => ?_) (fun c1 => ?_)
  · refine lv_iconst (v := 1) C0.1 C0.2.1 dX1_bad_18 (by decide) ?_
    refine lv_goto (tgt := 23) C0.1 C0.2.1 dX1_bad_19 (by decide) ?_
    exact ww_zret C0 hr hlk rfl (show (1 : Int32) = if gc_gd p0 k then 0 else 1 from (if_neg (fun q => q.1 c1)).symm) dX1_bad_23
  · refine lv_iload_n C0.1 C0.2.1 dX1_bad_4 rfl (lv_at hl 1 rfl) ?_
    refine lv_aload_n C0.1 C0.2.1 dX1_bad_5 rfl (lv_at hl 0 rfl) ?_
    refine mg_k C0 hK hP dX1_bad_6 ?_
    refine lv_icmp_ge (tgt := 18) C0.1 C0.2.1 dX1_bad_9 (by decide) (fun c2 => ?_) (fun c2 => ?_)
    · refine lv_iconst (v := 1) C0.1 C0.2.1 dX1_bad_18 (by decide) ?_
      refine lv_goto (tgt := 23) C0.1 C0.2.1 dX1_bad_19 (by decide) ?_
      exact ww_zret C0 hr hlk rfl (show (1 : Int32) = if gc_gd p0 k then 0 else 1 from (if_neg (fun q => q.2 c2)).symm) dX1_bad_23
    · refine lv_iload_n C0.1 C0.2.1 dX1_bad_12 rfl (lv_at hl 1 rfl) ?_
      refine lv_bipush (v := nI 29) C0.1 C0.2.1 dX1_bad_13 (by decide) ?_
      refine lv_icmp_le (tgt := 22) C0.1 C0.2.1 dX1_bad_15 (by decide) (fun c3 => ?_) (fun c3 => ?_)
      · refine lv_iconst (v := 0) C0.1 C0.2.1 dX1_bad_22 (by decide) ?_
        exact ww_zret C0 hr hlk rfl (show (0 : Int32) = if gc_gd p0 k then 0 else 1 from (if_pos ⟨c1, c2⟩).symm) dX1_bad_23
      · obtain ⟨j, hj, rfl⟩ := gc_gd_of (k := k) ⟨c1, c2⟩ (by omega)
        exact absurd (nI_le (by omega) (by decide)) c3
theorem go_bad (C0 : CallFix p m c cc nL s args lw_all RX1) (hsz : ls.size = nL) (hR : 1 ≤ R.frames ∧ 21 ≤ R.locals ∧ cells ≤ R.cells ∧ slots ≤ R.slots) (hrm : (rest.map fun v => v.category).sum ≤ 8) (hK : va_K D vwCl [(d, .long)] s) (hP : va_P D vwCl (gM h0 hE hS d E S (G 0) (G 1) k) H) (hk : k ≤ 30) {p0 : Int32} (hdg : decode cc pc = .ok (.invokevirtual 53, 3)) (kk : W p l e R s m args below meth c H locs cells slots Q (F0 m (pc + 3) ls (.int (if gc_gd p0 k then 0 else 1) :: rest))) : W p l e R s m args below meth c H locs cells slots Q (F0 m pc ls (.int p0 :: .ref h0 :: rest)) :=
  ww_callI C0 hK hP rfl (mX1_bad l D h0 hE hS d E S G k hk p0) (cwV 1 C0.2.2.2.2 (lw_V q231 q233 qs13 q23 q234) rfl rfl rfl (by decide +kernel) ⟨hR.1, hR.2.1⟩) rfl rfl hsz hrm hR.2.2 hdg (fun r hr => by rw [hr]; exact kk)
set_option maxHeartbeats 4000000 in
set_option maxRecDepth 100000 in
/-- part(x, y) -/
theorem mX1_part (l : Launch) (D : va_G) (h0 hE hS : Nat) (d : ClassId) (E S G : Nat → Int64) (k : Nat) (x y : Int64) : Met l yX1_part (ws_ yX1_part cX1_part 5 (some .boolean)) ({ frames := 0, cells := 0, slots := 0, locals := 0 }) (va_Pc [.ref h0, .long x, .long y] (gP D d (gM h0 hE hS d E S (G 0) (G 1) k))) (vp_Si (fun r => r = if x &&& (y ^^^ (-1)) = 0 then 1 else 0)) 0 0 (fun _ => False) := by
  refine ww_met (by decide) (Nat.le_of_ble_eq_true rfl) ?_
  intro p e s m below meth c C0 hr hlk hnm hv ls hl
  have C0 : CallFix p m c cX1_part 5 s _ lw_all RX1 := C0
  obtain ⟨hP, hK⟩ := hv
  have hl : lv_has ls 5 [(0, .ref h0), (1, .long x), (3, .long y)] := hl
  refine lv_lload_n C0.1 C0.2.1 dX1_part_0 rfl (lv_at hl 1 rfl) ?_
  refine lv_lload_n C0.1 C0.2.1 dX1_part_1 rfl (lv_at hl 2 rfl) ?_
  refine lv_ldc2 (v := -1) C0.1 C0.2.1 C0.2.2.2.1 (C0.2.2.2.2 _ q206) dX1_part_2 ?_
  refine lv_lxor C0.1 C0.2.1 dX1_part_5 ?_
  refine lv_land C0.1 C0.2.1 dX1_part_6 ?_
  refine lv_lconst (v := 0) C0.1 C0.2.1 dX1_part_7 (by decide) ?_
  refine W.lcmp C0.1 C0.2.1 dX1_part_8 ?_
  refine lv_if_ne (tgt := 16) C0.1 C0.2.1 dX1_part_9 (by decide) (fun cc => ?_) (fun cc => ?_)
  · refine lv_iconst (v := 0) C0.1 C0.2.1 dX1_part_16 (by decide) ?_
    exact ww_zret C0 hr hlk rfl (show (0 : Int32) = if x &&& (y ^^^ (-1)) = 0 then 1 else 0 from (if_neg (fun q => cc ((lg_cmp_eq _ _).mpr q))).symm) dX1_part_17
  · refine lv_iconst (v := 1) C0.1 C0.2.1 dX1_part_12 (by decide) ?_
    refine lv_goto (tgt := 17) C0.1 C0.2.1 dX1_part_13 (by decide) ?_
    exact ww_zret C0 hr hlk rfl (show (1 : Int32) = if x &&& (y ^^^ (-1)) = 0 then 1 else 0 from (if_pos ((lg_cmp_eq _ _).mp cc)).symm) dX1_part_17
theorem go_part (C0 : CallFix p m c cc nL s args lw_all RX1) (hsz : ls.size = nL) (hR : 1 ≤ R.frames ∧ 24 ≤ R.locals ∧ cells ≤ R.cells ∧ slots ≤ R.slots) (hrm : (rest.map fun v => v.category).sum ≤ 8) (hK : va_K D vwCl [(d, .long)] s) (hP : va_P D vwCl (gM h0 hE hS d E S (G 0) (G 1) k) H) {x y : Int64} (hdg : decode cc pc = .ok (.invokevirtual 61, 3)) (kk : W p l e R s m args below meth c H locs cells slots Q (F0 m (pc + 3) ls (.int (if x &&& (y ^^^ (-1)) = 0 then 1 else 0) :: rest))) : W p l e R s m args below meth c H locs cells slots Q (F0 m pc ls (.long y :: .long x :: .ref h0 :: rest)) :=
  ww_callI C0 hK hP rfl (mX1_part l D h0 hE hS d E S G k x y) (cwV 2 C0.2.2.2.2 (lw_V q239 q241 qs15 q23 q242) rfl rfl rfl (by decide +kernel) ⟨hR.1, hR.2.1⟩) rfl rfl hsz hrm hR.2.2 hdg (fun r hr => by rw [hr]; exact kk)
set_option maxHeartbeats 4000000 in
set_option maxRecDepth 100000 in
/-- from(a, x) -/
theorem mX1_from (l : Launch) (D : va_G) (h0 hE hS : Nat) (d : ClassId) (E S G : Nat → Int64) (k : Nat) (a : Nat) (ha : a < 30) (x : Int64) : Met l yX1_from (ws_ yX1_from cX1_from 7 (some .long)) ({ frames := 1, cells := 0, slots := 0, locals := 23 }) (va_Pc [.ref h0, .int (nI a), .long x] (gP D d (gM h0 hE hS d E S (G 0) (G 1) k))) (vp_Sl (fun r => r = gc_img E a x)) 0 0 (fun _ => False) := by
  refine ww_met (by decide) (Nat.le_of_ble_eq_true rfl) ?_
  intro p e s m below meth c C0 hr hlk hnm hv ls hl
  have C0 : CallFix p m c cX1_from 7 s _ lw_all RX1 := C0
  obtain ⟨hP, hK⟩ := hv
  have hl : lv_has ls 7 [(0, .ref h0), (1, .int (nI a)), (2, .long x)] := hl
  refine lv_lconst (v := 0) C0.1 C0.2.1 dX1_from_0 (by decide) ?_
  refine lv_lstore (lv' := [(4, .long 0), (0, .ref h0), (1, .int (nI a)), (2, .long x)]) C0.1 C0.2.1 dX1_from_1 hl (by decide) rfl (fun ls hl => ?_)
  refine lv_iconst (v := 0) C0.1 C0.2.1 dX1_from_3 (by decide) ?_
  refine lv_istore (lv' := [(6, .int 0), (4, .long 0), (0, .ref h0), (1, .int (nI a)), (2, .long x)]) C0.1 C0.2.1 dX1_from_4 hl (by decide) rfl (fun ls hl => ?_)
  refine ww_for (nL := 7) 64 (fun _ => True) (fun i => [(0, .ref h0), (1, .int (nI a)), (2, .long x), (4, .long (gc_up (fun s acc => if gb x s then acc ||| E (64 * a + s) else acc) i 0)), (6, .int (nI i))]) trivial (lv_sub hl [2, 3, 4, 1, 0] rfl) ?_
  intro i hi hI ih ls hl
  have hl : lv_has ls 7 [(0, .ref h0), (1, .int (nI a)), (2, .long x), (4, .long (gc_up (fun s acc => if gb x s then acc ||| E (64 * a + s) else acc) i 0)), (6, .int (nI i))] := hl
  refine lv_iload C0.1 C0.2.1 dX1_from_6 (lv_at hl 4 rfl) ?_
  refine lv_bipush (v := nI 64) C0.1 C0.2.1 dX1_from_8 (by decide) ?_
  refine lv_icmp_ge (tgt := 46) C0.1 C0.2.1 dX1_from_10 (by decide) (fun cc => ?_) (fun cc => ?_)
  · have e : i = 64 := ww_eq hi (by decide) cc
    subst e
    refine lv_lload C0.1 C0.2.1 dX1_from_46 (lv_at hl 3 rfl) ?_
    exact ww_lret C0 hr hlk rfl dX1_from_48
  · have lt : i < 64 := ww_lt hi (by decide) cc
    refine lv_aload_n C0.1 C0.2.1 dX1_from_13 rfl (lv_at hl 0 rfl) ?_
    refine lv_lload_n C0.1 C0.2.1 dX1_from_14 rfl (lv_at hl 2 rfl) ?_
    refine lv_iload C0.1 C0.2.1 dX1_from_15 (lv_at hl 4 rfl) ?_
    refine go_in C0 hl.1 ⟨Nat.le_of_ble_eq_true rfl, Nat.le_of_ble_eq_true rfl, Nat.le_of_ble_eq_true rfl, Nat.le_of_ble_eq_true rfl⟩ (Nat.le_of_ble_eq_true rfl) hK (G := G) hP (j := i) (by omega) dX1_from_17 ?_
    refine lv_if_eq (tgt := 40) C0.1 C0.2.1 dX1_from_20 (by decide) (fun c2 => ?_) (fun c2 => ?_)
    · have ea : gc_up (fun s acc => if gb x s then acc ||| E (64 * a + s) else acc) i 0 = gc_up (fun s acc => if gb x s then acc ||| E (64 * a + s) else acc) (i + 1) 0 := by rw [gc_up_s]; exact (if_neg (gc_b0.mp c2)).symm
      rw [ea] at hl
      refine lv_iinc (v := nI (i + 1)) (lv' := [(6, .int (nI (i + 1))), (0, .ref h0), (1, .int (nI a)), (2, .long x), (4, .long (gc_up (fun s acc => if gb x s then acc ||| E (64 * a + s) else acc) (i + 1) 0))]) C0.1 C0.2.1 dX1_from_40 hl (k := 4) rfl (ww_inc i) (by decide) rfl (fun ls hl => ?_)
      refine lv_goto (tgt := 6) C0.1 C0.2.1 dX1_from_43 (by decide) ?_
      exact ih lt trivial ls (lv_sub hl [1, 2, 3, 4, 0] rfl)
    · refine lv_lload C0.1 C0.2.1 dX1_from_23 (lv_at hl 3 rfl) ?_
      refine lv_aload_n C0.1 C0.2.1 dX1_from_25 rfl (lv_at hl 0 rfl) ?_
      refine mg_E C0 hK hP dX1_from_26 ?_
      refine lv_bipush (v := nI 64) C0.1 C0.2.1 dX1_from_29 (by decide) ?_
      refine lv_iload_n C0.1 C0.2.1 dX1_from_31 rfl (lv_at hl 1 rfl) ?_
      refine lv_imul C0.1 C0.2.1 dX1_from_32 ?_
      refine lv_iload C0.1 C0.2.1 dX1_from_33 (lv_at hl 4 rfl) ?_
      refine lv_iadd C0.1 C0.2.1 dX1_from_35 ?_
      refine ww_lald C0 hK hP 1 0 rfl rfl (j := 64 * a + i) (gc_ix a i) (by omega) (by decide) dX1_from_36 ?_
      refine lv_lor C0.1 C0.2.1 dX1_from_37 ?_
      refine ww_tl (v := gc_up (fun s acc => if gb x s then acc ||| E (64 * a + s) else acc) (i + 1) 0) (by rw [gc_up_s]; exact (if_pos (gc_b1 c2)).symm) ?_
      refine lv_lstore (lv' := [(4, .long (gc_up (fun s acc => if gb x s then acc ||| E (64 * a + s) else acc) (i + 1) 0)), (0, .ref h0), (1, .int (nI a)), (2, .long x), (6, .int (nI i))]) C0.1 C0.2.1 dX1_from_38 hl (by decide) rfl (fun ls hl => ?_)
      refine lv_iinc (v := nI (i + 1)) (lv' := [(6, .int (nI (i + 1))), (4, .long (gc_up (fun s acc => if gb x s then acc ||| E (64 * a + s) else acc) (i + 1) 0)), (0, .ref h0), (1, .int (nI a)), (2, .long x)]) C0.1 C0.2.1 dX1_from_40 hl (k := 4) rfl (ww_inc i) (by decide) rfl (fun ls hl => ?_)
      refine lv_goto (tgt := 6) C0.1 C0.2.1 dX1_from_43 (by decide) ?_
      exact ih lt trivial ls (lv_sub hl [2, 3, 4, 1, 0] rfl)
theorem go_from (C0 : CallFix p m c cc nL s args lw_all RX1) (hsz : ls.size = nL) (hR : 2 ≤ R.frames ∧ 49 ≤ R.locals ∧ cells ≤ R.cells ∧ slots ≤ R.slots) (hrm : (rest.map fun v => v.category).sum ≤ 8) (hK : va_K D vwCl [(d, .long)] s) (hP : va_P D vwCl (gM h0 hE hS d E S (G 0) (G 1) k) H) {a : Nat} (ha : a < 30) {x : Int64} (hdg : decode cc pc = .ok (.invokevirtual 57, 3)) (kk : W p l e R s m args below meth c H locs cells slots Q (F0 m (pc + 3) ls (.long (gc_img E a x) :: rest))) : W p l e R s m args below meth c H locs cells slots Q (F0 m pc ls (.long x :: .int (nI a) :: .ref h0 :: rest)) :=
  ww_callL C0 hK hP rfl (mX1_from l D h0 hE hS d E S G k a ha x) (cwV 2 C0.2.2.2.2 (lw_V q235 q237 qs14 q23 q238) rfl rfl rfl (by decide +kernel) ⟨hR.1, hR.2.1⟩) rfl rfl hsz hrm hR.2.2 hdg (fun r hr => by rw [hr]; exact kk)
set_option maxHeartbeats 4000000 in
set_option maxRecDepth 100000 in
/-- weak(a, x) -/
theorem mX1_weak (l : Launch) (D : va_G) (h0 hE hS : Nat) (d : ClassId) (E S G : Nat → Int64) (k : Nat) (a : Nat) (ha : a < 30) (x : Int64) : Met l yX1_weak (ws_ yX1_weak cX1_weak 7 (some .long)) ({ frames := 1, cells := 0, slots := 0, locals := 24 }) (va_Pc [.ref h0, .int (nI a), .long x] (gP D d (gM h0 hE hS d E S (G 0) (G 1) k))) (vp_Sl (fun r => r = gc_wk E a x)) 0 0 (fun _ => False) := by
  refine ww_met (by decide) (Nat.le_of_ble_eq_true rfl) ?_
  intro p e s m below meth c C0 hr hlk hnm hv ls hl
  have C0 : CallFix p m c cX1_weak 7 s _ lw_all RX1 := C0
  obtain ⟨hP, hK⟩ := hv
  have hl : lv_has ls 7 [(0, .ref h0), (1, .int (nI a)), (2, .long x)] := hl
  refine lv_lconst (v := 0) C0.1 C0.2.1 dX1_weak_0 (by decide) ?_
  refine lv_lstore (lv' := [(4, .long 0), (0, .ref h0), (1, .int (nI a)), (2, .long x)]) C0.1 C0.2.1 dX1_weak_1 hl (by decide) rfl (fun ls hl => ?_)
  refine lv_iconst (v := 0) C0.1 C0.2.1 dX1_weak_3 (by decide) ?_
  refine lv_istore (lv' := [(6, .int 0), (4, .long 0), (0, .ref h0), (1, .int (nI a)), (2, .long x)]) C0.1 C0.2.1 dX1_weak_4 hl (by decide) rfl (fun ls hl => ?_)
  refine ww_for (nL := 7) 64 (fun _ => True) (fun i => [(0, .ref h0), (1, .int (nI a)), (2, .long x), (4, .long (gc_up (fun s acc => if E (64 * a + s) &&& (x ^^^ (-1)) = 0 then acc ||| gw s else acc) i 0)), (6, .int (nI i))]) trivial (lv_sub hl [2, 3, 4, 1, 0] rfl) ?_
  intro i hi hI ih ls hl
  have hl : lv_has ls 7 [(0, .ref h0), (1, .int (nI a)), (2, .long x), (4, .long (gc_up (fun s acc => if E (64 * a + s) &&& (x ^^^ (-1)) = 0 then acc ||| gw s else acc) i 0)), (6, .int (nI i))] := hl
  refine lv_iload C0.1 C0.2.1 dX1_weak_6 (lv_at hl 4 rfl) ?_
  refine lv_bipush (v := nI 64) C0.1 C0.2.1 dX1_weak_8 (by decide) ?_
  refine lv_icmp_ge (tgt := 48) C0.1 C0.2.1 dX1_weak_10 (by decide) (fun cc => ?_) (fun cc => ?_)
  · have e : i = 64 := ww_eq hi (by decide) cc
    subst e
    refine lv_lload C0.1 C0.2.1 dX1_weak_48 (lv_at hl 3 rfl) ?_
    exact ww_lret C0 hr hlk rfl dX1_weak_50
  · have lt : i < 64 := ww_lt hi (by decide) cc
    refine lv_aload_n C0.1 C0.2.1 dX1_weak_13 rfl (lv_at hl 0 rfl) ?_
    refine lv_aload_n C0.1 C0.2.1 dX1_weak_14 rfl (lv_at hl 0 rfl) ?_
    refine mg_E C0 hK hP dX1_weak_15 ?_
    refine lv_bipush (v := nI 64) C0.1 C0.2.1 dX1_weak_18 (by decide) ?_
    refine lv_iload_n C0.1 C0.2.1 dX1_weak_20 rfl (lv_at hl 1 rfl) ?_
    refine lv_imul C0.1 C0.2.1 dX1_weak_21 ?_
    refine lv_iload C0.1 C0.2.1 dX1_weak_22 (lv_at hl 4 rfl) ?_
    refine lv_iadd C0.1 C0.2.1 dX1_weak_24 ?_
    refine ww_lald C0 hK hP 1 0 rfl rfl (j := 64 * a + i) (gc_ix a i) (by omega) (by decide) dX1_weak_25 ?_
    refine lv_lload_n C0.1 C0.2.1 dX1_weak_26 rfl (lv_at hl 2 rfl) ?_
    refine go_part C0 hl.1 ⟨Nat.le_of_ble_eq_true rfl, Nat.le_of_ble_eq_true rfl, Nat.le_of_ble_eq_true rfl, Nat.le_of_ble_eq_true rfl⟩ (Nat.le_of_ble_eq_true rfl) hK (G := G) hP dX1_weak_27 ?_
    refine lv_if_eq (tgt := 42) C0.1 C0.2.1 dX1_weak_30 (by decide) (fun c2 => ?_) (fun c2 => ?_)
    · have ea : gc_up (fun s acc => if E (64 * a + s) &&& (x ^^^ (-1)) = 0 then acc ||| gw s else acc) i 0 = gc_up (fun s acc => if E (64 * a + s) &&& (x ^^^ (-1)) = 0 then acc ||| gw s else acc) (i + 1) 0 := by rw [gc_up_s]; exact (if_neg (gc_b0.mp c2)).symm
      rw [ea] at hl
      refine lv_iinc (v := nI (i + 1)) (lv' := [(6, .int (nI (i + 1))), (0, .ref h0), (1, .int (nI a)), (2, .long x), (4, .long (gc_up (fun s acc => if E (64 * a + s) &&& (x ^^^ (-1)) = 0 then acc ||| gw s else acc) (i + 1) 0))]) C0.1 C0.2.1 dX1_weak_42 hl (k := 4) rfl (ww_inc i) (by decide) rfl (fun ls hl => ?_)
      refine lv_goto (tgt := 6) C0.1 C0.2.1 dX1_weak_45 (by decide) ?_
      exact ih lt trivial ls (lv_sub hl [1, 2, 3, 4, 0] rfl)
    · refine lv_lload C0.1 C0.2.1 dX1_weak_33 (lv_at hl 3 rfl) ?_
      refine lv_lconst (v := 1) C0.1 C0.2.1 dX1_weak_35 (by decide) ?_
      refine lv_iload C0.1 C0.2.1 dX1_weak_36 (lv_at hl 4 rfl) ?_
      refine lv_lshl (v := gw i) C0.1 C0.2.1 dX1_weak_38 rfl ?_
      refine lv_lor C0.1 C0.2.1 dX1_weak_39 ?_
      refine ww_tl (v := gc_up (fun s acc => if E (64 * a + s) &&& (x ^^^ (-1)) = 0 then acc ||| gw s else acc) (i + 1) 0) (by rw [gc_up_s]; exact (if_pos (gc_b1 c2)).symm) ?_
      refine lv_lstore (lv' := [(4, .long (gc_up (fun s acc => if E (64 * a + s) &&& (x ^^^ (-1)) = 0 then acc ||| gw s else acc) (i + 1) 0)), (0, .ref h0), (1, .int (nI a)), (2, .long x), (6, .int (nI i))]) C0.1 C0.2.1 dX1_weak_40 hl (by decide) rfl (fun ls hl => ?_)
      refine lv_iinc (v := nI (i + 1)) (lv' := [(6, .int (nI (i + 1))), (4, .long (gc_up (fun s acc => if E (64 * a + s) &&& (x ^^^ (-1)) = 0 then acc ||| gw s else acc) (i + 1) 0)), (0, .ref h0), (1, .int (nI a)), (2, .long x)]) C0.1 C0.2.1 dX1_weak_42 hl (k := 4) rfl (ww_inc i) (by decide) rfl (fun ls hl => ?_)
      refine lv_goto (tgt := 6) C0.1 C0.2.1 dX1_weak_45 (by decide) ?_
      exact ih lt trivial ls (lv_sub hl [2, 3, 4, 1, 0] rfl)
theorem go_weak (C0 : CallFix p m c cc nL s args lw_all RX1) (hsz : ls.size = nL) (hR : 2 ≤ R.frames ∧ 50 ≤ R.locals ∧ cells ≤ R.cells ∧ slots ≤ R.slots) (hrm : (rest.map fun v => v.category).sum ≤ 8) (hK : va_K D vwCl [(d, .long)] s) (hP : va_P D vwCl (gM h0 hE hS d E S (G 0) (G 1) k) H) {a : Nat} (ha : a < 30) {x : Int64} (hdg : decode cc pc = .ok (.invokevirtual 80, 3)) (kk : W p l e R s m args below meth c H locs cells slots Q (F0 m (pc + 3) ls (.long (gc_wk E a x) :: rest))) : W p l e R s m args below meth c H locs cells slots Q (F0 m pc ls (.long x :: .int (nI a) :: .ref h0 :: rest)) :=
  ww_callL C0 hK hP rfl (mX1_weak l D h0 hE hS d E S G k a ha x) (cwV 2 C0.2.2.2.2 (lw_V q283 q285 qs20 q23 q286) rfl rfl rfl (by decide +kernel) ⟨hR.1, hR.2.1⟩) rfl rfl hsz hrm hR.2.2 hdg (fun r hr => by rw [hr]; exact kk)
set_option maxHeartbeats 4000000 in
set_option maxRecDepth 100000 in
/-- step(a, b, j) -/
theorem mX1_step (l : Launch) (D : va_G) (h0 hE hS : Nat) (d : ClassId) (E S G : Nat → Int64) (k : Nat) (a b j : Nat) (ha : a < 30) (hb : b < 30) (hj : j < 64) : Met l yX1_step (ws_ yX1_step cX1_step 6 (some .long)) ({ frames := 1, cells := 0, slots := 0, locals := 23 }) (va_Pc [.ref h0, .int (nI a), .int (nI b), .int (nI j)] (gP D d (gM h0 hE hS d E S (G 0) (G 1) k))) (vp_Sl (fun r => r = gc_stp E G a b j)) 0 0 (fun _ => False) := by
  refine ww_met (by decide) (Nat.le_of_ble_eq_true rfl) ?_
  intro p e s m below meth c C0 hr hlk hnm hv ls hl
  have C0 : CallFix p m c cX1_step 6 s _ lw_all RX1 := C0
  obtain ⟨hP, hK⟩ := hv
  have hl : lv_has ls 6 [(0, .ref h0), (1, .int (nI a)), (2, .int (nI b)), (3, .int (nI j))] := hl
  refine lv_lconst (v := 0) C0.1 C0.2.1 dX1_step_0 (by decide) ?_
  refine lv_lstore (lv' := [(4, .long 0), (0, .ref h0), (1, .int (nI a)), (2, .int (nI b)), (3, .int (nI j))]) C0.1 C0.2.1 dX1_step_1 hl (by decide) rfl (fun ls hl => ?_)
  refine lv_aload_n C0.1 C0.2.1 dX1_step_3 rfl (lv_at hl 1 rfl) ?_
  refine lv_aload_n C0.1 C0.2.1 dX1_step_4 rfl (lv_at hl 1 rfl) ?_
  refine mg_g C0 hK hP dX1_step_5 ?_
  refine lv_iload_n C0.1 C0.2.1 dX1_step_8 rfl (lv_at hl 4 rfl) ?_
  refine go_in C0 hl.1 ⟨Nat.le_of_ble_eq_true rfl, Nat.le_of_ble_eq_true rfl, Nat.le_of_ble_eq_true rfl, Nat.le_of_ble_eq_true rfl⟩ (Nat.le_of_ble_eq_true rfl) hK (G := G) hP (j := j) (by omega) dX1_step_9 ?_
  refine lv_if_eq (tgt := 31) C0.1 C0.2.1 dX1_step_12 (by decide) (fun c1 => ?_) (fun c1 => ?_)
  · refine lv_aload_n C0.1 C0.2.1 dX1_step_31 rfl (lv_at hl 1 rfl) ?_
    refine lv_aload_n C0.1 C0.2.1 dX1_step_32 rfl (lv_at hl 1 rfl) ?_
    refine mg_h C0 hK hP dX1_step_33 ?_
    refine lv_iload_n C0.1 C0.2.1 dX1_step_36 rfl (lv_at hl 4 rfl) ?_
    refine go_in C0 hl.1 ⟨Nat.le_of_ble_eq_true rfl, Nat.le_of_ble_eq_true rfl, Nat.le_of_ble_eq_true rfl, Nat.le_of_ble_eq_true rfl⟩ (Nat.le_of_ble_eq_true rfl) hK (G := G) hP (j := j) (by omega) dX1_step_37 ?_
    refine lv_if_eq (tgt := 59) C0.1 C0.2.1 dX1_step_40 (by decide) (fun c2 => ?_) (fun c2 => ?_)
    · refine lv_lload C0.1 C0.2.1 dX1_step_59 (lv_at hl 0 rfl) ?_
      exact ww_lret C0 hr hlk (show (0 : Int64) = gc_stp E G a b j from by unfold gc_stp; rw [if_neg (gc_b0.mp c1), if_neg (gc_b0.mp c2), gc_or0]) dX1_step_61
    · refine lv_lload C0.1 C0.2.1 dX1_step_43 (lv_at hl 0 rfl) ?_
      refine lv_aload_n C0.1 C0.2.1 dX1_step_45 rfl (lv_at hl 1 rfl) ?_
      refine mg_E C0 hK hP dX1_step_46 ?_
      refine lv_bipush (v := nI 64) C0.1 C0.2.1 dX1_step_49 (by decide) ?_
      refine lv_iload_n C0.1 C0.2.1 dX1_step_51 rfl (lv_at hl 3 rfl) ?_
      refine lv_imul C0.1 C0.2.1 dX1_step_52 ?_
      refine lv_iload_n C0.1 C0.2.1 dX1_step_53 rfl (lv_at hl 4 rfl) ?_
      refine lv_iadd C0.1 C0.2.1 dX1_step_54 ?_
      refine ww_lald C0 hK hP 1 0 rfl rfl (j := 64 * b + j) (gc_ix b j) (by omega) (by decide) dX1_step_55 ?_
      refine lv_lor C0.1 C0.2.1 dX1_step_56 ?_
      refine lv_lstore (lv' := [(4, .long (0 ||| (E (64 * b + j)))), (0, .ref h0), (1, .int (nI a)), (2, .int (nI b)), (3, .int (nI j))]) C0.1 C0.2.1 dX1_step_57 hl (by decide) rfl (fun ls hl => ?_)
      refine lv_lload C0.1 C0.2.1 dX1_step_59 (lv_at hl 0 rfl) ?_
      exact ww_lret C0 hr hlk (show (0 : Int64) ||| E (64 * b + j) = gc_stp E G a b j from by unfold gc_stp; rw [if_neg (gc_b0.mp c1), if_pos (gc_b1 c2)]) dX1_step_61
  · refine lv_lload C0.1 C0.2.1 dX1_step_15 (lv_at hl 0 rfl) ?_
    refine lv_aload_n C0.1 C0.2.1 dX1_step_17 rfl (lv_at hl 1 rfl) ?_
    refine mg_E C0 hK hP dX1_step_18 ?_
    refine lv_bipush (v := nI 64) C0.1 C0.2.1 dX1_step_21 (by decide) ?_
    refine lv_iload_n C0.1 C0.2.1 dX1_step_23 rfl (lv_at hl 2 rfl) ?_
    refine lv_imul C0.1 C0.2.1 dX1_step_24 ?_
    refine lv_iload_n C0.1 C0.2.1 dX1_step_25 rfl (lv_at hl 4 rfl) ?_
    refine lv_iadd C0.1 C0.2.1 dX1_step_26 ?_
    refine ww_lald C0 hK hP 1 0 rfl rfl (j := 64 * a + j) (gc_ix a j) (by omega) (by decide) dX1_step_27 ?_
    refine lv_lor C0.1 C0.2.1 dX1_step_28 ?_
    refine lv_lstore (lv' := [(4, .long (0 ||| (E (64 * a + j)))), (0, .ref h0), (1, .int (nI a)), (2, .int (nI b)), (3, .int (nI j))]) C0.1 C0.2.1 dX1_step_29 hl (by decide) rfl (fun ls hl => ?_)
    refine lv_aload_n C0.1 C0.2.1 dX1_step_31 rfl (lv_at hl 1 rfl) ?_
    refine lv_aload_n C0.1 C0.2.1 dX1_step_32 rfl (lv_at hl 1 rfl) ?_
    refine mg_h C0 hK hP dX1_step_33 ?_
    refine lv_iload_n C0.1 C0.2.1 dX1_step_36 rfl (lv_at hl 4 rfl) ?_
    refine go_in C0 hl.1 ⟨Nat.le_of_ble_eq_true rfl, Nat.le_of_ble_eq_true rfl, Nat.le_of_ble_eq_true rfl, Nat.le_of_ble_eq_true rfl⟩ (Nat.le_of_ble_eq_true rfl) hK (G := G) hP (j := j) (by omega) dX1_step_37 ?_
    refine lv_if_eq (tgt := 59) C0.1 C0.2.1 dX1_step_40 (by decide) (fun c2 => ?_) (fun c2 => ?_)
    · refine lv_lload C0.1 C0.2.1 dX1_step_59 (lv_at hl 0 rfl) ?_
      exact ww_lret C0 hr hlk (show (0 ||| E (64 * a + j)) = gc_stp E G a b j from by unfold gc_stp; rw [if_pos (gc_b1 c1), if_neg (gc_b0.mp c2), gc_or0, gc_0or]) dX1_step_61
    · refine lv_lload C0.1 C0.2.1 dX1_step_43 (lv_at hl 0 rfl) ?_
      refine lv_aload_n C0.1 C0.2.1 dX1_step_45 rfl (lv_at hl 1 rfl) ?_
      refine mg_E C0 hK hP dX1_step_46 ?_
      refine lv_bipush (v := nI 64) C0.1 C0.2.1 dX1_step_49 (by decide) ?_
      refine lv_iload_n C0.1 C0.2.1 dX1_step_51 rfl (lv_at hl 3 rfl) ?_
      refine lv_imul C0.1 C0.2.1 dX1_step_52 ?_
      refine lv_iload_n C0.1 C0.2.1 dX1_step_53 rfl (lv_at hl 4 rfl) ?_
      refine lv_iadd C0.1 C0.2.1 dX1_step_54 ?_
      refine ww_lald C0 hK hP 1 0 rfl rfl (j := 64 * b + j) (gc_ix b j) (by omega) (by decide) dX1_step_55 ?_
      refine lv_lor C0.1 C0.2.1 dX1_step_56 ?_
      refine lv_lstore (lv' := [(4, .long ((0 ||| (E (64 * a + j))) ||| (E (64 * b + j)))), (0, .ref h0), (1, .int (nI a)), (2, .int (nI b)), (3, .int (nI j))]) C0.1 C0.2.1 dX1_step_57 hl (by decide) rfl (fun ls hl => ?_)
      refine lv_lload C0.1 C0.2.1 dX1_step_59 (lv_at hl 0 rfl) ?_
      exact ww_lret C0 hr hlk (show (0 ||| E (64 * a + j)) ||| E (64 * b + j) = gc_stp E G a b j from by unfold gc_stp; rw [if_pos (gc_b1 c1), if_pos (gc_b1 c2), gc_0or]) dX1_step_61
theorem go_mstep (C0 : CallFix p m c cc nL s args lw_all RX1) (hsz : ls.size = nL) (hR : 2 ≤ R.frames ∧ 48 ≤ R.locals ∧ cells ≤ R.cells ∧ slots ≤ R.slots) (hrm : (rest.map fun v => v.category).sum ≤ 8) (hK : va_K D vwCl [(d, .long)] s) (hP : va_P D vwCl (gM h0 hE hS d E S (G 0) (G 1) k) H) {a b j : Nat} (ha : a < 30) (hb : b < 30) (hj : j < 64) (hdg : decode cc pc = .ok (.invokevirtual 65, 3)) (kk : W p l e R s m args below meth c H locs cells slots Q (F0 m (pc + 3) ls (.long (gc_stp E G a b j) :: rest))) : W p l e R s m args below meth c H locs cells slots Q (F0 m pc ls (.int (nI j) :: .int (nI b) :: .int (nI a) :: .ref h0 :: rest)) :=
  ww_callL C0 hK hP rfl (mX1_step l D h0 hE hS d E S G k a b j ha hb hj) (cwV 3 C0.2.2.2.2 (lw_V q247 q249 qs16 q23 q250) rfl rfl rfl (by decide +kernel) ⟨hR.1, hR.2.1⟩) rfl rfl hsz hrm hR.2.2 hdg (fun r hr => by rw [hr]; exact kk)
set_option maxHeartbeats 4000000 in
set_option maxRecDepth 100000 in
/-- good(a, b, j) -/
theorem mX1_good (l : Launch) (D : va_G) (h0 hE hS : Nat) (d : ClassId) (E S G : Nat → Int64) (k : Nat) (a b j : Nat) (ha : a < 30) (hb : b < 30) (hj : j < 64) : Met l yX1_good (ws_ yX1_good cX1_good 4 (some .boolean)) ({ frames := 1, cells := 0, slots := 0, locals := 23 }) (va_Pc [.ref h0, .int (nI a), .int (nI b), .int (nI j)] (gP D d (gM h0 hE hS d E S (G 0) (G 1) k))) (vp_Si (fun r => r = if gc_good S G a b j then 1 else 0)) 0 0 (fun _ => False) := by
  refine ww_met (by decide) (Nat.le_of_ble_eq_true rfl) ?_
  intro p e s m below meth c C0 hr hlk hnm hv ls hl
  have C0 : CallFix p m c cX1_good 4 s _ lw_all RX1 := C0
  obtain ⟨hP, hK⟩ := hv
  have hl : lv_has ls 4 [(0, .ref h0), (1, .int (nI a)), (2, .int (nI b)), (3, .int (nI j))] := hl
  refine lv_aload_n C0.1 C0.2.1 dX1_good_0 rfl (lv_at hl 0 rfl) ?_
  refine lv_aload_n C0.1 C0.2.1 dX1_good_1 rfl (lv_at hl 0 rfl) ?_
  refine mg_g C0 hK hP dX1_good_2 ?_
  refine lv_iload_n C0.1 C0.2.1 dX1_good_5 rfl (lv_at hl 3 rfl) ?_
  refine go_in C0 hl.1 ⟨Nat.le_of_ble_eq_true rfl, Nat.le_of_ble_eq_true rfl, Nat.le_of_ble_eq_true rfl, Nat.le_of_ble_eq_true rfl⟩ (Nat.le_of_ble_eq_true rfl) hK (G := G) hP (j := j) (by omega) dX1_good_6 ?_
  refine lv_if_eq (tgt := 26) C0.1 C0.2.1 dX1_good_9 (by decide) (fun c1 => ?_) (fun c1 => ?_)
  · refine lv_aload_n C0.1 C0.2.1 dX1_good_26 rfl (lv_at hl 0 rfl) ?_
    refine lv_aload_n C0.1 C0.2.1 dX1_good_27 rfl (lv_at hl 0 rfl) ?_
    refine mg_h C0 hK hP dX1_good_28 ?_
    refine lv_iload_n C0.1 C0.2.1 dX1_good_31 rfl (lv_at hl 3 rfl) ?_
    refine go_in C0 hl.1 ⟨Nat.le_of_ble_eq_true rfl, Nat.le_of_ble_eq_true rfl, Nat.le_of_ble_eq_true rfl, Nat.le_of_ble_eq_true rfl⟩ (Nat.le_of_ble_eq_true rfl) hK (G := G) hP (j := j) (by omega) dX1_good_32 ?_
    refine lv_if_eq (tgt := 52) C0.1 C0.2.1 dX1_good_35 (by decide) (fun c3 => ?_) (fun c3 => ?_)
    · refine lv_iconst (v := 1) C0.1 C0.2.1 dX1_good_52 (by decide) ?_
      refine lv_goto (tgt := 57) C0.1 C0.2.1 dX1_good_53 (by decide) ?_
      exact ww_zret C0 hr hlk rfl (show (1 : Int32) = if gc_good S G a b j then 1 else 0 from (if_pos (by unfold gc_good; rw [Bool.eq_false_iff.mpr (gc_b0.mp c1), Bool.eq_false_iff.mpr (gc_b0.mp c3)]; simp)).symm) dX1_good_57
    · refine lv_aload_n C0.1 C0.2.1 dX1_good_38 rfl (lv_at hl 0 rfl) ?_
      refine lv_aload_n C0.1 C0.2.1 dX1_good_39 rfl (lv_at hl 0 rfl) ?_
      refine mg_S C0 hK hP dX1_good_40 ?_
      refine lv_iload_n C0.1 C0.2.1 dX1_good_43 rfl (lv_at hl 2 rfl) ?_
      refine ww_lald C0 hK hP 2 0 rfl rfl (j := b) rfl (by omega) (by decide) dX1_good_44 ?_
      refine lv_iload_n C0.1 C0.2.1 dX1_good_45 rfl (lv_at hl 3 rfl) ?_
      refine go_in C0 hl.1 ⟨Nat.le_of_ble_eq_true rfl, Nat.le_of_ble_eq_true rfl, Nat.le_of_ble_eq_true rfl, Nat.le_of_ble_eq_true rfl⟩ (Nat.le_of_ble_eq_true rfl) hK (G := G) hP (j := j) (by omega) dX1_good_46 ?_
      refine lv_if_eq (tgt := 56) C0.1 C0.2.1 dX1_good_49 (by decide) (fun c4 => ?_) (fun c4 => ?_)
      · refine lv_iconst (v := 0) C0.1 C0.2.1 dX1_good_56 (by decide) ?_
        exact ww_zret C0 hr hlk rfl (show (0 : Int32) = if gc_good S G a b j then 1 else 0 from (if_neg (by unfold gc_good; rw [gc_b1 c3, Bool.eq_false_iff.mpr (gc_b0.mp c4)]; simp)).symm) dX1_good_57
      · refine lv_iconst (v := 1) C0.1 C0.2.1 dX1_good_52 (by decide) ?_
        refine lv_goto (tgt := 57) C0.1 C0.2.1 dX1_good_53 (by decide) ?_
        exact ww_zret C0 hr hlk rfl (show (1 : Int32) = if gc_good S G a b j then 1 else 0 from (if_pos (by unfold gc_good; rw [Bool.eq_false_iff.mpr (gc_b0.mp c1), gc_b1 c4]; simp)).symm) dX1_good_57
  · refine lv_aload_n C0.1 C0.2.1 dX1_good_12 rfl (lv_at hl 0 rfl) ?_
    refine lv_aload_n C0.1 C0.2.1 dX1_good_13 rfl (lv_at hl 0 rfl) ?_
    refine mg_S C0 hK hP dX1_good_14 ?_
    refine lv_iload_n C0.1 C0.2.1 dX1_good_17 rfl (lv_at hl 1 rfl) ?_
    refine ww_lald C0 hK hP 2 0 rfl rfl (j := a) rfl (by omega) (by decide) dX1_good_18 ?_
    refine lv_iload_n C0.1 C0.2.1 dX1_good_19 rfl (lv_at hl 3 rfl) ?_
    refine go_in C0 hl.1 ⟨Nat.le_of_ble_eq_true rfl, Nat.le_of_ble_eq_true rfl, Nat.le_of_ble_eq_true rfl, Nat.le_of_ble_eq_true rfl⟩ (Nat.le_of_ble_eq_true rfl) hK (G := G) hP (j := j) (by omega) dX1_good_20 ?_
    refine lv_if_eq (tgt := 56) C0.1 C0.2.1 dX1_good_23 (by decide) (fun c2 => ?_) (fun c2 => ?_)
    · refine lv_iconst (v := 0) C0.1 C0.2.1 dX1_good_56 (by decide) ?_
      exact ww_zret C0 hr hlk rfl (show (0 : Int32) = if gc_good S G a b j then 1 else 0 from (if_neg (by unfold gc_good; rw [gc_b1 c1, Bool.eq_false_iff.mpr (gc_b0.mp c2)]; simp)).symm) dX1_good_57
    · refine lv_aload_n C0.1 C0.2.1 dX1_good_26 rfl (lv_at hl 0 rfl) ?_
      refine lv_aload_n C0.1 C0.2.1 dX1_good_27 rfl (lv_at hl 0 rfl) ?_
      refine mg_h C0 hK hP dX1_good_28 ?_
      refine lv_iload_n C0.1 C0.2.1 dX1_good_31 rfl (lv_at hl 3 rfl) ?_
      refine go_in C0 hl.1 ⟨Nat.le_of_ble_eq_true rfl, Nat.le_of_ble_eq_true rfl, Nat.le_of_ble_eq_true rfl, Nat.le_of_ble_eq_true rfl⟩ (Nat.le_of_ble_eq_true rfl) hK (G := G) hP (j := j) (by omega) dX1_good_32 ?_
      refine lv_if_eq (tgt := 52) C0.1 C0.2.1 dX1_good_35 (by decide) (fun c3 => ?_) (fun c3 => ?_)
      · refine lv_iconst (v := 1) C0.1 C0.2.1 dX1_good_52 (by decide) ?_
        refine lv_goto (tgt := 57) C0.1 C0.2.1 dX1_good_53 (by decide) ?_
        exact ww_zret C0 hr hlk rfl (show (1 : Int32) = if gc_good S G a b j then 1 else 0 from (if_pos (by unfold gc_good; rw [gc_b1 c2, Bool.eq_false_iff.mpr (gc_b0.mp c3)]; simp)).symm) dX1_good_57
      · refine lv_aload_n C0.1 C0.2.1 dX1_good_38 rfl (lv_at hl 0 rfl) ?_
        refine lv_aload_n C0.1 C0.2.1 dX1_good_39 rfl (lv_at hl 0 rfl) ?_
        refine mg_S C0 hK hP dX1_good_40 ?_
        refine lv_iload_n C0.1 C0.2.1 dX1_good_43 rfl (lv_at hl 2 rfl) ?_
        refine ww_lald C0 hK hP 2 0 rfl rfl (j := b) rfl (by omega) (by decide) dX1_good_44 ?_
        refine lv_iload_n C0.1 C0.2.1 dX1_good_45 rfl (lv_at hl 3 rfl) ?_
        refine go_in C0 hl.1 ⟨Nat.le_of_ble_eq_true rfl, Nat.le_of_ble_eq_true rfl, Nat.le_of_ble_eq_true rfl, Nat.le_of_ble_eq_true rfl⟩ (Nat.le_of_ble_eq_true rfl) hK (G := G) hP (j := j) (by omega) dX1_good_46 ?_
        refine lv_if_eq (tgt := 56) C0.1 C0.2.1 dX1_good_49 (by decide) (fun c4 => ?_) (fun c4 => ?_)
        · refine lv_iconst (v := 0) C0.1 C0.2.1 dX1_good_56 (by decide) ?_
          exact ww_zret C0 hr hlk rfl (show (0 : Int32) = if gc_good S G a b j then 1 else 0 from (if_neg (by unfold gc_good; rw [gc_b1 c3, Bool.eq_false_iff.mpr (gc_b0.mp c4)]; simp)).symm) dX1_good_57
        · refine lv_iconst (v := 1) C0.1 C0.2.1 dX1_good_52 (by decide) ?_
          refine lv_goto (tgt := 57) C0.1 C0.2.1 dX1_good_53 (by decide) ?_
          exact ww_zret C0 hr hlk rfl (show (1 : Int32) = if gc_good S G a b j then 1 else 0 from (if_pos (by unfold gc_good; rw [gc_b1 c2, gc_b1 c4]; simp)).symm) dX1_good_57
theorem go_good (C0 : CallFix p m c cc nL s args lw_all RX1) (hsz : ls.size = nL) (hR : 2 ≤ R.frames ∧ 46 ≤ R.locals ∧ cells ≤ R.cells ∧ slots ≤ R.slots) (hrm : (rest.map fun v => v.category).sum ≤ 8) (hK : va_K D vwCl [(d, .long)] s) (hP : va_P D vwCl (gM h0 hE hS d E S (G 0) (G 1) k) H) {a b j : Nat} (ha : a < 30) (hb : b < 30) (hj : j < 64) (hdg : decode cc pc = .ok (.invokevirtual 69, 3)) (kk : W p l e R s m args below meth c H locs cells slots Q (F0 m (pc + 3) ls (.int (if gc_good S G a b j then 1 else 0) :: rest))) : W p l e R s m args below meth c H locs cells slots Q (F0 m pc ls (.int (nI j) :: .int (nI b) :: .int (nI a) :: .ref h0 :: rest)) :=
  ww_callI C0 hK hP rfl (mX1_good l D h0 hE hS d E S G k a b j ha hb hj) (cwV 3 C0.2.2.2.2 (lw_V q251 q253 qs17 q23 q254) rfl rfl rfl (by decide +kernel) ⟨hR.1, hR.2.1⟩) rfl rfl hsz hrm hR.2.2 hdg (fun r hr => by rw [hr]; exact kk)
set_option maxHeartbeats 4000000 in
set_option maxRecDepth 100000 in
/-- met(a, b, j) -/
theorem mX1_met (l : Launch) (D : va_G) (h0 hE hS : Nat) (d : ClassId) (E S G : Nat → Int64) (k : Nat) (a b j : Nat) (ha : a < 30) (hb : b < 30) (hj : j < 64) : Met l yX1_met (ws_ yX1_met cX1_met 10 (some .long)) ({ frames := 2, cells := 0, slots := 0, locals := 48 }) (va_Pc [.ref h0, .int (nI a), .int (nI b), .int (nI j)] (gP D d (gM h0 hE hS d E S (G 0) (G 1) k))) (vp_Sl (fun r => r = gc_rch (gc_stp E G a b) j)) 0 0 (fun _ => False) := by
  refine ww_met (by decide) (Nat.le_of_ble_eq_true rfl) ?_
  intro p e s m below meth c C0 hr hlk hnm hv ls hl
  have C0 : CallFix p m c cX1_met 10 s _ lw_all RX1 := C0
  obtain ⟨hP, hK⟩ := hv
  have hl : lv_has ls 10 [(0, .ref h0), (1, .int (nI a)), (2, .int (nI b)), (3, .int (nI j))] := hl
  refine lv_lconst (v := 1) C0.1 C0.2.1 dX1_met_0 (by decide) ?_
  refine lv_iload_n C0.1 C0.2.1 dX1_met_1 rfl (lv_at hl 3 rfl) ?_
  refine lv_lshl (v := gw j) C0.1 C0.2.1 dX1_met_2 rfl ?_
  refine lv_lstore (lv' := [(4, .long (gw j)), (0, .ref h0), (1, .int (nI a)), (2, .int (nI b)), (3, .int (nI j))]) C0.1 C0.2.1 dX1_met_3 hl (by decide) rfl (fun ls hl => ?_)
  refine lv_lconst (v := 0) C0.1 C0.2.1 dX1_met_5 (by decide) ?_
  refine lv_lstore (lv' := [(6, .long 0), (4, .long (gw j)), (0, .ref h0), (1, .int (nI a)), (2, .int (nI b)), (3, .int (nI j))]) C0.1 C0.2.1 dX1_met_6 hl (by decide) rfl (fun ls hl => ?_)
  refine lv_iconst (v := 0) C0.1 C0.2.1 dX1_met_8 (by decide) ?_
  refine lv_istore (lv' := [(8, .int 0), (6, .long 0), (4, .long (gw j)), (0, .ref h0), (1, .int (nI a)), (2, .int (nI b)), (3, .int (nI j))]) C0.1 C0.2.1 dX1_met_9 hl (by decide) rfl (fun ls hl => ?_)
  refine ww_fuel (nL := 10) 65 (fun n (y : Int64 × Int64) => gc_rM (gc_stp E G a b) n y.1 y.2 = gc_rch (gc_stp E G a b) j) (fun n y => [(0, .ref h0), (1, .int (nI a)), (2, .int (nI b)), (4, .long y.1), (6, .long y.2), (8, .int (nI (65 - n)))]) (gw j, 0) rfl (lv_sub hl [3, 4, 5, 2, 1, 0] rfl) ?_
  intro n y hn hI ih ls hl
  obtain ⟨y1, y2⟩ := y
  have hl : lv_has ls 10 [(0, .ref h0), (1, .int (nI a)), (2, .int (nI b)), (4, .long y1), (6, .long y2), (8, .int (nI (65 - n)))] := hl
  have hI : gc_rM (gc_stp E G a b) n y1 y2 = gc_rch (gc_stp E G a b) j := hI
  refine lv_iload C0.1 C0.2.1 dX1_met_11 (lv_at hl 5 rfl) ?_
  refine lv_bipush (v := nI 65) C0.1 C0.2.1 dX1_met_13 (by decide) ?_
  refine lv_icmp_ge (tgt := 76) C0.1 C0.2.1 dX1_met_15 (by decide) (fun c1 => ?_) (fun c1 => ?_)
  · have e : n = 0 := by have q := (nI_leI (by decide) (by omega)).mp c1; omega
    subst e
    refine lv_lload C0.1 C0.2.1 dX1_met_76 (lv_at hl 3 rfl) ?_
    exact ww_lret C0 hr hlk hI dX1_met_78
  · obtain ⟨n, rfl⟩ : ∃ n', n = n' + 1 := ⟨n - 1, by have q : ¬ 65 ≤ 65 - n := fun z => c1 (nI_le z (by omega)); omega⟩
    refine lv_lload C0.1 C0.2.1 dX1_met_18 (lv_at hl 3 rfl) ?_
    refine lv_lload C0.1 C0.2.1 dX1_met_20 (lv_at hl 4 rfl) ?_
    refine W.lcmp C0.1 C0.2.1 dX1_met_22 ?_
    refine lv_if_eq (tgt := 76) C0.1 C0.2.1 dX1_met_23 (by decide) (fun c2 => ?_) (fun c2 => ?_)
    · have e : y1 = y2 := (lg_cmp_eq _ _).mp c2
      refine lv_lload C0.1 C0.2.1 dX1_met_76 (lv_at hl 3 rfl) ?_
      exact ww_lret C0 hr hlk (show y1 = gc_rch (gc_stp E G a b) j from by rw [← hI]; exact (if_pos e).symm) dX1_met_78
    · have ne : ¬ y1 = y2 := fun q => c2 ((lg_cmp_eq _ _).mpr q)
      have hI : gc_rM (gc_stp E G a b) n (gc_fM (gc_stp E G a b) y1) y1 = gc_rch (gc_stp E G a b) j := by rw [← hI]; exact (if_neg ne).symm
      refine lv_lload C0.1 C0.2.1 dX1_met_26 (lv_at hl 3 rfl) ?_
      refine lv_lstore (lv' := [(6, .long y1), (0, .ref h0), (1, .int (nI a)), (2, .int (nI b)), (4, .long y1), (8, .int (nI (65 - (n + 1))))]) C0.1 C0.2.1 dX1_met_28 hl (by decide) rfl (fun ls hl => ?_)
      refine lv_iconst (v := 0) C0.1 C0.2.1 dX1_met_30 (by decide) ?_
      refine lv_istore (lv' := [(9, .int 0), (6, .long y1), (0, .ref h0), (1, .int (nI a)), (2, .int (nI b)), (4, .long y1), (8, .int (nI (65 - (n + 1))))]) C0.1 C0.2.1 dX1_met_31 hl (by decide) rfl (fun ls hl => ?_)
      refine ww_for (nL := 10) 64 (fun _ => True) (fun i => [(0, .ref h0), (1, .int (nI a)), (2, .int (nI b)), (4, .long (gc_up (gc_fg (fun k acc => gb acc k) (gc_stp E G a b)) i y1)), (6, .long y1), (8, .int (nI (65 - (n + 1)))), (9, .int (nI i))]) trivial (lv_sub hl [2, 3, 4, 5, 1, 6, 0] rfl) ?_
      intro i hi2 hI2 ih2 ls hl
      have hl : lv_has ls 10 [(0, .ref h0), (1, .int (nI a)), (2, .int (nI b)), (4, .long (gc_up (gc_fg (fun k acc => gb acc k) (gc_stp E G a b)) i y1)), (6, .long y1), (8, .int (nI (65 - (n + 1)))), (9, .int (nI i))] := hl
      refine lv_iload C0.1 C0.2.1 dX1_met_33 (lv_at hl 6 rfl) ?_
      refine lv_bipush (v := nI 64) C0.1 C0.2.1 dX1_met_35 (by decide) ?_
      refine lv_icmp_ge (tgt := 70) C0.1 C0.2.1 dX1_met_37 (by decide) (fun c3 => ?_) (fun c3 => ?_)
      · have e2 : i = 64 := ww_eq hi2 (by decide) c3
        subst e2
        have en : nI (65 - (n + 1)) + Int32.ofInt 1 = nI (65 - n) := by rw [ww_inc]; congr 1; omega
        refine lv_iinc (v := nI (65 - n)) (lv' := [(8, .int (nI (65 - n))), (0, .ref h0), (1, .int (nI a)), (2, .int (nI b)), (4, .long (gc_up (gc_fg (fun k acc => gb acc k) (gc_stp E G a b)) 64 y1)), (6, .long y1), (9, .int (nI 64))]) C0.1 C0.2.1 dX1_met_70 hl (k := 5) rfl en (by decide) rfl (fun ls hl => ?_)
        refine lv_goto (tgt := 11) C0.1 C0.2.1 dX1_met_73 (by decide) ?_
        exact ih n rfl (gc_fM (gc_stp E G a b) y1, y1) hI ls (lv_sub hl [1, 2, 3, 4, 5, 0] rfl)
      · have lt2 : i < 64 := ww_lt hi2 (by decide) c3
        refine lv_aload_n C0.1 C0.2.1 dX1_met_40 rfl (lv_at hl 0 rfl) ?_
        refine lv_lload C0.1 C0.2.1 dX1_met_41 (lv_at hl 3 rfl) ?_
        refine lv_iload C0.1 C0.2.1 dX1_met_43 (lv_at hl 6 rfl) ?_
        refine go_in C0 hl.1 ⟨Nat.le_of_ble_eq_true rfl, Nat.le_of_ble_eq_true rfl, Nat.le_of_ble_eq_true rfl, Nat.le_of_ble_eq_true rfl⟩ (Nat.le_of_ble_eq_true rfl) hK (G := G) hP (j := i) (by omega) dX1_met_45 ?_
        refine lv_if_eq (tgt := 64) C0.1 C0.2.1 dX1_met_48 (by decide) (fun c4 => ?_) (fun c4 => ?_)
        · have ea : gc_up (gc_fg (fun k acc => gb acc k) (gc_stp E G a b)) i y1 = gc_up (gc_fg (fun k acc => gb acc k) (gc_stp E G a b)) (i + 1) y1 := by rw [gc_up_s]; exact (if_neg (gc_b0.mp c4)).symm
          rw [ea] at hl
          refine lv_iinc (v := nI (i + 1)) (lv' := [(9, .int (nI (i + 1))), (0, .ref h0), (1, .int (nI a)), (2, .int (nI b)), (4, .long (gc_up (gc_fg (fun k acc => gb acc k) (gc_stp E G a b)) (i + 1) y1)), (6, .long y1), (8, .int (nI (65 - (n + 1))))]) C0.1 C0.2.1 dX1_met_64 hl (k := 6) rfl (ww_inc i) (by decide) rfl (fun ls hl => ?_)
          refine lv_goto (tgt := 33) C0.1 C0.2.1 dX1_met_67 (by decide) ?_
          exact ih2 lt2 trivial ls (lv_sub hl [1, 2, 3, 4, 5, 6, 0] rfl)
        · refine lv_lload C0.1 C0.2.1 dX1_met_51 (lv_at hl 3 rfl) ?_
          refine lv_aload_n C0.1 C0.2.1 dX1_met_53 rfl (lv_at hl 0 rfl) ?_
          refine lv_iload_n C0.1 C0.2.1 dX1_met_54 rfl (lv_at hl 1 rfl) ?_
          refine lv_iload_n C0.1 C0.2.1 dX1_met_55 rfl (lv_at hl 2 rfl) ?_
          refine lv_iload C0.1 C0.2.1 dX1_met_56 (lv_at hl 6 rfl) ?_
          refine go_mstep C0 hl.1 ⟨Nat.le_of_ble_eq_true rfl, Nat.le_of_ble_eq_true rfl, Nat.le_of_ble_eq_true rfl, Nat.le_of_ble_eq_true rfl⟩ (Nat.le_of_ble_eq_true rfl) hK (G := G) hP (a := a) (b := b) (j := i) (by omega) (by omega) (by omega) dX1_met_58 ?_
          refine lv_lor C0.1 C0.2.1 dX1_met_61 ?_
          refine ww_tl (v := gc_up (gc_fg (fun k acc => gb acc k) (gc_stp E G a b)) (i + 1) y1) (by rw [gc_up_s]; exact (if_pos (gc_b1 c4)).symm) ?_
          refine lv_lstore (lv' := [(4, .long (gc_up (gc_fg (fun k acc => gb acc k) (gc_stp E G a b)) (i + 1) y1)), (0, .ref h0), (1, .int (nI a)), (2, .int (nI b)), (6, .long y1), (8, .int (nI (65 - (n + 1)))), (9, .int (nI i))]) C0.1 C0.2.1 dX1_met_62 hl (by decide) rfl (fun ls hl => ?_)
          refine lv_iinc (v := nI (i + 1)) (lv' := [(9, .int (nI (i + 1))), (4, .long (gc_up (gc_fg (fun k acc => gb acc k) (gc_stp E G a b)) (i + 1) y1)), (0, .ref h0), (1, .int (nI a)), (2, .int (nI b)), (6, .long y1), (8, .int (nI (65 - (n + 1))))]) C0.1 C0.2.1 dX1_met_64 hl (k := 6) rfl (ww_inc i) (by decide) rfl (fun ls hl => ?_)
          refine lv_goto (tgt := 33) C0.1 C0.2.1 dX1_met_67 (by decide) ?_
          exact ih2 lt2 trivial ls (lv_sub hl [2, 3, 4, 1, 5, 6, 0] rfl)
theorem go_met (C0 : CallFix p m c cc nL s args lw_all RX1) (hsz : ls.size = nL) (hR : 3 ≤ R.frames ∧ 77 ≤ R.locals ∧ cells ≤ R.cells ∧ slots ≤ R.slots) (hrm : (rest.map fun v => v.category).sum ≤ 8) (hK : va_K D vwCl [(d, .long)] s) (hP : va_P D vwCl (gM h0 hE hS d E S (G 0) (G 1) k) H) {a b j : Nat} (ha : a < 30) (hb : b < 30) (hj : j < 64) (hdg : decode cc pc = .ok (.invokevirtual 73, 3)) (kk : W p l e R s m args below meth c H locs cells slots Q (F0 m (pc + 3) ls (.long (gc_rch (gc_stp E G a b) j) :: rest))) : W p l e R s m args below meth c H locs cells slots Q (F0 m pc ls (.int (nI j) :: .int (nI b) :: .int (nI a) :: .ref h0 :: rest)) :=
  ww_callL C0 hK hP rfl (mX1_met l D h0 hE hS d E S G k a b j ha hb hj) (cwV 3 C0.2.2.2.2 (lw_V q259 q261 qs18 q23 q262) rfl rfl rfl (by decide +kernel) ⟨hR.1, hR.2.1⟩) rfl rfl hsz hrm hR.2.2 hdg (fun r hr => by rw [hr]; exact kk)
set_option maxHeartbeats 4000000 in
set_option maxRecDepth 100000 in
/-- resting(a, b) -/
theorem mX1_resting (l : Launch) (D : va_G) (h0 hE hS : Nat) (d : ClassId) (E S G : Nat → Int64) (k : Nat) (a b : Nat) (ha : a < 30) (hb : b < 30) : Met l yX1_resting (ws_ yX1_resting cX1_resting 11 (some .long)) ({ frames := 2, cells := 0, slots := 0, locals := 48 }) (va_Pc [.ref h0, .int (nI a), .int (nI b)] (gP D d (gM h0 hE hS d E S (G 0) (G 1) k))) (vp_Sl (fun r => r = gc_los E S G a b)) 0 0 (fun _ => False) := by
  refine ww_met (by decide) (Nat.le_of_ble_eq_true rfl) ?_
  intro p e s m below meth c C0 hr hlk hnm hv ls hl
  have C0 : CallFix p m c cX1_resting 11 s _ lw_all RX1 := C0
  obtain ⟨hP, hK⟩ := hv
  have hl : lv_has ls 11 [(0, .ref h0), (1, .int (nI a)), (2, .int (nI b))] := hl
  refine lv_aload_n C0.1 C0.2.1 dX1_resting_0 rfl (lv_at hl 0 rfl) ?_
  refine mg_g C0 hK hP dX1_resting_1 ?_
  refine lv_aload_n C0.1 C0.2.1 dX1_resting_4 rfl (lv_at hl 0 rfl) ?_
  refine mg_h C0 hK hP dX1_resting_5 ?_
  refine lv_lor C0.1 C0.2.1 dX1_resting_8 ?_
  refine lv_ldc2 (v := -1) C0.1 C0.2.1 C0.2.2.2.1 (C0.2.2.2.2 _ q206) dX1_resting_9 ?_
  refine lv_lxor C0.1 C0.2.1 dX1_resting_12 ?_
  refine ww_tl (v := gc_out G) rfl ?_
  refine lv_lstore_n (lv' := [(3, .long (gc_out G)), (0, .ref h0), (1, .int (nI a)), (2, .int (nI b))]) C0.1 C0.2.1 dX1_resting_13 rfl hl (by decide) rfl (fun ls hl => ?_)
  refine lv_lload_n C0.1 C0.2.1 dX1_resting_14 rfl (lv_at hl 0 rfl) ?_
  refine lv_ldc2 (v := -1) C0.1 C0.2.1 C0.2.2.2.1 (C0.2.2.2.2 _ q206) dX1_resting_15 ?_
  refine lv_lxor C0.1 C0.2.1 dX1_resting_18 ?_
  refine lv_lstore (lv' := [(5, .long ((gc_out G) ^^^ (-1))), (3, .long (gc_out G)), (0, .ref h0), (1, .int (nI a)), (2, .int (nI b))]) C0.1 C0.2.1 dX1_resting_19 hl (by decide) rfl (fun ls hl => ?_)
  refine lv_iconst (v := 0) C0.1 C0.2.1 dX1_resting_21 (by decide) ?_
  refine lv_istore (lv' := [(7, .int 0), (5, .long ((gc_out G) ^^^ (-1))), (3, .long (gc_out G)), (0, .ref h0), (1, .int (nI a)), (2, .int (nI b))]) C0.1 C0.2.1 dX1_resting_22 hl (by decide) rfl (fun ls hl => ?_)
  refine ww_fuel (nL := 11) 65 (fun n (y : Int64 × Int64) => gc_lM (gc_up (gc_sf (gc_stp E G a b) (fun k => gb (G 0 ||| G 1) k && gc_good S G a b k)) 64) n y.1 y.2 = gc_los E S G a b) (fun n y => [(0, .ref h0), (1, .int (nI a)), (2, .int (nI b)), (3, .long y.1), (5, .long y.2), (7, .int (nI (65 - n)))]) (gc_out G, gc_out G ^^^ (-1)) rfl (lv_sub hl [3, 4, 5, 2, 1, 0] rfl) ?_
  intro n y hn hI ih ls hl
  obtain ⟨y1, y2⟩ := y
  have hl : lv_has ls 11 [(0, .ref h0), (1, .int (nI a)), (2, .int (nI b)), (3, .long y1), (5, .long y2), (7, .int (nI (65 - n)))] := hl
  have hI : gc_lM (gc_up (gc_sf (gc_stp E G a b) (fun k => gb (G 0 ||| G 1) k && gc_good S G a b k)) 64) n y1 y2 = gc_los E S G a b := hI
  refine lv_iload C0.1 C0.2.1 dX1_resting_24 (lv_at hl 5 rfl) ?_
  refine lv_bipush (v := nI 65) C0.1 C0.2.1 dX1_resting_26 (by decide) ?_
  refine lv_icmp_ge (tgt := 119) C0.1 C0.2.1 dX1_resting_28 (by decide) (fun c1 => ?_) (fun c1 => ?_)
  · have e : n = 0 := by have q := (nI_leI (by decide) (by omega)).mp c1; omega
    subst e
    refine lv_lload_n C0.1 C0.2.1 dX1_resting_119 rfl (lv_at hl 3 rfl) ?_
    exact ww_lret C0 hr hlk hI dX1_resting_120
  · obtain ⟨n, rfl⟩ : ∃ n', n = n' + 1 := ⟨n - 1, by have q : ¬ 65 ≤ 65 - n := fun z => c1 (nI_le z (by omega)); omega⟩
    refine lv_lload_n C0.1 C0.2.1 dX1_resting_31 rfl (lv_at hl 3 rfl) ?_
    refine lv_lload C0.1 C0.2.1 dX1_resting_32 (lv_at hl 4 rfl) ?_
    refine W.lcmp C0.1 C0.2.1 dX1_resting_34 ?_
    refine lv_if_eq (tgt := 119) C0.1 C0.2.1 dX1_resting_35 (by decide) (fun c2 => ?_) (fun c2 => ?_)
    · have e : y1 = y2 := (lg_cmp_eq _ _).mp c2
      refine lv_lload_n C0.1 C0.2.1 dX1_resting_119 rfl (lv_at hl 3 rfl) ?_
      exact ww_lret C0 hr hlk (show y1 = gc_los E S G a b from by rw [← hI]; exact (if_pos e).symm) dX1_resting_120
    · have ne : ¬ y1 = y2 := fun q => c2 ((lg_cmp_eq _ _).mpr q)
      have hI : gc_lM (gc_up (gc_sf (gc_stp E G a b) (fun k => gb (G 0 ||| G 1) k && gc_good S G a b k)) 64) n (gc_up (gc_sf (gc_stp E G a b) (fun k => gb (G 0 ||| G 1) k && gc_good S G a b k)) 64 y1) y1 = gc_los E S G a b := by rw [← hI]; exact (if_neg ne).symm
      refine lv_lload_n C0.1 C0.2.1 dX1_resting_38 rfl (lv_at hl 3 rfl) ?_
      refine lv_lstore (lv' := [(5, .long y1), (0, .ref h0), (1, .int (nI a)), (2, .int (nI b)), (3, .long y1), (7, .int (nI (65 - (n + 1))))]) C0.1 C0.2.1 dX1_resting_39 hl (by decide) rfl (fun ls hl => ?_)
      refine lv_iconst (v := 0) C0.1 C0.2.1 dX1_resting_41 (by decide) ?_
      refine lv_istore (lv' := [(8, .int 0), (5, .long y1), (0, .ref h0), (1, .int (nI a)), (2, .int (nI b)), (3, .long y1), (7, .int (nI (65 - (n + 1))))]) C0.1 C0.2.1 dX1_resting_42 hl (by decide) rfl (fun ls hl => ?_)
      refine ww_for (nL := 11) 64 (fun _ => True) (fun i => [(0, .ref h0), (1, .int (nI a)), (2, .int (nI b)), (3, .long (gc_up (gc_sf (gc_stp E G a b) (fun k => gb (G 0 ||| G 1) k && gc_good S G a b k)) i y1)), (5, .long y1), (7, .int (nI (65 - (n + 1)))), (8, .int (nI i))]) trivial (lv_sub hl [2, 3, 4, 5, 1, 6, 0] rfl) ?_
      intro i hi2 hI2 ih2 ls hl
      have hl : lv_has ls 11 [(0, .ref h0), (1, .int (nI a)), (2, .int (nI b)), (3, .long (gc_up (gc_sf (gc_stp E G a b) (fun k => gb (G 0 ||| G 1) k && gc_good S G a b k)) i y1)), (5, .long y1), (7, .int (nI (65 - (n + 1)))), (8, .int (nI i))] := hl
      refine lv_iload C0.1 C0.2.1 dX1_resting_44 (lv_at hl 6 rfl) ?_
      refine lv_bipush (v := nI 64) C0.1 C0.2.1 dX1_resting_46 (by decide) ?_
      refine lv_icmp_ge (tgt := 113) C0.1 C0.2.1 dX1_resting_48 (by decide) (fun c3 => ?_) (fun c3 => ?_)
      · have e2 : i = 64 := ww_eq hi2 (by decide) c3
        subst e2
        have en : nI (65 - (n + 1)) + Int32.ofInt 1 = nI (65 - n) := by rw [ww_inc]; congr 1; omega
        refine lv_iinc (v := nI (65 - n)) (lv' := [(7, .int (nI (65 - n))), (0, .ref h0), (1, .int (nI a)), (2, .int (nI b)), (3, .long (gc_up (gc_sf (gc_stp E G a b) (fun k => gb (G 0 ||| G 1) k && gc_good S G a b k)) 64 y1)), (5, .long y1), (8, .int (nI 64))]) C0.1 C0.2.1 dX1_resting_113 hl (k := 5) rfl en (by decide) rfl (fun ls hl => ?_)
        refine lv_goto (tgt := 24) C0.1 C0.2.1 dX1_resting_116 (by decide) ?_
        exact ih n rfl (_, _) hI ls (lv_sub hl [1, 2, 3, 4, 5, 0] rfl)
      · have lt2 : i < 64 := ww_lt hi2 (by decide) c3
        obtain ⟨acc, hacc⟩ : ∃ q, q = gc_up (gc_sf (gc_stp E G a b) (fun k => gb (G 0 ||| G 1) k && gc_good S G a b k)) i y1 := ⟨_, rfl⟩
        rw [← hacc] at hl
        have hl : lv_has ls 11 [(0, .ref h0), (1, .int (nI a)), (2, .int (nI b)), (3, .long acc), (5, .long y1), (7, .int (nI (65 - (n + 1)))), (8, .int (nI i))] := hl
        refine lv_aload_n C0.1 C0.2.1 dX1_resting_51 rfl (lv_at hl 0 rfl) ?_
        refine lv_iload_n C0.1 C0.2.1 dX1_resting_52 rfl (lv_at hl 1 rfl) ?_
        refine lv_iload_n C0.1 C0.2.1 dX1_resting_53 rfl (lv_at hl 2 rfl) ?_
        refine lv_iload C0.1 C0.2.1 dX1_resting_54 (lv_at hl 6 rfl) ?_
        refine go_mstep C0 hl.1 ⟨Nat.le_of_ble_eq_true rfl, Nat.le_of_ble_eq_true rfl, Nat.le_of_ble_eq_true rfl, Nat.le_of_ble_eq_true rfl⟩ (Nat.le_of_ble_eq_true rfl) hK (G := G) hP (a := a) (b := b) (j := i) (by omega) (by omega) (by omega) dX1_resting_56 ?_
        refine lv_lstore (lv' := [(9, .long (gc_stp E G a b i)), (0, .ref h0), (1, .int (nI a)), (2, .int (nI b)), (3, .long acc), (5, .long y1), (7, .int (nI (65 - (n + 1)))), (8, .int (nI i))]) C0.1 C0.2.1 dX1_resting_59 hl (by decide) rfl (fun ls hl => ?_)
        refine lv_aload_n C0.1 C0.2.1 dX1_resting_61 rfl (lv_at hl 1 rfl) ?_
        refine lv_aload_n C0.1 C0.2.1 dX1_resting_62 rfl (lv_at hl 1 rfl) ?_
        refine mg_g C0 hK hP dX1_resting_63 ?_
        refine lv_aload_n C0.1 C0.2.1 dX1_resting_66 rfl (lv_at hl 1 rfl) ?_
        refine mg_h C0 hK hP dX1_resting_67 ?_
        refine lv_lor C0.1 C0.2.1 dX1_resting_70 ?_
        refine lv_iload C0.1 C0.2.1 dX1_resting_71 (lv_at hl 7 rfl) ?_
        refine go_in C0 hl.1 ⟨Nat.le_of_ble_eq_true rfl, Nat.le_of_ble_eq_true rfl, Nat.le_of_ble_eq_true rfl, Nat.le_of_ble_eq_true rfl⟩ (Nat.le_of_ble_eq_true rfl) hK (G := G) hP (j := i) (by omega) dX1_resting_73 ?_
        refine lv_if_eq (tgt := 107) C0.1 C0.2.1 dX1_resting_76 (by decide) (fun d1 => ?_) (fun d1 => ?_)
        · have ea : acc = gc_up (gc_sf (gc_stp E G a b) (fun k => gb (G 0 ||| G 1) k && gc_good S G a b k)) (i + 1) y1 := by
            rw [gc_up_s, ← hacc]; show acc = if (gb (G 0 ||| G 1) i && gc_good S G a b i && decide (gc_stp E G a b i &&& (acc ^^^ (-1)) = 0)) then acc ||| gw i else acc
            exact (if_neg (by rw [Bool.eq_false_iff.mpr (gc_b0.mp d1)]; simp)).symm
          rw [ea] at hl
          refine lv_iinc (v := nI (i + 1)) (lv' := [(8, .int (nI (i + 1))), (9, .long (gc_stp E G a b i)), (0, .ref h0), (1, .int (nI a)), (2, .int (nI b)), (3, .long (gc_up (gc_sf (gc_stp E G a b) (fun k => gb (G 0 ||| G 1) k && gc_good S G a b k)) (i + 1) y1)), (5, .long y1), (7, .int (nI (65 - (n + 1))))]) C0.1 C0.2.1 dX1_resting_107 hl (k := 7) rfl (ww_inc i) (by decide) rfl (fun ls hl => ?_)
          refine lv_goto (tgt := 44) C0.1 C0.2.1 dX1_resting_110 (by decide) ?_
          exact ih2 lt2 trivial ls (lv_sub hl [2, 3, 4, 5, 6, 7, 0] rfl)
        · refine lv_aload_n C0.1 C0.2.1 dX1_resting_79 rfl (lv_at hl 1 rfl) ?_
          refine lv_iload_n C0.1 C0.2.1 dX1_resting_80 rfl (lv_at hl 2 rfl) ?_
          refine lv_iload_n C0.1 C0.2.1 dX1_resting_81 rfl (lv_at hl 3 rfl) ?_
          refine lv_iload C0.1 C0.2.1 dX1_resting_82 (lv_at hl 7 rfl) ?_
          refine go_good C0 hl.1 ⟨Nat.le_of_ble_eq_true rfl, Nat.le_of_ble_eq_true rfl, Nat.le_of_ble_eq_true rfl, Nat.le_of_ble_eq_true rfl⟩ (Nat.le_of_ble_eq_true rfl) hK (G := G) hP (a := a) (b := b) (j := i) (by omega) (by omega) (by omega) dX1_resting_84 ?_
          refine lv_if_eq (tgt := 107) C0.1 C0.2.1 dX1_resting_87 (by decide) (fun d2 => ?_) (fun d2 => ?_)
          · have ea : acc = gc_up (gc_sf (gc_stp E G a b) (fun k => gb (G 0 ||| G 1) k && gc_good S G a b k)) (i + 1) y1 := by
              rw [gc_up_s, ← hacc]; show acc = if (gb (G 0 ||| G 1) i && gc_good S G a b i && decide (gc_stp E G a b i &&& (acc ^^^ (-1)) = 0)) then acc ||| gw i else acc
              exact (if_neg (by rw [Bool.eq_false_iff.mpr (gc_b0.mp d2)]; simp)).symm
            rw [ea] at hl
            refine lv_iinc (v := nI (i + 1)) (lv' := [(8, .int (nI (i + 1))), (9, .long (gc_stp E G a b i)), (0, .ref h0), (1, .int (nI a)), (2, .int (nI b)), (3, .long (gc_up (gc_sf (gc_stp E G a b) (fun k => gb (G 0 ||| G 1) k && gc_good S G a b k)) (i + 1) y1)), (5, .long y1), (7, .int (nI (65 - (n + 1))))]) C0.1 C0.2.1 dX1_resting_107 hl (k := 7) rfl (ww_inc i) (by decide) rfl (fun ls hl => ?_)
            refine lv_goto (tgt := 44) C0.1 C0.2.1 dX1_resting_110 (by decide) ?_
            exact ih2 lt2 trivial ls (lv_sub hl [2, 3, 4, 5, 6, 7, 0] rfl)
          · refine lv_aload_n C0.1 C0.2.1 dX1_resting_90 rfl (lv_at hl 1 rfl) ?_
            refine lv_lload C0.1 C0.2.1 dX1_resting_91 (lv_at hl 0 rfl) ?_
            refine lv_lload_n C0.1 C0.2.1 dX1_resting_93 rfl (lv_at hl 4 rfl) ?_
            refine go_part C0 hl.1 ⟨Nat.le_of_ble_eq_true rfl, Nat.le_of_ble_eq_true rfl, Nat.le_of_ble_eq_true rfl, Nat.le_of_ble_eq_true rfl⟩ (Nat.le_of_ble_eq_true rfl) hK (G := G) hP dX1_resting_94 ?_
            refine lv_if_eq (tgt := 107) C0.1 C0.2.1 dX1_resting_97 (by decide) (fun d3 => ?_) (fun d3 => ?_)
            · have ea : acc = gc_up (gc_sf (gc_stp E G a b) (fun k => gb (G 0 ||| G 1) k && gc_good S G a b k)) (i + 1) y1 := by
                rw [gc_up_s, ← hacc]; show acc = if (gb (G 0 ||| G 1) i && gc_good S G a b i && decide (gc_stp E G a b i &&& (acc ^^^ (-1)) = 0)) then acc ||| gw i else acc
                exact (if_neg (by rw [decide_eq_false (gc_b0.mp d3)]; simp)).symm
              rw [ea] at hl
              refine lv_iinc (v := nI (i + 1)) (lv' := [(8, .int (nI (i + 1))), (9, .long (gc_stp E G a b i)), (0, .ref h0), (1, .int (nI a)), (2, .int (nI b)), (3, .long (gc_up (gc_sf (gc_stp E G a b) (fun k => gb (G 0 ||| G 1) k && gc_good S G a b k)) (i + 1) y1)), (5, .long y1), (7, .int (nI (65 - (n + 1))))]) C0.1 C0.2.1 dX1_resting_107 hl (k := 7) rfl (ww_inc i) (by decide) rfl (fun ls hl => ?_)
              refine lv_goto (tgt := 44) C0.1 C0.2.1 dX1_resting_110 (by decide) ?_
              exact ih2 lt2 trivial ls (lv_sub hl [2, 3, 4, 5, 6, 7, 0] rfl)
            · refine lv_lload_n C0.1 C0.2.1 dX1_resting_100 rfl (lv_at hl 4 rfl) ?_
              refine lv_lconst (v := 1) C0.1 C0.2.1 dX1_resting_101 (by decide) ?_
              refine lv_iload C0.1 C0.2.1 dX1_resting_102 (lv_at hl 7 rfl) ?_
              refine lv_lshl (v := gw i) C0.1 C0.2.1 dX1_resting_104 rfl ?_
              refine lv_lor C0.1 C0.2.1 dX1_resting_105 ?_
              refine ww_tl (v := gc_up (gc_sf (gc_stp E G a b) (fun k => gb (G 0 ||| G 1) k && gc_good S G a b k)) (i + 1) y1) (by rw [gc_up_s, ← hacc]; show _ = if (gb (G 0 ||| G 1) i && gc_good S G a b i && decide (gc_stp E G a b i &&& (acc ^^^ (-1)) = 0)) then acc ||| gw i else acc; exact (if_pos (by rw [gc_b1 d1, gc_b1 d2, decide_eq_true (gc_b1 d3)]; rfl)).symm) ?_
              refine lv_lstore_n (lv' := [(3, .long (gc_up (gc_sf (gc_stp E G a b) (fun k => gb (G 0 ||| G 1) k && gc_good S G a b k)) (i + 1) y1)), (9, .long (gc_stp E G a b i)), (0, .ref h0), (1, .int (nI a)), (2, .int (nI b)), (5, .long y1), (7, .int (nI (65 - (n + 1)))), (8, .int (nI i))]) C0.1 C0.2.1 dX1_resting_106 rfl hl (by decide) rfl (fun ls hl => ?_)
              refine lv_iinc (v := nI (i + 1)) (lv' := [(8, .int (nI (i + 1))), (3, .long (gc_up (gc_sf (gc_stp E G a b) (fun k => gb (G 0 ||| G 1) k && gc_good S G a b k)) (i + 1) y1)), (9, .long (gc_stp E G a b i)), (0, .ref h0), (1, .int (nI a)), (2, .int (nI b)), (5, .long y1), (7, .int (nI (65 - (n + 1))))]) C0.1 C0.2.1 dX1_resting_107 hl (k := 7) rfl (ww_inc i) (by decide) rfl (fun ls hl => ?_)
              refine lv_goto (tgt := 44) C0.1 C0.2.1 dX1_resting_110 (by decide) ?_
              exact ih2 lt2 trivial ls (lv_sub hl [3, 4, 5, 1, 6, 7, 0] rfl)
theorem go_resting (C0 : CallFix p m c cc nL s args lw_all RX1) (hsz : ls.size = nL) (hR : 3 ≤ R.frames ∧ 78 ≤ R.locals ∧ cells ≤ R.cells ∧ slots ≤ R.slots) (hrm : (rest.map fun v => v.category).sum ≤ 8) (hK : va_K D vwCl [(d, .long)] s) (hP : va_P D vwCl (gM h0 hE hS d E S (G 0) (G 1) k) H) {a b : Nat} (ha : a < 30) (hb : b < 30) (hdg : decode cc pc = .ok (.invokevirtual 76, 3)) (kk : W p l e R s m args below meth c H locs cells slots Q (F0 m (pc + 3) ls (.long (gc_los E S G a b) :: rest))) : W p l e R s m args below meth c H locs cells slots Q (F0 m pc ls (.int (nI b) :: .int (nI a) :: .ref h0 :: rest)) :=
  ww_callL C0 hK hP rfl (mX1_resting l D h0 hE hS d E S G k a b ha hb) (cwV 2 C0.2.2.2.2 (lw_V q263 q265 qs19 q23 q266) rfl rfl rfl (by decide +kernel) ⟨hR.1, hR.2.1⟩) rfl rfl hsz hrm hR.2.2 hdg (fun r hr => by rw [hr]; exact kk)
end X1H
end
section
/-! THE REFERENCE: contracts of its operations that change it -/
set_option maxRecDepth 100000
section X1M
variable {p : Program} {l : Launch} {e : Env} {R : Room} {s : State} {m : MethodId} {args : Array Value} {below : List Frame} {meth : Method} {c : Code} {H : Heap} {locs : List Loc} {cells slots : Nat} {Q : State → Prop} {pc : Nat} {ls : Array Slot} {rest : List Value} {cc : ByteArray} {nL : Nat} {D : va_G} {d : ClassId} {A : Nat → Prop} {H0 : Heap} {h0 hE hS hG : Nat} {E S G : Nat → Int64} {g h : Int64} {k : Nat}
set_option maxHeartbeats 4000000 in
set_option maxRecDepth 100000 in
/-- keep(w, x) -/
theorem mX1_keep (l : Launch) (D : va_G) (h0 hE hS : Nat) (d : ClassId) (E S G : Nat → Int64) (k : Nat) (sz : Nat) (w0 : Int32) (x : Int64) : Met l yX1_keep (ws_ yX1_keep cX1_keep 4 (some .int)) ({ frames := 2, cells := 0, slots := 0, locals := 47 }) (va_Pc [.ref h0, .int w0, .long x] (gC D d sz (gM h0 hE hS d E S (G 0) (G 1) k))) (gQ D d sz (gM h0 hE hS d E S (G 0) (G 1) k) ((o_guard (E, S, G, k) w0 x).1) (gM h0 hE hS d ((o_guard (E, S, G, k) w0 x).2.1) ((o_guard (E, S, G, k) w0 x).2.2.1) (((o_guard (E, S, G, k) w0 x).2.2.2.1) 0) (((o_guard (E, S, G, k) w0 x).2.2.2.1) 1) ((o_guard (E, S, G, k) w0 x).2.2.2.2))) 0 0 (va_A (gM h0 hE hS d E S (G 0) (G 1) k) sz) := by
  refine ww_met (by decide) (Nat.le_of_ble_eq_true rfl) ?_
  intro p e s m below meth c C0 hr hlk hnm hv ls hl
  have C0 : CallFix p m c cX1_keep 4 s _ lw_all RX1 := C0
  obtain ⟨hsz, hP, hK, hD0⟩ := hv
  subst hsz
  have hD : va_D (va_A (gM h0 hE hS d E S (G 0) (G 1) k) s.heap.size) (gM h0 hE hS d E S (G 0) (G 1) k) := hD0.self
  have hs : va_S (va_A (gM h0 hE hS d E S (G 0) (G 1) k) s.heap.size) s.heap s.heap [] := va_S.rf
  have hA : ∀ q, s.heap.size ≤ q → va_A (gM h0 hE hS d E S (G 0) (G 1) k) s.heap.size q := fun q h => Or.inr h
  have hl : lv_has ls 4 [(0, .ref h0), (1, .int w0), (2, .long x)] := hl
  refine lv_iload_n C0.1 C0.2.1 dX1_keep_0 rfl (lv_at hl 1 rfl) ?_
  refine lv_if_ne (tgt := 12) C0.1 C0.2.1 dX1_keep_1 (by decide) (fun cw => ?_) (fun cw => ?_)
  · refine lv_aload_n C0.1 C0.2.1 dX1_keep_12 rfl (lv_at hl 0 rfl) ?_
    refine lv_lload_n C0.1 C0.2.1 dX1_keep_13 rfl (lv_at hl 2 rfl) ?_
    refine mp_h C0 hK hP hD hs dX1_keep_14 (fun H locs hP hD hs => ?_)
    have hP : va_P D vwCl (gM h0 hE hS d E S ((vp_updL G (if w0 = 0 then 0 else 1) x) 0) ((vp_updL G (if w0 = 0 then 0 else 1) x) 1) k) H := by rw [if_neg cw]; exact hP
    have hD : va_D (va_A (gM h0 hE hS d E S (G 0) (G 1) k) s.heap.size) (gM h0 hE hS d E S ((vp_updL G (if w0 = 0 then 0 else 1) x) 0) ((vp_updL G (if w0 = 0 then 0 else 1) x) 1) k) := by rw [if_neg cw]; exact hD
    refine lv_aload_n C0.1 C0.2.1 dX1_keep_17 rfl (lv_at hl 0 rfl) ?_
    refine lv_lload_n C0.1 C0.2.1 dX1_keep_18 rfl (lv_at hl 2 rfl) ?_
    refine go_size C0 hl.1 ⟨Nat.le_of_ble_eq_true rfl, Nat.le_of_ble_eq_true rfl, Nat.le_of_ble_eq_true rfl, Nat.le_of_ble_eq_true rfl⟩ (Nat.le_of_ble_eq_true rfl) hK (G := vp_updL G (if w0 = 0 then 0 else 1) x) hP dX1_keep_19 ?_
    exact ww_cret C0 hr hlk hK hP hD hs rfl dX1_keep_22
  · refine lv_aload_n C0.1 C0.2.1 dX1_keep_4 rfl (lv_at hl 0 rfl) ?_
    refine lv_lload_n C0.1 C0.2.1 dX1_keep_5 rfl (lv_at hl 2 rfl) ?_
    refine mp_g C0 hK hP hD hs dX1_keep_6 (fun H locs hP hD hs => ?_)
    have hP : va_P D vwCl (gM h0 hE hS d E S ((vp_updL G (if w0 = 0 then 0 else 1) x) 0) ((vp_updL G (if w0 = 0 then 0 else 1) x) 1) k) H := by rw [if_pos cw]; exact hP
    have hD : va_D (va_A (gM h0 hE hS d E S (G 0) (G 1) k) s.heap.size) (gM h0 hE hS d E S ((vp_updL G (if w0 = 0 then 0 else 1) x) 0) ((vp_updL G (if w0 = 0 then 0 else 1) x) 1) k) := by rw [if_pos cw]; exact hD
    refine lv_goto (tgt := 17) C0.1 C0.2.1 dX1_keep_9 (by decide) ?_
    refine lv_aload_n C0.1 C0.2.1 dX1_keep_17 rfl (lv_at hl 0 rfl) ?_
    refine lv_lload_n C0.1 C0.2.1 dX1_keep_18 rfl (lv_at hl 2 rfl) ?_
    refine go_size C0 hl.1 ⟨Nat.le_of_ble_eq_true rfl, Nat.le_of_ble_eq_true rfl, Nat.le_of_ble_eq_true rfl, Nat.le_of_ble_eq_true rfl⟩ (Nat.le_of_ble_eq_true rfl) hK (G := vp_updL G (if w0 = 0 then 0 else 1) x) hP dX1_keep_19 ?_
    exact ww_cret C0 hr hlk hK hP hD hs rfl dX1_keep_22
theorem go_keep (C0 : CallFix p m c cc nL s args lw_all RX1) (hsz : ls.size = nL) (hR : 3 ≤ R.frames ∧ 70 ≤ R.locals ∧ cells ≤ R.cells ∧ slots ≤ R.slots) (hrm : (rest.map fun v => v.category).sum ≤ 8) (hK : va_K D vwCl [(d, .long)] s) (hP : va_P D vwCl (gM h0 hE hS d E S (G 0) (G 1) k) H) (hD : va_D A (gM h0 hE hS d E S (G 0) (G 1) k)) (hs : va_S A H0 H locs) (hA : ∀ q, H0.size ≤ q → A q) {w0 : Int32} {x : Int64} (hdg : decode cc pc = .ok (.invokevirtual 31, 3)) (kk : ∀ (H : Heap) (locs : List Loc), va_P D vwCl (gM h0 hE hS d ((o_guard (E, S, G, k) w0 x).2.1) ((o_guard (E, S, G, k) w0 x).2.2.1) (((o_guard (E, S, G, k) w0 x).2.2.2.1) 0) (((o_guard (E, S, G, k) w0 x).2.2.2.1) 1) ((o_guard (E, S, G, k) w0 x).2.2.2.2)) H → va_D A (gM h0 hE hS d ((o_guard (E, S, G, k) w0 x).2.1) ((o_guard (E, S, G, k) w0 x).2.2.1) (((o_guard (E, S, G, k) w0 x).2.2.2.1) 0) (((o_guard (E, S, G, k) w0 x).2.2.2.1) 1) ((o_guard (E, S, G, k) w0 x).2.2.2.2)) → va_S A H0 H locs → W p l e R s m args below meth c H locs cells slots Q (F0 m (pc + 3) ls (.int ((o_guard (E, S, G, k) w0 x).1) :: rest))) : W p l e R s m args below meth c H locs cells slots Q (F0 m pc ls (.long x :: .int w0 :: .ref h0 :: rest)) :=
  ww_callC C0 hK hP hD hs hA rfl (mX1_keep l D h0 hE hS d E S G k H.size w0 x) (cwV 2 C0.2.2.2.2 (lw_V q182 q184 qs7 q23 q185) rfl rfl rfl (by decide +kernel) ⟨hR.1, hR.2.1⟩) rfl rfl hsz hrm hR.2.2 hdg kk
set_option maxHeartbeats 4000000 in
set_option maxRecDepth 100000 in
/-- guard(w, x) -/
theorem mX1_guard (l : Launch) (D : va_G) (h0 hE hS : Nat) (d : ClassId) (E S G : Nat → Int64) (k : Nat) (sz : Nat) (w0 : Int32) (x : Int64) : Met l yX1_guard (ws_ yX1_guard cX1_guard 4 (some .int)) ({ frames := 3, cells := 0, slots := 0, locals := 70 }) (va_Pc [.ref h0, .int w0, .long x] (gC D d sz (gM h0 hE hS d E S (G 0) (G 1) k))) (gQ D d sz (gM h0 hE hS d E S (G 0) (G 1) k) ((o_guard (E, S, G, k) w0 x).1) (gM h0 hE hS d ((o_guard (E, S, G, k) w0 x).2.1) ((o_guard (E, S, G, k) w0 x).2.2.1) (((o_guard (E, S, G, k) w0 x).2.2.2.1) 0) (((o_guard (E, S, G, k) w0 x).2.2.2.1) 1) ((o_guard (E, S, G, k) w0 x).2.2.2.2))) 0 0 (va_A (gM h0 hE hS d E S (G 0) (G 1) k) sz) := by
  refine ww_met (by decide) (Nat.le_of_ble_eq_true rfl) ?_
  intro p e s m below meth c C0 hr hlk hnm hv ls hl
  have C0 : CallFix p m c cX1_guard 4 s _ lw_all RX1 := C0
  obtain ⟨hsz, hP, hK, hD0⟩ := hv
  subst hsz
  have hD : va_D (va_A (gM h0 hE hS d E S (G 0) (G 1) k) s.heap.size) (gM h0 hE hS d E S (G 0) (G 1) k) := hD0.self
  have hs : va_S (va_A (gM h0 hE hS d E S (G 0) (G 1) k) s.heap.size) s.heap s.heap [] := va_S.rf
  have hA : ∀ q, s.heap.size ≤ q → va_A (gM h0 hE hS d E S (G 0) (G 1) k) s.heap.size q := fun q h => Or.inr h
  have hl : lv_has ls 4 [(0, .ref h0), (1, .int w0), (2, .long x)] := hl
  refine lv_aload_n C0.1 C0.2.1 dX1_guard_0 rfl (lv_at hl 0 rfl) ?_
  refine lv_iload_n C0.1 C0.2.1 dX1_guard_1 rfl (lv_at hl 1 rfl) ?_
  refine lv_lload_n C0.1 C0.2.1 dX1_guard_2 rfl (lv_at hl 2 rfl) ?_
  refine go_keep (G := G) C0 hl.1 ⟨Nat.le_of_ble_eq_true rfl, Nat.le_of_ble_eq_true rfl, Nat.le_of_ble_eq_true rfl, Nat.le_of_ble_eq_true rfl⟩ (Nat.le_of_ble_eq_true rfl) hK hP hD hs hA  dX1_guard_3 (fun H locs hP hD hs => ?_)
  exact ww_cret C0 hr hlk hK hP hD hs rfl dX1_guard_6
set_option maxHeartbeats 4000000 in
set_option maxRecDepth 100000 in
/-- compare(w, form, bound) -/
theorem mX1_compare (l : Launch) (D : va_G) (h0 hE hS : Nat) (d : ClassId) (E S G : Nat → Int64) (k : Nat) (sz : Nat) (w0 f0 b0 : Int32) : Met l yX1_compare (ws_ yX1_compare cX1_compare 7 (some .int)) ({ frames := 3, cells := 0, slots := 0, locals := 70 }) (va_Pc [.ref h0, .int w0, .int f0, .int b0] (gC D d sz (gM h0 hE hS d E S (G 0) (G 1) k))) (gQ D d sz (gM h0 hE hS d E S (G 0) (G 1) k) ((o_compare (E, S, G, k) w0 f0 b0).1) (gM h0 hE hS d ((o_compare (E, S, G, k) w0 f0 b0).2.1) ((o_compare (E, S, G, k) w0 f0 b0).2.2.1) (((o_compare (E, S, G, k) w0 f0 b0).2.2.2.1) 0) (((o_compare (E, S, G, k) w0 f0 b0).2.2.2.1) 1) ((o_compare (E, S, G, k) w0 f0 b0).2.2.2.2))) 0 0 (va_A (gM h0 hE hS d E S (G 0) (G 1) k) sz) := by
  refine ww_met (by decide) (Nat.le_of_ble_eq_true rfl) ?_
  intro p e s m below meth c C0 hr hlk hnm hv ls hl
  have C0 : CallFix p m c cX1_compare 7 s _ lw_all RX1 := C0
  obtain ⟨hsz, hP, hK, hD0⟩ := hv
  subst hsz
  have hD : va_D (va_A (gM h0 hE hS d E S (G 0) (G 1) k) s.heap.size) (gM h0 hE hS d E S (G 0) (G 1) k) := hD0.self
  have hs : va_S (va_A (gM h0 hE hS d E S (G 0) (G 1) k) s.heap.size) s.heap s.heap [] := va_S.rf
  have hA : ∀ q, s.heap.size ≤ q → va_A (gM h0 hE hS d E S (G 0) (G 1) k) s.heap.size q := fun q h => Or.inr h
  have hl : lv_has ls 7 [(0, .ref h0), (1, .int w0), (2, .int f0), (3, .int b0)] := hl
  refine lv_iload_n C0.1 C0.2.1 dX1_compare_0 rfl (lv_at hl 2 rfl) ?_
  refine lv_if_lt (tgt := 11) C0.1 C0.2.1 dX1_compare_1 (by decide) (fun c1 => ?_) (fun c1 => ?_)
  · refine lv_iconst (v := -1) C0.1 C0.2.1 dX1_compare_11 (by decide) ?_
    rw [show o_compare (E, S, G, k) w0 f0 b0 = _ from o_compare_bad (Or.inl c1)]
    exact ww_cret C0 hr hlk hK hP hD hs rfl dX1_compare_12
  · refine lv_iload_n C0.1 C0.2.1 dX1_compare_4 rfl (lv_at hl 2 rfl) ?_
    refine lv_sipush (v := nI 511) C0.1 C0.2.1 dX1_compare_5 (by decide) ?_
    refine lv_icmp_le (tgt := 13) C0.1 C0.2.1 dX1_compare_8 (by decide) (fun c2 => ?_) (fun c2 => ?_)
    · obtain ⟨f, hf, rfl⟩ := f511 c1 c2
      refine lv_iload_n C0.1 C0.2.1 dX1_compare_13 rfl (lv_at hl 3 rfl) ?_
      refine lv_if_lt (tgt := 23) C0.1 C0.2.1 dX1_compare_14 (by decide) (fun c3 => ?_) (fun c3 => ?_)
      · refine lv_bipush (v := -2) C0.1 C0.2.1 dX1_compare_23 (by decide) ?_
        rw [show o_compare (E, S, G, k) w0 (nI f) b0 = _ from o_compare_bad2 (f511n hf) (Or.inl c3)]
        exact ww_cret C0 hr hlk hK hP hD hs rfl dX1_compare_25
      · refine lv_iload_n C0.1 C0.2.1 dX1_compare_17 rfl (lv_at hl 3 rfl) ?_
        refine lv_bipush (v := nI 8) C0.1 C0.2.1 dX1_compare_18 (by decide) ?_
        refine lv_icmp_le (tgt := 26) C0.1 C0.2.1 dX1_compare_20 (by decide) (fun c4 => ?_) (fun c4 => ?_)
        · obtain ⟨b, hb, rfl⟩ := f8 c3 c4
          refine lv_lconst (v := 0) C0.1 C0.2.1 dX1_compare_26 (by decide) ?_
          refine lv_lstore (lv' := [(4, .long 0), (0, .ref h0), (1, .int w0), (2, .int (nI f)), (3, .int (nI b))]) C0.1 C0.2.1 dX1_compare_27 hl (by decide) rfl (fun ls hl => ?_)
          refine lv_iconst (v := 0) C0.1 C0.2.1 dX1_compare_29 (by decide) ?_
          refine lv_istore (lv' := [(6, .int 0), (4, .long 0), (0, .ref h0), (1, .int w0), (2, .int (nI f)), (3, .int (nI b))]) C0.1 C0.2.1 dX1_compare_30 hl (by decide) rfl (fun ls hl => ?_)
          refine ww_for (nL := 7) 64 (fun _ => True) (fun i => [(0, .ref h0), (1, .int w0), (2, .int (nI f)), (3, .int (nI b)), (4, .long (gc_up (fun s acc => if gc_fv f s < b then acc ||| gw s else acc) i 0)), (6, .int (nI i))]) trivial (lv_sub hl [2, 3, 4, 5, 1, 0] rfl) ?_
          intro i hi hI ih ls hl
          have hl : lv_has ls 7 [(0, .ref h0), (1, .int w0), (2, .int (nI f)), (3, .int (nI b)), (4, .long (gc_up (fun s acc => if gc_fv f s < b then acc ||| gw s else acc) i 0)), (6, .int (nI i))] := hl
          refine lv_iload C0.1 C0.2.1 dX1_compare_32 (lv_at hl 5 rfl) ?_
          refine lv_bipush (v := nI 64) C0.1 C0.2.1 dX1_compare_34 (by decide) ?_
          refine lv_icmp_ge (tgt := 65) C0.1 C0.2.1 dX1_compare_36 (by decide) (fun c5 => ?_) (fun c5 => ?_)
          · have e : i = 64 := ww_eq hi (by decide) c5
            subst e
            have hl : lv_has ls 7 [(0, .ref h0), (1, .int w0), (2, .int (nI f)), (3, .int (nI b)), (4, .long (gc_cmp f b)), (6, .int (nI 64))] := hl
            refine lv_aload_n C0.1 C0.2.1 dX1_compare_65 rfl (lv_at hl 0 rfl) ?_
            refine lv_iload_n C0.1 C0.2.1 dX1_compare_66 rfl (lv_at hl 1 rfl) ?_
            refine lv_lload C0.1 C0.2.1 dX1_compare_67 (lv_at hl 4 rfl) ?_
            refine go_keep (G := G) C0 hl.1 ⟨Nat.le_of_ble_eq_true rfl, Nat.le_of_ble_eq_true rfl, Nat.le_of_ble_eq_true rfl, Nat.le_of_ble_eq_true rfl⟩ (Nat.le_of_ble_eq_true rfl) hK hP hD hs hA  dX1_compare_69 (fun H locs hP hD hs => ?_)
            rw [o_compare_ok hf hb]
            exact ww_cret C0 hr hlk hK hP hD hs rfl dX1_compare_72
          · have lt : i < 64 := ww_lt hi (by decide) c5
            have h7 := gc_fv_lt f i
            refine lv_aload_n C0.1 C0.2.1 dX1_compare_39 rfl (lv_at hl 0 rfl) ?_
            refine lv_iload_n C0.1 C0.2.1 dX1_compare_40 rfl (lv_at hl 2 rfl) ?_
            refine lv_iload C0.1 C0.2.1 dX1_compare_41 (lv_at hl 5 rfl) ?_
            refine go_worth C0 hl.1 ⟨Nat.le_of_ble_eq_true rfl, Nat.le_of_ble_eq_true rfl, Nat.le_of_ble_eq_true rfl, Nat.le_of_ble_eq_true rfl⟩ (Nat.le_of_ble_eq_true rfl) hK (G := G) hP (f := f) (j := i) (by omega) (by omega) dX1_compare_43 ?_
            refine lv_iload_n C0.1 C0.2.1 dX1_compare_46 rfl (lv_at hl 3 rfl) ?_
            refine lv_icmp_ge (tgt := 59) C0.1 C0.2.1 dX1_compare_47 (by decide) (fun c6 => ?_) (fun c6 => ?_)
            · have q6 : ¬ gc_fv f i < b := by have q := (nI_leI (by omega) (by omega)).mp c6; omega
              have ea : gc_up (fun s acc => if gc_fv f s < b then acc ||| gw s else acc) i 0 = gc_up (fun s acc => if gc_fv f s < b then acc ||| gw s else acc) (i + 1) 0 := by rw [gc_up_s]; exact (if_neg q6).symm
              rw [ea] at hl
              refine lv_iinc (v := nI (i + 1)) (lv' := [(6, .int (nI (i + 1))), (0, .ref h0), (1, .int w0), (2, .int (nI f)), (3, .int (nI b)), (4, .long (gc_up (fun s acc => if gc_fv f s < b then acc ||| gw s else acc) (i + 1) 0))]) C0.1 C0.2.1 dX1_compare_59 hl (k := 5) rfl (ww_inc i) (by decide) rfl (fun ls hl => ?_)
              refine lv_goto (tgt := 32) C0.1 C0.2.1 dX1_compare_62 (by decide) ?_
              exact ih lt trivial ls (lv_sub hl [1, 2, 3, 4, 5, 0] rfl)
            · have q6 : gc_fv f i < b := by have q : ¬ b ≤ gc_fv f i := fun z => c6 (nI_le z (by omega)); omega
              refine lv_lload C0.1 C0.2.1 dX1_compare_50 (lv_at hl 4 rfl) ?_
              refine lv_lconst (v := 1) C0.1 C0.2.1 dX1_compare_52 (by decide) ?_
              refine lv_iload C0.1 C0.2.1 dX1_compare_53 (lv_at hl 5 rfl) ?_
              refine lv_lshl (v := gw i) C0.1 C0.2.1 dX1_compare_55 rfl ?_
              refine lv_lor C0.1 C0.2.1 dX1_compare_56 ?_
              refine ww_tl (v := gc_up (fun s acc => if gc_fv f s < b then acc ||| gw s else acc) (i + 1) 0) (by rw [gc_up_s]; exact (if_pos q6).symm) ?_
              refine lv_lstore (lv' := [(4, .long (gc_up (fun s acc => if gc_fv f s < b then acc ||| gw s else acc) (i + 1) 0)), (0, .ref h0), (1, .int w0), (2, .int (nI f)), (3, .int (nI b)), (6, .int (nI i))]) C0.1 C0.2.1 dX1_compare_57 hl (by decide) rfl (fun ls hl => ?_)
              refine lv_iinc (v := nI (i + 1)) (lv' := [(6, .int (nI (i + 1))), (4, .long (gc_up (fun s acc => if gc_fv f s < b then acc ||| gw s else acc) (i + 1) 0)), (0, .ref h0), (1, .int w0), (2, .int (nI f)), (3, .int (nI b))]) C0.1 C0.2.1 dX1_compare_59 hl (k := 5) rfl (ww_inc i) (by decide) rfl (fun ls hl => ?_)
              refine lv_goto (tgt := 32) C0.1 C0.2.1 dX1_compare_62 (by decide) ?_
              exact ih lt trivial ls (lv_sub hl [2, 3, 4, 5, 1, 0] rfl)
        · refine lv_bipush (v := -2) C0.1 C0.2.1 dX1_compare_23 (by decide) ?_
          rw [show o_compare (E, S, G, k) w0 (nI f) b0 = _ from o_compare_bad2 (f511n hf) (Or.inr c4)]
          exact ww_cret C0 hr hlk hK hP hD hs rfl dX1_compare_25
    · refine lv_iconst (v := -1) C0.1 C0.2.1 dX1_compare_11 (by decide) ?_
      rw [show o_compare (E, S, G, k) w0 f0 b0 = _ from o_compare_bad (Or.inr c2)]
      exact ww_cret C0 hr hlk hK hP hD hs rfl dX1_compare_12
set_option maxHeartbeats 4000000 in
set_option maxRecDepth 100000 in
/-- oppose(w) -/
theorem mX1_oppose (l : Launch) (D : va_G) (h0 hE hS : Nat) (d : ClassId) (E S G : Nat → Int64) (k : Nat) (sz : Nat) (w0 : Int32) : Met l yX1_oppose (ws_ yX1_oppose cX1_oppose 2 (some .int)) ({ frames := 3, cells := 0, slots := 0, locals := 70 }) (va_Pc [.ref h0, .int w0] (gC D d sz (gM h0 hE hS d E S (G 0) (G 1) k))) (gQ D d sz (gM h0 hE hS d E S (G 0) (G 1) k) ((o_oppose (E, S, G, k) w0).1) (gM h0 hE hS d ((o_oppose (E, S, G, k) w0).2.1) ((o_oppose (E, S, G, k) w0).2.2.1) (((o_oppose (E, S, G, k) w0).2.2.2.1) 0) (((o_oppose (E, S, G, k) w0).2.2.2.1) 1) ((o_oppose (E, S, G, k) w0).2.2.2.2))) 0 0 (va_A (gM h0 hE hS d E S (G 0) (G 1) k) sz) := by
  refine ww_met (by decide) (Nat.le_of_ble_eq_true rfl) ?_
  intro p e s m below meth c C0 hr hlk hnm hv ls hl
  have C0 : CallFix p m c cX1_oppose 2 s _ lw_all RX1 := C0
  obtain ⟨hsz, hP, hK, hD0⟩ := hv
  subst hsz
  have hD : va_D (va_A (gM h0 hE hS d E S (G 0) (G 1) k) s.heap.size) (gM h0 hE hS d E S (G 0) (G 1) k) := hD0.self
  have hs : va_S (va_A (gM h0 hE hS d E S (G 0) (G 1) k) s.heap.size) s.heap s.heap [] := va_S.rf
  have hA : ∀ q, s.heap.size ≤ q → va_A (gM h0 hE hS d E S (G 0) (G 1) k) s.heap.size q := fun q h => Or.inr h
  have hl : lv_has ls 2 [(0, .ref h0), (1, .int w0)] := hl
  refine lv_aload_n C0.1 C0.2.1 dX1_oppose_0 rfl (lv_at hl 0 rfl) ?_
  refine lv_iload_n C0.1 C0.2.1 dX1_oppose_1 rfl (lv_at hl 1 rfl) ?_
  refine lv_iload_n C0.1 C0.2.1 dX1_oppose_2 rfl (lv_at hl 1 rfl) ?_
  refine lv_if_ne (tgt := 17) C0.1 C0.2.1 dX1_oppose_3 (by decide) (fun cw => ?_) (fun cw => ?_)
  · refine lv_aload_n C0.1 C0.2.1 dX1_oppose_17 rfl (lv_at hl 0 rfl) ?_
    refine mg_h C0 hK hP dX1_oppose_18 ?_
    refine lv_ldc2 (v := -1) C0.1 C0.2.1 C0.2.2.2.1 (C0.2.2.2.2 _ q206) dX1_oppose_21 ?_
    refine lv_lxor C0.1 C0.2.1 dX1_oppose_24 ?_
    have eo : o_oppose (E, S, G, k) w0 = o_guard (E, S, G, k) w0 (G 1 ^^^ (-1)) := by show o_guard (E, S, G, k) w0 (G (if w0 = 0 then 0 else 1) ^^^ (-1)) = _; rw [if_neg cw]
    refine go_keep (G := G) C0 hl.1 ⟨Nat.le_of_ble_eq_true rfl, Nat.le_of_ble_eq_true rfl, Nat.le_of_ble_eq_true rfl, Nat.le_of_ble_eq_true rfl⟩ (Nat.le_of_ble_eq_true rfl) hK hP hD hs hA  dX1_oppose_25 (fun H locs hP hD hs => ?_)
    rw [eo]
    exact ww_cret C0 hr hlk hK hP hD hs rfl dX1_oppose_28
  · refine lv_aload_n C0.1 C0.2.1 dX1_oppose_6 rfl (lv_at hl 0 rfl) ?_
    refine mg_g C0 hK hP dX1_oppose_7 ?_
    refine lv_ldc2 (v := -1) C0.1 C0.2.1 C0.2.2.2.1 (C0.2.2.2.2 _ q206) dX1_oppose_10 ?_
    refine lv_lxor C0.1 C0.2.1 dX1_oppose_13 ?_
    refine lv_goto (tgt := 25) C0.1 C0.2.1 dX1_oppose_14 (by decide) ?_
    have eo : o_oppose (E, S, G, k) w0 = o_guard (E, S, G, k) w0 (G 0 ^^^ (-1)) := by show o_guard (E, S, G, k) w0 (G (if w0 = 0 then 0 else 1) ^^^ (-1)) = _; rw [if_pos cw]
    refine go_keep (G := G) C0 hl.1 ⟨Nat.le_of_ble_eq_true rfl, Nat.le_of_ble_eq_true rfl, Nat.le_of_ble_eq_true rfl, Nat.le_of_ble_eq_true rfl⟩ (Nat.le_of_ble_eq_true rfl) hK hP hD hs hA  dX1_oppose_25 (fun H locs hP hD hs => ?_)
    rw [eo]
    exact ww_cret C0 hr hlk hK hP hD hs rfl dX1_oppose_28
set_option maxHeartbeats 4000000 in
set_option maxRecDepth 100000 in
/-- plain(1) -/
theorem mX1_plain1 (l : Launch) (D : va_G) (h0 hE hS : Nat) (d : ClassId) (E S G : Nat → Int64) (k : Nat) (sz : Nat) (hk : k ≤ 30) : Met l yX1_plain (ws_ yX1_plain cX1_plain 4 (some .int)) ({ frames := 1, cells := 0, slots := 0, locals := 20 }) (va_Pc [.ref h0, .int 1] (gC D d sz (gM h0 hE hS d E S (G 0) (G 1) k))) (gQ D d sz (gM h0 hE hS d E S (G 0) (G 1) k) ((o_skip (E, S, G, k)).1) (gM h0 hE hS d ((o_skip (E, S, G, k)).2.1) ((o_skip (E, S, G, k)).2.2.1) (((o_skip (E, S, G, k)).2.2.2.1) 0) (((o_skip (E, S, G, k)).2.2.2.1) 1) ((o_skip (E, S, G, k)).2.2.2.2))) 0 0 (va_A (gM h0 hE hS d E S (G 0) (G 1) k) sz) := by
  refine ww_met (by decide) (Nat.le_of_ble_eq_true rfl) ?_
  intro p e s m below meth c C0 hr hlk hnm hv ls hl
  have C0 : CallFix p m c cX1_plain 4 s _ lw_all RX1 := C0
  obtain ⟨hsz, hP, hK, hD0⟩ := hv
  subst hsz
  have hD : va_D (va_A (gM h0 hE hS d E S (G 0) (G 1) k) s.heap.size) (gM h0 hE hS d E S (G 0) (G 1) k) := hD0.self
  have hs : va_S (va_A (gM h0 hE hS d E S (G 0) (G 1) k) s.heap.size) s.heap s.heap [] := va_S.rf
  have hA : ∀ q, s.heap.size ≤ q → va_A (gM h0 hE hS d E S (G 0) (G 1) k) s.heap.size q := fun q h => Or.inr h
  have hl : lv_has ls 4 [(0, .ref h0), (1, .int 1)] := hl
  refine lv_aload_n C0.1 C0.2.1 dX1_plain_0 rfl (lv_at hl 0 rfl) ?_
  refine go_full C0 hl.1 ⟨Nat.le_of_ble_eq_true rfl, Nat.le_of_ble_eq_true rfl, Nat.le_of_ble_eq_true rfl, Nat.le_of_ble_eq_true rfl⟩ (Nat.le_of_ble_eq_true rfl) hK (G := G) hP hk dX1_plain_1 ?_
  refine lv_if_eq (tgt := 9) C0.1 C0.2.1 dX1_plain_4 (by decide) (fun c1 => ?_) (fun c1 => ?_)
  · have hk3 : k < 30 := by have q := gc_b0.mp c1; omega
    refine lv_aload_n C0.1 C0.2.1 dX1_plain_9 rfl (lv_at hl 0 rfl) ?_
    refine mg_k C0 hK hP dX1_plain_10 ?_
    refine lv_istore_n (lv' := [(2, .int (nI k)), (0, .ref h0), (1, .int 1)]) C0.1 C0.2.1 dX1_plain_13 rfl hl (by decide) rfl (fun ls hl => ?_)
    refine lv_iconst (v := 0) C0.1 C0.2.1 dX1_plain_14 (by decide) ?_
    refine lv_istore_n (lv' := [(3, .int 0), (2, .int (nI k)), (0, .ref h0), (1, .int 1)]) C0.1 C0.2.1 dX1_plain_15 rfl hl (by decide) rfl (fun ls hl => ?_)
    refine ww_forH (nL := 4) (D := D) (cl := vwCl) 64 (fun i => gM h0 hE hS d (gc_row E k gw i) S (G 0) (G 1) k) (fun i => [(0, .ref h0), (1, .int 1), (2, .int (nI k)), (3, .int (nI i))]) (by rw [gc_row_0]; exact hP) (by rw [gc_row_0]; exact hD) hs (lv_sub hl [2, 3, 1, 0] rfl) ?_
    intro i hi ih H locs hP hD hs ls hl
    have hl : lv_has ls 4 [(0, .ref h0), (1, .int 1), (2, .int (nI k)), (3, .int (nI i))] := hl
    have hP : va_P D vwCl (gM h0 hE hS d (gc_row E k gw i) S (G 0) (G 1) k) H := hP
    have hD : va_D (va_A (gM h0 hE hS d E S (G 0) (G 1) k) s.heap.size) (gM h0 hE hS d (gc_row E k gw i) S (G 0) (G 1) k) := hD
    refine lv_iload_n C0.1 C0.2.1 dX1_plain_16 rfl (lv_at hl 3 rfl) ?_
    refine lv_bipush (v := nI 64) C0.1 C0.2.1 dX1_plain_17 (by decide) ?_
    refine lv_icmp_ge (tgt := 56) C0.1 C0.2.1 dX1_plain_19 (by decide) (fun c2 => ?_) (fun c2 => ?_)
    · have e : i = 64 := ww_eq hi (by decide) c2
      subst e
      refine lv_aload_n C0.1 C0.2.1 dX1_plain_56 rfl (lv_at hl 0 rfl) ?_
      refine mg_S C0 hK hP dX1_plain_57 ?_
      refine lv_iload_n C0.1 C0.2.1 dX1_plain_60 rfl (lv_at hl 2 rfl) ?_
      refine lv_iload_n C0.1 C0.2.1 dX1_plain_61 rfl (lv_at hl 1 rfl) ?_
      refine lv_if_eq (tgt := 71) C0.1 C0.2.1 dX1_plain_62 (by decide) (fun c5 => ?_) (fun c5 => ?_)
      · exact absurd c5 (by decide)
      · refine lv_ldc2 (v := -1) C0.1 C0.2.1 C0.2.2.2.1 (C0.2.2.2.2 _ q206) dX1_plain_65 ?_
        refine lv_goto (tgt := 72) C0.1 C0.2.1 dX1_plain_68 (by decide) ?_
        refine ww_last C0 hK hP hD hs 2 0 rfl rfl (j := k) rfl (by omega) (by decide) dX1_plain_72 (fun H locs hP hD hs => ?_)
        have hP : va_P D vwCl (gM h0 hE hS d (gc_row E k gw 64) (vp_updL S k (-1)) (G 0) (G 1) k) H := by exact hP
        have hD : va_D (va_A (gM h0 hE hS d E S (G 0) (G 1) k) s.heap.size) (gM h0 hE hS d (gc_row E k gw 64) (vp_updL S k (-1)) (G 0) (G 1) k) := by exact hD
        refine lv_aload_n C0.1 C0.2.1 dX1_plain_73 rfl (lv_at hl 0 rfl) ?_
        refine lv_iload_n C0.1 C0.2.1 dX1_plain_74 rfl (lv_at hl 2 rfl) ?_
        refine lv_iconst (v := 1) C0.1 C0.2.1 dX1_plain_75 (by decide) ?_
        refine lv_iadd C0.1 C0.2.1 dX1_plain_76 ?_
        refine ww_ti (v := nI (k + 1)) (nI_1 k) ?_
        refine mp_k C0 hK hP hD hs (k' := k + 1) dX1_plain_77 (fun H locs hP hD hs => ?_)
        have hP : va_P D vwCl (gM h0 hE hS d (gc_row E k gw 64) (vp_updL S k (-1)) (G 0) (G 1) (k + 1)) H := by exact hP
        have hD : va_D (va_A (gM h0 hE hS d E S (G 0) (G 1) k) s.heap.size) (gM h0 hE hS d (gc_row E k gw 64) (vp_updL S k (-1)) (G 0) (G 1) (k + 1)) := by exact hD
        refine lv_iload_n C0.1 C0.2.1 dX1_plain_80 rfl (lv_at hl 2 rfl) ?_
        rw [o_skip_new (by omega)]
        exact ww_cret C0 hr hlk hK hP hD hs rfl dX1_plain_81
    · have lt : i < 64 := ww_lt hi (by decide) c2
      refine lv_iload_n C0.1 C0.2.1 dX1_plain_22 rfl (lv_at hl 2 rfl) ?_
      refine lv_bipush (v := nI 30) C0.1 C0.2.1 dX1_plain_23 (by decide) ?_
      refine lv_icmp_ge (tgt := 56) C0.1 C0.2.1 dX1_plain_25 (by decide) (fun c3 => ?_) (fun c3 => ?_)
      · exact absurd c3 (nI_ge hk3 (by decide))
      · refine lv_aload_n C0.1 C0.2.1 dX1_plain_28 rfl (lv_at hl 0 rfl) ?_
        refine mg_E C0 hK hP dX1_plain_29 ?_
        refine lv_bipush (v := nI 64) C0.1 C0.2.1 dX1_plain_32 (by decide) ?_
        refine lv_iload_n C0.1 C0.2.1 dX1_plain_34 rfl (lv_at hl 2 rfl) ?_
        refine lv_imul C0.1 C0.2.1 dX1_plain_35 ?_
        refine lv_iload_n C0.1 C0.2.1 dX1_plain_36 rfl (lv_at hl 3 rfl) ?_
        refine lv_iadd C0.1 C0.2.1 dX1_plain_37 ?_
        refine lv_iload_n C0.1 C0.2.1 dX1_plain_38 rfl (lv_at hl 1 rfl) ?_
        refine lv_if_eq (tgt := 48) C0.1 C0.2.1 dX1_plain_39 (by decide) (fun c4 => ?_) (fun c4 => ?_)
        · exact absurd c4 (by decide)
        · refine lv_lconst (v := 1) C0.1 C0.2.1 dX1_plain_42 (by decide) ?_
          refine lv_iload_n C0.1 C0.2.1 dX1_plain_43 rfl (lv_at hl 3 rfl) ?_
          refine lv_lshl (v := gw i) C0.1 C0.2.1 dX1_plain_44 rfl ?_
          refine lv_goto (tgt := 49) C0.1 C0.2.1 dX1_plain_45 (by decide) ?_
          refine ww_last C0 hK hP hD hs 1 0 rfl rfl (j := 64 * k + i) (gc_ix k i) (by omega) (by decide) dX1_plain_49 (fun H locs hP hD hs => ?_)
          have hP : va_P D vwCl (gM h0 hE hS d (gc_row E k gw (i + 1)) S (G 0) (G 1) k) H := by rw [← gc_row_1]; exact hP
          have hD : va_D (va_A (gM h0 hE hS d E S (G 0) (G 1) k) s.heap.size) (gM h0 hE hS d (gc_row E k gw (i + 1)) S (G 0) (G 1) k) := by rw [← gc_row_1]; exact hD
          refine lv_iinc (v := nI (i + 1)) (lv' := [(3, .int (nI (i + 1))), (0, .ref h0), (1, .int 1), (2, .int (nI k))]) C0.1 C0.2.1 dX1_plain_50 hl (k := 3) rfl (ww_inc i) (by decide) rfl (fun ls hl => ?_)
          refine lv_goto (tgt := 16) C0.1 C0.2.1 dX1_plain_53 (by decide) ?_
          exact ih lt H locs hP hD hs ls (lv_sub hl [1, 2, 3, 0] rfl)
  · refine lv_iconst (v := -1) C0.1 C0.2.1 dX1_plain_7 (by decide) ?_
    rw [o_skip_full (gc_b1 c1)]
    exact ww_cret C0 hr hlk hK hP hD hs rfl dX1_plain_8
theorem go_plain1 (C0 : CallFix p m c cc nL s args lw_all RX1) (hsz : ls.size = nL) (hR : 2 ≤ R.frames ∧ 43 ≤ R.locals ∧ cells ≤ R.cells ∧ slots ≤ R.slots) (hrm : (rest.map fun v => v.category).sum ≤ 8) (hK : va_K D vwCl [(d, .long)] s) (hP : va_P D vwCl (gM h0 hE hS d E S (G 0) (G 1) k) H) (hD : va_D A (gM h0 hE hS d E S (G 0) (G 1) k)) (hs : va_S A H0 H locs) (hA : ∀ q, H0.size ≤ q → A q) (hk : k ≤ 30) (hdg : decode cc pc = .ok (.invokevirtual 49, 3)) (kk : ∀ (H : Heap) (locs : List Loc), va_P D vwCl (gM h0 hE hS d ((o_skip (E, S, G, k)).2.1) ((o_skip (E, S, G, k)).2.2.1) (((o_skip (E, S, G, k)).2.2.2.1) 0) (((o_skip (E, S, G, k)).2.2.2.1) 1) ((o_skip (E, S, G, k)).2.2.2.2)) H → va_D A (gM h0 hE hS d ((o_skip (E, S, G, k)).2.1) ((o_skip (E, S, G, k)).2.2.1) (((o_skip (E, S, G, k)).2.2.2.1) 0) (((o_skip (E, S, G, k)).2.2.2.1) 1) ((o_skip (E, S, G, k)).2.2.2.2)) → va_S A H0 H locs → W p l e R s m args below meth c H locs cells slots Q (F0 m (pc + 3) ls (.int ((o_skip (E, S, G, k)).1) :: rest))) : W p l e R s m args below meth c H locs cells slots Q (F0 m pc ls (.int 1 :: .ref h0 :: rest)) :=
  ww_callC C0 hK hP hD hs hA rfl (mX1_plain1 l D h0 hE hS d E S G k H.size hk) (cwV 1 C0.2.2.2.2 (lw_V q211 q213 qs11 q23 q214) rfl rfl rfl (by decide +kernel) ⟨hR.1, hR.2.1⟩) rfl rfl hsz hrm hR.2.2 hdg kk
set_option maxHeartbeats 4000000 in
set_option maxRecDepth 100000 in
/-- plain(0) -/
theorem mX1_plain0 (l : Launch) (D : va_G) (h0 hE hS : Nat) (d : ClassId) (E S G : Nat → Int64) (k : Nat) (sz : Nat) (hk : k ≤ 30) : Met l yX1_plain (ws_ yX1_plain cX1_plain 4 (some .int)) ({ frames := 1, cells := 0, slots := 0, locals := 20 }) (va_Pc [.ref h0, .int 0] (gC D d sz (gM h0 hE hS d E S (G 0) (G 1) k))) (gQ D d sz (gM h0 hE hS d E S (G 0) (G 1) k) ((o_fail (E, S, G, k)).1) (gM h0 hE hS d ((o_fail (E, S, G, k)).2.1) ((o_fail (E, S, G, k)).2.2.1) (((o_fail (E, S, G, k)).2.2.2.1) 0) (((o_fail (E, S, G, k)).2.2.2.1) 1) ((o_fail (E, S, G, k)).2.2.2.2))) 0 0 (va_A (gM h0 hE hS d E S (G 0) (G 1) k) sz) := by
  refine ww_met (by decide) (Nat.le_of_ble_eq_true rfl) ?_
  intro p e s m below meth c C0 hr hlk hnm hv ls hl
  have C0 : CallFix p m c cX1_plain 4 s _ lw_all RX1 := C0
  obtain ⟨hsz, hP, hK, hD0⟩ := hv
  subst hsz
  have hD : va_D (va_A (gM h0 hE hS d E S (G 0) (G 1) k) s.heap.size) (gM h0 hE hS d E S (G 0) (G 1) k) := hD0.self
  have hs : va_S (va_A (gM h0 hE hS d E S (G 0) (G 1) k) s.heap.size) s.heap s.heap [] := va_S.rf
  have hA : ∀ q, s.heap.size ≤ q → va_A (gM h0 hE hS d E S (G 0) (G 1) k) s.heap.size q := fun q h => Or.inr h
  have hl : lv_has ls 4 [(0, .ref h0), (1, .int 0)] := hl
  refine lv_aload_n C0.1 C0.2.1 dX1_plain_0 rfl (lv_at hl 0 rfl) ?_
  refine go_full C0 hl.1 ⟨Nat.le_of_ble_eq_true rfl, Nat.le_of_ble_eq_true rfl, Nat.le_of_ble_eq_true rfl, Nat.le_of_ble_eq_true rfl⟩ (Nat.le_of_ble_eq_true rfl) hK (G := G) hP hk dX1_plain_1 ?_
  refine lv_if_eq (tgt := 9) C0.1 C0.2.1 dX1_plain_4 (by decide) (fun c1 => ?_) (fun c1 => ?_)
  · have hk3 : k < 30 := by have q := gc_b0.mp c1; omega
    refine lv_aload_n C0.1 C0.2.1 dX1_plain_9 rfl (lv_at hl 0 rfl) ?_
    refine mg_k C0 hK hP dX1_plain_10 ?_
    refine lv_istore_n (lv' := [(2, .int (nI k)), (0, .ref h0), (1, .int 0)]) C0.1 C0.2.1 dX1_plain_13 rfl hl (by decide) rfl (fun ls hl => ?_)
    refine lv_iconst (v := 0) C0.1 C0.2.1 dX1_plain_14 (by decide) ?_
    refine lv_istore_n (lv' := [(3, .int 0), (2, .int (nI k)), (0, .ref h0), (1, .int 0)]) C0.1 C0.2.1 dX1_plain_15 rfl hl (by decide) rfl (fun ls hl => ?_)
    refine ww_forH (nL := 4) (D := D) (cl := vwCl) 64 (fun i => gM h0 hE hS d (gc_row E k (fun _ => 0) i) S (G 0) (G 1) k) (fun i => [(0, .ref h0), (1, .int 0), (2, .int (nI k)), (3, .int (nI i))]) (by rw [gc_row_0]; exact hP) (by rw [gc_row_0]; exact hD) hs (lv_sub hl [2, 3, 1, 0] rfl) ?_
    intro i hi ih H locs hP hD hs ls hl
    have hl : lv_has ls 4 [(0, .ref h0), (1, .int 0), (2, .int (nI k)), (3, .int (nI i))] := hl
    have hP : va_P D vwCl (gM h0 hE hS d (gc_row E k (fun _ => 0) i) S (G 0) (G 1) k) H := hP
    have hD : va_D (va_A (gM h0 hE hS d E S (G 0) (G 1) k) s.heap.size) (gM h0 hE hS d (gc_row E k (fun _ => 0) i) S (G 0) (G 1) k) := hD
    refine lv_iload_n C0.1 C0.2.1 dX1_plain_16 rfl (lv_at hl 3 rfl) ?_
    refine lv_bipush (v := nI 64) C0.1 C0.2.1 dX1_plain_17 (by decide) ?_
    refine lv_icmp_ge (tgt := 56) C0.1 C0.2.1 dX1_plain_19 (by decide) (fun c2 => ?_) (fun c2 => ?_)
    · have e : i = 64 := ww_eq hi (by decide) c2
      subst e
      refine lv_aload_n C0.1 C0.2.1 dX1_plain_56 rfl (lv_at hl 0 rfl) ?_
      refine mg_S C0 hK hP dX1_plain_57 ?_
      refine lv_iload_n C0.1 C0.2.1 dX1_plain_60 rfl (lv_at hl 2 rfl) ?_
      refine lv_iload_n C0.1 C0.2.1 dX1_plain_61 rfl (lv_at hl 1 rfl) ?_
      refine lv_if_eq (tgt := 71) C0.1 C0.2.1 dX1_plain_62 (by decide) (fun c5 => ?_) (fun c5 => ?_)
      · refine lv_lconst (v := 0) C0.1 C0.2.1 dX1_plain_71 (by decide) ?_
        refine ww_last C0 hK hP hD hs 2 0 rfl rfl (j := k) rfl (by omega) (by decide) dX1_plain_72 (fun H locs hP hD hs => ?_)
        have hP : va_P D vwCl (gM h0 hE hS d (gc_row E k (fun _ => 0) 64) (vp_updL S k (0)) (G 0) (G 1) k) H := by exact hP
        have hD : va_D (va_A (gM h0 hE hS d E S (G 0) (G 1) k) s.heap.size) (gM h0 hE hS d (gc_row E k (fun _ => 0) 64) (vp_updL S k (0)) (G 0) (G 1) k) := by exact hD
        refine lv_aload_n C0.1 C0.2.1 dX1_plain_73 rfl (lv_at hl 0 rfl) ?_
        refine lv_iload_n C0.1 C0.2.1 dX1_plain_74 rfl (lv_at hl 2 rfl) ?_
        refine lv_iconst (v := 1) C0.1 C0.2.1 dX1_plain_75 (by decide) ?_
        refine lv_iadd C0.1 C0.2.1 dX1_plain_76 ?_
        refine ww_ti (v := nI (k + 1)) (nI_1 k) ?_
        refine mp_k C0 hK hP hD hs (k' := k + 1) dX1_plain_77 (fun H locs hP hD hs => ?_)
        have hP : va_P D vwCl (gM h0 hE hS d (gc_row E k (fun _ => 0) 64) (vp_updL S k (0)) (G 0) (G 1) (k + 1)) H := by exact hP
        have hD : va_D (va_A (gM h0 hE hS d E S (G 0) (G 1) k) s.heap.size) (gM h0 hE hS d (gc_row E k (fun _ => 0) 64) (vp_updL S k (0)) (G 0) (G 1) (k + 1)) := by exact hD
        refine lv_iload_n C0.1 C0.2.1 dX1_plain_80 rfl (lv_at hl 2 rfl) ?_
        rw [o_fail_new (by omega)]
        exact ww_cret C0 hr hlk hK hP hD hs rfl dX1_plain_81
      · exact absurd rfl c5
    · have lt : i < 64 := ww_lt hi (by decide) c2
      refine lv_iload_n C0.1 C0.2.1 dX1_plain_22 rfl (lv_at hl 2 rfl) ?_
      refine lv_bipush (v := nI 30) C0.1 C0.2.1 dX1_plain_23 (by decide) ?_
      refine lv_icmp_ge (tgt := 56) C0.1 C0.2.1 dX1_plain_25 (by decide) (fun c3 => ?_) (fun c3 => ?_)
      · exact absurd c3 (nI_ge hk3 (by decide))
      · refine lv_aload_n C0.1 C0.2.1 dX1_plain_28 rfl (lv_at hl 0 rfl) ?_
        refine mg_E C0 hK hP dX1_plain_29 ?_
        refine lv_bipush (v := nI 64) C0.1 C0.2.1 dX1_plain_32 (by decide) ?_
        refine lv_iload_n C0.1 C0.2.1 dX1_plain_34 rfl (lv_at hl 2 rfl) ?_
        refine lv_imul C0.1 C0.2.1 dX1_plain_35 ?_
        refine lv_iload_n C0.1 C0.2.1 dX1_plain_36 rfl (lv_at hl 3 rfl) ?_
        refine lv_iadd C0.1 C0.2.1 dX1_plain_37 ?_
        refine lv_iload_n C0.1 C0.2.1 dX1_plain_38 rfl (lv_at hl 1 rfl) ?_
        refine lv_if_eq (tgt := 48) C0.1 C0.2.1 dX1_plain_39 (by decide) (fun c4 => ?_) (fun c4 => ?_)
        · refine lv_lconst (v := 0) C0.1 C0.2.1 dX1_plain_48 (by decide) ?_
          refine ww_last C0 hK hP hD hs 1 0 rfl rfl (j := 64 * k + i) (gc_ix k i) (by omega) (by decide) dX1_plain_49 (fun H locs hP hD hs => ?_)
          have hP : va_P D vwCl (gM h0 hE hS d (gc_row E k (fun _ => 0) (i + 1)) S (G 0) (G 1) k) H := by rw [← gc_row_1]; exact hP
          have hD : va_D (va_A (gM h0 hE hS d E S (G 0) (G 1) k) s.heap.size) (gM h0 hE hS d (gc_row E k (fun _ => 0) (i + 1)) S (G 0) (G 1) k) := by rw [← gc_row_1]; exact hD
          refine lv_iinc (v := nI (i + 1)) (lv' := [(3, .int (nI (i + 1))), (0, .ref h0), (1, .int 0), (2, .int (nI k))]) C0.1 C0.2.1 dX1_plain_50 hl (k := 3) rfl (ww_inc i) (by decide) rfl (fun ls hl => ?_)
          refine lv_goto (tgt := 16) C0.1 C0.2.1 dX1_plain_53 (by decide) ?_
          exact ih lt H locs hP hD hs ls (lv_sub hl [1, 2, 3, 0] rfl)
        · exact absurd rfl c4
  · refine lv_iconst (v := -1) C0.1 C0.2.1 dX1_plain_7 (by decide) ?_
    rw [o_fail_full (gc_b1 c1)]
    exact ww_cret C0 hr hlk hK hP hD hs rfl dX1_plain_8
theorem go_plain0 (C0 : CallFix p m c cc nL s args lw_all RX1) (hsz : ls.size = nL) (hR : 2 ≤ R.frames ∧ 43 ≤ R.locals ∧ cells ≤ R.cells ∧ slots ≤ R.slots) (hrm : (rest.map fun v => v.category).sum ≤ 8) (hK : va_K D vwCl [(d, .long)] s) (hP : va_P D vwCl (gM h0 hE hS d E S (G 0) (G 1) k) H) (hD : va_D A (gM h0 hE hS d E S (G 0) (G 1) k)) (hs : va_S A H0 H locs) (hA : ∀ q, H0.size ≤ q → A q) (hk : k ≤ 30) (hdg : decode cc pc = .ok (.invokevirtual 49, 3)) (kk : ∀ (H : Heap) (locs : List Loc), va_P D vwCl (gM h0 hE hS d ((o_fail (E, S, G, k)).2.1) ((o_fail (E, S, G, k)).2.2.1) (((o_fail (E, S, G, k)).2.2.2.1) 0) (((o_fail (E, S, G, k)).2.2.2.1) 1) ((o_fail (E, S, G, k)).2.2.2.2)) H → va_D A (gM h0 hE hS d ((o_fail (E, S, G, k)).2.1) ((o_fail (E, S, G, k)).2.2.1) (((o_fail (E, S, G, k)).2.2.2.1) 0) (((o_fail (E, S, G, k)).2.2.2.1) 1) ((o_fail (E, S, G, k)).2.2.2.2)) → va_S A H0 H locs → W p l e R s m args below meth c H locs cells slots Q (F0 m (pc + 3) ls (.int ((o_fail (E, S, G, k)).1) :: rest))) : W p l e R s m args below meth c H locs cells slots Q (F0 m pc ls (.int 0 :: .ref h0 :: rest)) :=
  ww_callC C0 hK hP hD hs hA rfl (mX1_plain0 l D h0 hE hS d E S G k H.size hk) (cwV 1 C0.2.2.2.2 (lw_V q211 q213 qs11 q23 q214) rfl rfl rfl (by decide +kernel) ⟨hR.1, hR.2.1⟩) rfl rfl hsz hrm hR.2.2 hdg kk
set_option maxHeartbeats 4000000 in
set_option maxRecDepth 100000 in
/-- skip() -/
theorem mX1_skip (l : Launch) (D : va_G) (h0 hE hS : Nat) (d : ClassId) (E S G : Nat → Int64) (k : Nat) (sz : Nat) (hk : k ≤ 30) : Met l yX1_skip (ws_ yX1_skip cX1_skip 1 (some .int)) ({ frames := 2, cells := 0, slots := 0, locals := 43 }) (va_Pc [.ref h0] (gC D d sz (gM h0 hE hS d E S (G 0) (G 1) k))) (gQ D d sz (gM h0 hE hS d E S (G 0) (G 1) k) ((o_skip (E, S, G, k)).1) (gM h0 hE hS d ((o_skip (E, S, G, k)).2.1) ((o_skip (E, S, G, k)).2.2.1) (((o_skip (E, S, G, k)).2.2.2.1) 0) (((o_skip (E, S, G, k)).2.2.2.1) 1) ((o_skip (E, S, G, k)).2.2.2.2))) 0 0 (va_A (gM h0 hE hS d E S (G 0) (G 1) k) sz) := by
  refine ww_met (by decide) (Nat.le_of_ble_eq_true rfl) ?_
  intro p e s m below meth c C0 hr hlk hnm hv ls hl
  have C0 : CallFix p m c cX1_skip 1 s _ lw_all RX1 := C0
  obtain ⟨hsz, hP, hK, hD0⟩ := hv
  subst hsz
  have hD : va_D (va_A (gM h0 hE hS d E S (G 0) (G 1) k) s.heap.size) (gM h0 hE hS d E S (G 0) (G 1) k) := hD0.self
  have hs : va_S (va_A (gM h0 hE hS d E S (G 0) (G 1) k) s.heap.size) s.heap s.heap [] := va_S.rf
  have hA : ∀ q, s.heap.size ≤ q → va_A (gM h0 hE hS d E S (G 0) (G 1) k) s.heap.size q := fun q h => Or.inr h
  have hl : lv_has ls 1 [(0, .ref h0)] := hl
  refine lv_aload_n C0.1 C0.2.1 dX1_skip_0 rfl (lv_at hl 0 rfl) ?_
  refine lv_iconst (v := 1) C0.1 C0.2.1 dX1_skip_1 (by decide) ?_
  refine go_plain1 (G := G) C0 hl.1 ⟨Nat.le_of_ble_eq_true rfl, Nat.le_of_ble_eq_true rfl, Nat.le_of_ble_eq_true rfl, Nat.le_of_ble_eq_true rfl⟩ (Nat.le_of_ble_eq_true rfl) hK hP hD hs hA hk dX1_skip_2 (fun H locs hP hD hs => ?_)
  exact ww_cret C0 hr hlk hK hP hD hs rfl dX1_skip_5
set_option maxHeartbeats 4000000 in
set_option maxRecDepth 100000 in
/-- fail() -/
theorem mX1_fail (l : Launch) (D : va_G) (h0 hE hS : Nat) (d : ClassId) (E S G : Nat → Int64) (k : Nat) (sz : Nat) (hk : k ≤ 30) : Met l yX1_fail (ws_ yX1_fail cX1_fail 1 (some .int)) ({ frames := 2, cells := 0, slots := 0, locals := 43 }) (va_Pc [.ref h0] (gC D d sz (gM h0 hE hS d E S (G 0) (G 1) k))) (gQ D d sz (gM h0 hE hS d E S (G 0) (G 1) k) ((o_fail (E, S, G, k)).1) (gM h0 hE hS d ((o_fail (E, S, G, k)).2.1) ((o_fail (E, S, G, k)).2.2.1) (((o_fail (E, S, G, k)).2.2.2.1) 0) (((o_fail (E, S, G, k)).2.2.2.1) 1) ((o_fail (E, S, G, k)).2.2.2.2))) 0 0 (va_A (gM h0 hE hS d E S (G 0) (G 1) k) sz) := by
  refine ww_met (by decide) (Nat.le_of_ble_eq_true rfl) ?_
  intro p e s m below meth c C0 hr hlk hnm hv ls hl
  have C0 : CallFix p m c cX1_fail 1 s _ lw_all RX1 := C0
  obtain ⟨hsz, hP, hK, hD0⟩ := hv
  subst hsz
  have hD : va_D (va_A (gM h0 hE hS d E S (G 0) (G 1) k) s.heap.size) (gM h0 hE hS d E S (G 0) (G 1) k) := hD0.self
  have hs : va_S (va_A (gM h0 hE hS d E S (G 0) (G 1) k) s.heap.size) s.heap s.heap [] := va_S.rf
  have hA : ∀ q, s.heap.size ≤ q → va_A (gM h0 hE hS d E S (G 0) (G 1) k) s.heap.size q := fun q h => Or.inr h
  have hl : lv_has ls 1 [(0, .ref h0)] := hl
  refine lv_aload_n C0.1 C0.2.1 dX1_fail_0 rfl (lv_at hl 0 rfl) ?_
  refine lv_iconst (v := 0) C0.1 C0.2.1 dX1_fail_1 (by decide) ?_
  refine go_plain0 (G := G) C0 hl.1 ⟨Nat.le_of_ble_eq_true rfl, Nat.le_of_ble_eq_true rfl, Nat.le_of_ble_eq_true rfl, Nat.le_of_ble_eq_true rfl⟩ (Nat.le_of_ble_eq_true rfl) hK hP hD hs hA hk dX1_fail_2 (fun H locs hP hD hs => ?_)
  exact ww_cret C0 hr hlk hK hP hD hs rfl dX1_fail_5
set_option maxHeartbeats 4000000 in
set_option maxRecDepth 100000 in
/-- assign(w, form) -/
theorem mX1_assign (l : Launch) (D : va_G) (h0 hE hS : Nat) (d : ClassId) (E S G : Nat → Int64) (k : Nat) (sz : Nat) (hk : k ≤ 30) (w0 f0 : Int32) : Met l yX1_assign (ws_ yX1_assign cX1_assign 7 (some .int)) ({ frames := 1, cells := 0, slots := 0, locals := 22 }) (va_Pc [.ref h0, .int w0, .int f0] (gC D d sz (gM h0 hE hS d E S (G 0) (G 1) k))) (gQ D d sz (gM h0 hE hS d E S (G 0) (G 1) k) ((o_assign (E, S, G, k) w0 f0).1) (gM h0 hE hS d ((o_assign (E, S, G, k) w0 f0).2.1) ((o_assign (E, S, G, k) w0 f0).2.2.1) (((o_assign (E, S, G, k) w0 f0).2.2.2.1) 0) (((o_assign (E, S, G, k) w0 f0).2.2.2.1) 1) ((o_assign (E, S, G, k) w0 f0).2.2.2.2))) 0 0 (va_A (gM h0 hE hS d E S (G 0) (G 1) k) sz) := by
  refine ww_met (by decide) (Nat.le_of_ble_eq_true rfl) ?_
  intro p e s m below meth c C0 hr hlk hnm hv ls hl
  have C0 : CallFix p m c cX1_assign 7 s _ lw_all RX1 := C0
  obtain ⟨hsz, hP, hK, hD0⟩ := hv
  subst hsz
  have hD : va_D (va_A (gM h0 hE hS d E S (G 0) (G 1) k) s.heap.size) (gM h0 hE hS d E S (G 0) (G 1) k) := hD0.self
  have hs : va_S (va_A (gM h0 hE hS d E S (G 0) (G 1) k) s.heap.size) s.heap s.heap [] := va_S.rf
  have hA : ∀ q, s.heap.size ≤ q → va_A (gM h0 hE hS d E S (G 0) (G 1) k) s.heap.size q := fun q h => Or.inr h
  have hl : lv_has ls 7 [(0, .ref h0), (1, .int w0), (2, .int f0)] := hl
  refine lv_iload_n C0.1 C0.2.1 dX1_assign_0 rfl (lv_at hl 2 rfl) ?_
  refine lv_if_lt (tgt := 11) C0.1 C0.2.1 dX1_assign_1 (by decide) (fun c1 => ?_) (fun c1 => ?_)
  · refine lv_iconst (v := -1) C0.1 C0.2.1 dX1_assign_11 (by decide) ?_
    rw [show o_assign (E, S, G, k) w0 f0 = _ from o_assign_bad (Or.inl c1)]
    exact ww_cret C0 hr hlk hK hP hD hs rfl dX1_assign_12
  · refine lv_iload_n C0.1 C0.2.1 dX1_assign_4 rfl (lv_at hl 2 rfl) ?_
    refine lv_sipush (v := nI 511) C0.1 C0.2.1 dX1_assign_5 (by decide) ?_
    refine lv_icmp_le (tgt := 13) C0.1 C0.2.1 dX1_assign_8 (by decide) (fun c2 => ?_) (fun c2 => ?_)
    · obtain ⟨f, hf, rfl⟩ := f511 c1 c2
      refine lv_aload_n C0.1 C0.2.1 dX1_assign_13 rfl (lv_at hl 0 rfl) ?_
      refine go_full C0 hl.1 ⟨Nat.le_of_ble_eq_true rfl, Nat.le_of_ble_eq_true rfl, Nat.le_of_ble_eq_true rfl, Nat.le_of_ble_eq_true rfl⟩ (Nat.le_of_ble_eq_true rfl) hK (G := G) hP hk dX1_assign_14 ?_
      refine lv_if_eq (tgt := 23) C0.1 C0.2.1 dX1_assign_17 (by decide) (fun c3 => ?_) (fun c3 => ?_)
      · have hk3 : k < 30 := by have q := gc_b0.mp c3; omega
        refine lv_aload_n C0.1 C0.2.1 dX1_assign_23 rfl (lv_at hl 0 rfl) ?_
        refine mg_k C0 hK hP dX1_assign_24 ?_
        refine lv_istore_n (lv' := [(3, .int (nI k)), (0, .ref h0), (1, .int w0), (2, .int (nI f))]) C0.1 C0.2.1 dX1_assign_27 rfl hl (by decide) rfl (fun ls hl => ?_)
        refine lv_iconst (v := 0) C0.1 C0.2.1 dX1_assign_28 (by decide) ?_
        refine lv_istore (lv' := [(4, .int 0), (3, .int (nI k)), (0, .ref h0), (1, .int w0), (2, .int (nI f))]) C0.1 C0.2.1 dX1_assign_29 hl (by decide) rfl (fun ls hl => ?_)
        refine ww_forH (nL := 7) (D := D) (cl := vwCl) 64 (fun i => gM h0 hE hS d (gc_row E k (fun s => gw (gc_to w0 f s)) i) S (G 0) (G 1) k) (fun i => [(0, .ref h0), (1, .int w0), (2, .int (nI f)), (3, .int (nI k)), (4, .int (nI i))]) (by rw [gc_row_0]; exact hP) (by rw [gc_row_0]; exact hD) hs (lv_sub hl [2, 3, 4, 1, 0] rfl) ?_
        intro i hi ih H locs hP hD hs ls hl
        have hl : lv_has ls 7 [(0, .ref h0), (1, .int w0), (2, .int (nI f)), (3, .int (nI k)), (4, .int (nI i))] := hl
        have hP : va_P D vwCl (gM h0 hE hS d (gc_row E k (fun s => gw (gc_to w0 f s)) i) S (G 0) (G 1) k) H := hP
        have hD : va_D (va_A (gM h0 hE hS d E S (G 0) (G 1) k) s.heap.size) (gM h0 hE hS d (gc_row E k (fun s => gw (gc_to w0 f s)) i) S (G 0) (G 1) k) := hD
        refine lv_iload C0.1 C0.2.1 dX1_assign_31 (lv_at hl 4 rfl) ?_
        refine lv_bipush (v := nI 64) C0.1 C0.2.1 dX1_assign_33 (by decide) ?_
        refine lv_icmp_ge (tgt := 100) C0.1 C0.2.1 dX1_assign_35 (by decide) (fun c4 => ?_) (fun c4 => ?_)
        · have e : i = 64 := ww_eq hi (by decide) c4
          subst e
          refine lv_aload_n C0.1 C0.2.1 dX1_assign_100 rfl (lv_at hl 0 rfl) ?_
          refine mg_S C0 hK hP dX1_assign_101 ?_
          refine lv_iload_n C0.1 C0.2.1 dX1_assign_104 rfl (lv_at hl 3 rfl) ?_
          refine lv_ldc2 (v := -1) C0.1 C0.2.1 C0.2.2.2.1 (C0.2.2.2.2 _ q206) dX1_assign_105 ?_
          refine ww_last C0 hK hP hD hs 2 0 rfl rfl (j := k) rfl (by omega) (by decide) dX1_assign_108 (fun H locs hP hD hs => ?_)
          have hP : va_P D vwCl (gM h0 hE hS d (gc_row E k (fun s => gw (gc_to w0 f s)) 64) (vp_updL S k (-1)) (G 0) (G 1) k) H := by exact hP
          have hD : va_D (va_A (gM h0 hE hS d E S (G 0) (G 1) k) s.heap.size) (gM h0 hE hS d (gc_row E k (fun s => gw (gc_to w0 f s)) 64) (vp_updL S k (-1)) (G 0) (G 1) k) := by exact hD
          refine lv_aload_n C0.1 C0.2.1 dX1_assign_109 rfl (lv_at hl 0 rfl) ?_
          refine lv_iload_n C0.1 C0.2.1 dX1_assign_110 rfl (lv_at hl 3 rfl) ?_
          refine lv_iconst (v := 1) C0.1 C0.2.1 dX1_assign_111 (by decide) ?_
          refine lv_iadd C0.1 C0.2.1 dX1_assign_112 ?_
          refine ww_ti (v := nI (k + 1)) (nI_1 k) ?_
          refine mp_k C0 hK hP hD hs (k' := k + 1) dX1_assign_113 (fun H locs hP hD hs => ?_)
          have hP : va_P D vwCl (gM h0 hE hS d (gc_row E k (fun s => gw (gc_to w0 f s)) 64) (vp_updL S k (-1)) (G 0) (G 1) (k + 1)) H := by exact hP
          have hD : va_D (va_A (gM h0 hE hS d E S (G 0) (G 1) k) s.heap.size) (gM h0 hE hS d (gc_row E k (fun s => gw (gc_to w0 f s)) 64) (vp_updL S k (-1)) (G 0) (G 1) (k + 1)) := by exact hD
          refine lv_iload_n C0.1 C0.2.1 dX1_assign_116 rfl (lv_at hl 3 rfl) ?_
          rw [o_assign_new hf (by omega)]
          exact ww_cret C0 hr hlk hK hP hD hs rfl dX1_assign_117
        · have lt : i < 64 := ww_lt hi (by decide) c4
          have h7 := gc_fv_lt f i
          refine lv_aload_n C0.1 C0.2.1 dX1_assign_38 rfl (lv_at hl 0 rfl) ?_
          refine lv_iload_n C0.1 C0.2.1 dX1_assign_39 rfl (lv_at hl 2 rfl) ?_
          refine lv_iload C0.1 C0.2.1 dX1_assign_40 (lv_at hl 4 rfl) ?_
          refine go_worth C0 hl.1 ⟨Nat.le_of_ble_eq_true rfl, Nat.le_of_ble_eq_true rfl, Nat.le_of_ble_eq_true rfl, Nat.le_of_ble_eq_true rfl⟩ (Nat.le_of_ble_eq_true rfl) hK (G := G) hP (f := f) (j := i) (by omega) (by omega) dX1_assign_42 ?_
          refine lv_istore (lv' := [(5, .int (nI (gc_fv f i))), (0, .ref h0), (1, .int w0), (2, .int (nI f)), (3, .int (nI k)), (4, .int (nI i))]) C0.1 C0.2.1 dX1_assign_45 hl (by decide) rfl (fun ls hl => ?_)
          refine lv_iload_n C0.1 C0.2.1 dX1_assign_47 rfl (lv_at hl 2 rfl) ?_
          refine ww_join (tgt := 76) (st := [.int (nI (gc_to w0 f i))]) ?_ (fun hJ => ?_)
          · have h8 : gc_to w0 f i < 64 := gc_to_lt lt
            refine lv_istore (lv' := [(6, .int (nI (gc_to w0 f i))), (5, .int (nI (gc_fv f i))), (0, .ref h0), (1, .int w0), (2, .int (nI f)), (3, .int (nI k)), (4, .int (nI i))]) C0.1 C0.2.1 dX1_assign_76 hl (by decide) rfl (fun ls hl => ?_)
            refine lv_aload_n C0.1 C0.2.1 dX1_assign_78 rfl (lv_at hl 2 rfl) ?_
            refine mg_E C0 hK hP dX1_assign_79 ?_
            refine lv_bipush (v := nI 64) C0.1 C0.2.1 dX1_assign_82 (by decide) ?_
            refine lv_iload_n C0.1 C0.2.1 dX1_assign_84 rfl (lv_at hl 5 rfl) ?_
            refine lv_imul C0.1 C0.2.1 dX1_assign_85 ?_
            refine lv_iload C0.1 C0.2.1 dX1_assign_86 (lv_at hl 6 rfl) ?_
            refine lv_iadd C0.1 C0.2.1 dX1_assign_88 ?_
            refine lv_lconst (v := 1) C0.1 C0.2.1 dX1_assign_89 (by decide) ?_
            refine lv_iload C0.1 C0.2.1 dX1_assign_90 (lv_at hl 0 rfl) ?_
            refine lv_lshl (v := gw ((gc_to w0 f i))) C0.1 C0.2.1 dX1_assign_92 rfl ?_
            refine ww_last C0 hK hP hD hs 1 0 rfl rfl (j := 64 * k + i) (gc_ix k i) (by omega) (by decide) dX1_assign_93 (fun H locs hP hD hs => ?_)
            have hP : va_P D vwCl (gM h0 hE hS d (gc_row E k (fun s => gw (gc_to w0 f s)) (i + 1)) S (G 0) (G 1) k) H := by rw [← gc_row_1]; exact hP
            have hD : va_D (va_A (gM h0 hE hS d E S (G 0) (G 1) k) s.heap.size) (gM h0 hE hS d (gc_row E k (fun s => gw (gc_to w0 f s)) (i + 1)) S (G 0) (G 1) k) := by rw [← gc_row_1]; exact hD
            refine lv_iinc (v := nI (i + 1)) (lv' := [(4, .int (nI (i + 1))), (6, .int (nI (gc_to w0 f i))), (5, .int (nI (gc_fv f i))), (0, .ref h0), (1, .int w0), (2, .int (nI f)), (3, .int (nI k))]) C0.1 C0.2.1 dX1_assign_94 hl (k := 6) rfl (ww_inc i) (by decide) rfl (fun ls hl => ?_)
            refine lv_goto (tgt := 31) C0.1 C0.2.1 dX1_assign_97 (by decide) ?_
            exact ih lt H locs hP hD hs ls (lv_sub hl [3, 4, 5, 6, 0] rfl)
          · refine lv_if_ne (tgt := 65) C0.1 C0.2.1 dX1_assign_48 (by decide) (fun c5 => ?_) (fun c5 => ?_)
            · refine lv_bipush (v := nI 8) C0.1 C0.2.1 dX1_assign_65 (by decide) ?_
              refine lv_iload C0.1 C0.2.1 dX1_assign_67 (lv_at hl 5 rfl) ?_
              refine lv_bipush (v := nI 8) C0.1 C0.2.1 dX1_assign_69 (by decide) ?_
              refine lv_idiv C0.1 C0.2.1 dX1_assign_71 (by decide) ?_
              refine lv_imul C0.1 C0.2.1 dX1_assign_72 ?_
              refine lv_iload C0.1 C0.2.1 dX1_assign_73 (lv_at hl 0 rfl) ?_
              refine lv_iadd C0.1 C0.2.1 dX1_assign_75 ?_
              refine ww_ti (v := nI (gc_to w0 f i)) (by unfold gc_to; rw [if_neg c5, pk_div (by omega) (by decide) (by decide), pk_mul, nI_add]) ?_
              exact hJ
            · refine lv_bipush (v := nI 8) C0.1 C0.2.1 dX1_assign_51 (by decide) ?_
              refine lv_iload C0.1 C0.2.1 dX1_assign_53 (lv_at hl 0 rfl) ?_
              refine lv_imul C0.1 C0.2.1 dX1_assign_55 ?_
              refine lv_iload C0.1 C0.2.1 dX1_assign_56 (lv_at hl 5 rfl) ?_
              refine lv_bipush (v := nI 8) C0.1 C0.2.1 dX1_assign_58 (by decide) ?_
              refine lv_irem C0.1 C0.2.1 dX1_assign_60 (by decide) ?_
              refine lv_iadd C0.1 C0.2.1 dX1_assign_61 ?_
              refine lv_goto (tgt := 76) C0.1 C0.2.1 dX1_assign_62 (by decide) ?_
              refine ww_ti (v := nI (gc_to w0 f i)) (by unfold gc_to; rw [if_pos c5, pk_rem (by omega) (by decide) (by decide), pk_mul, nI_add]) ?_
              exact hJ
      · refine lv_bipush (v := -2) C0.1 C0.2.1 dX1_assign_20 (by decide) ?_
        rw [o_assign_full (f511n hf) (gc_b1 c3)]
        exact ww_cret C0 hr hlk hK hP hD hs rfl dX1_assign_22
    · refine lv_iconst (v := -1) C0.1 C0.2.1 dX1_assign_11 (by decide) ?_
      rw [show o_assign (E, S, G, k) w0 f0 = _ from o_assign_bad (Or.inr c2)]
      exact ww_cret C0 hr hlk hK hP hD hs rfl dX1_assign_12
set_option maxHeartbeats 4000000 in
set_option maxRecDepth 100000 in
/-- sequence(a, b) -/
theorem mX1_sequence (l : Launch) (D : va_G) (h0 hE hS : Nat) (d : ClassId) (E S G : Nat → Int64) (k : Nat) (sz : Nat) (hk : k ≤ 30) (a0 b0 : Int32) : Met l yX1_sequence (ws_ yX1_sequence cX1_sequence 9 (some .int)) ({ frames := 2, cells := 0, slots := 0, locals := 49 }) (va_Pc [.ref h0, .int a0, .int b0] (gC D d sz (gM h0 hE hS d E S (G 0) (G 1) k))) (gQ D d sz (gM h0 hE hS d E S (G 0) (G 1) k) ((o_seq (E, S, G, k) a0 b0).1) (gM h0 hE hS d ((o_seq (E, S, G, k) a0 b0).2.1) ((o_seq (E, S, G, k) a0 b0).2.2.1) (((o_seq (E, S, G, k) a0 b0).2.2.2.1) 0) (((o_seq (E, S, G, k) a0 b0).2.2.2.1) 1) ((o_seq (E, S, G, k) a0 b0).2.2.2.2))) 0 0 (va_A (gM h0 hE hS d E S (G 0) (G 1) k) sz) := by
  refine ww_met (by decide) (Nat.le_of_ble_eq_true rfl) ?_
  intro p e s m below meth c C0 hr hlk hnm hv ls hl
  have C0 : CallFix p m c cX1_sequence 9 s _ lw_all RX1 := C0
  obtain ⟨hsz, hP, hK, hD0⟩ := hv
  subst hsz
  have hD : va_D (va_A (gM h0 hE hS d E S (G 0) (G 1) k) s.heap.size) (gM h0 hE hS d E S (G 0) (G 1) k) := hD0.self
  have hs : va_S (va_A (gM h0 hE hS d E S (G 0) (G 1) k) s.heap.size) s.heap s.heap [] := va_S.rf
  have hA : ∀ q, s.heap.size ≤ q → va_A (gM h0 hE hS d E S (G 0) (G 1) k) s.heap.size q := fun q h => Or.inr h
  have hl : lv_has ls 9 [(0, .ref h0), (1, .int a0), (2, .int b0)] := hl
  refine lv_aload_n C0.1 C0.2.1 dX1_sequence_0 rfl (lv_at hl 0 rfl) ?_
  refine lv_iload_n C0.1 C0.2.1 dX1_sequence_1 rfl (lv_at hl 1 rfl) ?_
  refine go_bad C0 hl.1 ⟨Nat.le_of_ble_eq_true rfl, Nat.le_of_ble_eq_true rfl, Nat.le_of_ble_eq_true rfl, Nat.le_of_ble_eq_true rfl⟩ (Nat.le_of_ble_eq_true rfl) hK (G := G) hP hk dX1_sequence_2 ?_
  refine lv_if_ne (tgt := 16) C0.1 C0.2.1 dX1_sequence_5 (by decide) (fun c1 => ?_) (fun c1 => ?_)
  · refine lv_iconst (v := -1) C0.1 C0.2.1 dX1_sequence_16 (by decide) ?_
    rw [show o_seq (E, S, G, k) a0 b0 = _ from o_two_bad (fun q => c1 (gc_d0.mpr q.1))]
    exact ww_cret C0 hr hlk hK hP hD hs rfl dX1_sequence_17
  · refine lv_aload_n C0.1 C0.2.1 dX1_sequence_8 rfl (lv_at hl 0 rfl) ?_
    refine lv_iload_n C0.1 C0.2.1 dX1_sequence_9 rfl (lv_at hl 2 rfl) ?_
    refine go_bad C0 hl.1 ⟨Nat.le_of_ble_eq_true rfl, Nat.le_of_ble_eq_true rfl, Nat.le_of_ble_eq_true rfl, Nat.le_of_ble_eq_true rfl⟩ (Nat.le_of_ble_eq_true rfl) hK (G := G) hP hk dX1_sequence_10 ?_
    refine lv_if_eq (tgt := 18) C0.1 C0.2.1 dX1_sequence_13 (by decide) (fun c2 => ?_) (fun c2 => ?_)
    · have g1 := gc_d0.mp c1
      have g2 := gc_d0.mp c2
      refine lv_aload_n C0.1 C0.2.1 dX1_sequence_18 rfl (lv_at hl 0 rfl) ?_
      refine go_full C0 hl.1 ⟨Nat.le_of_ble_eq_true rfl, Nat.le_of_ble_eq_true rfl, Nat.le_of_ble_eq_true rfl, Nat.le_of_ble_eq_true rfl⟩ (Nat.le_of_ble_eq_true rfl) hK (G := G) hP hk dX1_sequence_19 ?_
      refine lv_if_eq (tgt := 28) C0.1 C0.2.1 dX1_sequence_22 (by decide) (fun c3 => ?_) (fun c3 => ?_)
      · have hk3 : k < 30 := by have q := gc_b0.mp c3; omega
        obtain ⟨a, ha, rfl⟩ := gc_gd_of g1 (by omega)
        obtain ⟨b, hb, rfl⟩ := gc_gd_of g2 (by omega)
        refine lv_aload_n C0.1 C0.2.1 dX1_sequence_28 rfl (lv_at hl 0 rfl) ?_
        refine mg_k C0 hK hP dX1_sequence_29 ?_
        refine lv_istore_n (lv' := [(3, .int (nI k)), (0, .ref h0), (1, .int (nI a)), (2, .int (nI b))]) C0.1 C0.2.1 dX1_sequence_32 rfl hl (by decide) rfl (fun ls hl => ?_)
        refine lv_lconst (v := 0) C0.1 C0.2.1 dX1_sequence_33 (by decide) ?_
        refine lv_lstore (lv' := [(4, .long 0), (3, .int (nI k)), (0, .ref h0), (1, .int (nI a)), (2, .int (nI b))]) C0.1 C0.2.1 dX1_sequence_34 hl (by decide) rfl (fun ls hl => ?_)
        refine lv_iconst (v := 0) C0.1 C0.2.1 dX1_sequence_36 (by decide) ?_
        refine lv_istore (lv' := [(6, .int 0), (4, .long 0), (3, .int (nI k)), (0, .ref h0), (1, .int (nI a)), (2, .int (nI b))]) C0.1 C0.2.1 dX1_sequence_37 hl (by decide) rfl (fun ls hl => ?_)
        refine ww_forH (nL := 9) (D := D) (cl := vwCl) 64 (fun i => gM h0 hE hS d (gc_row E k (fun s => gc_img E b (E (64 * a + s))) i) S (G 0) (G 1) k) (fun i => [(0, .ref h0), (1, .int (nI a)), (2, .int (nI b)), (3, .int (nI k)), (4, .long (gc_up (fun s acc => if gb (S a) s && decide (E (64 * a + s) &&& (S b ^^^ (-1)) = 0) then acc ||| gw s else acc) i 0)), (6, .int (nI i))]) (by rw [gc_row_0]; exact hP) (by rw [gc_row_0]; exact hD) hs (lv_sub hl [3, 4, 5, 2, 1, 0] rfl) ?_
        intro i hi ih H locs hP hD hs ls hl
        have hl : lv_has ls 9 [(0, .ref h0), (1, .int (nI a)), (2, .int (nI b)), (3, .int (nI k)), (4, .long (gc_up (fun s acc => if gb (S a) s && decide (E (64 * a + s) &&& (S b ^^^ (-1)) = 0) then acc ||| gw s else acc) i 0)), (6, .int (nI i))] := hl
        have hP : va_P D vwCl (gM h0 hE hS d (gc_row E k (fun s => gc_img E b (E (64 * a + s))) i) S (G 0) (G 1) k) H := hP
        have hD : va_D (va_A (gM h0 hE hS d E S (G 0) (G 1) k) s.heap.size) (gM h0 hE hS d (gc_row E k (fun s => gc_img E b (E (64 * a + s))) i) S (G 0) (G 1) k) := hD
        refine lv_iload C0.1 C0.2.1 dX1_sequence_39 (lv_at hl 5 rfl) ?_
        refine lv_bipush (v := nI 64) C0.1 C0.2.1 dX1_sequence_41 (by decide) ?_
        refine lv_icmp_ge (tgt := 124) C0.1 C0.2.1 dX1_sequence_43 (by decide) (fun c4 => ?_) (fun c4 => ?_)
        · have e : i = 64 := ww_eq hi (by decide) c4
          subst e
          refine lv_aload_n C0.1 C0.2.1 dX1_sequence_124 rfl (lv_at hl 0 rfl) ?_
          refine mg_S C0 hK hP dX1_sequence_125 ?_
          refine lv_iload_n C0.1 C0.2.1 dX1_sequence_128 rfl (lv_at hl 3 rfl) ?_
          refine lv_lload C0.1 C0.2.1 dX1_sequence_129 (lv_at hl 4 rfl) ?_
          refine ww_last C0 hK hP hD hs 2 0 rfl rfl (j := k) rfl (by omega) (by decide) dX1_sequence_131 (fun H locs hP hD hs => ?_)
          have hP : va_P D vwCl (gM h0 hE hS d (gc_row E k (fun s => gc_img E b (E (64 * a + s))) 64) (vp_updL S k (gc_seqs E S a b)) (G 0) (G 1) k) H := by exact hP
          have hD : va_D (va_A (gM h0 hE hS d E S (G 0) (G 1) k) s.heap.size) (gM h0 hE hS d (gc_row E k (fun s => gc_img E b (E (64 * a + s))) 64) (vp_updL S k (gc_seqs E S a b)) (G 0) (G 1) k) := by exact hD
          refine lv_aload_n C0.1 C0.2.1 dX1_sequence_132 rfl (lv_at hl 0 rfl) ?_
          refine lv_iload_n C0.1 C0.2.1 dX1_sequence_133 rfl (lv_at hl 3 rfl) ?_
          refine lv_iconst (v := 1) C0.1 C0.2.1 dX1_sequence_134 (by decide) ?_
          refine lv_iadd C0.1 C0.2.1 dX1_sequence_135 ?_
          refine ww_ti (v := nI (k + 1)) (nI_1 k) ?_
          refine mp_k C0 hK hP hD hs (k' := k + 1) dX1_sequence_136 (fun H locs hP hD hs => ?_)
          have hP : va_P D vwCl (gM h0 hE hS d (gc_row E k (fun s => gc_img E b (E (64 * a + s))) 64) (vp_updL S k (gc_seqs E S a b)) (G 0) (G 1) (k + 1)) H := by exact hP
          have hD : va_D (va_A (gM h0 hE hS d E S (G 0) (G 1) k) s.heap.size) (gM h0 hE hS d (gc_row E k (fun s => gc_img E b (E (64 * a + s))) 64) (vp_updL S k (gc_seqs E S a b)) (G 0) (G 1) (k + 1)) := by exact hD
          refine lv_iload_n C0.1 C0.2.1 dX1_sequence_139 rfl (lv_at hl 3 rfl) ?_
          rw [o_seq_new ha hb hk3]
          exact ww_cret C0 hr hlk hK hP hD hs rfl dX1_sequence_140
        · have lt : i < 64 := ww_lt hi (by decide) c4
          refine lv_aload_n C0.1 C0.2.1 dX1_sequence_46 rfl (lv_at hl 0 rfl) ?_
          refine mg_E C0 hK hP dX1_sequence_47 ?_
          refine lv_bipush (v := nI 64) C0.1 C0.2.1 dX1_sequence_50 (by decide) ?_
          refine lv_iload_n C0.1 C0.2.1 dX1_sequence_52 rfl (lv_at hl 1 rfl) ?_
          refine lv_imul C0.1 C0.2.1 dX1_sequence_53 ?_
          refine lv_iload C0.1 C0.2.1 dX1_sequence_54 (lv_at hl 5 rfl) ?_
          refine lv_iadd C0.1 C0.2.1 dX1_sequence_56 ?_
          refine ww_lald C0 hK hP 1 0 rfl rfl (j := 64 * a + i) (gc_ix a i) (by omega) (by decide) dX1_sequence_57 ?_
          refine ww_tl (v := E (64 * a + i)) (gc_row_old ha lt) ?_
          refine lv_lstore (lv' := [(7, .long (E (64 * a + i))), (0, .ref h0), (1, .int (nI a)), (2, .int (nI b)), (3, .int (nI k)), (4, .long (gc_up (fun s acc => if gb (S a) s && decide (E (64 * a + s) &&& (S b ^^^ (-1)) = 0) then acc ||| gw s else acc) i 0)), (6, .int (nI i))]) C0.1 C0.2.1 dX1_sequence_58 hl (by decide) rfl (fun ls hl => ?_)
          refine lv_aload_n C0.1 C0.2.1 dX1_sequence_60 rfl (lv_at hl 1 rfl) ?_
          refine mg_E C0 hK hP dX1_sequence_61 ?_
          refine lv_bipush (v := nI 64) C0.1 C0.2.1 dX1_sequence_64 (by decide) ?_
          refine lv_iload_n C0.1 C0.2.1 dX1_sequence_66 rfl (lv_at hl 4 rfl) ?_
          refine lv_imul C0.1 C0.2.1 dX1_sequence_67 ?_
          refine lv_iload C0.1 C0.2.1 dX1_sequence_68 (lv_at hl 6 rfl) ?_
          refine lv_iadd C0.1 C0.2.1 dX1_sequence_70 ?_
          refine lv_aload_n C0.1 C0.2.1 dX1_sequence_71 rfl (lv_at hl 1 rfl) ?_
          refine lv_iload_n C0.1 C0.2.1 dX1_sequence_72 rfl (lv_at hl 3 rfl) ?_
          refine lv_lload C0.1 C0.2.1 dX1_sequence_73 (lv_at hl 0 rfl) ?_
          refine go_from C0 hl.1 ⟨Nat.le_of_ble_eq_true rfl, Nat.le_of_ble_eq_true rfl, Nat.le_of_ble_eq_true rfl, Nat.le_of_ble_eq_true rfl⟩ (Nat.le_of_ble_eq_true rfl) hK (G := G) hP (a := b) (by omega) dX1_sequence_75 ?_
          refine ww_tl (v := gc_img E b (E (64 * a + i))) (gc_img_row hb) ?_
          refine ww_last C0 hK hP hD hs 1 0 rfl rfl (j := 64 * k + i) (gc_ix k i) (by omega) (by decide) dX1_sequence_78 (fun H locs hP hD hs => ?_)
          have hP : va_P D vwCl (gM h0 hE hS d (gc_row E k (fun s => gc_img E b (E (64 * a + s))) (i + 1)) S (G 0) (G 1) k) H := by rw [← gc_row_1]; exact hP
          have hD : va_D (va_A (gM h0 hE hS d E S (G 0) (G 1) k) s.heap.size) (gM h0 hE hS d (gc_row E k (fun s => gc_img E b (E (64 * a + s))) (i + 1)) S (G 0) (G 1) k) := by rw [← gc_row_1]; exact hD
          refine lv_aload_n C0.1 C0.2.1 dX1_sequence_79 rfl (lv_at hl 1 rfl) ?_
          refine lv_aload_n C0.1 C0.2.1 dX1_sequence_80 rfl (lv_at hl 1 rfl) ?_
          refine mg_S C0 hK hP dX1_sequence_81 ?_
          refine lv_iload_n C0.1 C0.2.1 dX1_sequence_84 rfl (lv_at hl 2 rfl) ?_
          refine ww_lald C0 hK hP 2 0 rfl rfl (j := a) rfl (by omega) (by decide) dX1_sequence_85 ?_
          refine lv_iload C0.1 C0.2.1 dX1_sequence_86 (lv_at hl 6 rfl) ?_
          refine go_in C0 hl.1 ⟨Nat.le_of_ble_eq_true rfl, Nat.le_of_ble_eq_true rfl, Nat.le_of_ble_eq_true rfl, Nat.le_of_ble_eq_true rfl⟩ (Nat.le_of_ble_eq_true rfl) hK (G := G) hP (j := i) (by omega) dX1_sequence_88 ?_
          refine lv_if_eq (tgt := 118) C0.1 C0.2.1 dX1_sequence_91 (by decide) (fun d1 => ?_) (fun d1 => ?_)
          · have ea : gc_up (fun s acc => if gb (S a) s && decide (E (64 * a + s) &&& (S b ^^^ (-1)) = 0) then acc ||| gw s else acc) i 0 = gc_up (fun s acc => if gb (S a) s && decide (E (64 * a + s) &&& (S b ^^^ (-1)) = 0) then acc ||| gw s else acc) (i + 1) 0 := by rw [gc_up_s]; exact (if_neg (by rw [Bool.eq_false_iff.mpr (gc_b0.mp d1), Bool.false_and]; decide)).symm
            rw [ea] at hl
            refine lv_iinc (v := nI (i + 1)) (lv' := [(6, .int (nI (i + 1))), (7, .long (E (64 * a + i))), (0, .ref h0), (1, .int (nI a)), (2, .int (nI b)), (3, .int (nI k)), (4, .long (gc_up (fun s acc => if gb (S a) s && decide (E (64 * a + s) &&& (S b ^^^ (-1)) = 0) then acc ||| gw s else acc) (i + 1) 0))]) C0.1 C0.2.1 dX1_sequence_118 hl (k := 6) rfl (ww_inc i) (by decide) rfl (fun ls hl => ?_)
            refine lv_goto (tgt := 39) C0.1 C0.2.1 dX1_sequence_121 (by decide) ?_
            exact ih lt H locs hP hD hs ls (lv_sub hl [2, 3, 4, 5, 6, 0] rfl)
          · refine lv_aload_n C0.1 C0.2.1 dX1_sequence_94 rfl (lv_at hl 1 rfl) ?_
            refine lv_lload C0.1 C0.2.1 dX1_sequence_95 (lv_at hl 0 rfl) ?_
            refine lv_aload_n C0.1 C0.2.1 dX1_sequence_97 rfl (lv_at hl 1 rfl) ?_
            refine mg_S C0 hK hP dX1_sequence_98 ?_
            refine lv_iload_n C0.1 C0.2.1 dX1_sequence_101 rfl (lv_at hl 3 rfl) ?_
            refine ww_lald C0 hK hP 2 0 rfl rfl (j := b) rfl (by omega) (by decide) dX1_sequence_102 ?_
            refine go_part C0 hl.1 ⟨Nat.le_of_ble_eq_true rfl, Nat.le_of_ble_eq_true rfl, Nat.le_of_ble_eq_true rfl, Nat.le_of_ble_eq_true rfl⟩ (Nat.le_of_ble_eq_true rfl) hK (G := G) hP dX1_sequence_103 ?_
            refine lv_if_eq (tgt := 118) C0.1 C0.2.1 dX1_sequence_106 (by decide) (fun d2 => ?_) (fun d2 => ?_)
            · have ea : gc_up (fun s acc => if gb (S a) s && decide (E (64 * a + s) &&& (S b ^^^ (-1)) = 0) then acc ||| gw s else acc) i 0 = gc_up (fun s acc => if gb (S a) s && decide (E (64 * a + s) &&& (S b ^^^ (-1)) = 0) then acc ||| gw s else acc) (i + 1) 0 := by rw [gc_up_s]; exact (if_neg (by rw [decide_eq_false (gc_b0.mp d2), Bool.and_false]; decide)).symm
              rw [ea] at hl
              refine lv_iinc (v := nI (i + 1)) (lv' := [(6, .int (nI (i + 1))), (7, .long (E (64 * a + i))), (0, .ref h0), (1, .int (nI a)), (2, .int (nI b)), (3, .int (nI k)), (4, .long (gc_up (fun s acc => if gb (S a) s && decide (E (64 * a + s) &&& (S b ^^^ (-1)) = 0) then acc ||| gw s else acc) (i + 1) 0))]) C0.1 C0.2.1 dX1_sequence_118 hl (k := 6) rfl (ww_inc i) (by decide) rfl (fun ls hl => ?_)
              refine lv_goto (tgt := 39) C0.1 C0.2.1 dX1_sequence_121 (by decide) ?_
              exact ih lt H locs hP hD hs ls (lv_sub hl [2, 3, 4, 5, 6, 0] rfl)
            · refine lv_lload C0.1 C0.2.1 dX1_sequence_109 (lv_at hl 5 rfl) ?_
              refine lv_lconst (v := 1) C0.1 C0.2.1 dX1_sequence_111 (by decide) ?_
              refine lv_iload C0.1 C0.2.1 dX1_sequence_112 (lv_at hl 6 rfl) ?_
              refine lv_lshl (v := gw i) C0.1 C0.2.1 dX1_sequence_114 rfl ?_
              refine lv_lor C0.1 C0.2.1 dX1_sequence_115 ?_
              refine ww_tl (v := gc_up (fun s acc => if gb (S a) s && decide (E (64 * a + s) &&& (S b ^^^ (-1)) = 0) then acc ||| gw s else acc) (i + 1) 0) (by rw [gc_up_s]; exact (if_pos (by rw [gc_b1 d1, decide_eq_true (gc_b1 d2)]; rfl)).symm) ?_
              refine lv_lstore (lv' := [(4, .long (gc_up (fun s acc => if gb (S a) s && decide (E (64 * a + s) &&& (S b ^^^ (-1)) = 0) then acc ||| gw s else acc) (i + 1) 0)), (7, .long (E (64 * a + i))), (0, .ref h0), (1, .int (nI a)), (2, .int (nI b)), (3, .int (nI k)), (6, .int (nI i))]) C0.1 C0.2.1 dX1_sequence_116 hl (by decide) rfl (fun ls hl => ?_)
              refine lv_iinc (v := nI (i + 1)) (lv' := [(6, .int (nI (i + 1))), (4, .long (gc_up (fun s acc => if gb (S a) s && decide (E (64 * a + s) &&& (S b ^^^ (-1)) = 0) then acc ||| gw s else acc) (i + 1) 0)), (7, .long (E (64 * a + i))), (0, .ref h0), (1, .int (nI a)), (2, .int (nI b)), (3, .int (nI k))]) C0.1 C0.2.1 dX1_sequence_118 hl (k := 6) rfl (ww_inc i) (by decide) rfl (fun ls hl => ?_)
              refine lv_goto (tgt := 39) C0.1 C0.2.1 dX1_sequence_121 (by decide) ?_
              exact ih lt H locs hP hD hs ls (lv_sub hl [3, 4, 5, 6, 1, 0] rfl)
      · refine lv_bipush (v := -2) C0.1 C0.2.1 dX1_sequence_25 (by decide) ?_
        rw [show o_seq (E, S, G, k) a0 b0 = _ from o_two_full ⟨g1, g2⟩ (gc_b1 c3)]
        exact ww_cret C0 hr hlk hK hP hD hs rfl dX1_sequence_27
    · refine lv_iconst (v := -1) C0.1 C0.2.1 dX1_sequence_16 (by decide) ?_
      rw [show o_seq (E, S, G, k) a0 b0 = _ from o_two_bad (fun q => c2 (gc_d0.mpr q.2))]
      exact ww_cret C0 hr hlk hK hP hD hs rfl dX1_sequence_17
set_option maxHeartbeats 4000000 in
set_option maxRecDepth 100000 in
/-- choice(a, b) -/
theorem mX1_choice (l : Launch) (D : va_G) (h0 hE hS : Nat) (d : ClassId) (E S G : Nat → Int64) (k : Nat) (sz : Nat) (hk : k ≤ 30) (a0 b0 : Int32) : Met l yX1_choice (ws_ yX1_choice cX1_choice 7 (some .int)) ({ frames := 2, cells := 0, slots := 0, locals := 48 }) (va_Pc [.ref h0, .int a0, .int b0] (gC D d sz (gM h0 hE hS d E S (G 0) (G 1) k))) (gQ D d sz (gM h0 hE hS d E S (G 0) (G 1) k) ((o_choice (E, S, G, k) a0 b0).1) (gM h0 hE hS d ((o_choice (E, S, G, k) a0 b0).2.1) ((o_choice (E, S, G, k) a0 b0).2.2.1) (((o_choice (E, S, G, k) a0 b0).2.2.2.1) 0) (((o_choice (E, S, G, k) a0 b0).2.2.2.1) 1) ((o_choice (E, S, G, k) a0 b0).2.2.2.2))) 0 0 (va_A (gM h0 hE hS d E S (G 0) (G 1) k) sz) := by
  refine ww_met (by decide) (Nat.le_of_ble_eq_true rfl) ?_
  intro p e s m below meth c C0 hr hlk hnm hv ls hl
  have C0 : CallFix p m c cX1_choice 7 s _ lw_all RX1 := C0
  obtain ⟨hsz, hP, hK, hD0⟩ := hv
  subst hsz
  have hD : va_D (va_A (gM h0 hE hS d E S (G 0) (G 1) k) s.heap.size) (gM h0 hE hS d E S (G 0) (G 1) k) := hD0.self
  have hs : va_S (va_A (gM h0 hE hS d E S (G 0) (G 1) k) s.heap.size) s.heap s.heap [] := va_S.rf
  have hA : ∀ q, s.heap.size ≤ q → va_A (gM h0 hE hS d E S (G 0) (G 1) k) s.heap.size q := fun q h => Or.inr h
  have hl : lv_has ls 7 [(0, .ref h0), (1, .int a0), (2, .int b0)] := hl
  refine lv_aload_n C0.1 C0.2.1 dX1_choice_0 rfl (lv_at hl 0 rfl) ?_
  refine lv_iload_n C0.1 C0.2.1 dX1_choice_1 rfl (lv_at hl 1 rfl) ?_
  refine go_bad C0 hl.1 ⟨Nat.le_of_ble_eq_true rfl, Nat.le_of_ble_eq_true rfl, Nat.le_of_ble_eq_true rfl, Nat.le_of_ble_eq_true rfl⟩ (Nat.le_of_ble_eq_true rfl) hK (G := G) hP hk dX1_choice_2 ?_
  refine lv_if_ne (tgt := 16) C0.1 C0.2.1 dX1_choice_5 (by decide) (fun c1 => ?_) (fun c1 => ?_)
  · refine lv_iconst (v := -1) C0.1 C0.2.1 dX1_choice_16 (by decide) ?_
    rw [show o_choice (E, S, G, k) a0 b0 = _ from o_two_bad (fun q => c1 (gc_d0.mpr q.1))]
    exact ww_cret C0 hr hlk hK hP hD hs rfl dX1_choice_17
  · refine lv_aload_n C0.1 C0.2.1 dX1_choice_8 rfl (lv_at hl 0 rfl) ?_
    refine lv_iload_n C0.1 C0.2.1 dX1_choice_9 rfl (lv_at hl 2 rfl) ?_
    refine go_bad C0 hl.1 ⟨Nat.le_of_ble_eq_true rfl, Nat.le_of_ble_eq_true rfl, Nat.le_of_ble_eq_true rfl, Nat.le_of_ble_eq_true rfl⟩ (Nat.le_of_ble_eq_true rfl) hK (G := G) hP hk dX1_choice_10 ?_
    refine lv_if_eq (tgt := 18) C0.1 C0.2.1 dX1_choice_13 (by decide) (fun c2 => ?_) (fun c2 => ?_)
    · have g1 := gc_d0.mp c1
      have g2 := gc_d0.mp c2
      refine lv_aload_n C0.1 C0.2.1 dX1_choice_18 rfl (lv_at hl 0 rfl) ?_
      refine go_full C0 hl.1 ⟨Nat.le_of_ble_eq_true rfl, Nat.le_of_ble_eq_true rfl, Nat.le_of_ble_eq_true rfl, Nat.le_of_ble_eq_true rfl⟩ (Nat.le_of_ble_eq_true rfl) hK (G := G) hP hk dX1_choice_19 ?_
      refine lv_if_eq (tgt := 28) C0.1 C0.2.1 dX1_choice_22 (by decide) (fun c3 => ?_) (fun c3 => ?_)
      · have hk3 : k < 30 := by have q := gc_b0.mp c3; omega
        obtain ⟨a, ha, rfl⟩ := gc_gd_of g1 (by omega)
        obtain ⟨b, hb, rfl⟩ := gc_gd_of g2 (by omega)
        refine lv_aload_n C0.1 C0.2.1 dX1_choice_28 rfl (lv_at hl 0 rfl) ?_
        refine mg_k C0 hK hP dX1_choice_29 ?_
        refine lv_istore_n (lv' := [(3, .int (nI k)), (0, .ref h0), (1, .int (nI a)), (2, .int (nI b))]) C0.1 C0.2.1 dX1_choice_32 rfl hl (by decide) rfl (fun ls hl => ?_)
        refine lv_lconst (v := 0) C0.1 C0.2.1 dX1_choice_33 (by decide) ?_
        refine lv_lstore (lv' := [(4, .long 0), (3, .int (nI k)), (0, .ref h0), (1, .int (nI a)), (2, .int (nI b))]) C0.1 C0.2.1 dX1_choice_34 hl (by decide) rfl (fun ls hl => ?_)
        refine lv_iconst (v := 0) C0.1 C0.2.1 dX1_choice_36 (by decide) ?_
        refine lv_istore (lv' := [(6, .int 0), (4, .long 0), (3, .int (nI k)), (0, .ref h0), (1, .int (nI a)), (2, .int (nI b))]) C0.1 C0.2.1 dX1_choice_37 hl (by decide) rfl (fun ls hl => ?_)
        refine ww_forH (nL := 7) (D := D) (cl := vwCl) 64 (fun i => gM h0 hE hS d (gc_row E k (gc_stp E G a b) i) S (G 0) (G 1) k) (fun i => [(0, .ref h0), (1, .int (nI a)), (2, .int (nI b)), (3, .int (nI k)), (4, .long (gc_up (fun s acc => if gb (G 0 ||| G 1) s && gc_good S G a b s then acc ||| gw s else acc) i 0)), (6, .int (nI i))]) (by rw [gc_row_0]; exact hP) (by rw [gc_row_0]; exact hD) hs (lv_sub hl [3, 4, 5, 2, 1, 0] rfl) ?_
        intro i hi ih H locs hP hD hs ls hl
        have hl : lv_has ls 7 [(0, .ref h0), (1, .int (nI a)), (2, .int (nI b)), (3, .int (nI k)), (4, .long (gc_up (fun s acc => if gb (G 0 ||| G 1) s && gc_good S G a b s then acc ||| gw s else acc) i 0)), (6, .int (nI i))] := hl
        have hP : va_P D vwCl (gM h0 hE hS d (gc_row E k (gc_stp E G a b) i) S (G 0) (G 1) k) H := hP
        have hD : va_D (va_A (gM h0 hE hS d E S (G 0) (G 1) k) s.heap.size) (gM h0 hE hS d (gc_row E k (gc_stp E G a b) i) S (G 0) (G 1) k) := hD
        refine lv_iload C0.1 C0.2.1 dX1_choice_39 (lv_at hl 5 rfl) ?_
        refine lv_bipush (v := nI 64) C0.1 C0.2.1 dX1_choice_41 (by decide) ?_
        refine lv_icmp_ge (tgt := 110) C0.1 C0.2.1 dX1_choice_43 (by decide) (fun c4 => ?_) (fun c4 => ?_)
        · have e : i = 64 := ww_eq hi (by decide) c4
          subst e
          refine lv_aload_n C0.1 C0.2.1 dX1_choice_110 rfl (lv_at hl 0 rfl) ?_
          refine mg_S C0 hK hP dX1_choice_111 ?_
          refine lv_iload_n C0.1 C0.2.1 dX1_choice_114 rfl (lv_at hl 3 rfl) ?_
          refine lv_lload C0.1 C0.2.1 dX1_choice_115 (lv_at hl 4 rfl) ?_
          refine ww_last C0 hK hP hD hs 2 0 rfl rfl (j := k) rfl (by omega) (by decide) dX1_choice_117 (fun H locs hP hD hs => ?_)
          have hP : va_P D vwCl (gM h0 hE hS d (gc_row E k (gc_stp E G a b) 64) (vp_updL S k (gc_chs S G a b)) (G 0) (G 1) k) H := by exact hP
          have hD : va_D (va_A (gM h0 hE hS d E S (G 0) (G 1) k) s.heap.size) (gM h0 hE hS d (gc_row E k (gc_stp E G a b) 64) (vp_updL S k (gc_chs S G a b)) (G 0) (G 1) k) := by exact hD
          refine lv_aload_n C0.1 C0.2.1 dX1_choice_118 rfl (lv_at hl 0 rfl) ?_
          refine lv_iload_n C0.1 C0.2.1 dX1_choice_119 rfl (lv_at hl 3 rfl) ?_
          refine lv_iconst (v := 1) C0.1 C0.2.1 dX1_choice_120 (by decide) ?_
          refine lv_iadd C0.1 C0.2.1 dX1_choice_121 ?_
          refine ww_ti (v := nI (k + 1)) (nI_1 k) ?_
          refine mp_k C0 hK hP hD hs (k' := k + 1) dX1_choice_122 (fun H locs hP hD hs => ?_)
          have hP : va_P D vwCl (gM h0 hE hS d (gc_row E k (gc_stp E G a b) 64) (vp_updL S k (gc_chs S G a b)) (G 0) (G 1) (k + 1)) H := by exact hP
          have hD : va_D (va_A (gM h0 hE hS d E S (G 0) (G 1) k) s.heap.size) (gM h0 hE hS d (gc_row E k (gc_stp E G a b) 64) (vp_updL S k (gc_chs S G a b)) (G 0) (G 1) (k + 1)) := by exact hD
          refine lv_iload_n C0.1 C0.2.1 dX1_choice_125 rfl (lv_at hl 3 rfl) ?_
          rw [o_choice_new ha hb hk3]
          exact ww_cret C0 hr hlk hK hP hD hs rfl dX1_choice_126
        · have lt : i < 64 := ww_lt hi (by decide) c4
          refine lv_aload_n C0.1 C0.2.1 dX1_choice_46 rfl (lv_at hl 0 rfl) ?_
          refine mg_E C0 hK hP dX1_choice_47 ?_
          refine lv_bipush (v := nI 64) C0.1 C0.2.1 dX1_choice_50 (by decide) ?_
          refine lv_iload_n C0.1 C0.2.1 dX1_choice_52 rfl (lv_at hl 3 rfl) ?_
          refine lv_imul C0.1 C0.2.1 dX1_choice_53 ?_
          refine lv_iload C0.1 C0.2.1 dX1_choice_54 (lv_at hl 5 rfl) ?_
          refine lv_iadd C0.1 C0.2.1 dX1_choice_56 ?_
          refine lv_aload_n C0.1 C0.2.1 dX1_choice_57 rfl (lv_at hl 0 rfl) ?_
          refine lv_iload_n C0.1 C0.2.1 dX1_choice_58 rfl (lv_at hl 1 rfl) ?_
          refine lv_iload_n C0.1 C0.2.1 dX1_choice_59 rfl (lv_at hl 2 rfl) ?_
          refine lv_iload C0.1 C0.2.1 dX1_choice_60 (lv_at hl 5 rfl) ?_
          refine go_mstep C0 hl.1 ⟨Nat.le_of_ble_eq_true rfl, Nat.le_of_ble_eq_true rfl, Nat.le_of_ble_eq_true rfl, Nat.le_of_ble_eq_true rfl⟩ (Nat.le_of_ble_eq_true rfl) hK (G := G) hP (a := a) (b := b) (j := i) (by omega) (by omega) (by omega) dX1_choice_62 ?_
          refine ww_tl (v := gc_stp E G a b i) (gc_stp_row ha hb lt) ?_
          refine ww_last C0 hK hP hD hs 1 0 rfl rfl (j := 64 * k + i) (gc_ix k i) (by omega) (by decide) dX1_choice_65 (fun H locs hP hD hs => ?_)
          have hP : va_P D vwCl (gM h0 hE hS d (gc_row E k (gc_stp E G a b) (i + 1)) S (G 0) (G 1) k) H := by rw [← gc_row_1]; exact hP
          have hD : va_D (va_A (gM h0 hE hS d E S (G 0) (G 1) k) s.heap.size) (gM h0 hE hS d (gc_row E k (gc_stp E G a b) (i + 1)) S (G 0) (G 1) k) := by rw [← gc_row_1]; exact hD
          refine lv_aload_n C0.1 C0.2.1 dX1_choice_66 rfl (lv_at hl 0 rfl) ?_
          refine lv_aload_n C0.1 C0.2.1 dX1_choice_67 rfl (lv_at hl 0 rfl) ?_
          refine mg_g C0 hK hP dX1_choice_68 ?_
          refine lv_aload_n C0.1 C0.2.1 dX1_choice_71 rfl (lv_at hl 0 rfl) ?_
          refine mg_h C0 hK hP dX1_choice_72 ?_
          refine lv_lor C0.1 C0.2.1 dX1_choice_75 ?_
          refine lv_iload C0.1 C0.2.1 dX1_choice_76 (lv_at hl 5 rfl) ?_
          refine go_in C0 hl.1 ⟨Nat.le_of_ble_eq_true rfl, Nat.le_of_ble_eq_true rfl, Nat.le_of_ble_eq_true rfl, Nat.le_of_ble_eq_true rfl⟩ (Nat.le_of_ble_eq_true rfl) hK (G := G) hP (j := i) (by omega) dX1_choice_78 ?_
          refine lv_if_eq (tgt := 104) C0.1 C0.2.1 dX1_choice_81 (by decide) (fun d1 => ?_) (fun d1 => ?_)
          · have ea : gc_up (fun s acc => if gb (G 0 ||| G 1) s && gc_good S G a b s then acc ||| gw s else acc) i 0 = gc_up (fun s acc => if gb (G 0 ||| G 1) s && gc_good S G a b s then acc ||| gw s else acc) (i + 1) 0 := by rw [gc_up_s]; exact (if_neg (by rw [Bool.eq_false_iff.mpr (gc_b0.mp d1), Bool.false_and]; decide)).symm
            rw [ea] at hl
            refine lv_iinc (v := nI (i + 1)) (lv' := [(6, .int (nI (i + 1))), (0, .ref h0), (1, .int (nI a)), (2, .int (nI b)), (3, .int (nI k)), (4, .long (gc_up (fun s acc => if gb (G 0 ||| G 1) s && gc_good S G a b s then acc ||| gw s else acc) (i + 1) 0))]) C0.1 C0.2.1 dX1_choice_104 hl (k := 5) rfl (ww_inc i) (by decide) rfl (fun ls hl => ?_)
            refine lv_goto (tgt := 39) C0.1 C0.2.1 dX1_choice_107 (by decide) ?_
            exact ih lt H locs hP hD hs ls (lv_sub hl [1, 2, 3, 4, 5, 0] rfl)
          · refine lv_aload_n C0.1 C0.2.1 dX1_choice_84 rfl (lv_at hl 0 rfl) ?_
            refine lv_iload_n C0.1 C0.2.1 dX1_choice_85 rfl (lv_at hl 1 rfl) ?_
            refine lv_iload_n C0.1 C0.2.1 dX1_choice_86 rfl (lv_at hl 2 rfl) ?_
            refine lv_iload C0.1 C0.2.1 dX1_choice_87 (lv_at hl 5 rfl) ?_
            refine go_good C0 hl.1 ⟨Nat.le_of_ble_eq_true rfl, Nat.le_of_ble_eq_true rfl, Nat.le_of_ble_eq_true rfl, Nat.le_of_ble_eq_true rfl⟩ (Nat.le_of_ble_eq_true rfl) hK (G := G) hP (a := a) (b := b) (j := i) (by omega) (by omega) (by omega) dX1_choice_89 ?_
            refine lv_if_eq (tgt := 104) C0.1 C0.2.1 dX1_choice_92 (by decide) (fun d2 => ?_) (fun d2 => ?_)
            · have ea : gc_up (fun s acc => if gb (G 0 ||| G 1) s && gc_good S G a b s then acc ||| gw s else acc) i 0 = gc_up (fun s acc => if gb (G 0 ||| G 1) s && gc_good S G a b s then acc ||| gw s else acc) (i + 1) 0 := by rw [gc_up_s]; exact (if_neg (by rw [Bool.eq_false_iff.mpr (gc_b0.mp d2), Bool.and_false]; decide)).symm
              rw [ea] at hl
              refine lv_iinc (v := nI (i + 1)) (lv' := [(6, .int (nI (i + 1))), (0, .ref h0), (1, .int (nI a)), (2, .int (nI b)), (3, .int (nI k)), (4, .long (gc_up (fun s acc => if gb (G 0 ||| G 1) s && gc_good S G a b s then acc ||| gw s else acc) (i + 1) 0))]) C0.1 C0.2.1 dX1_choice_104 hl (k := 5) rfl (ww_inc i) (by decide) rfl (fun ls hl => ?_)
              refine lv_goto (tgt := 39) C0.1 C0.2.1 dX1_choice_107 (by decide) ?_
              exact ih lt H locs hP hD hs ls (lv_sub hl [1, 2, 3, 4, 5, 0] rfl)
            · refine lv_lload C0.1 C0.2.1 dX1_choice_95 (lv_at hl 4 rfl) ?_
              refine lv_lconst (v := 1) C0.1 C0.2.1 dX1_choice_97 (by decide) ?_
              refine lv_iload C0.1 C0.2.1 dX1_choice_98 (lv_at hl 5 rfl) ?_
              refine lv_lshl (v := gw i) C0.1 C0.2.1 dX1_choice_100 rfl ?_
              refine lv_lor C0.1 C0.2.1 dX1_choice_101 ?_
              refine ww_tl (v := gc_up (fun s acc => if gb (G 0 ||| G 1) s && gc_good S G a b s then acc ||| gw s else acc) (i + 1) 0) (by rw [gc_up_s]; exact (if_pos (by rw [gc_b1 d1, gc_b1 d2]; rfl)).symm) ?_
              refine lv_lstore (lv' := [(4, .long (gc_up (fun s acc => if gb (G 0 ||| G 1) s && gc_good S G a b s then acc ||| gw s else acc) (i + 1) 0)), (0, .ref h0), (1, .int (nI a)), (2, .int (nI b)), (3, .int (nI k)), (6, .int (nI i))]) C0.1 C0.2.1 dX1_choice_102 hl (by decide) rfl (fun ls hl => ?_)
              refine lv_iinc (v := nI (i + 1)) (lv' := [(6, .int (nI (i + 1))), (4, .long (gc_up (fun s acc => if gb (G 0 ||| G 1) s && gc_good S G a b s then acc ||| gw s else acc) (i + 1) 0)), (0, .ref h0), (1, .int (nI a)), (2, .int (nI b)), (3, .int (nI k))]) C0.1 C0.2.1 dX1_choice_104 hl (k := 5) rfl (ww_inc i) (by decide) rfl (fun ls hl => ?_)
              refine lv_goto (tgt := 39) C0.1 C0.2.1 dX1_choice_107 (by decide) ?_
              exact ih lt H locs hP hD hs ls (lv_sub hl [2, 3, 4, 5, 1, 0] rfl)
      · refine lv_bipush (v := -2) C0.1 C0.2.1 dX1_choice_25 (by decide) ?_
        rw [show o_choice (E, S, G, k) a0 b0 = _ from o_two_full ⟨g1, g2⟩ (gc_b1 c3)]
        exact ww_cret C0 hr hlk hK hP hD hs rfl dX1_choice_27
    · refine lv_iconst (v := -1) C0.1 C0.2.1 dX1_choice_16 (by decide) ?_
      rw [show o_choice (E, S, G, k) a0 b0 = _ from o_two_bad (fun q => c2 (gc_d0.mpr q.2))]
      exact ww_cret C0 hr hlk hK hP hD hs rfl dX1_choice_17
set_option maxHeartbeats 4000000 in
set_option maxRecDepth 100000 in
/-- loop(a, b) -/
theorem mX1_loop (l : Launch) (D : va_G) (h0 hE hS : Nat) (d : ClassId) (E S G : Nat → Int64) (k : Nat) (sz : Nat) (hk : k ≤ 30) (a0 b0 : Int32) : Met l yX1_loop (ws_ yX1_loop cX1_loop 5 (some .int)) ({ frames := 3, cells := 0, slots := 0, locals := 78 }) (va_Pc [.ref h0, .int a0, .int b0] (gC D d sz (gM h0 hE hS d E S (G 0) (G 1) k))) (gQ D d sz (gM h0 hE hS d E S (G 0) (G 1) k) ((o_loop (E, S, G, k) a0 b0).1) (gM h0 hE hS d ((o_loop (E, S, G, k) a0 b0).2.1) ((o_loop (E, S, G, k) a0 b0).2.2.1) (((o_loop (E, S, G, k) a0 b0).2.2.2.1) 0) (((o_loop (E, S, G, k) a0 b0).2.2.2.1) 1) ((o_loop (E, S, G, k) a0 b0).2.2.2.2))) 0 0 (va_A (gM h0 hE hS d E S (G 0) (G 1) k) sz) := by
  refine ww_met (by decide) (Nat.le_of_ble_eq_true rfl) ?_
  intro p e s m below meth c C0 hr hlk hnm hv ls hl
  have C0 : CallFix p m c cX1_loop 5 s _ lw_all RX1 := C0
  obtain ⟨hsz, hP, hK, hD0⟩ := hv
  subst hsz
  have hD : va_D (va_A (gM h0 hE hS d E S (G 0) (G 1) k) s.heap.size) (gM h0 hE hS d E S (G 0) (G 1) k) := hD0.self
  have hs : va_S (va_A (gM h0 hE hS d E S (G 0) (G 1) k) s.heap.size) s.heap s.heap [] := va_S.rf
  have hA : ∀ q, s.heap.size ≤ q → va_A (gM h0 hE hS d E S (G 0) (G 1) k) s.heap.size q := fun q h => Or.inr h
  have hl : lv_has ls 5 [(0, .ref h0), (1, .int a0), (2, .int b0)] := hl
  refine lv_aload_n C0.1 C0.2.1 dX1_loop_0 rfl (lv_at hl 0 rfl) ?_
  refine lv_iload_n C0.1 C0.2.1 dX1_loop_1 rfl (lv_at hl 1 rfl) ?_
  refine go_bad C0 hl.1 ⟨Nat.le_of_ble_eq_true rfl, Nat.le_of_ble_eq_true rfl, Nat.le_of_ble_eq_true rfl, Nat.le_of_ble_eq_true rfl⟩ (Nat.le_of_ble_eq_true rfl) hK (G := G) hP hk dX1_loop_2 ?_
  refine lv_if_ne (tgt := 16) C0.1 C0.2.1 dX1_loop_5 (by decide) (fun c1 => ?_) (fun c1 => ?_)
  · refine lv_iconst (v := -1) C0.1 C0.2.1 dX1_loop_16 (by decide) ?_
    rw [show o_loop (E, S, G, k) a0 b0 = _ from o_two_bad (fun q => c1 (gc_d0.mpr q.1))]
    exact ww_cret C0 hr hlk hK hP hD hs rfl dX1_loop_17
  · refine lv_aload_n C0.1 C0.2.1 dX1_loop_8 rfl (lv_at hl 0 rfl) ?_
    refine lv_iload_n C0.1 C0.2.1 dX1_loop_9 rfl (lv_at hl 2 rfl) ?_
    refine go_bad C0 hl.1 ⟨Nat.le_of_ble_eq_true rfl, Nat.le_of_ble_eq_true rfl, Nat.le_of_ble_eq_true rfl, Nat.le_of_ble_eq_true rfl⟩ (Nat.le_of_ble_eq_true rfl) hK (G := G) hP hk dX1_loop_10 ?_
    refine lv_if_eq (tgt := 18) C0.1 C0.2.1 dX1_loop_13 (by decide) (fun c2 => ?_) (fun c2 => ?_)
    · have g1 := gc_d0.mp c1
      have g2 := gc_d0.mp c2
      refine lv_aload_n C0.1 C0.2.1 dX1_loop_18 rfl (lv_at hl 0 rfl) ?_
      refine go_full C0 hl.1 ⟨Nat.le_of_ble_eq_true rfl, Nat.le_of_ble_eq_true rfl, Nat.le_of_ble_eq_true rfl, Nat.le_of_ble_eq_true rfl⟩ (Nat.le_of_ble_eq_true rfl) hK (G := G) hP hk dX1_loop_19 ?_
      refine lv_if_eq (tgt := 28) C0.1 C0.2.1 dX1_loop_22 (by decide) (fun c3 => ?_) (fun c3 => ?_)
      · have hk3 : k < 30 := by have q := gc_b0.mp c3; omega
        obtain ⟨a, ha, rfl⟩ := gc_gd_of g1 (by omega)
        obtain ⟨b, hb, rfl⟩ := gc_gd_of g2 (by omega)
        refine lv_aload_n C0.1 C0.2.1 dX1_loop_28 rfl (lv_at hl 0 rfl) ?_
        refine mg_k C0 hK hP dX1_loop_29 ?_
        refine lv_istore_n (lv' := [(3, .int (nI k)), (0, .ref h0), (1, .int (nI a)), (2, .int (nI b))]) C0.1 C0.2.1 dX1_loop_32 rfl hl (by decide) rfl (fun ls hl => ?_)
        refine lv_iconst (v := 0) C0.1 C0.2.1 dX1_loop_33 (by decide) ?_
        refine lv_istore (lv' := [(4, .int 0), (3, .int (nI k)), (0, .ref h0), (1, .int (nI a)), (2, .int (nI b))]) C0.1 C0.2.1 dX1_loop_34 hl (by decide) rfl (fun ls hl => ?_)
        refine ww_forH (nL := 5) (D := D) (cl := vwCl) 64 (fun i => gM h0 hE hS d (gc_row E k (fun s => gc_rch (gc_stp E G a b) s &&& gc_out G) i) S (G 0) (G 1) k) (fun i => [(0, .ref h0), (1, .int (nI a)), (2, .int (nI b)), (3, .int (nI k)), (4, .int (nI i))]) (by rw [gc_row_0]; exact hP) (by rw [gc_row_0]; exact hD) hs (lv_sub hl [2, 3, 4, 1, 0] rfl) ?_
        intro i hi ih H locs hP hD hs ls hl
        have hl : lv_has ls 5 [(0, .ref h0), (1, .int (nI a)), (2, .int (nI b)), (3, .int (nI k)), (4, .int (nI i))] := hl
        have hP : va_P D vwCl (gM h0 hE hS d (gc_row E k (fun s => gc_rch (gc_stp E G a b) s &&& gc_out G) i) S (G 0) (G 1) k) H := hP
        have hD : va_D (va_A (gM h0 hE hS d E S (G 0) (G 1) k) s.heap.size) (gM h0 hE hS d (gc_row E k (fun s => gc_rch (gc_stp E G a b) s &&& gc_out G) i) S (G 0) (G 1) k) := hD
        refine lv_iload C0.1 C0.2.1 dX1_loop_36 (lv_at hl 4 rfl) ?_
        refine lv_bipush (v := nI 64) C0.1 C0.2.1 dX1_loop_38 (by decide) ?_
        refine lv_icmp_ge (tgt := 83) C0.1 C0.2.1 dX1_loop_40 (by decide) (fun c4 => ?_) (fun c4 => ?_)
        · have e : i = 64 := ww_eq hi (by decide) c4
          subst e
          refine lv_aload_n C0.1 C0.2.1 dX1_loop_83 rfl (lv_at hl 0 rfl) ?_
          refine mg_S C0 hK hP dX1_loop_84 ?_
          refine lv_iload_n C0.1 C0.2.1 dX1_loop_87 rfl (lv_at hl 3 rfl) ?_
          refine lv_aload_n C0.1 C0.2.1 dX1_loop_88 rfl (lv_at hl 0 rfl) ?_
          refine lv_iload_n C0.1 C0.2.1 dX1_loop_89 rfl (lv_at hl 1 rfl) ?_
          refine lv_iload_n C0.1 C0.2.1 dX1_loop_90 rfl (lv_at hl 2 rfl) ?_
          refine go_resting C0 hl.1 ⟨Nat.le_of_ble_eq_true rfl, Nat.le_of_ble_eq_true rfl, Nat.le_of_ble_eq_true rfl, Nat.le_of_ble_eq_true rfl⟩ (Nat.le_of_ble_eq_true rfl) hK (G := G) hP (a := a) (b := b) (by omega) (by omega) dX1_loop_91 ?_
          refine ww_tl (v := gc_los E S G a b) (gc_los_row ha hb) ?_
          refine ww_last C0 hK hP hD hs 2 0 rfl rfl (j := k) rfl (by omega) (by decide) dX1_loop_94 (fun H locs hP hD hs => ?_)
          have hP : va_P D vwCl (gM h0 hE hS d (gc_row E k (fun s => gc_rch (gc_stp E G a b) s &&& gc_out G) 64) (vp_updL S k (gc_los E S G a b)) (G 0) (G 1) k) H := by exact hP
          have hD : va_D (va_A (gM h0 hE hS d E S (G 0) (G 1) k) s.heap.size) (gM h0 hE hS d (gc_row E k (fun s => gc_rch (gc_stp E G a b) s &&& gc_out G) 64) (vp_updL S k (gc_los E S G a b)) (G 0) (G 1) k) := by exact hD
          refine lv_aload_n C0.1 C0.2.1 dX1_loop_95 rfl (lv_at hl 0 rfl) ?_
          refine lv_iload_n C0.1 C0.2.1 dX1_loop_96 rfl (lv_at hl 3 rfl) ?_
          refine lv_iconst (v := 1) C0.1 C0.2.1 dX1_loop_97 (by decide) ?_
          refine lv_iadd C0.1 C0.2.1 dX1_loop_98 ?_
          refine ww_ti (v := nI (k + 1)) (nI_1 k) ?_
          refine mp_k C0 hK hP hD hs (k' := k + 1) dX1_loop_99 (fun H locs hP hD hs => ?_)
          have hP : va_P D vwCl (gM h0 hE hS d (gc_row E k (fun s => gc_rch (gc_stp E G a b) s &&& gc_out G) 64) (vp_updL S k (gc_los E S G a b)) (G 0) (G 1) (k + 1)) H := by exact hP
          have hD : va_D (va_A (gM h0 hE hS d E S (G 0) (G 1) k) s.heap.size) (gM h0 hE hS d (gc_row E k (fun s => gc_rch (gc_stp E G a b) s &&& gc_out G) 64) (vp_updL S k (gc_los E S G a b)) (G 0) (G 1) (k + 1)) := by exact hD
          refine lv_iload_n C0.1 C0.2.1 dX1_loop_102 rfl (lv_at hl 3 rfl) ?_
          rw [o_loop_new ha hb hk3]
          exact ww_cret C0 hr hlk hK hP hD hs rfl dX1_loop_103
        · have lt : i < 64 := ww_lt hi (by decide) c4
          refine lv_aload_n C0.1 C0.2.1 dX1_loop_43 rfl (lv_at hl 0 rfl) ?_
          refine mg_E C0 hK hP dX1_loop_44 ?_
          refine lv_bipush (v := nI 64) C0.1 C0.2.1 dX1_loop_47 (by decide) ?_
          refine lv_iload_n C0.1 C0.2.1 dX1_loop_49 rfl (lv_at hl 3 rfl) ?_
          refine lv_imul C0.1 C0.2.1 dX1_loop_50 ?_
          refine lv_iload C0.1 C0.2.1 dX1_loop_51 (lv_at hl 4 rfl) ?_
          refine lv_iadd C0.1 C0.2.1 dX1_loop_53 ?_
          refine lv_aload_n C0.1 C0.2.1 dX1_loop_54 rfl (lv_at hl 0 rfl) ?_
          refine lv_iload_n C0.1 C0.2.1 dX1_loop_55 rfl (lv_at hl 1 rfl) ?_
          refine lv_iload_n C0.1 C0.2.1 dX1_loop_56 rfl (lv_at hl 2 rfl) ?_
          refine lv_iload C0.1 C0.2.1 dX1_loop_57 (lv_at hl 4 rfl) ?_
          refine go_met C0 hl.1 ⟨Nat.le_of_ble_eq_true rfl, Nat.le_of_ble_eq_true rfl, Nat.le_of_ble_eq_true rfl, Nat.le_of_ble_eq_true rfl⟩ (Nat.le_of_ble_eq_true rfl) hK (G := G) hP (a := a) (b := b) (j := i) (by omega) (by omega) (by omega) dX1_loop_59 ?_
          refine ww_tl (v := gc_rch (gc_stp E G a b) i) (gc_rch_row ha hb lt) ?_
          refine lv_aload_n C0.1 C0.2.1 dX1_loop_62 rfl (lv_at hl 0 rfl) ?_
          refine mg_g C0 hK hP dX1_loop_63 ?_
          refine lv_aload_n C0.1 C0.2.1 dX1_loop_66 rfl (lv_at hl 0 rfl) ?_
          refine mg_h C0 hK hP dX1_loop_67 ?_
          refine lv_lor C0.1 C0.2.1 dX1_loop_70 ?_
          refine lv_ldc2 (v := -1) C0.1 C0.2.1 C0.2.2.2.1 (C0.2.2.2.2 _ q206) dX1_loop_71 ?_
          refine lv_lxor C0.1 C0.2.1 dX1_loop_74 ?_
          refine lv_land C0.1 C0.2.1 dX1_loop_75 ?_
          have eo : (gc_rch (gc_stp E G a b) i) &&& ((G 0 ||| G 1) ^^^ (-1)) = (fun s => gc_rch (gc_stp E G a b) s &&& gc_out G) i := rfl
          refine ww_last C0 hK hP hD hs 1 0 rfl rfl (j := 64 * k + i) (gc_ix k i) (by omega) (by decide) dX1_loop_76 (fun H locs hP hD hs => ?_)
          have hP : va_P D vwCl (gM h0 hE hS d (gc_row E k (fun s => gc_rch (gc_stp E G a b) s &&& gc_out G) (i + 1)) S (G 0) (G 1) k) H := by rw [← gc_row_1]; exact hP
          have hD : va_D (va_A (gM h0 hE hS d E S (G 0) (G 1) k) s.heap.size) (gM h0 hE hS d (gc_row E k (fun s => gc_rch (gc_stp E G a b) s &&& gc_out G) (i + 1)) S (G 0) (G 1) k) := by rw [← gc_row_1]; exact hD
          refine lv_iinc (v := nI (i + 1)) (lv' := [(4, .int (nI (i + 1))), (0, .ref h0), (1, .int (nI a)), (2, .int (nI b)), (3, .int (nI k))]) C0.1 C0.2.1 dX1_loop_77 hl (k := 4) rfl (ww_inc i) (by decide) rfl (fun ls hl => ?_)
          refine lv_goto (tgt := 36) C0.1 C0.2.1 dX1_loop_80 (by decide) ?_
          exact ih lt H locs hP hD hs ls (lv_sub hl [1, 2, 3, 4, 0] rfl)
      · refine lv_bipush (v := -2) C0.1 C0.2.1 dX1_loop_25 (by decide) ?_
        rw [show o_loop (E, S, G, k) a0 b0 = _ from o_two_full ⟨g1, g2⟩ (gc_b1 c3)]
        exact ww_cret C0 hr hlk hK hP hD hs rfl dX1_loop_27
    · refine lv_iconst (v := -1) C0.1 C0.2.1 dX1_loop_16 (by decide) ?_
      rw [show o_loop (E, S, G, k) a0 b0 = _ from o_two_bad (fun q => c2 (gc_d0.mpr q.2))]
      exact ww_cret C0 hr hlk hK hP hD hs rfl dX1_loop_17
end X1M
end
section
/-! THE REFERENCE: contracts of its questions -/
set_option maxRecDepth 100000
section X1Q
variable {p : Program} {l : Launch} {e : Env} {R : Room} {s : State} {m : MethodId} {args : Array Value} {below : List Frame} {meth : Method} {c : Code} {H : Heap} {locs : List Loc} {cells slots : Nat} {Q : State → Prop} {pc : Nat} {ls : Array Slot} {rest : List Value} {cc : ByteArray} {nL : Nat} {D : va_G} {d : ClassId} {A : Nat → Prop} {H0 : Heap} {h0 hE hS hG : Nat} {E S G : Nat → Int64} {g h : Int64} {k : Nat}
set_option maxHeartbeats 4000000 in
set_option maxRecDepth 100000 in
/-- programs() -/
theorem mX1_programs (l : Launch) (D : va_G) (h0 hE hS : Nat) (d : ClassId) (E S G : Nat → Int64) (k : Nat)  : Met l yX1_programs (ws_ yX1_programs cX1_programs 1 (some .int)) ({ frames := 0, cells := 0, slots := 0, locals := 0 }) (va_Pc [.ref h0] (gP D d (gM h0 hE hS d E S (G 0) (G 1) k))) (vp_Si (fun r => r = nI k)) 0 0 (fun _ => False) := by
  refine ww_met (by decide) (Nat.le_of_ble_eq_true rfl) ?_
  intro p e s m below meth c C0 hr hlk hnm hv ls hl
  have C0 : CallFix p m c cX1_programs 1 s _ lw_all RX1 := C0
  obtain ⟨hP, hK⟩ := hv
  have hl : lv_has ls 1 [(0, .ref h0)] := hl
  refine lv_aload_n C0.1 C0.2.1 dX1_programs_0 rfl (lv_at hl 0 rfl) ?_
  refine mg_k C0 hK hP dX1_programs_1 ?_
  exact ww_iret C0 hr hlk rfl dX1_programs_4
set_option maxHeartbeats 4000000 in
set_option maxRecDepth 100000 in
/-- ends(p, s) -/
theorem mX1_ends (l : Launch) (D : va_G) (h0 hE hS : Nat) (d : ClassId) (E S G : Nat → Int64) (k : Nat) (hk : k ≤ 30) (a0 s0 : Int32) : Met l yX1_ends (ws_ yX1_ends cX1_ends 3 (some .long)) ({ frames := 1, cells := 0, slots := 0, locals := 21 }) (va_Pc [.ref h0, .int a0, .int s0] (gP D d (gM h0 hE hS d E S (G 0) (G 1) k))) (vp_Sl (fun r => r = q_ends (E, S, G, k) a0 s0)) 0 0 (fun _ => False) := by
  refine ww_met (by decide) (Nat.le_of_ble_eq_true rfl) ?_
  intro p e s m below meth c C0 hr hlk hnm hv ls hl
  have C0 : CallFix p m c cX1_ends 3 s _ lw_all RX1 := C0
  obtain ⟨hP, hK⟩ := hv
  have hl : lv_has ls 3 [(0, .ref h0), (1, .int a0), (2, .int s0)] := hl
  refine lv_aload_n C0.1 C0.2.1 dX1_ends_0 rfl (lv_at hl 0 rfl) ?_
  refine lv_iload_n C0.1 C0.2.1 dX1_ends_1 rfl (lv_at hl 1 rfl) ?_
  refine go_bad C0 hl.1 ⟨Nat.le_of_ble_eq_true rfl, Nat.le_of_ble_eq_true rfl, Nat.le_of_ble_eq_true rfl, Nat.le_of_ble_eq_true rfl⟩ (Nat.le_of_ble_eq_true rfl) hK (G := G) hP hk dX1_ends_2 ?_
  refine lv_if_ne (tgt := 18) C0.1 C0.2.1 dX1_ends_5 (by decide) (fun c1 => ?_) (fun c1 => ?_)
  · refine lv_lconst (v := 0) C0.1 C0.2.1 dX1_ends_18 (by decide) ?_
    refine lv_goto (tgt := 33) C0.1 C0.2.1 dX1_ends_19 (by decide) ?_
    exact ww_lret C0 hr hlk (show (0 : Int64) = q_ends (E, S, G, k) a0 s0 from (q_ends_bad (fun q => c1 (gc_d0.mpr q.1))).symm) dX1_ends_33
  · refine lv_iload_n C0.1 C0.2.1 dX1_ends_8 rfl (lv_at hl 2 rfl) ?_
    refine lv_if_lt (tgt := 18) C0.1 C0.2.1 dX1_ends_9 (by decide) (fun c2 => ?_) (fun c2 => ?_)
    · refine lv_lconst (v := 0) C0.1 C0.2.1 dX1_ends_18 (by decide) ?_
      refine lv_goto (tgt := 33) C0.1 C0.2.1 dX1_ends_19 (by decide) ?_
      exact ww_lret C0 hr hlk (show (0 : Int64) = q_ends (E, S, G, k) a0 s0 from (q_ends_bad (fun q => q.2.1 c2)).symm) dX1_ends_33
    · refine lv_iload_n C0.1 C0.2.1 dX1_ends_12 rfl (lv_at hl 2 rfl) ?_
      refine lv_bipush (v := nI 63) C0.1 C0.2.1 dX1_ends_13 (by decide) ?_
      refine lv_icmp_le (tgt := 22) C0.1 C0.2.1 dX1_ends_15 (by decide) (fun c3 => ?_) (fun c3 => ?_)
      · obtain ⟨a, ha, rfl⟩ := gc_gd_of (gc_d0.mp c1) (by omega)
        obtain ⟨j, hj, rfl⟩ : ∃ j : Nat, j < 64 ∧ s0 = nI j := by obtain ⟨j, hj, e⟩ := nI_of2 (n := 63) (M := nI 63) (by decide) c2 c3; exact ⟨j, by omega, e⟩
        refine lv_aload_n C0.1 C0.2.1 dX1_ends_22 rfl (lv_at hl 0 rfl) ?_
        refine mg_E C0 hK hP dX1_ends_23 ?_
        refine lv_bipush (v := nI 64) C0.1 C0.2.1 dX1_ends_26 (by decide) ?_
        refine lv_iload_n C0.1 C0.2.1 dX1_ends_28 rfl (lv_at hl 1 rfl) ?_
        refine lv_imul C0.1 C0.2.1 dX1_ends_29 ?_
        refine lv_iload_n C0.1 C0.2.1 dX1_ends_30 rfl (lv_at hl 2 rfl) ?_
        refine lv_iadd C0.1 C0.2.1 dX1_ends_31 ?_
        refine ww_lald C0 hK hP 1 0 rfl rfl (j := 64 * a + j) (gc_ix a j) (by omega) (by decide) dX1_ends_32 ?_
        exact ww_lret C0 hr hlk (show (E (64 * a + j) : Int64) = q_ends (E, S, G, k) (nI a) (nI j) from (q_ends_ok ha hk hj).symm) dX1_ends_33
      · refine lv_lconst (v := 0) C0.1 C0.2.1 dX1_ends_18 (by decide) ?_
        refine lv_goto (tgt := 33) C0.1 C0.2.1 dX1_ends_19 (by decide) ?_
        exact ww_lret C0 hr hlk (show (0 : Int64) = q_ends (E, S, G, k) a0 s0 from (q_ends_bad (fun q => by obtain ⟨j, hj, e⟩ := s64 q.2.1 q.2.2; rw [e] at c3; exact c3 (nI_le (by omega) (by decide)))).symm) dX1_ends_33
set_option maxHeartbeats 4000000 in
set_option maxRecDepth 100000 in
/-- sure(p) -/
theorem mX1_sure (l : Launch) (D : va_G) (h0 hE hS : Nat) (d : ClassId) (E S G : Nat → Int64) (k : Nat) (hk : k ≤ 30) (a0 : Int32) : Met l yX1_sure (ws_ yX1_sure cX1_sure 2 (some .long)) ({ frames := 1, cells := 0, slots := 0, locals := 21 }) (va_Pc [.ref h0, .int a0] (gP D d (gM h0 hE hS d E S (G 0) (G 1) k))) (vp_Sl (fun r => r = q_sure (E, S, G, k) a0)) 0 0 (fun _ => False) := by
  refine ww_met (by decide) (Nat.le_of_ble_eq_true rfl) ?_
  intro p e s m below meth c C0 hr hlk hnm hv ls hl
  have C0 : CallFix p m c cX1_sure 2 s _ lw_all RX1 := C0
  obtain ⟨hP, hK⟩ := hv
  have hl : lv_has ls 2 [(0, .ref h0), (1, .int a0)] := hl
  refine lv_aload_n C0.1 C0.2.1 dX1_sure_0 rfl (lv_at hl 0 rfl) ?_
  refine lv_iload_n C0.1 C0.2.1 dX1_sure_1 rfl (lv_at hl 1 rfl) ?_
  refine go_bad C0 hl.1 ⟨Nat.le_of_ble_eq_true rfl, Nat.le_of_ble_eq_true rfl, Nat.le_of_ble_eq_true rfl, Nat.le_of_ble_eq_true rfl⟩ (Nat.le_of_ble_eq_true rfl) hK (G := G) hP hk dX1_sure_2 ?_
  refine lv_if_eq (tgt := 12) C0.1 C0.2.1 dX1_sure_5 (by decide) (fun c1 => ?_) (fun c1 => ?_)
  · obtain ⟨a, ha, rfl⟩ := gc_gd_of (gc_d0.mp c1) (by omega)
    refine lv_aload_n C0.1 C0.2.1 dX1_sure_12 rfl (lv_at hl 0 rfl) ?_
    refine mg_S C0 hK hP dX1_sure_13 ?_
    refine lv_iload_n C0.1 C0.2.1 dX1_sure_16 rfl (lv_at hl 1 rfl) ?_
    refine ww_lald C0 hK hP 2 0 rfl rfl (j := a) rfl (by omega) (by decide) dX1_sure_17 ?_
    exact ww_lret C0 hr hlk (show (S a : Int64) = q_sure (E, S, G, k) (nI a) from (q_sure_ok ha hk).symm) dX1_sure_18
  · refine lv_lconst (v := 0) C0.1 C0.2.1 dX1_sure_8 (by decide) ?_
    refine lv_goto (tgt := 18) C0.1 C0.2.1 dX1_sure_9 (by decide) ?_
    exact ww_lret C0 hr hlk (show (0 : Int64) = q_sure (E, S, G, k) a0 from (q_sure_bad (fun q => c1 (gc_d0.mpr q))).symm) dX1_sure_18
set_option maxHeartbeats 4000000 in
set_option maxRecDepth 100000 in
/-- demand(p, x) -/
theorem mX1_demand (l : Launch) (D : va_G) (h0 hE hS : Nat) (d : ClassId) (E S G : Nat → Int64) (k : Nat) (hk : k ≤ 30) (a0 : Int32) (x : Int64) : Met l yX1_demand (ws_ yX1_demand cX1_demand 4 (some .long)) ({ frames := 2, cells := 0, slots := 0, locals := 50 }) (va_Pc [.ref h0, .int a0, .long x] (gP D d (gM h0 hE hS d E S (G 0) (G 1) k))) (vp_Sl (fun r => r = q_dem (E, S, G, k) a0 x)) 0 0 (fun _ => False) := by
  refine ww_met (by decide) (Nat.le_of_ble_eq_true rfl) ?_
  intro p e s m below meth c C0 hr hlk hnm hv ls hl
  have C0 : CallFix p m c cX1_demand 4 s _ lw_all RX1 := C0
  obtain ⟨hP, hK⟩ := hv
  have hl : lv_has ls 4 [(0, .ref h0), (1, .int a0), (2, .long x)] := hl
  refine lv_aload_n C0.1 C0.2.1 dX1_demand_0 rfl (lv_at hl 0 rfl) ?_
  refine lv_iload_n C0.1 C0.2.1 dX1_demand_1 rfl (lv_at hl 1 rfl) ?_
  refine go_bad C0 hl.1 ⟨Nat.le_of_ble_eq_true rfl, Nat.le_of_ble_eq_true rfl, Nat.le_of_ble_eq_true rfl, Nat.le_of_ble_eq_true rfl⟩ (Nat.le_of_ble_eq_true rfl) hK (G := G) hP hk dX1_demand_2 ?_
  refine lv_if_eq (tgt := 10) C0.1 C0.2.1 dX1_demand_5 (by decide) (fun c1 => ?_) (fun c1 => ?_)
  · obtain ⟨a, ha, rfl⟩ := gc_gd_of (gc_d0.mp c1) (by omega)
    refine lv_aload_n C0.1 C0.2.1 dX1_demand_10 rfl (lv_at hl 0 rfl) ?_
    refine lv_iload_n C0.1 C0.2.1 dX1_demand_11 rfl (lv_at hl 1 rfl) ?_
    refine lv_lload_n C0.1 C0.2.1 dX1_demand_12 rfl (lv_at hl 2 rfl) ?_
    refine go_weak C0 hl.1 ⟨Nat.le_of_ble_eq_true rfl, Nat.le_of_ble_eq_true rfl, Nat.le_of_ble_eq_true rfl, Nat.le_of_ble_eq_true rfl⟩ (Nat.le_of_ble_eq_true rfl) hK (G := G) hP (a := a) (by omega) dX1_demand_13 ?_
    refine lv_aload_n C0.1 C0.2.1 dX1_demand_16 rfl (lv_at hl 0 rfl) ?_
    refine mg_S C0 hK hP dX1_demand_17 ?_
    refine lv_iload_n C0.1 C0.2.1 dX1_demand_20 rfl (lv_at hl 1 rfl) ?_
    refine ww_lald C0 hK hP 2 0 rfl rfl (j := a) rfl (by omega) (by decide) dX1_demand_21 ?_
    refine lv_land C0.1 C0.2.1 dX1_demand_22 ?_
    exact ww_lret C0 hr hlk (show ((gc_wk E a x) &&& (S a) : Int64) = q_dem (E, S, G, k) (nI a) x from (by rw [q_dem_ok ha hk, gc_andc])) dX1_demand_23
  · refine lv_lconst (v := 0) C0.1 C0.2.1 dX1_demand_8 (by decide) ?_
    exact ww_lret C0 hr hlk (show (0 : Int64) = q_dem (E, S, G, k) a0 x from (q_dem_bad (fun q => c1 (gc_d0.mpr q))).symm) dX1_demand_9
set_option maxHeartbeats 4000000 in
set_option maxRecDepth 100000 in
/-- weakDemand(p, x) -/
theorem mX1_weakDemand (l : Launch) (D : va_G) (h0 hE hS : Nat) (d : ClassId) (E S G : Nat → Int64) (k : Nat) (hk : k ≤ 30) (a0 : Int32) (x : Int64) : Met l yX1_weakDemand (ws_ yX1_weakDemand cX1_weakDemand 4 (some .long)) ({ frames := 2, cells := 0, slots := 0, locals := 50 }) (va_Pc [.ref h0, .int a0, .long x] (gP D d (gM h0 hE hS d E S (G 0) (G 1) k))) (vp_Sl (fun r => r = q_weak (E, S, G, k) a0 x)) 0 0 (fun _ => False) := by
  refine ww_met (by decide) (Nat.le_of_ble_eq_true rfl) ?_
  intro p e s m below meth c C0 hr hlk hnm hv ls hl
  have C0 : CallFix p m c cX1_weakDemand 4 s _ lw_all RX1 := C0
  obtain ⟨hP, hK⟩ := hv
  have hl : lv_has ls 4 [(0, .ref h0), (1, .int a0), (2, .long x)] := hl
  refine lv_aload_n C0.1 C0.2.1 dX1_weakDemand_0 rfl (lv_at hl 0 rfl) ?_
  refine lv_iload_n C0.1 C0.2.1 dX1_weakDemand_1 rfl (lv_at hl 1 rfl) ?_
  refine go_bad C0 hl.1 ⟨Nat.le_of_ble_eq_true rfl, Nat.le_of_ble_eq_true rfl, Nat.le_of_ble_eq_true rfl, Nat.le_of_ble_eq_true rfl⟩ (Nat.le_of_ble_eq_true rfl) hK (G := G) hP hk dX1_weakDemand_2 ?_
  refine lv_if_eq (tgt := 12) C0.1 C0.2.1 dX1_weakDemand_5 (by decide) (fun c1 => ?_) (fun c1 => ?_)
  · obtain ⟨a, ha, rfl⟩ := gc_gd_of (gc_d0.mp c1) (by omega)
    refine lv_aload_n C0.1 C0.2.1 dX1_weakDemand_12 rfl (lv_at hl 0 rfl) ?_
    refine lv_iload_n C0.1 C0.2.1 dX1_weakDemand_13 rfl (lv_at hl 1 rfl) ?_
    refine lv_lload_n C0.1 C0.2.1 dX1_weakDemand_14 rfl (lv_at hl 2 rfl) ?_
    refine go_weak C0 hl.1 ⟨Nat.le_of_ble_eq_true rfl, Nat.le_of_ble_eq_true rfl, Nat.le_of_ble_eq_true rfl, Nat.le_of_ble_eq_true rfl⟩ (Nat.le_of_ble_eq_true rfl) hK (G := G) hP (a := a) (by omega) dX1_weakDemand_15 ?_
    exact ww_lret C0 hr hlk (show (gc_wk E a x : Int64) = q_weak (E, S, G, k) (nI a) x from (q_weak_ok ha hk).symm) dX1_weakDemand_18
  · refine lv_lconst (v := 0) C0.1 C0.2.1 dX1_weakDemand_8 (by decide) ?_
    refine lv_goto (tgt := 18) C0.1 C0.2.1 dX1_weakDemand_9 (by decide) ?_
    exact ww_lret C0 hr hlk (show (0 : Int64) = q_weak (E, S, G, k) a0 x from (q_weak_bad (fun q => c1 (gc_d0.mpr q))).symm) dX1_weakDemand_18
set_option maxHeartbeats 4000000 in
set_option maxRecDepth 100000 in
/-- image(p, x) -/
theorem mX1_image (l : Launch) (D : va_G) (h0 hE hS : Nat) (d : ClassId) (E S G : Nat → Int64) (k : Nat) (hk : k ≤ 30) (a0 : Int32) (x : Int64) : Met l yX1_image (ws_ yX1_image cX1_image 4 (some .long)) ({ frames := 2, cells := 0, slots := 0, locals := 49 }) (va_Pc [.ref h0, .int a0, .long x] (gP D d (gM h0 hE hS d E S (G 0) (G 1) k))) (vp_Sl (fun r => r = q_img (E, S, G, k) a0 x)) 0 0 (fun _ => False) := by
  refine ww_met (by decide) (Nat.le_of_ble_eq_true rfl) ?_
  intro p e s m below meth c C0 hr hlk hnm hv ls hl
  have C0 : CallFix p m c cX1_image 4 s _ lw_all RX1 := C0
  obtain ⟨hP, hK⟩ := hv
  have hl : lv_has ls 4 [(0, .ref h0), (1, .int a0), (2, .long x)] := hl
  refine lv_aload_n C0.1 C0.2.1 dX1_image_0 rfl (lv_at hl 0 rfl) ?_
  refine lv_iload_n C0.1 C0.2.1 dX1_image_1 rfl (lv_at hl 1 rfl) ?_
  refine go_bad C0 hl.1 ⟨Nat.le_of_ble_eq_true rfl, Nat.le_of_ble_eq_true rfl, Nat.le_of_ble_eq_true rfl, Nat.le_of_ble_eq_true rfl⟩ (Nat.le_of_ble_eq_true rfl) hK (G := G) hP hk dX1_image_2 ?_
  refine lv_if_eq (tgt := 12) C0.1 C0.2.1 dX1_image_5 (by decide) (fun c1 => ?_) (fun c1 => ?_)
  · obtain ⟨a, ha, rfl⟩ := gc_gd_of (gc_d0.mp c1) (by omega)
    refine lv_aload_n C0.1 C0.2.1 dX1_image_12 rfl (lv_at hl 0 rfl) ?_
    refine lv_iload_n C0.1 C0.2.1 dX1_image_13 rfl (lv_at hl 1 rfl) ?_
    refine lv_lload_n C0.1 C0.2.1 dX1_image_14 rfl (lv_at hl 2 rfl) ?_
    refine go_from C0 hl.1 ⟨Nat.le_of_ble_eq_true rfl, Nat.le_of_ble_eq_true rfl, Nat.le_of_ble_eq_true rfl, Nat.le_of_ble_eq_true rfl⟩ (Nat.le_of_ble_eq_true rfl) hK (G := G) hP (a := a) (by omega) dX1_image_15 ?_
    exact ww_lret C0 hr hlk (show (gc_img E a x : Int64) = q_img (E, S, G, k) (nI a) x from (q_img_ok ha hk).symm) dX1_image_18
  · refine lv_lconst (v := 0) C0.1 C0.2.1 dX1_image_8 (by decide) ?_
    refine lv_goto (tgt := 18) C0.1 C0.2.1 dX1_image_9 (by decide) ?_
    exact ww_lret C0 hr hlk (show (0 : Int64) = q_img (E, S, G, k) a0 x from (q_img_bad (fun q => c1 (gc_d0.mpr q))).symm) dX1_image_18
set_option maxHeartbeats 4000000 in
set_option maxRecDepth 100000 in
/-- refines(a, b) -/
theorem mX1_refines (l : Launch) (D : va_G) (h0 hE hS : Nat) (d : ClassId) (E S G : Nat → Int64) (k : Nat) (hk : k ≤ 30) (a0 b0 : Int32) : Met l yX1_refines (ws_ yX1_refines cX1_refines 4 (some .int)) ({ frames := 1, cells := 0, slots := 0, locals := 24 }) (va_Pc [.ref h0, .int a0, .int b0] (gP D d (gM h0 hE hS d E S (G 0) (G 1) k))) (vp_Si (fun r => r = q_ref (E, S, G, k) a0 b0)) 0 0 (fun _ => False) := by
  refine ww_met (by decide) (Nat.le_of_ble_eq_true rfl) ?_
  intro p e s m below meth c C0 hr hlk hnm hv ls hl
  have C0 : CallFix p m c cX1_refines 4 s _ lw_all RX1 := C0
  obtain ⟨hP, hK⟩ := hv
  have hl : lv_has ls 4 [(0, .ref h0), (1, .int a0), (2, .int b0)] := hl
  refine lv_aload_n C0.1 C0.2.1 dX1_refines_0 rfl (lv_at hl 0 rfl) ?_
  refine lv_iload_n C0.1 C0.2.1 dX1_refines_1 rfl (lv_at hl 1 rfl) ?_
  refine go_bad C0 hl.1 ⟨Nat.le_of_ble_eq_true rfl, Nat.le_of_ble_eq_true rfl, Nat.le_of_ble_eq_true rfl, Nat.le_of_ble_eq_true rfl⟩ (Nat.le_of_ble_eq_true rfl) hK (G := G) hP hk dX1_refines_2 ?_
  refine lv_if_ne (tgt := 16) C0.1 C0.2.1 dX1_refines_5 (by decide) (fun c1 => ?_) (fun c1 => ?_)
  · refine lv_iconst (v := -1) C0.1 C0.2.1 dX1_refines_16 (by decide) ?_
    exact ww_iret C0 hr hlk (show (-1 : Int32) = q_ref (E, S, G, k) a0 b0 from (q_ref_bad (fun q => c1 (gc_d0.mpr q.1))).symm) dX1_refines_17
  · refine lv_aload_n C0.1 C0.2.1 dX1_refines_8 rfl (lv_at hl 0 rfl) ?_
    refine lv_iload_n C0.1 C0.2.1 dX1_refines_9 rfl (lv_at hl 2 rfl) ?_
    refine go_bad C0 hl.1 ⟨Nat.le_of_ble_eq_true rfl, Nat.le_of_ble_eq_true rfl, Nat.le_of_ble_eq_true rfl, Nat.le_of_ble_eq_true rfl⟩ (Nat.le_of_ble_eq_true rfl) hK (G := G) hP hk dX1_refines_10 ?_
    refine lv_if_eq (tgt := 18) C0.1 C0.2.1 dX1_refines_13 (by decide) (fun c2 => ?_) (fun c2 => ?_)
    · obtain ⟨a, ha, rfl⟩ := gc_gd_of (gc_d0.mp c1) (by omega)
      obtain ⟨b, hb, rfl⟩ := gc_gd_of (gc_d0.mp c2) (by omega)
      rw [show q_ref (E, S, G, k) (nI a) (nI b) = _ from q_ref_ok ha hb hk]
      refine lv_iconst (v := 0) C0.1 C0.2.1 dX1_refines_18 (by decide) ?_
      refine lv_istore_n (lv' := [(3, .int 0), (0, .ref h0), (1, .int (nI a)), (2, .int (nI b))]) C0.1 C0.2.1 dX1_refines_19 rfl hl (by decide) rfl (fun ls hl => ?_)
      refine ww_for (nL := 4) 64 (fun i => gc_all (gc_rf E S a b) i = true) (fun i => [(0, .ref h0), (1, .int (nI a)), (2, .int (nI b)), (3, .int (nI i))]) rfl (lv_sub hl [1, 2, 3, 0] rfl) ?_
      intro i hi hI ih ls hl
      have hl : lv_has ls 4 [(0, .ref h0), (1, .int (nI a)), (2, .int (nI b)), (3, .int (nI i))] := hl
      refine lv_iload_n C0.1 C0.2.1 dX1_refines_20 rfl (lv_at hl 3 rfl) ?_
      refine lv_bipush (v := nI 64) C0.1 C0.2.1 dX1_refines_21 (by decide) ?_
      refine lv_icmp_ge (tgt := 91) C0.1 C0.2.1 dX1_refines_23 (by decide) (fun c3 => ?_) (fun c3 => ?_)
      · have e : i = 64 := ww_eq hi (by decide) c3
        subst e
        refine lv_iconst (v := 1) C0.1 C0.2.1 dX1_refines_91 (by decide) ?_
        exact ww_iret C0 hr hlk (show 1 = (if gc_all (gc_rf E S a b) 64 then 1 else 0) from (if_pos hI).symm) dX1_refines_92
      · have lt : i < 64 := ww_lt hi (by decide) c3
        refine lv_aload_n C0.1 C0.2.1 dX1_refines_26 rfl (lv_at hl 0 rfl) ?_
        refine lv_aload_n C0.1 C0.2.1 dX1_refines_27 rfl (lv_at hl 0 rfl) ?_
        refine mg_S C0 hK hP dX1_refines_28 ?_
        refine lv_iload_n C0.1 C0.2.1 dX1_refines_31 rfl (lv_at hl 1 rfl) ?_
        refine ww_lald C0 hK hP 2 0 rfl rfl (j := a) rfl (by omega) (by decide) dX1_refines_32 ?_
        refine lv_iload_n C0.1 C0.2.1 dX1_refines_33 rfl (lv_at hl 3 rfl) ?_
        refine go_in C0 hl.1 ⟨Nat.le_of_ble_eq_true rfl, Nat.le_of_ble_eq_true rfl, Nat.le_of_ble_eq_true rfl, Nat.le_of_ble_eq_true rfl⟩ (Nat.le_of_ble_eq_true rfl) hK (G := G) hP (j := i) (by omega) dX1_refines_34 ?_
        refine lv_if_eq (tgt := 85) C0.1 C0.2.1 dX1_refines_37 (by decide) (fun c4 => ?_) (fun c4 => ?_)
        · have hn : gc_rf E S a b i = true := by unfold gc_rf; rw [Bool.eq_false_iff.mpr (gc_b0.mp c4)]; rfl
          refine lv_iinc (v := nI (i + 1)) (lv' := [(3, .int (nI (i + 1))), (0, .ref h0), (1, .int (nI a)), (2, .int (nI b))]) C0.1 C0.2.1 dX1_refines_85 hl (k := 3) rfl (ww_inc i) (by decide) rfl (fun ls hl => ?_)
          refine lv_goto (tgt := 20) C0.1 C0.2.1 dX1_refines_88 (by decide) ?_
          exact ih lt (gc_all_s hI hn) ls (lv_sub hl [1, 2, 3, 0] rfl)
        · refine lv_aload_n C0.1 C0.2.1 dX1_refines_40 rfl (lv_at hl 0 rfl) ?_
          refine lv_aload_n C0.1 C0.2.1 dX1_refines_41 rfl (lv_at hl 0 rfl) ?_
          refine mg_S C0 hK hP dX1_refines_42 ?_
          refine lv_iload_n C0.1 C0.2.1 dX1_refines_45 rfl (lv_at hl 2 rfl) ?_
          refine ww_lald C0 hK hP 2 0 rfl rfl (j := b) rfl (by omega) (by decide) dX1_refines_46 ?_
          refine lv_iload_n C0.1 C0.2.1 dX1_refines_47 rfl (lv_at hl 3 rfl) ?_
          refine go_in C0 hl.1 ⟨Nat.le_of_ble_eq_true rfl, Nat.le_of_ble_eq_true rfl, Nat.le_of_ble_eq_true rfl, Nat.le_of_ble_eq_true rfl⟩ (Nat.le_of_ble_eq_true rfl) hK (G := G) hP (j := i) (by omega) dX1_refines_48 ?_
          refine lv_if_eq (tgt := 83) C0.1 C0.2.1 dX1_refines_51 (by decide) (fun c5 => ?_) (fun c5 => ?_)
          · have hn : gc_rf E S a b i = false := by unfold gc_rf; rw [gc_b1 c4, Bool.eq_false_iff.mpr (gc_b0.mp c5)]; rfl
            refine lv_iconst (v := 0) C0.1 C0.2.1 dX1_refines_83 (by decide) ?_
            exact ww_iret C0 hr hlk (show 0 = (if gc_all (gc_rf E S a b) 64 then 1 else 0) from (if_neg (by rw [gc_all_f hn 64 lt]; decide)).symm) dX1_refines_84
          · refine lv_aload_n C0.1 C0.2.1 dX1_refines_54 rfl (lv_at hl 0 rfl) ?_
            refine lv_aload_n C0.1 C0.2.1 dX1_refines_55 rfl (lv_at hl 0 rfl) ?_
            refine mg_E C0 hK hP dX1_refines_56 ?_
            refine lv_bipush (v := nI 64) C0.1 C0.2.1 dX1_refines_59 (by decide) ?_
            refine lv_iload_n C0.1 C0.2.1 dX1_refines_61 rfl (lv_at hl 2 rfl) ?_
            refine lv_imul C0.1 C0.2.1 dX1_refines_62 ?_
            refine lv_iload_n C0.1 C0.2.1 dX1_refines_63 rfl (lv_at hl 3 rfl) ?_
            refine lv_iadd C0.1 C0.2.1 dX1_refines_64 ?_
            refine ww_lald C0 hK hP 1 0 rfl rfl (j := 64 * b + i) (gc_ix b i) (by omega) (by decide) dX1_refines_65 ?_
            refine lv_aload_n C0.1 C0.2.1 dX1_refines_66 rfl (lv_at hl 0 rfl) ?_
            refine mg_E C0 hK hP dX1_refines_67 ?_
            refine lv_bipush (v := nI 64) C0.1 C0.2.1 dX1_refines_70 (by decide) ?_
            refine lv_iload_n C0.1 C0.2.1 dX1_refines_72 rfl (lv_at hl 1 rfl) ?_
            refine lv_imul C0.1 C0.2.1 dX1_refines_73 ?_
            refine lv_iload_n C0.1 C0.2.1 dX1_refines_74 rfl (lv_at hl 3 rfl) ?_
            refine lv_iadd C0.1 C0.2.1 dX1_refines_75 ?_
            refine ww_lald C0 hK hP 1 0 rfl rfl (j := 64 * a + i) (gc_ix a i) (by omega) (by decide) dX1_refines_76 ?_
            refine go_part C0 hl.1 ⟨Nat.le_of_ble_eq_true rfl, Nat.le_of_ble_eq_true rfl, Nat.le_of_ble_eq_true rfl, Nat.le_of_ble_eq_true rfl⟩ (Nat.le_of_ble_eq_true rfl) hK (G := G) hP dX1_refines_77 ?_
            refine lv_if_ne (tgt := 85) C0.1 C0.2.1 dX1_refines_80 (by decide) (fun c6 => ?_) (fun c6 => ?_)
            · have hn : gc_rf E S a b i = true := by unfold gc_rf; rw [gc_b1 c5, decide_eq_true (gc_b1 c6)]; simp
              refine lv_iinc (v := nI (i + 1)) (lv' := [(3, .int (nI (i + 1))), (0, .ref h0), (1, .int (nI a)), (2, .int (nI b))]) C0.1 C0.2.1 dX1_refines_85 hl (k := 3) rfl (ww_inc i) (by decide) rfl (fun ls hl => ?_)
              refine lv_goto (tgt := 20) C0.1 C0.2.1 dX1_refines_88 (by decide) ?_
              exact ih lt (gc_all_s hI hn) ls (lv_sub hl [1, 2, 3, 0] rfl)
            · have hn : gc_rf E S a b i = false := by unfold gc_rf; rw [gc_b1 c4, decide_eq_false (gc_b0.mp c6)]; simp
              refine lv_iconst (v := 0) C0.1 C0.2.1 dX1_refines_83 (by decide) ?_
              exact ww_iret C0 hr hlk (show 0 = (if gc_all (gc_rf E S a b) 64 then 1 else 0) from (if_neg (by rw [gc_all_f hn 64 lt]; decide)).symm) dX1_refines_84
    · refine lv_iconst (v := -1) C0.1 C0.2.1 dX1_refines_16 (by decide) ?_
      exact ww_iret C0 hr hlk (show (-1 : Int32) = q_ref (E, S, G, k) a0 b0 from (q_ref_bad (fun q => c2 (gc_d0.mpr q.2))).symm) dX1_refines_17
set_option maxHeartbeats 4000000 in
set_option maxRecDepth 100000 in
/-- settled(p) -/
theorem mX1_settled (l : Launch) (D : va_G) (h0 hE hS : Nat) (d : ClassId) (E S G : Nat → Int64) (k : Nat) (hk : k ≤ 30) (a0 : Int32) : Met l yX1_settled (ws_ yX1_settled cX1_settled 3 (some .int)) ({ frames := 2, cells := 0, slots := 0, locals := 47 }) (va_Pc [.ref h0, .int a0] (gP D d (gM h0 hE hS d E S (G 0) (G 1) k))) (vp_Si (fun r => r = q_set (E, S, G, k) a0)) 0 0 (fun _ => False) := by
  refine ww_met (by decide) (Nat.le_of_ble_eq_true rfl) ?_
  intro p e s m below meth c C0 hr hlk hnm hv ls hl
  have C0 : CallFix p m c cX1_settled 3 s _ lw_all RX1 := C0
  obtain ⟨hP, hK⟩ := hv
  have hl : lv_has ls 3 [(0, .ref h0), (1, .int a0)] := hl
  refine lv_aload_n C0.1 C0.2.1 dX1_settled_0 rfl (lv_at hl 0 rfl) ?_
  refine lv_iload_n C0.1 C0.2.1 dX1_settled_1 rfl (lv_at hl 1 rfl) ?_
  refine go_bad C0 hl.1 ⟨Nat.le_of_ble_eq_true rfl, Nat.le_of_ble_eq_true rfl, Nat.le_of_ble_eq_true rfl, Nat.le_of_ble_eq_true rfl⟩ (Nat.le_of_ble_eq_true rfl) hK (G := G) hP hk dX1_settled_2 ?_
  refine lv_if_eq (tgt := 10) C0.1 C0.2.1 dX1_settled_5 (by decide) (fun c1 => ?_) (fun c1 => ?_)
  · obtain ⟨a, ha, rfl⟩ := gc_gd_of (gc_d0.mp c1) (by omega)
    rw [show q_set (E, S, G, k) (nI a) = _ from q_set_ok ha hk]
    refine lv_iconst (v := 0) C0.1 C0.2.1 dX1_settled_10 (by decide) ?_
    refine lv_istore_n (lv' := [(2, .int 0), (0, .ref h0), (1, .int (nI a))]) C0.1 C0.2.1 dX1_settled_11 rfl hl (by decide) rfl (fun ls hl => ?_)
    refine ww_for (nL := 3) 64 (fun i => gc_all (gc_se E S a) i = true) (fun i => [(0, .ref h0), (1, .int (nI a)), (2, .int (nI i))]) rfl (lv_sub hl [1, 2, 0] rfl) ?_
    intro i hi hI ih ls hl
    have hl : lv_has ls 3 [(0, .ref h0), (1, .int (nI a)), (2, .int (nI i))] := hl
    refine lv_iload_n C0.1 C0.2.1 dX1_settled_12 rfl (lv_at hl 2 rfl) ?_
    refine lv_bipush (v := nI 64) C0.1 C0.2.1 dX1_settled_13 (by decide) ?_
    refine lv_icmp_ge (tgt := 59) C0.1 C0.2.1 dX1_settled_15 (by decide) (fun c3 => ?_) (fun c3 => ?_)
    · have e : i = 64 := ww_eq hi (by decide) c3
      subst e
      refine lv_iconst (v := 1) C0.1 C0.2.1 dX1_settled_59 (by decide) ?_
      exact ww_iret C0 hr hlk (show 1 = (if gc_all (gc_se E S a) 64 then 1 else 0) from (if_pos hI).symm) dX1_settled_60
    · have lt : i < 64 := ww_lt hi (by decide) c3
      refine lv_aload_n C0.1 C0.2.1 dX1_settled_18 rfl (lv_at hl 0 rfl) ?_
      refine lv_aload_n C0.1 C0.2.1 dX1_settled_19 rfl (lv_at hl 0 rfl) ?_
      refine mg_S C0 hK hP dX1_settled_20 ?_
      refine lv_iload_n C0.1 C0.2.1 dX1_settled_23 rfl (lv_at hl 1 rfl) ?_
      refine ww_lald C0 hK hP 2 0 rfl rfl (j := a) rfl (by omega) (by decide) dX1_settled_24 ?_
      refine lv_iload_n C0.1 C0.2.1 dX1_settled_25 rfl (lv_at hl 2 rfl) ?_
      refine go_in C0 hl.1 ⟨Nat.le_of_ble_eq_true rfl, Nat.le_of_ble_eq_true rfl, Nat.le_of_ble_eq_true rfl, Nat.le_of_ble_eq_true rfl⟩ (Nat.le_of_ble_eq_true rfl) hK (G := G) hP (j := i) (by omega) dX1_settled_26 ?_
      refine lv_if_eq (tgt := 53) C0.1 C0.2.1 dX1_settled_29 (by decide) (fun c4 => ?_) (fun c4 => ?_)
      · have hn : gc_se E S a i = true := by unfold gc_se; rw [Bool.eq_false_iff.mpr (gc_b0.mp c4)]; rfl
        refine lv_iinc (v := nI (i + 1)) (lv' := [(2, .int (nI (i + 1))), (0, .ref h0), (1, .int (nI a))]) C0.1 C0.2.1 dX1_settled_53 hl (k := 2) rfl (ww_inc i) (by decide) rfl (fun ls hl => ?_)
        refine lv_goto (tgt := 12) C0.1 C0.2.1 dX1_settled_56 (by decide) ?_
        exact ih lt (gc_all_s hI hn) ls (lv_sub hl [1, 2, 0] rfl)
      · have h2 := gc_ct_le (E (64 * a + i)) 64
        have h1 : nI (gc_ct (E (64 * a + i)) 64) = 1 ↔ gc_ct (E (64 * a + i)) 64 = 1 := nI_eq (b := 1) (by omega) (by decide)
        refine lv_aload_n C0.1 C0.2.1 dX1_settled_32 rfl (lv_at hl 0 rfl) ?_
        refine lv_aload_n C0.1 C0.2.1 dX1_settled_33 rfl (lv_at hl 0 rfl) ?_
        refine mg_E C0 hK hP dX1_settled_34 ?_
        refine lv_bipush (v := nI 64) C0.1 C0.2.1 dX1_settled_37 (by decide) ?_
        refine lv_iload_n C0.1 C0.2.1 dX1_settled_39 rfl (lv_at hl 1 rfl) ?_
        refine lv_imul C0.1 C0.2.1 dX1_settled_40 ?_
        refine lv_iload_n C0.1 C0.2.1 dX1_settled_41 rfl (lv_at hl 2 rfl) ?_
        refine lv_iadd C0.1 C0.2.1 dX1_settled_42 ?_
        refine ww_lald C0 hK hP 1 0 rfl rfl (j := 64 * a + i) (gc_ix a i) (by omega) (by decide) dX1_settled_43 ?_
        refine go_size C0 hl.1 ⟨Nat.le_of_ble_eq_true rfl, Nat.le_of_ble_eq_true rfl, Nat.le_of_ble_eq_true rfl, Nat.le_of_ble_eq_true rfl⟩ (Nat.le_of_ble_eq_true rfl) hK (G := G) hP dX1_settled_44 ?_
        refine lv_iconst (v := 1) C0.1 C0.2.1 dX1_settled_47 (by decide) ?_
        refine lv_icmp_eq (tgt := 53) C0.1 C0.2.1 dX1_settled_48 (by decide) (fun c6 => ?_) (fun c6 => ?_)
        · have hn : gc_se E S a i = true := by unfold gc_se; rw [decide_eq_true (h1.mp c6)]; simp
          refine lv_iinc (v := nI (i + 1)) (lv' := [(2, .int (nI (i + 1))), (0, .ref h0), (1, .int (nI a))]) C0.1 C0.2.1 dX1_settled_53 hl (k := 2) rfl (ww_inc i) (by decide) rfl (fun ls hl => ?_)
          refine lv_goto (tgt := 12) C0.1 C0.2.1 dX1_settled_56 (by decide) ?_
          exact ih lt (gc_all_s hI hn) ls (lv_sub hl [1, 2, 0] rfl)
        · have hn : gc_se E S a i = false := by unfold gc_se; rw [gc_b1 c4, decide_eq_false (fun q => c6 (h1.mpr q))]; rfl
          refine lv_iconst (v := 0) C0.1 C0.2.1 dX1_settled_51 (by decide) ?_
          exact ww_iret C0 hr hlk (show 0 = (if gc_all (gc_se E S a) 64 then 1 else 0) from (if_neg (by rw [gc_all_f hn 64 lt]; decide)).symm) dX1_settled_52
  · refine lv_iconst (v := -1) C0.1 C0.2.1 dX1_settled_8 (by decide) ?_
    exact ww_iret C0 hr hlk (show (-1 : Int32) = q_set (E, S, G, k) a0 from (q_set_bad (fun q => c1 (gc_d0.mpr q))).symm) dX1_settled_9
set_option maxHeartbeats 4000000 in
set_option maxRecDepth 100000 in
/-- widest(p) -/
theorem mX1_widest (l : Launch) (D : va_G) (h0 hE hS : Nat) (d : ClassId) (E S G : Nat → Int64) (k : Nat) (hk : k ≤ 30) (a0 : Int32) : Met l yX1_widest (ws_ yX1_widest cX1_widest 5 (some .int)) ({ frames := 2, cells := 0, slots := 0, locals := 47 }) (va_Pc [.ref h0, .int a0] (gP D d (gM h0 hE hS d E S (G 0) (G 1) k))) (vp_Si (fun r => r = q_wid (E, S, G, k) a0)) 0 0 (fun _ => False) := by
  refine ww_met (by decide) (Nat.le_of_ble_eq_true rfl) ?_
  intro p e s m below meth c C0 hr hlk hnm hv ls hl
  have C0 : CallFix p m c cX1_widest 5 s _ lw_all RX1 := C0
  obtain ⟨hP, hK⟩ := hv
  have hl : lv_has ls 5 [(0, .ref h0), (1, .int a0)] := hl
  refine lv_aload_n C0.1 C0.2.1 dX1_widest_0 rfl (lv_at hl 0 rfl) ?_
  refine lv_iload_n C0.1 C0.2.1 dX1_widest_1 rfl (lv_at hl 1 rfl) ?_
  refine go_bad C0 hl.1 ⟨Nat.le_of_ble_eq_true rfl, Nat.le_of_ble_eq_true rfl, Nat.le_of_ble_eq_true rfl, Nat.le_of_ble_eq_true rfl⟩ (Nat.le_of_ble_eq_true rfl) hK (G := G) hP hk dX1_widest_2 ?_
  refine lv_if_eq (tgt := 10) C0.1 C0.2.1 dX1_widest_5 (by decide) (fun c1 => ?_) (fun c1 => ?_)
  · obtain ⟨a, ha, rfl⟩ := gc_gd_of (gc_d0.mp c1) (by omega)
    rw [show q_wid (E, S, G, k) (nI a) = _ from q_wid_ok ha hk]
    refine lv_iconst (v := 0) C0.1 C0.2.1 dX1_widest_10 (by decide) ?_
    refine lv_istore_n (lv' := [(2, .int 0), (0, .ref h0), (1, .int (nI a))]) C0.1 C0.2.1 dX1_widest_11 rfl hl (by decide) rfl (fun ls hl => ?_)
    refine lv_iconst (v := 0) C0.1 C0.2.1 dX1_widest_12 (by decide) ?_
    refine lv_istore_n (lv' := [(3, .int 0), (2, .int 0), (0, .ref h0), (1, .int (nI a))]) C0.1 C0.2.1 dX1_widest_13 rfl hl (by decide) rfl (fun ls hl => ?_)
    refine ww_for (nL := 5) 64 (fun _ => True) (fun i => [(0, .ref h0), (1, .int (nI a)), (2, .int (nI (gc_wid E a i))), (3, .int (nI i))]) trivial (lv_sub hl [2, 3, 1, 0] rfl) ?_
    intro i hi hI ih ls hl
    have hl : lv_has ls 5 [(0, .ref h0), (1, .int (nI a)), (2, .int (nI (gc_wid E a i))), (3, .int (nI i))] := hl
    refine lv_iload_n C0.1 C0.2.1 dX1_widest_14 rfl (lv_at hl 3 rfl) ?_
    refine lv_bipush (v := nI 64) C0.1 C0.2.1 dX1_widest_15 (by decide) ?_
    refine lv_icmp_ge (tgt := 52) C0.1 C0.2.1 dX1_widest_17 (by decide) (fun c3 => ?_) (fun c3 => ?_)
    · have e : i = 64 := ww_eq hi (by decide) c3
      subst e
      refine lv_iload_n C0.1 C0.2.1 dX1_widest_52 rfl (lv_at hl 2 rfl) ?_
      exact ww_iret C0 hr hlk rfl dX1_widest_53
    · have lt : i < 64 := ww_lt hi (by decide) c3
      have h1 := gc_wid_le E a i
      have h2 := gc_ct_le (E (64 * a + i)) 64
      refine lv_aload_n C0.1 C0.2.1 dX1_widest_20 rfl (lv_at hl 0 rfl) ?_
      refine lv_aload_n C0.1 C0.2.1 dX1_widest_21 rfl (lv_at hl 0 rfl) ?_
      refine mg_E C0 hK hP dX1_widest_22 ?_
      refine lv_bipush (v := nI 64) C0.1 C0.2.1 dX1_widest_25 (by decide) ?_
      refine lv_iload_n C0.1 C0.2.1 dX1_widest_27 rfl (lv_at hl 1 rfl) ?_
      refine lv_imul C0.1 C0.2.1 dX1_widest_28 ?_
      refine lv_iload_n C0.1 C0.2.1 dX1_widest_29 rfl (lv_at hl 3 rfl) ?_
      refine lv_iadd C0.1 C0.2.1 dX1_widest_30 ?_
      refine ww_lald C0 hK hP 1 0 rfl rfl (j := 64 * a + i) (gc_ix a i) (by omega) (by decide) dX1_widest_31 ?_
      refine go_size C0 hl.1 ⟨Nat.le_of_ble_eq_true rfl, Nat.le_of_ble_eq_true rfl, Nat.le_of_ble_eq_true rfl, Nat.le_of_ble_eq_true rfl⟩ (Nat.le_of_ble_eq_true rfl) hK (G := G) hP dX1_widest_32 ?_
      refine lv_istore (lv' := [(4, .int (nI (gc_ct (E (64 * a + i)) 64))), (0, .ref h0), (1, .int (nI a)), (2, .int (nI (gc_wid E a i))), (3, .int (nI i))]) C0.1 C0.2.1 dX1_widest_35 hl (by decide) rfl (fun ls hl => ?_)
      refine lv_iload C0.1 C0.2.1 dX1_widest_37 (lv_at hl 0 rfl) ?_
      refine lv_iload_n C0.1 C0.2.1 dX1_widest_39 rfl (lv_at hl 3 rfl) ?_
      refine lv_icmp_le (tgt := 46) C0.1 C0.2.1 dX1_widest_40 (by decide) (fun c4 => ?_) (fun c4 => ?_)
      · have ea : gc_wid E a i = gc_wid E a (i + 1) := by have q := (nI_leI (by omega) (by omega)).mp c4; rw [gc_wid_s, if_neg (by omega)]
        rw [ea] at hl
        refine lv_iinc (v := nI (i + 1)) (lv' := [(3, .int (nI (i + 1))), (4, .int (nI (gc_ct (E (64 * a + i)) 64))), (0, .ref h0), (1, .int (nI a)), (2, .int (nI (gc_wid E a (i + 1))))]) C0.1 C0.2.1 dX1_widest_46 hl (k := 4) rfl (ww_inc i) (by decide) rfl (fun ls hl => ?_)
        refine lv_goto (tgt := 14) C0.1 C0.2.1 dX1_widest_49 (by decide) ?_
        exact ih lt trivial ls (lv_sub hl [2, 3, 4, 0] rfl)
      · refine lv_iload C0.1 C0.2.1 dX1_widest_43 (lv_at hl 0 rfl) ?_
        refine ww_ti (v := nI (gc_wid E a (i + 1))) (by have q : ¬ gc_ct (E (64 * a + i)) 64 ≤ gc_wid E a i := fun z => c4 (nI_le z (by omega)); rw [gc_wid_s, if_pos (by omega)]) ?_
        refine lv_istore_n (lv' := [(2, .int (nI (gc_wid E a (i + 1)))), (4, .int (nI (gc_ct (E (64 * a + i)) 64))), (0, .ref h0), (1, .int (nI a)), (3, .int (nI i))]) C0.1 C0.2.1 dX1_widest_45 rfl hl (by decide) rfl (fun ls hl => ?_)
        refine lv_iinc (v := nI (i + 1)) (lv' := [(3, .int (nI (i + 1))), (2, .int (nI (gc_wid E a (i + 1)))), (4, .int (nI (gc_ct (E (64 * a + i)) 64))), (0, .ref h0), (1, .int (nI a))]) C0.1 C0.2.1 dX1_widest_46 hl (k := 4) rfl (ww_inc i) (by decide) rfl (fun ls hl => ?_)
        refine lv_goto (tgt := 14) C0.1 C0.2.1 dX1_widest_49 (by decide) ?_
        exact ih lt trivial ls (lv_sub hl [3, 4, 1, 0] rfl)
  · refine lv_iconst (v := -1) C0.1 C0.2.1 dX1_widest_8 (by decide) ?_
    exact ww_iret C0 hr hlk (show (-1 : Int32) = q_wid (E, S, G, k) a0 from (q_wid_bad (fun q => c1 (gc_d0.mpr q))).symm) dX1_widest_9
end X1Q
end
section
/-! THE TWO CONSTRUCTORS -/
set_option maxRecDepth 100000
/-- an array of zeros -/
abbrev gZ : Nat → Int64 := fun _ => 0
theorem gc_same {D : va_G} {cl : List vw_C} {tys : List (ClassId × FieldType)} {U : State} {c1 c2 : ClassId} (hK : va_K D cl tys U) (i j : Nat) (h1 : tys[i]? = some (c1, .long)) (h2 : tys[j]? = some (c2, .long)) : c1 = c2 := by
  have a1 : U.vm.findClass ("[" ++ FieldType.long.toString) = some c1 := (hK.2 i _ h1).2
  have a2 : U.vm.findClass ("[" ++ FieldType.long.toString) = some c2 := (hK.2 j _ h2).2
  exact Option.some.inj (a1.symm.trans a2)
abbrev gX0 (h0 : Nat) : va_W := [(h0, .inr (0, [.null, .null, .null, .int 0]))]
abbrev gM0 (h0 : Nat) : va_W := [(h0, .inr (1, [.long 0, .long 0, .int 0, .null, .null]))]
set_option maxHeartbeats 4000000 in
/-- GuardedCommands(): three arrays of zeros, no program -/
theorem mX0_init (l : Launch) (D : va_G) (h0 sz : Nat) : Met l yX0_init (ws_ yX0_init cX0_init 1 none) ({ frames := 1, cells := 3, slots := 1952, locals := 12 }) (va_Pc [.ref h0] (fun U => U.heap.size = sz ∧ va_P D vwCl (gX0 h0) U.heap ∧ va_K D vwCl [] U ∧ va_D (fun _ => True) (gX0 h0))) (va_Qv (fun (_ : Nat × Nat × Nat × ClassId) => True) (fun u t => va_P D vwCl (gX h0 u.1 u.2.1 u.2.2.1 u.2.2.2 gZ gZ gZ 0) t.heap ∧ va_K D vwCl [(u.2.2.2, .long)] t ∧ va_D (va_A (gX0 h0) sz) (gX h0 u.1 u.2.1 u.2.2.1 u.2.2.2 gZ gZ gZ 0)) (va_A (gX0 h0) sz)) 3 1952 (va_A (gX0 h0) sz) := by
  refine ww_met (by decide) (Nat.le_of_ble_eq_true rfl) ?_
  intro p e s m below meth c C0 hr hlk hnm hv ls hl
  have C0 : CallFix p m c cX0_init 1 s _ lw_all RX0 := C0
  obtain ⟨hsz, hP, hK, hD0⟩ := hv
  subst hsz
  obtain ⟨hx, hb, hml, hown, hts⟩ := C0
  have hin : meth.name = "<init>" := hnm
  have hD : va_D (va_A (gX0 h0) s.heap.size) (gX0 h0) := hD0.self
  have hS : va_S (va_A (gX0 h0) s.heap.size) s.heap s.heap [] := va_S.rf
  have hA : ∀ q : Nat, s.heap.size ≤ q → va_A (gX0 h0) s.heap.size q := fun q h => Or.inr h
  have hl : lv_has ls 1 [(0, .ref h0)] := hl
  refine lv_aload_n hx hb dX0_init_0 rfl (lv_at hl 0 rfl) ?_
  refine W.objInit hx hb hown (hts _ q29) (hts _ q30) (hts _ q31) rfl (by rw [hml]; exact hl.1) rfl dX0_init_1 (Nat.le_of_ble_eq_true rfl) (Nat.le_of_ble_eq_true rfl) ?_
  refine W.eq (g2 := F0 m 4 ls []) rfl ?_
  refine lv_aload_n hx hb dX0_init_4 rfl (lv_at hl 0 rfl) ?_
  refine lv_sipush (v := 1920) hx hb dX0_init_5 (by decide) ?_
  refine va_newa (atype := .long) (ty := .long) (a0 := (1920, .inr (.inl gZ))) hx hb (hts _ q45) rfl hK hP hD hS hA (fun _ => rfl) (by decide) (by decide) (by decide) (Nat.le_of_ble_eq_true rfl) (Nat.le_of_ble_eq_true rfl) dX0_init_8 (fun q1 c1 H hK hP hD hS => ?_)
  have hP : va_P D vwCl [(h0, .inr (0, [.null, .null, .null, .int 0])), (q1, .inl (c1, 1920, .inr (.inl gZ)))] H := hP
  have hD : va_D (va_A (gX0 h0) s.heap.size) [(h0, .inr (0, [.null, .null, .null, .int 0])), (q1, .inl (c1, 1920, .inr (.inl gZ)))] := hD
  have hK : va_K D vwCl [(c1, .long)] s := hK
  refine va_putF (D := D) (ci := 0) (v := .ref q1) (ty := .array .long) (C := RX0) (T := TX0) (N := 4) hx hb hts in_X0 tyX0 tyX0_ok nmX0 hown hK hP hD hS 0 rfl rfl 0 (by decide) (hts _ q32) (fun _ h9 => h9) rfl hin rfl (by decide +kernel) rfl rfl (Nat.le_of_ble_eq_true rfl) dX0_init_10 (fun H locs hP hD hS => ?_)
  have hP : va_P D vwCl [(h0, .inr (0, [.ref q1, .null, .null, .int 0])), (q1, .inl (c1, 1920, .inr (.inl gZ)))] H := hP
  have hD : va_D (va_A (gX0 h0) s.heap.size) [(h0, .inr (0, [.ref q1, .null, .null, .int 0])), (q1, .inl (c1, 1920, .inr (.inl gZ)))] := hD
  refine lv_aload_n hx hb dX0_init_13 rfl (lv_at hl 0 rfl) ?_
  refine lv_bipush (v := 30) hx hb dX0_init_14 (by decide) ?_
  refine va_newa (atype := .long) (ty := .long) (a0 := (30, .inr (.inl gZ))) hx hb (hts _ q45) rfl hK hP hD hS hA (fun _ => rfl) (by decide) (by decide) (by decide) (Nat.le_of_ble_eq_true rfl) (Nat.le_of_ble_eq_true rfl) dX0_init_16 (fun q2 c2 H hK hP hD hS => ?_)
  have hK : va_K D vwCl [(c1, .long), (c2, .long)] s := hK
  have e2 : c1 = c2 := gc_same hK 0 1 rfl rfl
  subst e2
  have hP : va_P D vwCl [(h0, .inr (0, [.ref q1, .null, .null, .int 0])), (q1, .inl (c1, 1920, .inr (.inl gZ))), (q2, .inl (c1, 30, .inr (.inl gZ)))] H := hP
  have hD : va_D (va_A (gX0 h0) s.heap.size) [(h0, .inr (0, [.ref q1, .null, .null, .int 0])), (q1, .inl (c1, 1920, .inr (.inl gZ))), (q2, .inl (c1, 30, .inr (.inl gZ)))] := hD
  refine va_putF (D := D) (ci := 0) (v := .ref q2) (ty := .array .long) (C := RX0) (T := TX0) (N := 4) hx hb hts in_X0 tyX0 tyX0_ok nmX0 hown hK hP hD hS 0 rfl rfl 1 (by decide) (hts _ q33) (fun _ h9 => h9) rfl hin rfl (by decide +kernel) rfl rfl (Nat.le_of_ble_eq_true rfl) dX0_init_18 (fun H locs hP hD hS => ?_)
  have hP : va_P D vwCl [(h0, .inr (0, [.ref q1, .ref q2, .null, .int 0])), (q1, .inl (c1, 1920, .inr (.inl gZ))), (q2, .inl (c1, 30, .inr (.inl gZ)))] H := hP
  have hD : va_D (va_A (gX0 h0) s.heap.size) [(h0, .inr (0, [.ref q1, .ref q2, .null, .int 0])), (q1, .inl (c1, 1920, .inr (.inl gZ))), (q2, .inl (c1, 30, .inr (.inl gZ)))] := hD
  refine lv_aload_n hx hb dX0_init_21 rfl (lv_at hl 0 rfl) ?_
  refine lv_iconst (v := 2) hx hb dX0_init_22 (by decide) ?_
  refine va_newa (atype := .long) (ty := .long) (a0 := (2, .inr (.inl gZ))) hx hb (hts _ q45) rfl hK hP hD hS hA (fun _ => rfl) (by decide) (by decide) (by decide) (Nat.le_of_ble_eq_true rfl) (Nat.le_of_ble_eq_true rfl) dX0_init_23 (fun q3 c3 H hK hP hD hS => ?_)
  have hK : va_K D vwCl [(c1, .long), (c1, .long), (c3, .long)] s := hK
  have e3 : c1 = c3 := gc_same hK 0 2 rfl rfl
  subst e3
  have hP : va_P D vwCl [(h0, .inr (0, [.ref q1, .ref q2, .null, .int 0])), (q1, .inl (c1, 1920, .inr (.inl gZ))), (q2, .inl (c1, 30, .inr (.inl gZ))), (q3, .inl (c1, 2, .inr (.inl gZ)))] H := hP
  have hD : va_D (va_A (gX0 h0) s.heap.size) [(h0, .inr (0, [.ref q1, .ref q2, .null, .int 0])), (q1, .inl (c1, 1920, .inr (.inl gZ))), (q2, .inl (c1, 30, .inr (.inl gZ))), (q3, .inl (c1, 2, .inr (.inl gZ)))] := hD
  refine va_putF (D := D) (ci := 0) (v := .ref q3) (ty := .array .long) (C := RX0) (T := TX0) (N := 4) hx hb hts in_X0 tyX0 tyX0_ok nmX0 hown hK hP hD hS 0 rfl rfl 2 (by decide) (hts _ q34) (fun _ h9 => h9) rfl hin rfl (by decide +kernel) rfl rfl (Nat.le_of_ble_eq_true rfl) dX0_init_25 (fun H locs hP hD hS => ?_)
  have hP : va_P D vwCl (gX h0 q1 q2 q3 c1 gZ gZ gZ 0) H := hP
  have hD : va_D (va_A (gX0 h0) s.heap.size) (gX h0 q1 q2 q3 c1 gZ gZ gZ 0) := hD
  refine lv_aload_n hx hb dX0_init_28 rfl (lv_at hl 0 rfl) ?_
  refine lv_iconst (v := nI 0) hx hb dX0_init_29 (by decide) ?_
  refine xp_k ⟨hx, hb, hml, hown, hts⟩ hK hP hD hS (k' := 0) dX0_init_30 (fun H locs hP hD hS => ?_)
  have hK9 : va_K D vwCl [(c1, .long)] s := hK.sub [0] rfl
  refine W.widen (k := 3) (n := 1952) (Nat.le_of_ble_eq_true rfl) (Nat.le_of_ble_eq_true rfl) ?_
  exact W.vret hx hb hr (fun t ht hW => ⟨⟨(q1, q2, q3, c1), rfl, trivial, by rw [ht]; exact hP, va_K.moved hW.alike hK9, hD⟩, hS.F ht⟩) hS.2.2 dX0_init_33
set_option maxHeartbeats 4000000 in
/-- GuardedCommandsModel(): two arrays of zeros, no program -/
theorem mX1_init (l : Launch) (D : va_G) (h0 sz : Nat) : Met l yX1_init (ws_ yX1_init cX1_init 1 none) ({ frames := 1, cells := 2, slots := 1950, locals := 12 }) (va_Pc [.ref h0] (fun U => U.heap.size = sz ∧ va_P D vwCl (gM0 h0) U.heap ∧ va_K D vwCl [] U ∧ va_D (fun _ => True) (gM0 h0))) (va_Qv (fun (_ : Nat × Nat × ClassId) => True) (fun u t => va_P D vwCl (gM h0 u.1 u.2.1 u.2.2 gZ gZ 0 0 0) t.heap ∧ va_K D vwCl [(u.2.2, .long)] t ∧ va_D (va_A (gM0 h0) sz) (gM h0 u.1 u.2.1 u.2.2 gZ gZ 0 0 0)) (va_A (gM0 h0) sz)) 2 1950 (va_A (gM0 h0) sz) := by
  refine ww_met (by decide) (Nat.le_of_ble_eq_true rfl) ?_
  intro p e s m below meth c C0 hr hlk hnm hv ls hl
  have C0 : CallFix p m c cX1_init 1 s _ lw_all RX1 := C0
  obtain ⟨hsz, hP, hK, hD0⟩ := hv
  subst hsz
  obtain ⟨hx, hb, hml, hown, hts⟩ := C0
  have hD : va_D (va_A (gM0 h0) s.heap.size) (gM0 h0) := hD0.self
  have hS : va_S (va_A (gM0 h0) s.heap.size) s.heap s.heap [] := va_S.rf
  have hA : ∀ q : Nat, s.heap.size ≤ q → va_A (gM0 h0) s.heap.size q := fun q h => Or.inr h
  have hl : lv_has ls 1 [(0, .ref h0)] := hl
  refine lv_aload_n hx hb dX1_init_0 rfl (lv_at hl 0 rfl) ?_
  refine W.objInit hx hb hown (hts _ q161) (hts _ q30) (hts _ q31) rfl (by rw [hml]; exact hl.1) rfl dX1_init_1 (Nat.le_of_ble_eq_true rfl) (Nat.le_of_ble_eq_true rfl) ?_
  refine W.eq (g2 := F0 m 4 ls []) rfl ?_
  refine lv_aload_n hx hb dX1_init_4 rfl (lv_at hl 0 rfl) ?_
  refine lv_sipush (v := 1920) hx hb dX1_init_5 (by decide) ?_
  refine va_newa (atype := .long) (ty := .long) (a0 := (1920, .inr (.inl gZ))) hx hb (hts _ q45) rfl hK hP hD hS hA (fun _ => rfl) (by decide) (by decide) (by decide) (Nat.le_of_ble_eq_true rfl) (Nat.le_of_ble_eq_true rfl) dX1_init_8 (fun q1 c1 H hK hP hD hS => ?_)
  have hP : va_P D vwCl [(h0, .inr (1, [.long 0, .long 0, .int 0, .null, .null])), (q1, .inl (c1, 1920, .inr (.inl gZ)))] H := hP
  have hD : va_D (va_A (gM0 h0) s.heap.size) [(h0, .inr (1, [.long 0, .long 0, .int 0, .null, .null])), (q1, .inl (c1, 1920, .inr (.inl gZ)))] := hD
  have hK : va_K D vwCl [(c1, .long)] s := hK
  refine va_put (D := D) (ci := 1) (v := .ref q1) (ty := .array .long) (C := RX1) (T := TX1) (N := 5) hx hb hts in_X1 tyX1 tyX1_ok nmX1 hown hK hP hD hS 0 rfl rfl 3 (by decide) (hts _ q165) (fun _ h9 => h9) rfl (by decide +kernel) rfl rfl (Nat.le_of_ble_eq_true rfl) dX1_init_10 (fun H locs hP hD hS => ?_)
  have hP : va_P D vwCl [(h0, .inr (1, [.long 0, .long 0, .int 0, .ref q1, .null])), (q1, .inl (c1, 1920, .inr (.inl gZ)))] H := hP
  have hD : va_D (va_A (gM0 h0) s.heap.size) [(h0, .inr (1, [.long 0, .long 0, .int 0, .ref q1, .null])), (q1, .inl (c1, 1920, .inr (.inl gZ)))] := hD
  refine lv_aload_n hx hb dX1_init_13 rfl (lv_at hl 0 rfl) ?_
  refine lv_bipush (v := 30) hx hb dX1_init_14 (by decide) ?_
  refine va_newa (atype := .long) (ty := .long) (a0 := (30, .inr (.inl gZ))) hx hb (hts _ q45) rfl hK hP hD hS hA (fun _ => rfl) (by decide) (by decide) (by decide) (Nat.le_of_ble_eq_true rfl) (Nat.le_of_ble_eq_true rfl) dX1_init_16 (fun q2 c2 H hK hP hD hS => ?_)
  have hK : va_K D vwCl [(c1, .long), (c2, .long)] s := hK
  have e2 : c1 = c2 := gc_same hK 0 1 rfl rfl
  subst e2
  have hP : va_P D vwCl [(h0, .inr (1, [.long 0, .long 0, .int 0, .ref q1, .null])), (q1, .inl (c1, 1920, .inr (.inl gZ))), (q2, .inl (c1, 30, .inr (.inl gZ)))] H := hP
  have hD : va_D (va_A (gM0 h0) s.heap.size) [(h0, .inr (1, [.long 0, .long 0, .int 0, .ref q1, .null])), (q1, .inl (c1, 1920, .inr (.inl gZ))), (q2, .inl (c1, 30, .inr (.inl gZ)))] := hD
  refine va_put (D := D) (ci := 1) (v := .ref q2) (ty := .array .long) (C := RX1) (T := TX1) (N := 5) hx hb hts in_X1 tyX1 tyX1_ok nmX1 hown hK hP hD hS 0 rfl rfl 4 (by decide) (hts _ q166) (fun _ h9 => h9) rfl (by decide +kernel) rfl rfl (Nat.le_of_ble_eq_true rfl) dX1_init_18 (fun H locs hP hD hS => ?_)
  have hP : va_P D vwCl (gM h0 q1 q2 c1 gZ gZ 0 0 0) H := hP
  have hD : va_D (va_A (gM0 h0) s.heap.size) (gM h0 q1 q2 c1 gZ gZ 0 0 0) := hD
  have hK9 : va_K D vwCl [(c1, .long)] s := hK.sub [0] rfl
  refine W.widen (k := 2) (n := 1950) (Nat.le_of_ble_eq_true rfl) (Nat.le_of_ble_eq_true rfl) ?_
  exact W.vret hx hb hr (fun t ht hW => ⟨⟨(q1, q2, c1), rfl, trivial, by rw [ht]; exact hP, va_K.moved hW.alike hK9, hD⟩, hS.F ht⟩) hS.2.2 dX1_init_21
end
section
set_option maxRecDepth 100000
/-! THE CLAIM OUT OF ONE WALK OF THE LAW'S BODY. Your part is whole_start (and what it stands on); all else here is the same for every law, but numbers. -/
def R_law : String := "GuardedCommandsLaw"
def lw_P (b : Addr) (xs : List Int32) (args : Array Value) (s : State) : Prop := args = #[.ref b] ∧ s.IntsAt b xs ∧ xs.length ≤ 256 ∧ (Jvm.Cond.and given_1 narrow_1).before args s = true
def lw_Q (_ : Array Value) (s : State) (o : Outcome) (t : State) : Prop := o = .returned (some (.int 1)) ∧ Framed s o t [] 600000 7290000
def lw_Z (below : List Frame) (a : Array Value) (s : State) : State → Prop := fun t => ∃ o, t.status = .running ∧ Ended t below o ∧ lw_Q a s o t
/-- the law's own end, with 1 on the stack, nothing written that was there before, its room as the claim has it -/
theorem lw_ret {p : Program} {l : Launch} {e : Env} {s : State} {m : MethodId} {below : List Frame} {meth : Method} {c : Code} {b : Nat} (hx : p.tables.exec = Jvm.exec) (hb : c.code = code) (hr : meth.sig.returnType = ret) (hlocks : meth.locks = false) {pc : Nat} {H : Heap} {ls : Array Slot} (hdg : decode code pc = .ok (.ireturn, 1)) : W p l e room_1 s m #[Value.ref b] below meth c H [] 600000 7290000 (lw_Z below #[Value.ref b] s) (F0 m pc ls [.int 1]) := by
  intro T hT X
  obtain ⟨fs, hret, hrun, hended, hW, hframe⟩ := X.leave (v := some (.int 1)) (hlocks := hlocks) (fun h => by rw [hr] at h; cases h)
  have hmeth' : T.vm.method? m = some meth := X.method'
  refine ⟨T.setFrames fs, ?_, .returned (some (.int 1)), hrun, hended, rfl, ⟨_, rfl⟩, hW, hframe⟩
  jvm_step X.here [X.here.top, hx, hb, hdg, hmeth', hr, ret, narrow_b1]
  (try refine ⟨rfl, ?_⟩); (try refine ⟨rfl, ?_⟩)
  first | (intro acts; rw [hret _ acts rfl rfl rfl]) | rw [hret _ _ rfl rfl rfl]
  exact Steps.refl _
/-- what holds at the law's entry: the machine, the code, the tables' words (any of lw_tbl by 'hts w (by decide +kernel)'), the script of L ints xs at the cell b, what the Statement gives of the start (any of its parts by flat_of_before) -/
def lw_At (p : Program) (s : State) (m : MethodId) (meth : Method) (c : Code) (b L : Nat) (xs : Nat → Int32) : Prop :=
  p.tables.exec = Jvm.exec ∧ c.code = code ∧ meth.sig.returnType = ret ∧ c.maxLocals = 4 ∧ s.vm.findClass R_law = some m.cls ∧ (∀ w ∈ lw_tbl, w.before #[Value.ref b] s = true) ∧ va_X b L xs s s.heap ∧ b < s.heap.size ∧ meth.locks = false ∧ (Jvm.Cond.and given_1 narrow_1).before #[Value.ref b] s = true
end
section
/-! THE LAW: its calls -/
set_option maxRecDepth 100000
section LAW0
variable {p : Program} {l : Launch} {e : Env} {R : Room} {s : State} {m : MethodId} {args : Array Value} {below : List Frame} {meth : Method} {c : Code} {H : Heap} {locs : List Loc} {cells slots : Nat} {Q : State → Prop} {pc : Nat} {ls : Array Slot} {rest : List Value} {cc : ByteArray} {nL : Nat} {D : va_G} {d : ClassId} {A : Nat → Prop} {H0 : Heap} {h0 hE hS hG : Nat} {E S G : Nat → Int64} {g h : Int64} {n0 nE nS : Nat} {E2 S2 G2 : Nat → Int64} {k2 : Nat} {own : String} {ws wr : va_W} {k : Nat}
theorem ww_sld (C0 : CallFix p m c cc nL s args lw_all own) {b L : Nat} {xs : Nat → Int32} (hX : va_X b L xs s H0) (hbl : b < H0.size) (hbA : ¬ A b) (hs : va_S A H0 H locs) {i : Int32} {j : Nat} (hi : i = nI j) (hj : j < L) (hL : L < 2 ^ 31) (hdg : decode cc pc = .ok (.iaload, 1))
    (kk : W p l e R s m args below meth c H locs cells slots Q (F0 m (pc + 1) ls (.int (xs j) :: rest))) : W p l e R s m args below meth c H locs cells slots Q (F0 m pc ls (.int i :: .ref b :: rest)) := by
  subst hi
  refine va_sld C0.1 C0.2.1 hX hbl hbA hs (vp_in_nI hj hL) hdg ?_
  rw [nI_clamp (Nat.lt_trans hj hL)]
  exact kk
/-- a call that changes a part of the caller's world; the rest stays -/
theorem ww_callCR {y : MethodName} {bytes : ByteArray} {maxL n index ci : Nat} {rm : Room} {As : List Value} {v : Int32} {fs : List Value} {ws' w2 : va_W} {q : vw_C} (isC isR : List Nat) (C0 : CallFix p m c cc nL s args lw_all own) (hK : va_K D vwCl [(d, .long)] s) (hP : va_P D vwCl ws H) (hD : va_D A ws) (hs : va_S A H0 H locs) (hA : ∀ q, H0.size ≤ q → A q) (hC : isC.map (fun i => ws[i]?) = ((h0, .inr (ci, fs)) :: ws').map some) (hCf : isC.filterMap (fun i => ws[i]?) = (h0, .inr (ci, fs)) :: ws') (hCn : va_nd isC = true) (hRr : isR.map (fun i => ws[i]?) = wr.map some) (hn : va_nd isR = true) (hdis : ∀ i ∈ isR, i ∉ isC) (hc : vwCl[ci]? = some q) (hM : Met l y (ws_ y bytes maxL (some .int)) rm (va_Pc (.ref h0 :: As) (gC D d H.size ((h0, .inr (ci, fs)) :: ws'))) (gQ D d H.size ((h0, .inr (ci, fs)) :: ws') v w2) 0 0 (va_A ((h0, .inr (ci, fs)) :: ws') H.size)) (cw : CallW R s args own q.1 index y bytes maxL (some .int) (ws_ y bytes maxL (some .int)) rm 0 0 n) (hAs : As.length = n) {st0 : List Value} (hst : st0 = As.reverse ++ .ref h0 :: rest) (hsz : ls.size = nL) (hrm : (rest.map fun v => v.category).sum ≤ 8) (hf : cells ≤ R.cells ∧ slots ≤ R.slots) (hdg : decode cc pc = .ok (.invokevirtual index, 3))
    (kk : ∀ (H : Heap) (locs : List Loc), va_P D vwCl (wr ++ w2) H → va_D A (wr ++ w2) → va_S A H0 H locs → W p l e R s m args below meth c H locs cells slots Q (F0 m (pc + 3) ls (.int v :: rest))) : W p l e R s m args below meth c H locs cells slots Q (F0 m pc ls st0) := by
  subst hst
  have hPc := hP.sub isC hCf
  have hDc := hD.sub isC hCn hC
  have hF := va_free hD hs hA isC hC
  refine va_calli (va_runV (As := As) (rest := rest) C0 hM cw ⟨gC_blind, va_recv hK hPc (q0 := 0) hc rfl, fun U hU hW => ⟨rfl, by rw [hU], by rw [hU]; exact hPc, va_K.moved hW.alike hK, hDc.weaken (fun _ _ _ _ => trivial)⟩⟩ rfl hAs hsz rfl (lv_room hrm) hdg hf) hs (fun q _ h => hF q h) hF (fun r u t H1 locs1 ht hvm hr hB hz hk hS1 => ?_)
  obtain ⟨hP1, hK1, hD1⟩ := hB
  rw [ht] at hP1
  subst hr
  obtain ⟨hP2, hD2⟩ := va_join hP hD isC isR hC hRr hn hdis hk hF hP1 hD1
  exact kk H1 locs1 hP2 hD2 hS1
theorem go_lx_guard (C0 : CallFix p m c cc nL s args lw_all R_law) (hsz : ls.size = nL) (hR : 2 ≤ R.frames ∧ 46 ≤ R.locals ∧ cells ≤ R.cells ∧ slots ≤ R.slots) (hrm : (rest.map fun v => v.category).sum ≤ 8) (hK : va_K D vwCl [(d, .long)] s) (hP : va_P D vwCl (gX h0 hE hS hG d E S G k ++ gM n0 nE nS d E S (G 0) (G 1) k) H) (hD : va_D A (gX h0 hE hS hG d E S G k ++ gM n0 nE nS d E S (G 0) (G 1) k)) (hs : va_S A H0 H locs) (hA : ∀ q, H0.size ≤ q → A q) {w0 : Int32} {x : Int64} (hdg : decode cc pc = .ok (.invokevirtual 15, 3)) (kk : ∀ (H : Heap) (locs : List Loc), va_P D vwCl (gM n0 nE nS d E S (G 0) (G 1) k ++ gX h0 hE hS hG d ((o_guard (E, S, G, k) w0 x).2.1) ((o_guard (E, S, G, k) w0 x).2.2.1) ((o_guard (E, S, G, k) w0 x).2.2.2.1) ((o_guard (E, S, G, k) w0 x).2.2.2.2)) H → va_D A (gM n0 nE nS d E S (G 0) (G 1) k ++ gX h0 hE hS hG d ((o_guard (E, S, G, k) w0 x).2.1) ((o_guard (E, S, G, k) w0 x).2.2.1) ((o_guard (E, S, G, k) w0 x).2.2.2.1) ((o_guard (E, S, G, k) w0 x).2.2.2.2)) → va_S A H0 H locs → W p l e R s m args below meth c H locs cells slots Q (F0 m (pc + 3) ls (.int ((o_guard (E, S, G, k) w0 x).1) :: rest))) : W p l e R s m args below meth c H locs cells slots Q (F0 m pc ls (.long x :: .int w0 :: .ref h0 :: rest)) :=
  ww_callCR [0, 1, 2, 3] [4, 5, 6] C0 hK hP hD hs hA rfl rfl (by decide) rfl (by decide) (by decide) rfl (mX0_guard l D h0 hE hS hG d E S G k H.size w0 x) (cwV 2 C0.2.2.2.2 (lw_V q46 q47 q48 q22 q49) rfl rfl rfl (by decide +kernel) ⟨hR.1, hR.2.1⟩) rfl rfl hsz hrm hR.2.2 hdg kk
theorem go_lm_guard (C0 : CallFix p m c cc nL s args lw_all R_law) (hsz : ls.size = nL) (hR : 4 ≤ R.frames ∧ 93 ≤ R.locals ∧ cells ≤ R.cells ∧ slots ≤ R.slots) (hrm : (rest.map fun v => v.category).sum ≤ 8) (hK : va_K D vwCl [(d, .long)] s) (hP : va_P D vwCl (gM n0 nE nS d E S (G 0) (G 1) k ++ gX h0 hE hS hG d E2 S2 G2 k2) H) (hD : va_D A (gM n0 nE nS d E S (G 0) (G 1) k ++ gX h0 hE hS hG d E2 S2 G2 k2)) (hs : va_S A H0 H locs) (hA : ∀ q, H0.size ≤ q → A q) {w0 : Int32} {x : Int64} (hdg : decode cc pc = .ok (.invokevirtual 19, 3)) (kk : ∀ (H : Heap) (locs : List Loc), va_P D vwCl (gX h0 hE hS hG d E2 S2 G2 k2 ++ gM n0 nE nS d ((o_guard (E, S, G, k) w0 x).2.1) ((o_guard (E, S, G, k) w0 x).2.2.1) (((o_guard (E, S, G, k) w0 x).2.2.2.1) 0) (((o_guard (E, S, G, k) w0 x).2.2.2.1) 1) ((o_guard (E, S, G, k) w0 x).2.2.2.2)) H → va_D A (gX h0 hE hS hG d E2 S2 G2 k2 ++ gM n0 nE nS d ((o_guard (E, S, G, k) w0 x).2.1) ((o_guard (E, S, G, k) w0 x).2.2.1) (((o_guard (E, S, G, k) w0 x).2.2.2.1) 0) (((o_guard (E, S, G, k) w0 x).2.2.2.1) 1) ((o_guard (E, S, G, k) w0 x).2.2.2.2)) → va_S A H0 H locs → W p l e R s m args below meth c H locs cells slots Q (F0 m (pc + 3) ls (.int ((o_guard (E, S, G, k) w0 x).1) :: rest))) : W p l e R s m args below meth c H locs cells slots Q (F0 m pc ls (.long x :: .int w0 :: .ref n0 :: rest)) :=
  ww_callCR [0, 1, 2] [3, 4, 5, 6] C0 hK hP hD hs hA rfl rfl (by decide) rfl (by decide) (by decide) rfl (mX1_guard l D n0 nE nS d E S G k H.size w0 x) (cwV 2 C0.2.2.2.2 (lw_V q178 q179 q180 q23 q181) rfl rfl rfl (by decide +kernel) ⟨hR.1, hR.2.1⟩) rfl rfl hsz hrm hR.2.2 hdg kk
theorem go_lx_compare (C0 : CallFix p m c cc nL s args lw_all R_law) (hsz : ls.size = nL) (hR : 2 ≤ R.frames ∧ 50 ≤ R.locals ∧ cells ≤ R.cells ∧ slots ≤ R.slots) (hrm : (rest.map fun v => v.category).sum ≤ 8) (hK : va_K D vwCl [(d, .long)] s) (hP : va_P D vwCl (gX h0 hE hS hG d E S G k ++ gM n0 nE nS d E S (G 0) (G 1) k) H) (hD : va_D A (gX h0 hE hS hG d E S G k ++ gM n0 nE nS d E S (G 0) (G 1) k)) (hs : va_S A H0 H locs) (hA : ∀ q, H0.size ≤ q → A q) {w0 f0 b0 : Int32} (hdg : decode cc pc = .ok (.invokevirtual 20, 3)) (kk : ∀ (H : Heap) (locs : List Loc), va_P D vwCl (gM n0 nE nS d E S (G 0) (G 1) k ++ gX h0 hE hS hG d ((o_compare (E, S, G, k) w0 f0 b0).2.1) ((o_compare (E, S, G, k) w0 f0 b0).2.2.1) ((o_compare (E, S, G, k) w0 f0 b0).2.2.2.1) ((o_compare (E, S, G, k) w0 f0 b0).2.2.2.2)) H → va_D A (gM n0 nE nS d E S (G 0) (G 1) k ++ gX h0 hE hS hG d ((o_compare (E, S, G, k) w0 f0 b0).2.1) ((o_compare (E, S, G, k) w0 f0 b0).2.2.1) ((o_compare (E, S, G, k) w0 f0 b0).2.2.2.1) ((o_compare (E, S, G, k) w0 f0 b0).2.2.2.2)) → va_S A H0 H locs → W p l e R s m args below meth c H locs cells slots Q (F0 m (pc + 3) ls (.int ((o_compare (E, S, G, k) w0 f0 b0).1) :: rest))) : W p l e R s m args below meth c H locs cells slots Q (F0 m pc ls (.int b0 :: .int f0 :: .int w0 :: .ref h0 :: rest)) :=
  ww_callCR [0, 1, 2, 3] [4, 5, 6] C0 hK hP hD hs hA rfl rfl (by decide) rfl (by decide) (by decide) rfl (mX0_compare l D h0 hE hS hG d E S G k H.size w0 f0 b0) (cwV 3 C0.2.2.2.2 (lw_V q53 q54 q55 q22 q56) rfl rfl rfl (by decide +kernel) ⟨hR.1, hR.2.1⟩) rfl rfl hsz hrm hR.2.2 hdg kk
theorem go_lm_compare (C0 : CallFix p m c cc nL s args lw_all R_law) (hsz : ls.size = nL) (hR : 4 ≤ R.frames ∧ 96 ≤ R.locals ∧ cells ≤ R.cells ∧ slots ≤ R.slots) (hrm : (rest.map fun v => v.category).sum ≤ 8) (hK : va_K D vwCl [(d, .long)] s) (hP : va_P D vwCl (gM n0 nE nS d E S (G 0) (G 1) k ++ gX h0 hE hS hG d E2 S2 G2 k2) H) (hD : va_D A (gM n0 nE nS d E S (G 0) (G 1) k ++ gX h0 hE hS hG d E2 S2 G2 k2)) (hs : va_S A H0 H locs) (hA : ∀ q, H0.size ≤ q → A q) {w0 f0 b0 : Int32} (hdg : decode cc pc = .ok (.invokevirtual 24, 3)) (kk : ∀ (H : Heap) (locs : List Loc), va_P D vwCl (gX h0 hE hS hG d E2 S2 G2 k2 ++ gM n0 nE nS d ((o_compare (E, S, G, k) w0 f0 b0).2.1) ((o_compare (E, S, G, k) w0 f0 b0).2.2.1) (((o_compare (E, S, G, k) w0 f0 b0).2.2.2.1) 0) (((o_compare (E, S, G, k) w0 f0 b0).2.2.2.1) 1) ((o_compare (E, S, G, k) w0 f0 b0).2.2.2.2)) H → va_D A (gX h0 hE hS hG d E2 S2 G2 k2 ++ gM n0 nE nS d ((o_compare (E, S, G, k) w0 f0 b0).2.1) ((o_compare (E, S, G, k) w0 f0 b0).2.2.1) (((o_compare (E, S, G, k) w0 f0 b0).2.2.2.1) 0) (((o_compare (E, S, G, k) w0 f0 b0).2.2.2.1) 1) ((o_compare (E, S, G, k) w0 f0 b0).2.2.2.2)) → va_S A H0 H locs → W p l e R s m args below meth c H locs cells slots Q (F0 m (pc + 3) ls (.int ((o_compare (E, S, G, k) w0 f0 b0).1) :: rest))) : W p l e R s m args below meth c H locs cells slots Q (F0 m pc ls (.int b0 :: .int f0 :: .int w0 :: .ref n0 :: rest)) :=
  ww_callCR [0, 1, 2] [3, 4, 5, 6] C0 hK hP hD hs hA rfl rfl (by decide) rfl (by decide) (by decide) rfl (mX1_compare l D n0 nE nS d E S G k H.size w0 f0 b0) (cwV 3 C0.2.2.2.2 (lw_V q194 q195 q196 q23 q197) rfl rfl rfl (by decide +kernel) ⟨hR.1, hR.2.1⟩) rfl rfl hsz hrm hR.2.2 hdg kk
theorem go_lx_oppose (C0 : CallFix p m c cc nL s args lw_all R_law) (hsz : ls.size = nL) (hR : 2 ≤ R.frames ∧ 45 ≤ R.locals ∧ cells ≤ R.cells ∧ slots ≤ R.slots) (hrm : (rest.map fun v => v.category).sum ≤ 8) (hK : va_K D vwCl [(d, .long)] s) (hP : va_P D vwCl (gX h0 hE hS hG d E S G k ++ gM n0 nE nS d E S (G 0) (G 1) k) H) (hD : va_D A (gX h0 hE hS hG d E S G k ++ gM n0 nE nS d E S (G 0) (G 1) k)) (hs : va_S A H0 H locs) (hA : ∀ q, H0.size ≤ q → A q) {w0 : Int32} (hdg : decode cc pc = .ok (.invokevirtual 25, 3)) (kk : ∀ (H : Heap) (locs : List Loc), va_P D vwCl (gM n0 nE nS d E S (G 0) (G 1) k ++ gX h0 hE hS hG d ((o_oppose (E, S, G, k) w0).2.1) ((o_oppose (E, S, G, k) w0).2.2.1) ((o_oppose (E, S, G, k) w0).2.2.2.1) ((o_oppose (E, S, G, k) w0).2.2.2.2)) H → va_D A (gM n0 nE nS d E S (G 0) (G 1) k ++ gX h0 hE hS hG d ((o_oppose (E, S, G, k) w0).2.1) ((o_oppose (E, S, G, k) w0).2.2.1) ((o_oppose (E, S, G, k) w0).2.2.2.1) ((o_oppose (E, S, G, k) w0).2.2.2.2)) → va_S A H0 H locs → W p l e R s m args below meth c H locs cells slots Q (F0 m (pc + 3) ls (.int ((o_oppose (E, S, G, k) w0).1) :: rest))) : W p l e R s m args below meth c H locs cells slots Q (F0 m pc ls (.int w0 :: .ref h0 :: rest)) :=
  ww_callCR [0, 1, 2, 3] [4, 5, 6] C0 hK hP hD hs hA rfl rfl (by decide) rfl (by decide) (by decide) rfl (mX0_oppose l D h0 hE hS hG d E S G k H.size w0) (cwV 1 C0.2.2.2.2 (lw_V q60 q61 q62 q22 q63) rfl rfl rfl (by decide +kernel) ⟨hR.1, hR.2.1⟩) rfl rfl hsz hrm hR.2.2 hdg kk
theorem go_lm_oppose (C0 : CallFix p m c cc nL s args lw_all R_law) (hsz : ls.size = nL) (hR : 4 ≤ R.frames ∧ 91 ≤ R.locals ∧ cells ≤ R.cells ∧ slots ≤ R.slots) (hrm : (rest.map fun v => v.category).sum ≤ 8) (hK : va_K D vwCl [(d, .long)] s) (hP : va_P D vwCl (gM n0 nE nS d E S (G 0) (G 1) k ++ gX h0 hE hS hG d E2 S2 G2 k2) H) (hD : va_D A (gM n0 nE nS d E S (G 0) (G 1) k ++ gX h0 hE hS hG d E2 S2 G2 k2)) (hs : va_S A H0 H locs) (hA : ∀ q, H0.size ≤ q → A q) {w0 : Int32} (hdg : decode cc pc = .ok (.invokevirtual 29, 3)) (kk : ∀ (H : Heap) (locs : List Loc), va_P D vwCl (gX h0 hE hS hG d E2 S2 G2 k2 ++ gM n0 nE nS d ((o_oppose (E, S, G, k) w0).2.1) ((o_oppose (E, S, G, k) w0).2.2.1) (((o_oppose (E, S, G, k) w0).2.2.2.1) 0) (((o_oppose (E, S, G, k) w0).2.2.2.1) 1) ((o_oppose (E, S, G, k) w0).2.2.2.2)) H → va_D A (gX h0 hE hS hG d E2 S2 G2 k2 ++ gM n0 nE nS d ((o_oppose (E, S, G, k) w0).2.1) ((o_oppose (E, S, G, k) w0).2.2.1) (((o_oppose (E, S, G, k) w0).2.2.2.1) 0) (((o_oppose (E, S, G, k) w0).2.2.2.1) 1) ((o_oppose (E, S, G, k) w0).2.2.2.2)) → va_S A H0 H locs → W p l e R s m args below meth c H locs cells slots Q (F0 m (pc + 3) ls (.int ((o_oppose (E, S, G, k) w0).1) :: rest))) : W p l e R s m args below meth c H locs cells slots Q (F0 m pc ls (.int w0 :: .ref n0 :: rest)) :=
  ww_callCR [0, 1, 2] [3, 4, 5, 6] C0 hK hP hD hs hA rfl rfl (by decide) rfl (by decide) (by decide) rfl (mX1_oppose l D n0 nE nS d E S G k H.size w0) (cwV 1 C0.2.2.2.2 (lw_V q202 q203 q204 q23 q205) rfl rfl rfl (by decide +kernel) ⟨hR.1, hR.2.1⟩) rfl rfl hsz hrm hR.2.2 hdg kk
theorem go_lx_skip (C0 : CallFix p m c cc nL s args lw_all R_law) (hsz : ls.size = nL) (hR : 2 ≤ R.frames ∧ 41 ≤ R.locals ∧ cells ≤ R.cells ∧ slots ≤ R.slots) (hrm : (rest.map fun v => v.category).sum ≤ 8) (hK : va_K D vwCl [(d, .long)] s) (hP : va_P D vwCl (gX h0 hE hS hG d E S G k ++ gM n0 nE nS d E S (G 0) (G 1) k) H) (hD : va_D A (gX h0 hE hS hG d E S G k ++ gM n0 nE nS d E S (G 0) (G 1) k)) (hs : va_S A H0 H locs) (hA : ∀ q, H0.size ≤ q → A q) (hk : k ≤ 30) (hdg : decode cc pc = .ok (.invokevirtual 30, 3)) (kk : ∀ (H : Heap) (locs : List Loc), va_P D vwCl (gM n0 nE nS d E S (G 0) (G 1) k ++ gX h0 hE hS hG d ((o_skip (E, S, G, k)).2.1) ((o_skip (E, S, G, k)).2.2.1) ((o_skip (E, S, G, k)).2.2.2.1) ((o_skip (E, S, G, k)).2.2.2.2)) H → va_D A (gM n0 nE nS d E S (G 0) (G 1) k ++ gX h0 hE hS hG d ((o_skip (E, S, G, k)).2.1) ((o_skip (E, S, G, k)).2.2.1) ((o_skip (E, S, G, k)).2.2.2.1) ((o_skip (E, S, G, k)).2.2.2.2)) → va_S A H0 H locs → W p l e R s m args below meth c H locs cells slots Q (F0 m (pc + 3) ls (.int ((o_skip (E, S, G, k)).1) :: rest))) : W p l e R s m args below meth c H locs cells slots Q (F0 m pc ls (.ref h0 :: rest)) :=
  ww_callCR [0, 1, 2, 3] [4, 5, 6] C0 hK hP hD hs hA rfl rfl (by decide) rfl (by decide) (by decide) rfl (mX0_skip l D h0 hE hS hG d E S G k H.size hk) (cwV 0 C0.2.2.2.2 (lw_V q65 q66 q67 q22 q68) rfl rfl rfl (by decide +kernel) ⟨hR.1, hR.2.1⟩) rfl rfl hsz hrm hR.2.2 hdg kk
theorem go_lm_skip (C0 : CallFix p m c cc nL s args lw_all R_law) (hsz : ls.size = nL) (hR : 3 ≤ R.frames ∧ 63 ≤ R.locals ∧ cells ≤ R.cells ∧ slots ≤ R.slots) (hrm : (rest.map fun v => v.category).sum ≤ 8) (hK : va_K D vwCl [(d, .long)] s) (hP : va_P D vwCl (gM n0 nE nS d E S (G 0) (G 1) k ++ gX h0 hE hS hG d E2 S2 G2 k2) H) (hD : va_D A (gM n0 nE nS d E S (G 0) (G 1) k ++ gX h0 hE hS hG d E2 S2 G2 k2)) (hs : va_S A H0 H locs) (hA : ∀ q, H0.size ≤ q → A q) (hk : k ≤ 30) (hdg : decode cc pc = .ok (.invokevirtual 34, 3)) (kk : ∀ (H : Heap) (locs : List Loc), va_P D vwCl (gX h0 hE hS hG d E2 S2 G2 k2 ++ gM n0 nE nS d ((o_skip (E, S, G, k)).2.1) ((o_skip (E, S, G, k)).2.2.1) (((o_skip (E, S, G, k)).2.2.2.1) 0) (((o_skip (E, S, G, k)).2.2.2.1) 1) ((o_skip (E, S, G, k)).2.2.2.2)) H → va_D A (gX h0 hE hS hG d E2 S2 G2 k2 ++ gM n0 nE nS d ((o_skip (E, S, G, k)).2.1) ((o_skip (E, S, G, k)).2.2.1) (((o_skip (E, S, G, k)).2.2.2.1) 0) (((o_skip (E, S, G, k)).2.2.2.1) 1) ((o_skip (E, S, G, k)).2.2.2.2)) → va_S A H0 H locs → W p l e R s m args below meth c H locs cells slots Q (F0 m (pc + 3) ls (.int ((o_skip (E, S, G, k)).1) :: rest))) : W p l e R s m args below meth c H locs cells slots Q (F0 m pc ls (.ref n0 :: rest)) :=
  ww_callCR [0, 1, 2] [3, 4, 5, 6] C0 hK hP hD hs hA rfl rfl (by decide) rfl (by decide) (by decide) rfl (mX1_skip l D n0 nE nS d E S G k H.size hk) (cwV 0 C0.2.2.2.2 (lw_V q207 q208 q209 q23 q210) rfl rfl rfl (by decide +kernel) ⟨hR.1, hR.2.1⟩) rfl rfl hsz hrm hR.2.2 hdg kk
theorem go_lx_fail (C0 : CallFix p m c cc nL s args lw_all R_law) (hsz : ls.size = nL) (hR : 2 ≤ R.frames ∧ 41 ≤ R.locals ∧ cells ≤ R.cells ∧ slots ≤ R.slots) (hrm : (rest.map fun v => v.category).sum ≤ 8) (hK : va_K D vwCl [(d, .long)] s) (hP : va_P D vwCl (gX h0 hE hS hG d E S G k ++ gM n0 nE nS d E S (G 0) (G 1) k) H) (hD : va_D A (gX h0 hE hS hG d E S G k ++ gM n0 nE nS d E S (G 0) (G 1) k)) (hs : va_S A H0 H locs) (hA : ∀ q, H0.size ≤ q → A q) (hk : k ≤ 30) (hdg : decode cc pc = .ok (.invokevirtual 35, 3)) (kk : ∀ (H : Heap) (locs : List Loc), va_P D vwCl (gM n0 nE nS d E S (G 0) (G 1) k ++ gX h0 hE hS hG d ((o_fail (E, S, G, k)).2.1) ((o_fail (E, S, G, k)).2.2.1) ((o_fail (E, S, G, k)).2.2.2.1) ((o_fail (E, S, G, k)).2.2.2.2)) H → va_D A (gM n0 nE nS d E S (G 0) (G 1) k ++ gX h0 hE hS hG d ((o_fail (E, S, G, k)).2.1) ((o_fail (E, S, G, k)).2.2.1) ((o_fail (E, S, G, k)).2.2.2.1) ((o_fail (E, S, G, k)).2.2.2.2)) → va_S A H0 H locs → W p l e R s m args below meth c H locs cells slots Q (F0 m (pc + 3) ls (.int ((o_fail (E, S, G, k)).1) :: rest))) : W p l e R s m args below meth c H locs cells slots Q (F0 m pc ls (.ref h0 :: rest)) :=
  ww_callCR [0, 1, 2, 3] [4, 5, 6] C0 hK hP hD hs hA rfl rfl (by decide) rfl (by decide) (by decide) rfl (mX0_fail l D h0 hE hS hG d E S G k H.size hk) (cwV 0 C0.2.2.2.2 (lw_V q73 q74 q75 q22 q76) rfl rfl rfl (by decide +kernel) ⟨hR.1, hR.2.1⟩) rfl rfl hsz hrm hR.2.2 hdg kk
theorem go_lm_fail (C0 : CallFix p m c cc nL s args lw_all R_law) (hsz : ls.size = nL) (hR : 3 ≤ R.frames ∧ 63 ≤ R.locals ∧ cells ≤ R.cells ∧ slots ≤ R.slots) (hrm : (rest.map fun v => v.category).sum ≤ 8) (hK : va_K D vwCl [(d, .long)] s) (hP : va_P D vwCl (gM n0 nE nS d E S (G 0) (G 1) k ++ gX h0 hE hS hG d E2 S2 G2 k2) H) (hD : va_D A (gM n0 nE nS d E S (G 0) (G 1) k ++ gX h0 hE hS hG d E2 S2 G2 k2)) (hs : va_S A H0 H locs) (hA : ∀ q, H0.size ≤ q → A q) (hk : k ≤ 30) (hdg : decode cc pc = .ok (.invokevirtual 38, 3)) (kk : ∀ (H : Heap) (locs : List Loc), va_P D vwCl (gX h0 hE hS hG d E2 S2 G2 k2 ++ gM n0 nE nS d ((o_fail (E, S, G, k)).2.1) ((o_fail (E, S, G, k)).2.2.1) (((o_fail (E, S, G, k)).2.2.2.1) 0) (((o_fail (E, S, G, k)).2.2.2.1) 1) ((o_fail (E, S, G, k)).2.2.2.2)) H → va_D A (gX h0 hE hS hG d E2 S2 G2 k2 ++ gM n0 nE nS d ((o_fail (E, S, G, k)).2.1) ((o_fail (E, S, G, k)).2.2.1) (((o_fail (E, S, G, k)).2.2.2.1) 0) (((o_fail (E, S, G, k)).2.2.2.1) 1) ((o_fail (E, S, G, k)).2.2.2.2)) → va_S A H0 H locs → W p l e R s m args below meth c H locs cells slots Q (F0 m (pc + 3) ls (.int ((o_fail (E, S, G, k)).1) :: rest))) : W p l e R s m args below meth c H locs cells slots Q (F0 m pc ls (.ref n0 :: rest)) :=
  ww_callCR [0, 1, 2] [3, 4, 5, 6] C0 hK hP hD hs hA rfl rfl (by decide) rfl (by decide) (by decide) rfl (mX1_fail l D n0 nE nS d E S G k H.size hk) (cwV 0 C0.2.2.2.2 (lw_V q219 q220 q221 q23 q222) rfl rfl rfl (by decide +kernel) ⟨hR.1, hR.2.1⟩) rfl rfl hsz hrm hR.2.2 hdg kk
theorem go_lx_assign (C0 : CallFix p m c cc nL s args lw_all R_law) (hsz : ls.size = nL) (hR : 2 ≤ R.frames ∧ 49 ≤ R.locals ∧ cells ≤ R.cells ∧ slots ≤ R.slots) (hrm : (rest.map fun v => v.category).sum ≤ 8) (hK : va_K D vwCl [(d, .long)] s) (hP : va_P D vwCl (gX h0 hE hS hG d E S G k ++ gM n0 nE nS d E S (G 0) (G 1) k) H) (hD : va_D A (gX h0 hE hS hG d E S G k ++ gM n0 nE nS d E S (G 0) (G 1) k)) (hs : va_S A H0 H locs) (hA : ∀ q, H0.size ≤ q → A q) (hk : k ≤ 30) {w0 f0 : Int32} (hdg : decode cc pc = .ok (.invokevirtual 39, 3)) (kk : ∀ (H : Heap) (locs : List Loc), va_P D vwCl (gM n0 nE nS d E S (G 0) (G 1) k ++ gX h0 hE hS hG d ((o_assign (E, S, G, k) w0 f0).2.1) ((o_assign (E, S, G, k) w0 f0).2.2.1) ((o_assign (E, S, G, k) w0 f0).2.2.2.1) ((o_assign (E, S, G, k) w0 f0).2.2.2.2)) H → va_D A (gM n0 nE nS d E S (G 0) (G 1) k ++ gX h0 hE hS hG d ((o_assign (E, S, G, k) w0 f0).2.1) ((o_assign (E, S, G, k) w0 f0).2.2.1) ((o_assign (E, S, G, k) w0 f0).2.2.2.1) ((o_assign (E, S, G, k) w0 f0).2.2.2.2)) → va_S A H0 H locs → W p l e R s m args below meth c H locs cells slots Q (F0 m (pc + 3) ls (.int ((o_assign (E, S, G, k) w0 f0).1) :: rest))) : W p l e R s m args below meth c H locs cells slots Q (F0 m pc ls (.int f0 :: .int w0 :: .ref h0 :: rest)) :=
  ww_callCR [0, 1, 2, 3] [4, 5, 6] C0 hK hP hD hs hA rfl rfl (by decide) rfl (by decide) (by decide) rfl (mX0_assign l D h0 hE hS hG d E S G k H.size hk w0 f0) (cwV 2 C0.2.2.2.2 (lw_V q77 q78 q79 q22 q80) rfl rfl rfl (by decide +kernel) ⟨hR.1, hR.2.1⟩) rfl rfl hsz hrm hR.2.2 hdg kk
theorem go_lm_assign (C0 : CallFix p m c cc nL s args lw_all R_law) (hsz : ls.size = nL) (hR : 2 ≤ R.frames ∧ 48 ≤ R.locals ∧ cells ≤ R.cells ∧ slots ≤ R.slots) (hrm : (rest.map fun v => v.category).sum ≤ 8) (hK : va_K D vwCl [(d, .long)] s) (hP : va_P D vwCl (gM n0 nE nS d E S (G 0) (G 1) k ++ gX h0 hE hS hG d E2 S2 G2 k2) H) (hD : va_D A (gM n0 nE nS d E S (G 0) (G 1) k ++ gX h0 hE hS hG d E2 S2 G2 k2)) (hs : va_S A H0 H locs) (hA : ∀ q, H0.size ≤ q → A q) (hk : k ≤ 30) {w0 f0 : Int32} (hdg : decode cc pc = .ok (.invokevirtual 43, 3)) (kk : ∀ (H : Heap) (locs : List Loc), va_P D vwCl (gX h0 hE hS hG d E2 S2 G2 k2 ++ gM n0 nE nS d ((o_assign (E, S, G, k) w0 f0).2.1) ((o_assign (E, S, G, k) w0 f0).2.2.1) (((o_assign (E, S, G, k) w0 f0).2.2.2.1) 0) (((o_assign (E, S, G, k) w0 f0).2.2.2.1) 1) ((o_assign (E, S, G, k) w0 f0).2.2.2.2)) H → va_D A (gX h0 hE hS hG d E2 S2 G2 k2 ++ gM n0 nE nS d ((o_assign (E, S, G, k) w0 f0).2.1) ((o_assign (E, S, G, k) w0 f0).2.2.1) (((o_assign (E, S, G, k) w0 f0).2.2.2.1) 0) (((o_assign (E, S, G, k) w0 f0).2.2.2.1) 1) ((o_assign (E, S, G, k) w0 f0).2.2.2.2)) → va_S A H0 H locs → W p l e R s m args below meth c H locs cells slots Q (F0 m (pc + 3) ls (.int ((o_assign (E, S, G, k) w0 f0).1) :: rest))) : W p l e R s m args below meth c H locs cells slots Q (F0 m pc ls (.int f0 :: .int w0 :: .ref n0 :: rest)) :=
  ww_callCR [0, 1, 2] [3, 4, 5, 6] C0 hK hP hD hs hA rfl rfl (by decide) rfl (by decide) (by decide) rfl (mX1_assign l D n0 nE nS d E S G k H.size hk w0 f0) (cwV 2 C0.2.2.2.2 (lw_V q223 q224 q225 q23 q226) rfl rfl rfl (by decide +kernel) ⟨hR.1, hR.2.1⟩) rfl rfl hsz hrm hR.2.2 hdg kk
theorem go_lx_sequence (C0 : CallFix p m c cc nL s args lw_all R_law) (hsz : ls.size = nL) (hR : 3 ≤ R.frames ∧ 76 ≤ R.locals ∧ cells ≤ R.cells ∧ slots ≤ R.slots) (hrm : (rest.map fun v => v.category).sum ≤ 8) (hK : va_K D vwCl [(d, .long)] s) (hP : va_P D vwCl (gX h0 hE hS hG d E S G k ++ gM n0 nE nS d E S (G 0) (G 1) k) H) (hD : va_D A (gX h0 hE hS hG d E S G k ++ gM n0 nE nS d E S (G 0) (G 1) k)) (hs : va_S A H0 H locs) (hA : ∀ q, H0.size ≤ q → A q) (hk : k ≤ 30) {a0 b0 : Int32} (hdg : decode cc pc = .ok (.invokevirtual 44, 3)) (kk : ∀ (H : Heap) (locs : List Loc), va_P D vwCl (gM n0 nE nS d E S (G 0) (G 1) k ++ gX h0 hE hS hG d ((o_seq (E, S, G, k) a0 b0).2.1) ((o_seq (E, S, G, k) a0 b0).2.2.1) ((o_seq (E, S, G, k) a0 b0).2.2.2.1) ((o_seq (E, S, G, k) a0 b0).2.2.2.2)) H → va_D A (gM n0 nE nS d E S (G 0) (G 1) k ++ gX h0 hE hS hG d ((o_seq (E, S, G, k) a0 b0).2.1) ((o_seq (E, S, G, k) a0 b0).2.2.1) ((o_seq (E, S, G, k) a0 b0).2.2.2.1) ((o_seq (E, S, G, k) a0 b0).2.2.2.2)) → va_S A H0 H locs → W p l e R s m args below meth c H locs cells slots Q (F0 m (pc + 3) ls (.int ((o_seq (E, S, G, k) a0 b0).1) :: rest))) : W p l e R s m args below meth c H locs cells slots Q (F0 m pc ls (.int b0 :: .int a0 :: .ref h0 :: rest)) :=
  ww_callCR [0, 1, 2, 3] [4, 5, 6] C0 hK hP hD hs hA rfl rfl (by decide) rfl (by decide) (by decide) rfl (mX0_sequence l D h0 hE hS hG d E S G k H.size hk a0 b0) (cwV 2 C0.2.2.2.2 (lw_V q81 q82 q83 q22 q84) rfl rfl rfl (by decide +kernel) ⟨hR.1, hR.2.1⟩) rfl rfl hsz hrm hR.2.2 hdg kk
theorem go_lm_sequence (C0 : CallFix p m c cc nL s args lw_all R_law) (hsz : ls.size = nL) (hR : 3 ≤ R.frames ∧ 77 ≤ R.locals ∧ cells ≤ R.cells ∧ slots ≤ R.slots) (hrm : (rest.map fun v => v.category).sum ≤ 8) (hK : va_K D vwCl [(d, .long)] s) (hP : va_P D vwCl (gM n0 nE nS d E S (G 0) (G 1) k ++ gX h0 hE hS hG d E2 S2 G2 k2) H) (hD : va_D A (gM n0 nE nS d E S (G 0) (G 1) k ++ gX h0 hE hS hG d E2 S2 G2 k2)) (hs : va_S A H0 H locs) (hA : ∀ q, H0.size ≤ q → A q) (hk : k ≤ 30) {a0 b0 : Int32} (hdg : decode cc pc = .ok (.invokevirtual 47, 3)) (kk : ∀ (H : Heap) (locs : List Loc), va_P D vwCl (gX h0 hE hS hG d E2 S2 G2 k2 ++ gM n0 nE nS d ((o_seq (E, S, G, k) a0 b0).2.1) ((o_seq (E, S, G, k) a0 b0).2.2.1) (((o_seq (E, S, G, k) a0 b0).2.2.2.1) 0) (((o_seq (E, S, G, k) a0 b0).2.2.2.1) 1) ((o_seq (E, S, G, k) a0 b0).2.2.2.2)) H → va_D A (gX h0 hE hS hG d E2 S2 G2 k2 ++ gM n0 nE nS d ((o_seq (E, S, G, k) a0 b0).2.1) ((o_seq (E, S, G, k) a0 b0).2.2.1) (((o_seq (E, S, G, k) a0 b0).2.2.2.1) 0) (((o_seq (E, S, G, k) a0 b0).2.2.2.1) 1) ((o_seq (E, S, G, k) a0 b0).2.2.2.2)) → va_S A H0 H locs → W p l e R s m args below meth c H locs cells slots Q (F0 m (pc + 3) ls (.int ((o_seq (E, S, G, k) a0 b0).1) :: rest))) : W p l e R s m args below meth c H locs cells slots Q (F0 m pc ls (.int b0 :: .int a0 :: .ref n0 :: rest)) :=
  ww_callCR [0, 1, 2] [3, 4, 5, 6] C0 hK hP hD hs hA rfl rfl (by decide) rfl (by decide) (by decide) rfl (mX1_sequence l D n0 nE nS d E S G k H.size hk a0 b0) (cwV 2 C0.2.2.2.2 (lw_V q227 q228 q229 q23 q230) rfl rfl rfl (by decide +kernel) ⟨hR.1, hR.2.1⟩) rfl rfl hsz hrm hR.2.2 hdg kk
theorem go_lx_choice (C0 : CallFix p m c cc nL s args lw_all R_law) (hsz : ls.size = nL) (hR : 3 ≤ R.frames ∧ 72 ≤ R.locals ∧ cells ≤ R.cells ∧ slots ≤ R.slots) (hrm : (rest.map fun v => v.category).sum ≤ 8) (hK : va_K D vwCl [(d, .long)] s) (hP : va_P D vwCl (gX h0 hE hS hG d E S G k ++ gM n0 nE nS d E S (G 0) (G 1) k) H) (hD : va_D A (gX h0 hE hS hG d E S G k ++ gM n0 nE nS d E S (G 0) (G 1) k)) (hs : va_S A H0 H locs) (hA : ∀ q, H0.size ≤ q → A q) (hk : k ≤ 30) {a0 b0 : Int32} (hdg : decode cc pc = .ok (.invokevirtual 48, 3)) (kk : ∀ (H : Heap) (locs : List Loc), va_P D vwCl (gM n0 nE nS d E S (G 0) (G 1) k ++ gX h0 hE hS hG d ((o_choice (E, S, G, k) a0 b0).2.1) ((o_choice (E, S, G, k) a0 b0).2.2.1) ((o_choice (E, S, G, k) a0 b0).2.2.2.1) ((o_choice (E, S, G, k) a0 b0).2.2.2.2)) H → va_D A (gM n0 nE nS d E S (G 0) (G 1) k ++ gX h0 hE hS hG d ((o_choice (E, S, G, k) a0 b0).2.1) ((o_choice (E, S, G, k) a0 b0).2.2.1) ((o_choice (E, S, G, k) a0 b0).2.2.2.1) ((o_choice (E, S, G, k) a0 b0).2.2.2.2)) → va_S A H0 H locs → W p l e R s m args below meth c H locs cells slots Q (F0 m (pc + 3) ls (.int ((o_choice (E, S, G, k) a0 b0).1) :: rest))) : W p l e R s m args below meth c H locs cells slots Q (F0 m pc ls (.int b0 :: .int a0 :: .ref h0 :: rest)) :=
  ww_callCR [0, 1, 2, 3] [4, 5, 6] C0 hK hP hD hs hA rfl rfl (by decide) rfl (by decide) (by decide) rfl (mX0_choice l D h0 hE hS hG d E S G k H.size hk a0 b0) (cwV 2 C0.2.2.2.2 (lw_V q96 q97 q98 q22 q99) rfl rfl rfl (by decide +kernel) ⟨hR.1, hR.2.1⟩) rfl rfl hsz hrm hR.2.2 hdg kk
theorem go_lm_choice (C0 : CallFix p m c cc nL s args lw_all R_law) (hsz : ls.size = nL) (hR : 3 ≤ R.frames ∧ 74 ≤ R.locals ∧ cells ≤ R.cells ∧ slots ≤ R.slots) (hrm : (rest.map fun v => v.category).sum ≤ 8) (hK : va_K D vwCl [(d, .long)] s) (hP : va_P D vwCl (gM n0 nE nS d E S (G 0) (G 1) k ++ gX h0 hE hS hG d E2 S2 G2 k2) H) (hD : va_D A (gM n0 nE nS d E S (G 0) (G 1) k ++ gX h0 hE hS hG d E2 S2 G2 k2)) (hs : va_S A H0 H locs) (hA : ∀ q, H0.size ≤ q → A q) (hk : k ≤ 30) {a0 b0 : Int32} (hdg : decode cc pc = .ok (.invokevirtual 51, 3)) (kk : ∀ (H : Heap) (locs : List Loc), va_P D vwCl (gX h0 hE hS hG d E2 S2 G2 k2 ++ gM n0 nE nS d ((o_choice (E, S, G, k) a0 b0).2.1) ((o_choice (E, S, G, k) a0 b0).2.2.1) (((o_choice (E, S, G, k) a0 b0).2.2.2.1) 0) (((o_choice (E, S, G, k) a0 b0).2.2.2.1) 1) ((o_choice (E, S, G, k) a0 b0).2.2.2.2)) H → va_D A (gX h0 hE hS hG d E2 S2 G2 k2 ++ gM n0 nE nS d ((o_choice (E, S, G, k) a0 b0).2.1) ((o_choice (E, S, G, k) a0 b0).2.2.1) (((o_choice (E, S, G, k) a0 b0).2.2.2.1) 0) (((o_choice (E, S, G, k) a0 b0).2.2.2.1) 1) ((o_choice (E, S, G, k) a0 b0).2.2.2.2)) → va_S A H0 H locs → W p l e R s m args below meth c H locs cells slots Q (F0 m (pc + 3) ls (.int ((o_choice (E, S, G, k) a0 b0).1) :: rest))) : W p l e R s m args below meth c H locs cells slots Q (F0 m pc ls (.int b0 :: .int a0 :: .ref n0 :: rest)) :=
  ww_callCR [0, 1, 2] [3, 4, 5, 6] C0 hK hP hD hs hA rfl rfl (by decide) rfl (by decide) (by decide) rfl (mX1_choice l D n0 nE nS d E S G k H.size hk a0 b0) (cwV 2 C0.2.2.2.2 (lw_V q243 q244 q245 q23 q246) rfl rfl rfl (by decide +kernel) ⟨hR.1, hR.2.1⟩) rfl rfl hsz hrm hR.2.2 hdg kk
theorem go_lx_loop (C0 : CallFix p m c cc nL s args lw_all R_law) (hsz : ls.size = nL) (hR : 4 ≤ R.frames ∧ 104 ≤ R.locals ∧ cells ≤ R.cells ∧ slots ≤ R.slots) (hrm : (rest.map fun v => v.category).sum ≤ 8) (hK : va_K D vwCl [(d, .long)] s) (hP : va_P D vwCl (gX h0 hE hS hG d E S G k ++ gM n0 nE nS d E S (G 0) (G 1) k) H) (hD : va_D A (gX h0 hE hS hG d E S G k ++ gM n0 nE nS d E S (G 0) (G 1) k)) (hs : va_S A H0 H locs) (hA : ∀ q, H0.size ≤ q → A q) (hk : k ≤ 30) {a0 b0 : Int32} (hdg : decode cc pc = .ok (.invokevirtual 52, 3)) (kk : ∀ (H : Heap) (locs : List Loc), va_P D vwCl (gM n0 nE nS d E S (G 0) (G 1) k ++ gX h0 hE hS hG d ((o_loop (E, S, G, k) a0 b0).2.1) ((o_loop (E, S, G, k) a0 b0).2.2.1) ((o_loop (E, S, G, k) a0 b0).2.2.2.1) ((o_loop (E, S, G, k) a0 b0).2.2.2.2)) H → va_D A (gM n0 nE nS d E S (G 0) (G 1) k ++ gX h0 hE hS hG d ((o_loop (E, S, G, k) a0 b0).2.1) ((o_loop (E, S, G, k) a0 b0).2.2.1) ((o_loop (E, S, G, k) a0 b0).2.2.2.1) ((o_loop (E, S, G, k) a0 b0).2.2.2.2)) → va_S A H0 H locs → W p l e R s m args below meth c H locs cells slots Q (F0 m (pc + 3) ls (.int ((o_loop (E, S, G, k) a0 b0).1) :: rest))) : W p l e R s m args below meth c H locs cells slots Q (F0 m pc ls (.int b0 :: .int a0 :: .ref h0 :: rest)) :=
  ww_callCR [0, 1, 2, 3] [4, 5, 6] C0 hK hP hD hs hA rfl rfl (by decide) rfl (by decide) (by decide) rfl (mX0_loop l D h0 hE hS hG d E S G k H.size hk a0 b0) (cwV 2 C0.2.2.2.2 (lw_V q104 q105 q106 q22 q107) rfl rfl rfl (by decide +kernel) ⟨hR.1, hR.2.1⟩) rfl rfl hsz hrm hR.2.2 hdg kk
theorem go_lm_loop (C0 : CallFix p m c cc nL s args lw_all R_law) (hsz : ls.size = nL) (hR : 4 ≤ R.frames ∧ 102 ≤ R.locals ∧ cells ≤ R.cells ∧ slots ≤ R.slots) (hrm : (rest.map fun v => v.category).sum ≤ 8) (hK : va_K D vwCl [(d, .long)] s) (hP : va_P D vwCl (gM n0 nE nS d E S (G 0) (G 1) k ++ gX h0 hE hS hG d E2 S2 G2 k2) H) (hD : va_D A (gM n0 nE nS d E S (G 0) (G 1) k ++ gX h0 hE hS hG d E2 S2 G2 k2)) (hs : va_S A H0 H locs) (hA : ∀ q, H0.size ≤ q → A q) (hk : k ≤ 30) {a0 b0 : Int32} (hdg : decode cc pc = .ok (.invokevirtual 55, 3)) (kk : ∀ (H : Heap) (locs : List Loc), va_P D vwCl (gX h0 hE hS hG d E2 S2 G2 k2 ++ gM n0 nE nS d ((o_loop (E, S, G, k) a0 b0).2.1) ((o_loop (E, S, G, k) a0 b0).2.2.1) (((o_loop (E, S, G, k) a0 b0).2.2.2.1) 0) (((o_loop (E, S, G, k) a0 b0).2.2.2.1) 1) ((o_loop (E, S, G, k) a0 b0).2.2.2.2)) H → va_D A (gX h0 hE hS hG d E2 S2 G2 k2 ++ gM n0 nE nS d ((o_loop (E, S, G, k) a0 b0).2.1) ((o_loop (E, S, G, k) a0 b0).2.2.1) (((o_loop (E, S, G, k) a0 b0).2.2.2.1) 0) (((o_loop (E, S, G, k) a0 b0).2.2.2.1) 1) ((o_loop (E, S, G, k) a0 b0).2.2.2.2)) → va_S A H0 H locs → W p l e R s m args below meth c H locs cells slots Q (F0 m (pc + 3) ls (.int ((o_loop (E, S, G, k) a0 b0).1) :: rest))) : W p l e R s m args below meth c H locs cells slots Q (F0 m pc ls (.int b0 :: .int a0 :: .ref n0 :: rest)) :=
  ww_callCR [0, 1, 2] [3, 4, 5, 6] C0 hK hP hD hs hA rfl rfl (by decide) rfl (by decide) (by decide) rfl (mX1_loop l D n0 nE nS d E S G k H.size hk a0 b0) (cwV 2 C0.2.2.2.2 (lw_V q255 q256 q257 q23 q258) rfl rfl rfl (by decide +kernel) ⟨hR.1, hR.2.1⟩) rfl rfl hsz hrm hR.2.2 hdg kk
theorem go_lx_programs (C0 : CallFix p m c cc nL s args lw_all R_law) (hsz : ls.size = nL) (hR : 1 ≤ R.frames ∧ 20 ≤ R.locals ∧ cells ≤ R.cells ∧ slots ≤ R.slots) (hrm : (rest.map fun v => v.category).sum ≤ 8) (hK : va_K D vwCl [(d, .long)] s) (hP : va_P D vwCl (gX h0 hE hS hG d E S G k) H)  (hdg : decode cc pc = .ok (.invokevirtual 56, 3)) (kk : W p l e R s m args below meth c H locs cells slots Q (F0 m (pc + 3) ls (.int (nI k) :: rest))) : W p l e R s m args below meth c H locs cells slots Q (F0 m pc ls (.ref h0 :: rest)) :=
  ww_callI C0 hK hP rfl (mX0_programs l D h0 hE hS hG d E S G k ) (cwV 0 C0.2.2.2.2 (lw_V q116 q117 q118 q22 q119) rfl rfl rfl (by decide +kernel) ⟨hR.1, hR.2.1⟩) rfl rfl hsz hrm hR.2.2 hdg (fun r hr => by rw [hr]; exact kk)
theorem go_lm_programs (C0 : CallFix p m c cc nL s args lw_all R_law) (hsz : ls.size = nL) (hR : 1 ≤ R.frames ∧ 20 ≤ R.locals ∧ cells ≤ R.cells ∧ slots ≤ R.slots) (hrm : (rest.map fun v => v.category).sum ≤ 8) (hK : va_K D vwCl [(d, .long)] s) (hP : va_P D vwCl (gM h0 hE hS d E S (G 0) (G 1) k) H)  (hdg : decode cc pc = .ok (.invokevirtual 59, 3)) (kk : W p l e R s m args below meth c H locs cells slots Q (F0 m (pc + 3) ls (.int (nI k) :: rest))) : W p l e R s m args below meth c H locs cells slots Q (F0 m pc ls (.ref h0 :: rest)) :=
  ww_callI C0 hK hP rfl (mX1_programs l D h0 hE hS d E S G k ) (cwV 0 C0.2.2.2.2 (lw_V q267 q268 q269 q23 q270) rfl rfl rfl (by decide +kernel) ⟨hR.1, hR.2.1⟩) rfl rfl hsz hrm hR.2.2 hdg (fun r hr => by rw [hr]; exact kk)
theorem go_lx_ends (C0 : CallFix p m c cc nL s args lw_all R_law) (hsz : ls.size = nL) (hR : 2 ≤ R.frames ∧ 44 ≤ R.locals ∧ cells ≤ R.cells ∧ slots ≤ R.slots) (hrm : (rest.map fun v => v.category).sum ≤ 8) (hK : va_K D vwCl [(d, .long)] s) (hP : va_P D vwCl (gX h0 hE hS hG d E S G k) H) (hk : k ≤ 30) {a0 s0 : Int32} (hdg : decode cc pc = .ok (.invokevirtual 60, 3)) (kk : W p l e R s m args below meth c H locs cells slots Q (F0 m (pc + 3) ls (.long (q_ends (E, S, G, k) a0 s0) :: rest))) : W p l e R s m args below meth c H locs cells slots Q (F0 m pc ls (.int s0 :: .int a0 :: .ref h0 :: rest)) :=
  ww_callL C0 hK hP rfl (mX0_ends l D h0 hE hS hG d E S G k hk a0 s0) (cwV 2 C0.2.2.2.2 (lw_V q120 q121 q122 q22 q123) rfl rfl rfl (by decide +kernel) ⟨hR.1, hR.2.1⟩) rfl rfl hsz hrm hR.2.2 hdg (fun r hr => by rw [hr]; exact kk)
theorem go_lm_ends (C0 : CallFix p m c cc nL s args lw_all R_law) (hsz : ls.size = nL) (hR : 2 ≤ R.frames ∧ 43 ≤ R.locals ∧ cells ≤ R.cells ∧ slots ≤ R.slots) (hrm : (rest.map fun v => v.category).sum ≤ 8) (hK : va_K D vwCl [(d, .long)] s) (hP : va_P D vwCl (gM h0 hE hS d E S (G 0) (G 1) k) H) (hk : k ≤ 30) {a0 s0 : Int32} (hdg : decode cc pc = .ok (.invokevirtual 64, 3)) (kk : W p l e R s m args below meth c H locs cells slots Q (F0 m (pc + 3) ls (.long (q_ends (E, S, G, k) a0 s0) :: rest))) : W p l e R s m args below meth c H locs cells slots Q (F0 m pc ls (.int s0 :: .int a0 :: .ref h0 :: rest)) :=
  ww_callL C0 hK hP rfl (mX1_ends l D h0 hE hS d E S G k hk a0 s0) (cwV 2 C0.2.2.2.2 (lw_V q271 q272 q273 q23 q274) rfl rfl rfl (by decide +kernel) ⟨hR.1, hR.2.1⟩) rfl rfl hsz hrm hR.2.2 hdg (fun r hr => by rw [hr]; exact kk)
theorem go_lx_sure (C0 : CallFix p m c cc nL s args lw_all R_law) (hsz : ls.size = nL) (hR : 2 ≤ R.frames ∧ 42 ≤ R.locals ∧ cells ≤ R.cells ∧ slots ≤ R.slots) (hrm : (rest.map fun v => v.category).sum ≤ 8) (hK : va_K D vwCl [(d, .long)] s) (hP : va_P D vwCl (gX h0 hE hS hG d E S G k) H) (hk : k ≤ 30) {a0 : Int32} (hdg : decode cc pc = .ok (.invokevirtual 65, 3)) (kk : W p l e R s m args below meth c H locs cells slots Q (F0 m (pc + 3) ls (.long (q_sure (E, S, G, k) a0) :: rest))) : W p l e R s m args below meth c H locs cells slots Q (F0 m pc ls (.int a0 :: .ref h0 :: rest)) :=
  ww_callL C0 hK hP rfl (mX0_sure l D h0 hE hS hG d E S G k hk a0) (cwV 1 C0.2.2.2.2 (lw_V q124 q125 q126 q22 q127) rfl rfl rfl (by decide +kernel) ⟨hR.1, hR.2.1⟩) rfl rfl hsz hrm hR.2.2 hdg (fun r hr => by rw [hr]; exact kk)
theorem go_lm_sure (C0 : CallFix p m c cc nL s args lw_all R_law) (hsz : ls.size = nL) (hR : 2 ≤ R.frames ∧ 42 ≤ R.locals ∧ cells ≤ R.cells ∧ slots ≤ R.slots) (hrm : (rest.map fun v => v.category).sum ≤ 8) (hK : va_K D vwCl [(d, .long)] s) (hP : va_P D vwCl (gM h0 hE hS d E S (G 0) (G 1) k) H) (hk : k ≤ 30) {a0 : Int32} (hdg : decode cc pc = .ok (.invokevirtual 69, 3)) (kk : W p l e R s m args below meth c H locs cells slots Q (F0 m (pc + 3) ls (.long (q_sure (E, S, G, k) a0) :: rest))) : W p l e R s m args below meth c H locs cells slots Q (F0 m pc ls (.int a0 :: .ref h0 :: rest)) :=
  ww_callL C0 hK hP rfl (mX1_sure l D h0 hE hS d E S G k hk a0) (cwV 1 C0.2.2.2.2 (lw_V q275 q276 q277 q23 q278) rfl rfl rfl (by decide +kernel) ⟨hR.1, hR.2.1⟩) rfl rfl hsz hrm hR.2.2 hdg (fun r hr => by rw [hr]; exact kk)
theorem go_lx_demand (C0 : CallFix p m c cc nL s args lw_all R_law) (hsz : ls.size = nL) (hR : 2 ≤ R.frames ∧ 50 ≤ R.locals ∧ cells ≤ R.cells ∧ slots ≤ R.slots) (hrm : (rest.map fun v => v.category).sum ≤ 8) (hK : va_K D vwCl [(d, .long)] s) (hP : va_P D vwCl (gX h0 hE hS hG d E S G k) H) (hk : k ≤ 30) {a0 : Int32} {x : Int64} (hdg : decode cc pc = .ok (.invokevirtual 70, 3)) (kk : W p l e R s m args below meth c H locs cells slots Q (F0 m (pc + 3) ls (.long (q_dem (E, S, G, k) a0 x) :: rest))) : W p l e R s m args below meth c H locs cells slots Q (F0 m pc ls (.long x :: .int a0 :: .ref h0 :: rest)) :=
  ww_callL C0 hK hP rfl (mX0_demand l D h0 hE hS hG d E S G k hk a0 x) (cwV 2 C0.2.2.2.2 (lw_V q128 q129 q130 q22 q131) rfl rfl rfl (by decide +kernel) ⟨hR.1, hR.2.1⟩) rfl rfl hsz hrm hR.2.2 hdg (fun r hr => by rw [hr]; exact kk)
theorem go_lm_demand (C0 : CallFix p m c cc nL s args lw_all R_law) (hsz : ls.size = nL) (hR : 3 ≤ R.frames ∧ 73 ≤ R.locals ∧ cells ≤ R.cells ∧ slots ≤ R.slots) (hrm : (rest.map fun v => v.category).sum ≤ 8) (hK : va_K D vwCl [(d, .long)] s) (hP : va_P D vwCl (gM h0 hE hS d E S (G 0) (G 1) k) H) (hk : k ≤ 30) {a0 : Int32} {x : Int64} (hdg : decode cc pc = .ok (.invokevirtual 74, 3)) (kk : W p l e R s m args below meth c H locs cells slots Q (F0 m (pc + 3) ls (.long (q_dem (E, S, G, k) a0 x) :: rest))) : W p l e R s m args below meth c H locs cells slots Q (F0 m pc ls (.long x :: .int a0 :: .ref h0 :: rest)) :=
  ww_callL C0 hK hP rfl (mX1_demand l D h0 hE hS d E S G k hk a0 x) (cwV 2 C0.2.2.2.2 (lw_V q279 q280 q281 q23 q282) rfl rfl rfl (by decide +kernel) ⟨hR.1, hR.2.1⟩) rfl rfl hsz hrm hR.2.2 hdg (fun r hr => by rw [hr]; exact kk)
theorem go_lx_weakDemand (C0 : CallFix p m c cc nL s args lw_all R_law) (hsz : ls.size = nL) (hR : 2 ≤ R.frames ∧ 50 ≤ R.locals ∧ cells ≤ R.cells ∧ slots ≤ R.slots) (hrm : (rest.map fun v => v.category).sum ≤ 8) (hK : va_K D vwCl [(d, .long)] s) (hP : va_P D vwCl (gX h0 hE hS hG d E S G k) H) (hk : k ≤ 30) {a0 : Int32} {x : Int64} (hdg : decode cc pc = .ok (.invokevirtual 75, 3)) (kk : W p l e R s m args below meth c H locs cells slots Q (F0 m (pc + 3) ls (.long (q_weak (E, S, G, k) a0 x) :: rest))) : W p l e R s m args below meth c H locs cells slots Q (F0 m pc ls (.long x :: .int a0 :: .ref h0 :: rest)) :=
  ww_callL C0 hK hP rfl (mX0_weakDemand l D h0 hE hS hG d E S G k hk a0 x) (cwV 2 C0.2.2.2.2 (lw_V q136 q137 q138 q22 q139) rfl rfl rfl (by decide +kernel) ⟨hR.1, hR.2.1⟩) rfl rfl hsz hrm hR.2.2 hdg (fun r hr => by rw [hr]; exact kk)
theorem go_lm_weakDemand (C0 : CallFix p m c cc nL s args lw_all R_law) (hsz : ls.size = nL) (hR : 3 ≤ R.frames ∧ 73 ≤ R.locals ∧ cells ≤ R.cells ∧ slots ≤ R.slots) (hrm : (rest.map fun v => v.category).sum ≤ 8) (hK : va_K D vwCl [(d, .long)] s) (hP : va_P D vwCl (gM h0 hE hS d E S (G 0) (G 1) k) H) (hk : k ≤ 30) {a0 : Int32} {x : Int64} (hdg : decode cc pc = .ok (.invokevirtual 78, 3)) (kk : W p l e R s m args below meth c H locs cells slots Q (F0 m (pc + 3) ls (.long (q_weak (E, S, G, k) a0 x) :: rest))) : W p l e R s m args below meth c H locs cells slots Q (F0 m pc ls (.long x :: .int a0 :: .ref h0 :: rest)) :=
  ww_callL C0 hK hP rfl (mX1_weakDemand l D h0 hE hS d E S G k hk a0 x) (cwV 2 C0.2.2.2.2 (lw_V q287 q288 q289 q23 q290) rfl rfl rfl (by decide +kernel) ⟨hR.1, hR.2.1⟩) rfl rfl hsz hrm hR.2.2 hdg (fun r hr => by rw [hr]; exact kk)
theorem go_lx_image (C0 : CallFix p m c cc nL s args lw_all R_law) (hsz : ls.size = nL) (hR : 3 ≤ R.frames ∧ 71 ≤ R.locals ∧ cells ≤ R.cells ∧ slots ≤ R.slots) (hrm : (rest.map fun v => v.category).sum ≤ 8) (hK : va_K D vwCl [(d, .long)] s) (hP : va_P D vwCl (gX h0 hE hS hG d E S G k) H) (hk : k ≤ 30) {a0 : Int32} {x : Int64} (hdg : decode cc pc = .ok (.invokevirtual 79, 3)) (kk : W p l e R s m args below meth c H locs cells slots Q (F0 m (pc + 3) ls (.long (q_img (E, S, G, k) a0 x) :: rest))) : W p l e R s m args below meth c H locs cells slots Q (F0 m pc ls (.long x :: .int a0 :: .ref h0 :: rest)) :=
  ww_callL C0 hK hP rfl (mX0_image l D h0 hE hS hG d E S G k hk a0 x) (cwV 2 C0.2.2.2.2 (lw_V q140 q141 q142 q22 q143) rfl rfl rfl (by decide +kernel) ⟨hR.1, hR.2.1⟩) rfl rfl hsz hrm hR.2.2 hdg (fun r hr => by rw [hr]; exact kk)
theorem go_lm_image (C0 : CallFix p m c cc nL s args lw_all R_law) (hsz : ls.size = nL) (hR : 3 ≤ R.frames ∧ 72 ≤ R.locals ∧ cells ≤ R.cells ∧ slots ≤ R.slots) (hrm : (rest.map fun v => v.category).sum ≤ 8) (hK : va_K D vwCl [(d, .long)] s) (hP : va_P D vwCl (gM h0 hE hS d E S (G 0) (G 1) k) H) (hk : k ≤ 30) {a0 : Int32} {x : Int64} (hdg : decode cc pc = .ok (.invokevirtual 82, 3)) (kk : W p l e R s m args below meth c H locs cells slots Q (F0 m (pc + 3) ls (.long (q_img (E, S, G, k) a0 x) :: rest))) : W p l e R s m args below meth c H locs cells slots Q (F0 m pc ls (.long x :: .int a0 :: .ref h0 :: rest)) :=
  ww_callL C0 hK hP rfl (mX1_image l D h0 hE hS d E S G k hk a0 x) (cwV 2 C0.2.2.2.2 (lw_V q291 q292 q293 q23 q294) rfl rfl rfl (by decide +kernel) ⟨hR.1, hR.2.1⟩) rfl rfl hsz hrm hR.2.2 hdg (fun r hr => by rw [hr]; exact kk)
theorem go_lx_refines (C0 : CallFix p m c cc nL s args lw_all R_law) (hsz : ls.size = nL) (hR : 2 ≤ R.frames ∧ 47 ≤ R.locals ∧ cells ≤ R.cells ∧ slots ≤ R.slots) (hrm : (rest.map fun v => v.category).sum ≤ 8) (hK : va_K D vwCl [(d, .long)] s) (hP : va_P D vwCl (gX h0 hE hS hG d E S G k) H) (hk : k ≤ 30) {a0 b0 : Int32} (hdg : decode cc pc = .ok (.invokevirtual 83, 3)) (kk : W p l e R s m args below meth c H locs cells slots Q (F0 m (pc + 3) ls (.int (q_ref (E, S, G, k) a0 b0) :: rest))) : W p l e R s m args below meth c H locs cells slots Q (F0 m pc ls (.int b0 :: .int a0 :: .ref h0 :: rest)) :=
  ww_callI C0 hK hP rfl (mX0_refines l D h0 hE hS hG d E S G k hk a0 b0) (cwV 2 C0.2.2.2.2 (lw_V q144 q145 q146 q22 q147) rfl rfl rfl (by decide +kernel) ⟨hR.1, hR.2.1⟩) rfl rfl hsz hrm hR.2.2 hdg (fun r hr => by rw [hr]; exact kk)
theorem go_lm_refines (C0 : CallFix p m c cc nL s args lw_all R_law) (hsz : ls.size = nL) (hR : 2 ≤ R.frames ∧ 47 ≤ R.locals ∧ cells ≤ R.cells ∧ slots ≤ R.slots) (hrm : (rest.map fun v => v.category).sum ≤ 8) (hK : va_K D vwCl [(d, .long)] s) (hP : va_P D vwCl (gM h0 hE hS d E S (G 0) (G 1) k) H) (hk : k ≤ 30) {a0 b0 : Int32} (hdg : decode cc pc = .ok (.invokevirtual 86, 3)) (kk : W p l e R s m args below meth c H locs cells slots Q (F0 m (pc + 3) ls (.int (q_ref (E, S, G, k) a0 b0) :: rest))) : W p l e R s m args below meth c H locs cells slots Q (F0 m pc ls (.int b0 :: .int a0 :: .ref h0 :: rest)) :=
  ww_callI C0 hK hP rfl (mX1_refines l D h0 hE hS d E S G k hk a0 b0) (cwV 2 C0.2.2.2.2 (lw_V q295 q296 q297 q23 q298) rfl rfl rfl (by decide +kernel) ⟨hR.1, hR.2.1⟩) rfl rfl hsz hrm hR.2.2 hdg (fun r hr => by rw [hr]; exact kk)
theorem go_lx_settled (C0 : CallFix p m c cc nL s args lw_all R_law) (hsz : ls.size = nL) (hR : 2 ≤ R.frames ∧ 46 ≤ R.locals ∧ cells ≤ R.cells ∧ slots ≤ R.slots) (hrm : (rest.map fun v => v.category).sum ≤ 8) (hK : va_K D vwCl [(d, .long)] s) (hP : va_P D vwCl (gX h0 hE hS hG d E S G k) H) (hk : k ≤ 30) (hok : ∀ p, p < k → ∀ s, s < 64 → gb (S p) s = true → E (64 * p + s) ≠ 0) {a0 : Int32} (hdg : decode cc pc = .ok (.invokevirtual 87, 3)) (kk : W p l e R s m args below meth c H locs cells slots Q (F0 m (pc + 3) ls (.int (q_set (E, S, G, k) a0) :: rest))) : W p l e R s m args below meth c H locs cells slots Q (F0 m pc ls (.int a0 :: .ref h0 :: rest)) :=
  ww_callI C0 hK hP rfl (mX0_settled l D h0 hE hS hG d E S G k hk hok a0) (cwV 1 C0.2.2.2.2 (lw_V q148 q149 q150 q22 q151) rfl rfl rfl (by decide +kernel) ⟨hR.1, hR.2.1⟩) rfl rfl hsz hrm hR.2.2 hdg (fun r hr => by rw [hr]; exact kk)
theorem go_lm_settled (C0 : CallFix p m c cc nL s args lw_all R_law) (hsz : ls.size = nL) (hR : 3 ≤ R.frames ∧ 69 ≤ R.locals ∧ cells ≤ R.cells ∧ slots ≤ R.slots) (hrm : (rest.map fun v => v.category).sum ≤ 8) (hK : va_K D vwCl [(d, .long)] s) (hP : va_P D vwCl (gM h0 hE hS d E S (G 0) (G 1) k) H) (hk : k ≤ 30) {a0 : Int32} (hdg : decode cc pc = .ok (.invokevirtual 90, 3)) (kk : W p l e R s m args below meth c H locs cells slots Q (F0 m (pc + 3) ls (.int (q_set (E, S, G, k) a0) :: rest))) : W p l e R s m args below meth c H locs cells slots Q (F0 m pc ls (.int a0 :: .ref h0 :: rest)) :=
  ww_callI C0 hK hP rfl (mX1_settled l D h0 hE hS d E S G k hk a0) (cwV 1 C0.2.2.2.2 (lw_V q299 q300 q301 q23 q302) rfl rfl rfl (by decide +kernel) ⟨hR.1, hR.2.1⟩) rfl rfl hsz hrm hR.2.2 hdg (fun r hr => by rw [hr]; exact kk)
theorem go_lx_widest (C0 : CallFix p m c cc nL s args lw_all R_law) (hsz : ls.size = nL) (hR : 2 ≤ R.frames ∧ 47 ≤ R.locals ∧ cells ≤ R.cells ∧ slots ≤ R.slots) (hrm : (rest.map fun v => v.category).sum ≤ 8) (hK : va_K D vwCl [(d, .long)] s) (hP : va_P D vwCl (gX h0 hE hS hG d E S G k) H) (hk : k ≤ 30) {a0 : Int32} (hdg : decode cc pc = .ok (.invokevirtual 91, 3)) (kk : W p l e R s m args below meth c H locs cells slots Q (F0 m (pc + 3) ls (.int (q_wid (E, S, G, k) a0) :: rest))) : W p l e R s m args below meth c H locs cells slots Q (F0 m pc ls (.int a0 :: .ref h0 :: rest)) :=
  ww_callI C0 hK hP rfl (mX0_widest l D h0 hE hS hG d E S G k hk a0) (cwV 1 C0.2.2.2.2 (lw_V q152 q153 q154 q22 q155) rfl rfl rfl (by decide +kernel) ⟨hR.1, hR.2.1⟩) rfl rfl hsz hrm hR.2.2 hdg (fun r hr => by rw [hr]; exact kk)
theorem go_lm_widest (C0 : CallFix p m c cc nL s args lw_all R_law) (hsz : ls.size = nL) (hR : 3 ≤ R.frames ∧ 71 ≤ R.locals ∧ cells ≤ R.cells ∧ slots ≤ R.slots) (hrm : (rest.map fun v => v.category).sum ≤ 8) (hK : va_K D vwCl [(d, .long)] s) (hP : va_P D vwCl (gM h0 hE hS d E S (G 0) (G 1) k) H) (hk : k ≤ 30) {a0 : Int32} (hdg : decode cc pc = .ok (.invokevirtual 94, 3)) (kk : W p l e R s m args below meth c H locs cells slots Q (F0 m (pc + 3) ls (.int (q_wid (E, S, G, k) a0) :: rest))) : W p l e R s m args below meth c H locs cells slots Q (F0 m pc ls (.int a0 :: .ref h0 :: rest)) :=
  ww_callI C0 hK hP rfl (mX1_widest l D h0 hE hS d E S G k hk a0) (cwV 1 C0.2.2.2.2 (lw_V q303 q304 q305 q23 q306) rfl rfl rfl (by decide +kernel) ⟨hR.1, hR.2.1⟩) rfl rfl hsz hrm hR.2.2 hdg (fun r hr => by rw [hr]; exact kk)
end LAW0
end
section
/-! THE LAW: its cases -/
set_option maxRecDepth 100000
/-- at pc with i ints read: class and reference hold the same state -/
def law_at (p : Program) (l : Launch) (e : Env) (s : State) (m : MethodId) (below : List Frame) (meth : Method) (c : Code) (Q : State → Prop) (D : va_G) (d : ClassId) (h0 hE hS hG n0 nE nS b i pc : Nat) : Prop :=
  ∀ (E S G : Nat → Int64) (k : Nat), gc_ok (E, S, G, k) → ∀ (H : Heap) (locs : List Loc), va_P D vwCl (gX h0 hE hS hG d E S G k ++ gM n0 nE nS d E S (G 0) (G 1) k) H → va_D (fun q => s.heap.size ≤ q) (gX h0 hE hS hG d E S G k ++ gM n0 nE nS d E S (G 0) (G 1) k) → va_S (fun q => s.heap.size ≤ q) s.heap H locs → ∀ ls : Array Slot, lv_has ls 4 [(0, .ref b), (1, .ref h0), (2, .ref n0), (3, .int (nI i))] → W p l e room_1 s m #[Value.ref b] below meth c H locs 600000 7290000 Q (F0 m pc ls [])
set_option maxHeartbeats 4000000 in
set_option maxRecDepth 100000 in
/-- case 0: guard -/
theorem law_c0 {p : Program} {l : Launch} {e : Env} {s : State} {m : MethodId} {below : List Frame} {meth : Method} {c : Code} {Q : State → Prop} {D : va_G} {d : ClassId} {h0 hE hS hG n0 nE nS b L : Nat} {xs : Nat → Int32} {i : Nat} (C0 : CallFix p m c cL_law 4 s #[Value.ref b] lw_all R_law) (hX : va_X b L xs s s.heap) (hbl : b < s.heap.size) (hL : L ≤ 256) (hi : i + 4 ≤ L) (hK : va_K D vwCl [(d, .long)] s) (next : law_at p l e s m below meth c Q D d h0 hE hS hG n0 nE nS b i 749) : law_at p l e s m below meth c Q D d h0 hE hS hG n0 nE nS b i 120 := by
  intro E S G k ok H locs hP hD hs ls hl
  have hbA : ¬ s.heap.size ≤ b := by omega
  refine lv_aload_n C0.1 C0.2.1 dL_law_120 rfl (lv_at hl 1 rfl) ?_
  refine lv_aload_n C0.1 C0.2.1 dL_law_121 rfl (lv_at hl 0 rfl) ?_
  refine lv_iload_n C0.1 C0.2.1 dL_law_122 rfl (lv_at hl 3 rfl) ?_
  refine lv_iconst (v := 1) C0.1 C0.2.1 dL_law_123 (by decide) ?_
  refine lv_iadd C0.1 C0.2.1 dL_law_124 ?_
  refine ww_sld C0 hX hbl hbA hs (j := i + 1) (show nI i + 1 = nI (i + 1) from nI_add i 1) (by omega) (by omega) dL_law_125 ?_
  refine lv_aload_n C0.1 C0.2.1 dL_law_126 rfl (lv_at hl 0 rfl) ?_
  refine lv_iload_n C0.1 C0.2.1 dL_law_127 rfl (lv_at hl 3 rfl) ?_
  refine lv_iconst (v := 2) C0.1 C0.2.1 dL_law_128 (by decide) ?_
  refine lv_iadd C0.1 C0.2.1 dL_law_129 ?_
  refine ww_sld C0 hX hbl hbA hs (j := i + 2) (show nI i + 2 = nI (i + 2) from nI_add i 2) (by omega) (by omega) dL_law_130 ?_
  refine lv_i2l (v := (xs (i + 2)).toInt64) C0.1 C0.2.1 dL_law_131 rfl ?_
  refine lv_bipush (v := nI 32) C0.1 C0.2.1 dL_law_132 (by decide) ?_
  refine lv_lshl (v := ((xs (i + 2)).toInt64) <<< ((nI 32).toInt64 &&& 63)) C0.1 C0.2.1 dL_law_134 rfl ?_
  refine lv_aload_n C0.1 C0.2.1 dL_law_135 rfl (lv_at hl 0 rfl) ?_
  refine lv_iload_n C0.1 C0.2.1 dL_law_136 rfl (lv_at hl 3 rfl) ?_
  refine lv_iconst (v := 3) C0.1 C0.2.1 dL_law_137 (by decide) ?_
  refine lv_iadd C0.1 C0.2.1 dL_law_138 ?_
  refine ww_sld C0 hX hbl hbA hs (j := i + 3) (show nI i + 3 = nI (i + 3) from nI_add i 3) (by omega) (by omega) dL_law_139 ?_
  refine lv_i2l (v := (xs (i + 3)).toInt64) C0.1 C0.2.1 dL_law_140 rfl ?_
  refine lv_ldc2 (v := 4294967295) C0.1 C0.2.1 C0.2.2.2.1 (C0.2.2.2.2 _ q307) dL_law_141 ?_
  refine lv_land C0.1 C0.2.1 dL_law_144 ?_
  refine lv_lor C0.1 C0.2.1 dL_law_145 ?_
  refine go_lx_guard C0 hl.1 ⟨Nat.le_of_ble_eq_true rfl, Nat.le_of_ble_eq_true rfl, Nat.le_of_ble_eq_true rfl, Nat.le_of_ble_eq_true rfl⟩ (Nat.le_of_ble_eq_true rfl) hK hP hD hs (fun _ h => h) dL_law_146 (fun H locs hP hD hs => ?_)
  refine lv_aload_n C0.1 C0.2.1 dL_law_149 rfl (lv_at hl 2 rfl) ?_
  refine lv_aload_n C0.1 C0.2.1 dL_law_150 rfl (lv_at hl 0 rfl) ?_
  refine lv_iload_n C0.1 C0.2.1 dL_law_151 rfl (lv_at hl 3 rfl) ?_
  refine lv_iconst (v := 1) C0.1 C0.2.1 dL_law_152 (by decide) ?_
  refine lv_iadd C0.1 C0.2.1 dL_law_153 ?_
  refine ww_sld C0 hX hbl hbA hs (j := i + 1) (show nI i + 1 = nI (i + 1) from nI_add i 1) (by omega) (by omega) dL_law_154 ?_
  refine lv_aload_n C0.1 C0.2.1 dL_law_155 rfl (lv_at hl 0 rfl) ?_
  refine lv_iload_n C0.1 C0.2.1 dL_law_156 rfl (lv_at hl 3 rfl) ?_
  refine lv_iconst (v := 2) C0.1 C0.2.1 dL_law_157 (by decide) ?_
  refine lv_iadd C0.1 C0.2.1 dL_law_158 ?_
  refine ww_sld C0 hX hbl hbA hs (j := i + 2) (show nI i + 2 = nI (i + 2) from nI_add i 2) (by omega) (by omega) dL_law_159 ?_
  refine lv_i2l (v := (xs (i + 2)).toInt64) C0.1 C0.2.1 dL_law_160 rfl ?_
  refine lv_bipush (v := nI 32) C0.1 C0.2.1 dL_law_161 (by decide) ?_
  refine lv_lshl (v := ((xs (i + 2)).toInt64) <<< ((nI 32).toInt64 &&& 63)) C0.1 C0.2.1 dL_law_163 rfl ?_
  refine lv_aload_n C0.1 C0.2.1 dL_law_164 rfl (lv_at hl 0 rfl) ?_
  refine lv_iload_n C0.1 C0.2.1 dL_law_165 rfl (lv_at hl 3 rfl) ?_
  refine lv_iconst (v := 3) C0.1 C0.2.1 dL_law_166 (by decide) ?_
  refine lv_iadd C0.1 C0.2.1 dL_law_167 ?_
  refine ww_sld C0 hX hbl hbA hs (j := i + 3) (show nI i + 3 = nI (i + 3) from nI_add i 3) (by omega) (by omega) dL_law_168 ?_
  refine lv_i2l (v := (xs (i + 3)).toInt64) C0.1 C0.2.1 dL_law_169 rfl ?_
  refine lv_ldc2 (v := 4294967295) C0.1 C0.2.1 C0.2.2.2.1 (C0.2.2.2.2 _ q307) dL_law_170 ?_
  refine lv_land C0.1 C0.2.1 dL_law_173 ?_
  refine lv_lor C0.1 C0.2.1 dL_law_174 ?_
  refine go_lm_guard C0 hl.1 ⟨Nat.le_of_ble_eq_true rfl, Nat.le_of_ble_eq_true rfl, Nat.le_of_ble_eq_true rfl, Nat.le_of_ble_eq_true rfl⟩ (Nat.le_of_ble_eq_true rfl) hK (G := G) hP hD hs (fun _ h => h) dL_law_175 (fun H locs hP hD hs => ?_)
  refine lv_icmp_eq (tgt := 749) C0.1 C0.2.1 dL_law_178 (by decide) (fun cc => ?_) (fun cc => ?_)
  · exact next _ _ _ _ (ok_guard ok _ _) H locs hP hD hs ls hl
  · exact absurd rfl cc
set_option maxHeartbeats 4000000 in
set_option maxRecDepth 100000 in
/-- case 1: compare -/
theorem law_c1 {p : Program} {l : Launch} {e : Env} {s : State} {m : MethodId} {below : List Frame} {meth : Method} {c : Code} {Q : State → Prop} {D : va_G} {d : ClassId} {h0 hE hS hG n0 nE nS b L : Nat} {xs : Nat → Int32} {i : Nat} (C0 : CallFix p m c cL_law 4 s #[Value.ref b] lw_all R_law) (hX : va_X b L xs s s.heap) (hbl : b < s.heap.size) (hL : L ≤ 256) (hi : i + 4 ≤ L) (hK : va_K D vwCl [(d, .long)] s) (next : law_at p l e s m below meth c Q D d h0 hE hS hG n0 nE nS b i 749) : law_at p l e s m below meth c Q D d h0 hE hS hG n0 nE nS b i 183 := by
  intro E S G k ok H locs hP hD hs ls hl
  have hbA : ¬ s.heap.size ≤ b := by omega
  refine lv_aload_n C0.1 C0.2.1 dL_law_183 rfl (lv_at hl 1 rfl) ?_
  refine lv_aload_n C0.1 C0.2.1 dL_law_184 rfl (lv_at hl 0 rfl) ?_
  refine lv_iload_n C0.1 C0.2.1 dL_law_185 rfl (lv_at hl 3 rfl) ?_
  refine lv_iconst (v := 1) C0.1 C0.2.1 dL_law_186 (by decide) ?_
  refine lv_iadd C0.1 C0.2.1 dL_law_187 ?_
  refine ww_sld C0 hX hbl hbA hs (j := i + 1) (show nI i + 1 = nI (i + 1) from nI_add i 1) (by omega) (by omega) dL_law_188 ?_
  refine lv_aload_n C0.1 C0.2.1 dL_law_189 rfl (lv_at hl 0 rfl) ?_
  refine lv_iload_n C0.1 C0.2.1 dL_law_190 rfl (lv_at hl 3 rfl) ?_
  refine lv_iconst (v := 2) C0.1 C0.2.1 dL_law_191 (by decide) ?_
  refine lv_iadd C0.1 C0.2.1 dL_law_192 ?_
  refine ww_sld C0 hX hbl hbA hs (j := i + 2) (show nI i + 2 = nI (i + 2) from nI_add i 2) (by omega) (by omega) dL_law_193 ?_
  refine lv_aload_n C0.1 C0.2.1 dL_law_194 rfl (lv_at hl 0 rfl) ?_
  refine lv_iload_n C0.1 C0.2.1 dL_law_195 rfl (lv_at hl 3 rfl) ?_
  refine lv_iconst (v := 3) C0.1 C0.2.1 dL_law_196 (by decide) ?_
  refine lv_iadd C0.1 C0.2.1 dL_law_197 ?_
  refine ww_sld C0 hX hbl hbA hs (j := i + 3) (show nI i + 3 = nI (i + 3) from nI_add i 3) (by omega) (by omega) dL_law_198 ?_
  refine go_lx_compare C0 hl.1 ⟨Nat.le_of_ble_eq_true rfl, Nat.le_of_ble_eq_true rfl, Nat.le_of_ble_eq_true rfl, Nat.le_of_ble_eq_true rfl⟩ (Nat.le_of_ble_eq_true rfl) hK hP hD hs (fun _ h => h) dL_law_199 (fun H locs hP hD hs => ?_)
  refine lv_aload_n C0.1 C0.2.1 dL_law_202 rfl (lv_at hl 2 rfl) ?_
  refine lv_aload_n C0.1 C0.2.1 dL_law_203 rfl (lv_at hl 0 rfl) ?_
  refine lv_iload_n C0.1 C0.2.1 dL_law_204 rfl (lv_at hl 3 rfl) ?_
  refine lv_iconst (v := 1) C0.1 C0.2.1 dL_law_205 (by decide) ?_
  refine lv_iadd C0.1 C0.2.1 dL_law_206 ?_
  refine ww_sld C0 hX hbl hbA hs (j := i + 1) (show nI i + 1 = nI (i + 1) from nI_add i 1) (by omega) (by omega) dL_law_207 ?_
  refine lv_aload_n C0.1 C0.2.1 dL_law_208 rfl (lv_at hl 0 rfl) ?_
  refine lv_iload_n C0.1 C0.2.1 dL_law_209 rfl (lv_at hl 3 rfl) ?_
  refine lv_iconst (v := 2) C0.1 C0.2.1 dL_law_210 (by decide) ?_
  refine lv_iadd C0.1 C0.2.1 dL_law_211 ?_
  refine ww_sld C0 hX hbl hbA hs (j := i + 2) (show nI i + 2 = nI (i + 2) from nI_add i 2) (by omega) (by omega) dL_law_212 ?_
  refine lv_aload_n C0.1 C0.2.1 dL_law_213 rfl (lv_at hl 0 rfl) ?_
  refine lv_iload_n C0.1 C0.2.1 dL_law_214 rfl (lv_at hl 3 rfl) ?_
  refine lv_iconst (v := 3) C0.1 C0.2.1 dL_law_215 (by decide) ?_
  refine lv_iadd C0.1 C0.2.1 dL_law_216 ?_
  refine ww_sld C0 hX hbl hbA hs (j := i + 3) (show nI i + 3 = nI (i + 3) from nI_add i 3) (by omega) (by omega) dL_law_217 ?_
  refine go_lm_compare C0 hl.1 ⟨Nat.le_of_ble_eq_true rfl, Nat.le_of_ble_eq_true rfl, Nat.le_of_ble_eq_true rfl, Nat.le_of_ble_eq_true rfl⟩ (Nat.le_of_ble_eq_true rfl) hK (G := G) hP hD hs (fun _ h => h) dL_law_218 (fun H locs hP hD hs => ?_)
  refine lv_icmp_eq (tgt := 749) C0.1 C0.2.1 dL_law_221 (by decide) (fun cc => ?_) (fun cc => ?_)
  · exact next _ _ _ _ (ok_compare ok _ _ _) H locs hP hD hs ls hl
  · exact absurd rfl cc
set_option maxHeartbeats 4000000 in
set_option maxRecDepth 100000 in
/-- case 2: oppose -/
theorem law_c2 {p : Program} {l : Launch} {e : Env} {s : State} {m : MethodId} {below : List Frame} {meth : Method} {c : Code} {Q : State → Prop} {D : va_G} {d : ClassId} {h0 hE hS hG n0 nE nS b L : Nat} {xs : Nat → Int32} {i : Nat} (C0 : CallFix p m c cL_law 4 s #[Value.ref b] lw_all R_law) (hX : va_X b L xs s s.heap) (hbl : b < s.heap.size) (hL : L ≤ 256) (hi : i + 4 ≤ L) (hK : va_K D vwCl [(d, .long)] s) (next : law_at p l e s m below meth c Q D d h0 hE hS hG n0 nE nS b i 749) : law_at p l e s m below meth c Q D d h0 hE hS hG n0 nE nS b i 226 := by
  intro E S G k ok H locs hP hD hs ls hl
  have hbA : ¬ s.heap.size ≤ b := by omega
  refine lv_aload_n C0.1 C0.2.1 dL_law_226 rfl (lv_at hl 1 rfl) ?_
  refine lv_aload_n C0.1 C0.2.1 dL_law_227 rfl (lv_at hl 0 rfl) ?_
  refine lv_iload_n C0.1 C0.2.1 dL_law_228 rfl (lv_at hl 3 rfl) ?_
  refine lv_iconst (v := 1) C0.1 C0.2.1 dL_law_229 (by decide) ?_
  refine lv_iadd C0.1 C0.2.1 dL_law_230 ?_
  refine ww_sld C0 hX hbl hbA hs (j := i + 1) (show nI i + 1 = nI (i + 1) from nI_add i 1) (by omega) (by omega) dL_law_231 ?_
  refine go_lx_oppose C0 hl.1 ⟨Nat.le_of_ble_eq_true rfl, Nat.le_of_ble_eq_true rfl, Nat.le_of_ble_eq_true rfl, Nat.le_of_ble_eq_true rfl⟩ (Nat.le_of_ble_eq_true rfl) hK hP hD hs (fun _ h => h) dL_law_232 (fun H locs hP hD hs => ?_)
  refine lv_aload_n C0.1 C0.2.1 dL_law_235 rfl (lv_at hl 2 rfl) ?_
  refine lv_aload_n C0.1 C0.2.1 dL_law_236 rfl (lv_at hl 0 rfl) ?_
  refine lv_iload_n C0.1 C0.2.1 dL_law_237 rfl (lv_at hl 3 rfl) ?_
  refine lv_iconst (v := 1) C0.1 C0.2.1 dL_law_238 (by decide) ?_
  refine lv_iadd C0.1 C0.2.1 dL_law_239 ?_
  refine ww_sld C0 hX hbl hbA hs (j := i + 1) (show nI i + 1 = nI (i + 1) from nI_add i 1) (by omega) (by omega) dL_law_240 ?_
  refine go_lm_oppose C0 hl.1 ⟨Nat.le_of_ble_eq_true rfl, Nat.le_of_ble_eq_true rfl, Nat.le_of_ble_eq_true rfl, Nat.le_of_ble_eq_true rfl⟩ (Nat.le_of_ble_eq_true rfl) hK (G := G) hP hD hs (fun _ h => h) dL_law_241 (fun H locs hP hD hs => ?_)
  refine lv_icmp_eq (tgt := 749) C0.1 C0.2.1 dL_law_244 (by decide) (fun cc => ?_) (fun cc => ?_)
  · exact next _ _ _ _ (ok_oppose ok _) H locs hP hD hs ls hl
  · exact absurd rfl cc
set_option maxHeartbeats 4000000 in
set_option maxRecDepth 100000 in
/-- case 3: skip -/
theorem law_c3 {p : Program} {l : Launch} {e : Env} {s : State} {m : MethodId} {below : List Frame} {meth : Method} {c : Code} {Q : State → Prop} {D : va_G} {d : ClassId} {h0 hE hS hG n0 nE nS b L : Nat} {xs : Nat → Int32} {i : Nat} (C0 : CallFix p m c cL_law 4 s #[Value.ref b] lw_all R_law) (hX : va_X b L xs s s.heap) (hbl : b < s.heap.size) (hL : L ≤ 256) (hi : i + 4 ≤ L) (hK : va_K D vwCl [(d, .long)] s) (next : law_at p l e s m below meth c Q D d h0 hE hS hG n0 nE nS b i 749) : law_at p l e s m below meth c Q D d h0 hE hS hG n0 nE nS b i 249 := by
  intro E S G k ok H locs hP hD hs ls hl
  have hbA : ¬ s.heap.size ≤ b := by omega
  refine lv_aload_n C0.1 C0.2.1 dL_law_249 rfl (lv_at hl 1 rfl) ?_
  refine go_lx_skip C0 hl.1 ⟨Nat.le_of_ble_eq_true rfl, Nat.le_of_ble_eq_true rfl, Nat.le_of_ble_eq_true rfl, Nat.le_of_ble_eq_true rfl⟩ (Nat.le_of_ble_eq_true rfl) hK hP hD hs (fun _ h => h) ok.1 dL_law_250 (fun H locs hP hD hs => ?_)
  refine lv_aload_n C0.1 C0.2.1 dL_law_253 rfl (lv_at hl 2 rfl) ?_
  refine go_lm_skip C0 hl.1 ⟨Nat.le_of_ble_eq_true rfl, Nat.le_of_ble_eq_true rfl, Nat.le_of_ble_eq_true rfl, Nat.le_of_ble_eq_true rfl⟩ (Nat.le_of_ble_eq_true rfl) hK (G := G) hP hD hs (fun _ h => h) ok.1 dL_law_254 (fun H locs hP hD hs => ?_)
  refine lv_icmp_eq (tgt := 749) C0.1 C0.2.1 dL_law_257 (by decide) (fun cc => ?_) (fun cc => ?_)
  · exact next _ _ _ _ (ok_skip ok) H locs hP hD hs ls hl
  · exact absurd rfl cc
set_option maxHeartbeats 4000000 in
set_option maxRecDepth 100000 in
/-- case 4: fail -/
theorem law_c4 {p : Program} {l : Launch} {e : Env} {s : State} {m : MethodId} {below : List Frame} {meth : Method} {c : Code} {Q : State → Prop} {D : va_G} {d : ClassId} {h0 hE hS hG n0 nE nS b L : Nat} {xs : Nat → Int32} {i : Nat} (C0 : CallFix p m c cL_law 4 s #[Value.ref b] lw_all R_law) (hX : va_X b L xs s s.heap) (hbl : b < s.heap.size) (hL : L ≤ 256) (hi : i + 4 ≤ L) (hK : va_K D vwCl [(d, .long)] s) (next : law_at p l e s m below meth c Q D d h0 hE hS hG n0 nE nS b i 749) : law_at p l e s m below meth c Q D d h0 hE hS hG n0 nE nS b i 262 := by
  intro E S G k ok H locs hP hD hs ls hl
  have hbA : ¬ s.heap.size ≤ b := by omega
  refine lv_aload_n C0.1 C0.2.1 dL_law_262 rfl (lv_at hl 1 rfl) ?_
  refine go_lx_fail C0 hl.1 ⟨Nat.le_of_ble_eq_true rfl, Nat.le_of_ble_eq_true rfl, Nat.le_of_ble_eq_true rfl, Nat.le_of_ble_eq_true rfl⟩ (Nat.le_of_ble_eq_true rfl) hK hP hD hs (fun _ h => h) ok.1 dL_law_263 (fun H locs hP hD hs => ?_)
  refine lv_aload_n C0.1 C0.2.1 dL_law_266 rfl (lv_at hl 2 rfl) ?_
  refine go_lm_fail C0 hl.1 ⟨Nat.le_of_ble_eq_true rfl, Nat.le_of_ble_eq_true rfl, Nat.le_of_ble_eq_true rfl, Nat.le_of_ble_eq_true rfl⟩ (Nat.le_of_ble_eq_true rfl) hK (G := G) hP hD hs (fun _ h => h) ok.1 dL_law_267 (fun H locs hP hD hs => ?_)
  refine lv_icmp_eq (tgt := 749) C0.1 C0.2.1 dL_law_270 (by decide) (fun cc => ?_) (fun cc => ?_)
  · exact next _ _ _ _ (ok_fail ok) H locs hP hD hs ls hl
  · exact absurd rfl cc
set_option maxHeartbeats 4000000 in
set_option maxRecDepth 100000 in
/-- case 5: assign -/
theorem law_c5 {p : Program} {l : Launch} {e : Env} {s : State} {m : MethodId} {below : List Frame} {meth : Method} {c : Code} {Q : State → Prop} {D : va_G} {d : ClassId} {h0 hE hS hG n0 nE nS b L : Nat} {xs : Nat → Int32} {i : Nat} (C0 : CallFix p m c cL_law 4 s #[Value.ref b] lw_all R_law) (hX : va_X b L xs s s.heap) (hbl : b < s.heap.size) (hL : L ≤ 256) (hi : i + 4 ≤ L) (hK : va_K D vwCl [(d, .long)] s) (next : law_at p l e s m below meth c Q D d h0 hE hS hG n0 nE nS b i 749) : law_at p l e s m below meth c Q D d h0 hE hS hG n0 nE nS b i 275 := by
  intro E S G k ok H locs hP hD hs ls hl
  have hbA : ¬ s.heap.size ≤ b := by omega
  refine lv_aload_n C0.1 C0.2.1 dL_law_275 rfl (lv_at hl 1 rfl) ?_
  refine lv_aload_n C0.1 C0.2.1 dL_law_276 rfl (lv_at hl 0 rfl) ?_
  refine lv_iload_n C0.1 C0.2.1 dL_law_277 rfl (lv_at hl 3 rfl) ?_
  refine lv_iconst (v := 1) C0.1 C0.2.1 dL_law_278 (by decide) ?_
  refine lv_iadd C0.1 C0.2.1 dL_law_279 ?_
  refine ww_sld C0 hX hbl hbA hs (j := i + 1) (show nI i + 1 = nI (i + 1) from nI_add i 1) (by omega) (by omega) dL_law_280 ?_
  refine lv_aload_n C0.1 C0.2.1 dL_law_281 rfl (lv_at hl 0 rfl) ?_
  refine lv_iload_n C0.1 C0.2.1 dL_law_282 rfl (lv_at hl 3 rfl) ?_
  refine lv_iconst (v := 2) C0.1 C0.2.1 dL_law_283 (by decide) ?_
  refine lv_iadd C0.1 C0.2.1 dL_law_284 ?_
  refine ww_sld C0 hX hbl hbA hs (j := i + 2) (show nI i + 2 = nI (i + 2) from nI_add i 2) (by omega) (by omega) dL_law_285 ?_
  refine go_lx_assign C0 hl.1 ⟨Nat.le_of_ble_eq_true rfl, Nat.le_of_ble_eq_true rfl, Nat.le_of_ble_eq_true rfl, Nat.le_of_ble_eq_true rfl⟩ (Nat.le_of_ble_eq_true rfl) hK hP hD hs (fun _ h => h) ok.1 dL_law_286 (fun H locs hP hD hs => ?_)
  refine lv_aload_n C0.1 C0.2.1 dL_law_289 rfl (lv_at hl 2 rfl) ?_
  refine lv_aload_n C0.1 C0.2.1 dL_law_290 rfl (lv_at hl 0 rfl) ?_
  refine lv_iload_n C0.1 C0.2.1 dL_law_291 rfl (lv_at hl 3 rfl) ?_
  refine lv_iconst (v := 1) C0.1 C0.2.1 dL_law_292 (by decide) ?_
  refine lv_iadd C0.1 C0.2.1 dL_law_293 ?_
  refine ww_sld C0 hX hbl hbA hs (j := i + 1) (show nI i + 1 = nI (i + 1) from nI_add i 1) (by omega) (by omega) dL_law_294 ?_
  refine lv_aload_n C0.1 C0.2.1 dL_law_295 rfl (lv_at hl 0 rfl) ?_
  refine lv_iload_n C0.1 C0.2.1 dL_law_296 rfl (lv_at hl 3 rfl) ?_
  refine lv_iconst (v := 2) C0.1 C0.2.1 dL_law_297 (by decide) ?_
  refine lv_iadd C0.1 C0.2.1 dL_law_298 ?_
  refine ww_sld C0 hX hbl hbA hs (j := i + 2) (show nI i + 2 = nI (i + 2) from nI_add i 2) (by omega) (by omega) dL_law_299 ?_
  refine go_lm_assign C0 hl.1 ⟨Nat.le_of_ble_eq_true rfl, Nat.le_of_ble_eq_true rfl, Nat.le_of_ble_eq_true rfl, Nat.le_of_ble_eq_true rfl⟩ (Nat.le_of_ble_eq_true rfl) hK (G := G) hP hD hs (fun _ h => h) ok.1 dL_law_300 (fun H locs hP hD hs => ?_)
  refine lv_icmp_eq (tgt := 749) C0.1 C0.2.1 dL_law_303 (by decide) (fun cc => ?_) (fun cc => ?_)
  · exact next _ _ _ _ (ok_assign ok _ _) H locs hP hD hs ls hl
  · exact absurd rfl cc
set_option maxHeartbeats 4000000 in
set_option maxRecDepth 100000 in
/-- case 6: sequence -/
theorem law_c6 {p : Program} {l : Launch} {e : Env} {s : State} {m : MethodId} {below : List Frame} {meth : Method} {c : Code} {Q : State → Prop} {D : va_G} {d : ClassId} {h0 hE hS hG n0 nE nS b L : Nat} {xs : Nat → Int32} {i : Nat} (C0 : CallFix p m c cL_law 4 s #[Value.ref b] lw_all R_law) (hX : va_X b L xs s s.heap) (hbl : b < s.heap.size) (hL : L ≤ 256) (hi : i + 4 ≤ L) (hK : va_K D vwCl [(d, .long)] s) (next : law_at p l e s m below meth c Q D d h0 hE hS hG n0 nE nS b i 749) : law_at p l e s m below meth c Q D d h0 hE hS hG n0 nE nS b i 308 := by
  intro E S G k ok H locs hP hD hs ls hl
  have hbA : ¬ s.heap.size ≤ b := by omega
  refine lv_aload_n C0.1 C0.2.1 dL_law_308 rfl (lv_at hl 1 rfl) ?_
  refine lv_aload_n C0.1 C0.2.1 dL_law_309 rfl (lv_at hl 0 rfl) ?_
  refine lv_iload_n C0.1 C0.2.1 dL_law_310 rfl (lv_at hl 3 rfl) ?_
  refine lv_iconst (v := 1) C0.1 C0.2.1 dL_law_311 (by decide) ?_
  refine lv_iadd C0.1 C0.2.1 dL_law_312 ?_
  refine ww_sld C0 hX hbl hbA hs (j := i + 1) (show nI i + 1 = nI (i + 1) from nI_add i 1) (by omega) (by omega) dL_law_313 ?_
  refine lv_aload_n C0.1 C0.2.1 dL_law_314 rfl (lv_at hl 0 rfl) ?_
  refine lv_iload_n C0.1 C0.2.1 dL_law_315 rfl (lv_at hl 3 rfl) ?_
  refine lv_iconst (v := 2) C0.1 C0.2.1 dL_law_316 (by decide) ?_
  refine lv_iadd C0.1 C0.2.1 dL_law_317 ?_
  refine ww_sld C0 hX hbl hbA hs (j := i + 2) (show nI i + 2 = nI (i + 2) from nI_add i 2) (by omega) (by omega) dL_law_318 ?_
  refine go_lx_sequence C0 hl.1 ⟨Nat.le_of_ble_eq_true rfl, Nat.le_of_ble_eq_true rfl, Nat.le_of_ble_eq_true rfl, Nat.le_of_ble_eq_true rfl⟩ (Nat.le_of_ble_eq_true rfl) hK hP hD hs (fun _ h => h) ok.1 dL_law_319 (fun H locs hP hD hs => ?_)
  refine lv_aload_n C0.1 C0.2.1 dL_law_322 rfl (lv_at hl 2 rfl) ?_
  refine lv_aload_n C0.1 C0.2.1 dL_law_323 rfl (lv_at hl 0 rfl) ?_
  refine lv_iload_n C0.1 C0.2.1 dL_law_324 rfl (lv_at hl 3 rfl) ?_
  refine lv_iconst (v := 1) C0.1 C0.2.1 dL_law_325 (by decide) ?_
  refine lv_iadd C0.1 C0.2.1 dL_law_326 ?_
  refine ww_sld C0 hX hbl hbA hs (j := i + 1) (show nI i + 1 = nI (i + 1) from nI_add i 1) (by omega) (by omega) dL_law_327 ?_
  refine lv_aload_n C0.1 C0.2.1 dL_law_328 rfl (lv_at hl 0 rfl) ?_
  refine lv_iload_n C0.1 C0.2.1 dL_law_329 rfl (lv_at hl 3 rfl) ?_
  refine lv_iconst (v := 2) C0.1 C0.2.1 dL_law_330 (by decide) ?_
  refine lv_iadd C0.1 C0.2.1 dL_law_331 ?_
  refine ww_sld C0 hX hbl hbA hs (j := i + 2) (show nI i + 2 = nI (i + 2) from nI_add i 2) (by omega) (by omega) dL_law_332 ?_
  refine go_lm_sequence C0 hl.1 ⟨Nat.le_of_ble_eq_true rfl, Nat.le_of_ble_eq_true rfl, Nat.le_of_ble_eq_true rfl, Nat.le_of_ble_eq_true rfl⟩ (Nat.le_of_ble_eq_true rfl) hK (G := G) hP hD hs (fun _ h => h) ok.1 dL_law_333 (fun H locs hP hD hs => ?_)
  refine lv_icmp_eq (tgt := 749) C0.1 C0.2.1 dL_law_336 (by decide) (fun cc => ?_) (fun cc => ?_)
  · exact next _ _ _ _ (ok_seq ok _ _) H locs hP hD hs ls hl
  · exact absurd rfl cc
set_option maxHeartbeats 4000000 in
set_option maxRecDepth 100000 in
/-- case 7: choice -/
theorem law_c7 {p : Program} {l : Launch} {e : Env} {s : State} {m : MethodId} {below : List Frame} {meth : Method} {c : Code} {Q : State → Prop} {D : va_G} {d : ClassId} {h0 hE hS hG n0 nE nS b L : Nat} {xs : Nat → Int32} {i : Nat} (C0 : CallFix p m c cL_law 4 s #[Value.ref b] lw_all R_law) (hX : va_X b L xs s s.heap) (hbl : b < s.heap.size) (hL : L ≤ 256) (hi : i + 4 ≤ L) (hK : va_K D vwCl [(d, .long)] s) (next : law_at p l e s m below meth c Q D d h0 hE hS hG n0 nE nS b i 749) : law_at p l e s m below meth c Q D d h0 hE hS hG n0 nE nS b i 341 := by
  intro E S G k ok H locs hP hD hs ls hl
  have hbA : ¬ s.heap.size ≤ b := by omega
  refine lv_aload_n C0.1 C0.2.1 dL_law_341 rfl (lv_at hl 1 rfl) ?_
  refine lv_aload_n C0.1 C0.2.1 dL_law_342 rfl (lv_at hl 0 rfl) ?_
  refine lv_iload_n C0.1 C0.2.1 dL_law_343 rfl (lv_at hl 3 rfl) ?_
  refine lv_iconst (v := 1) C0.1 C0.2.1 dL_law_344 (by decide) ?_
  refine lv_iadd C0.1 C0.2.1 dL_law_345 ?_
  refine ww_sld C0 hX hbl hbA hs (j := i + 1) (show nI i + 1 = nI (i + 1) from nI_add i 1) (by omega) (by omega) dL_law_346 ?_
  refine lv_aload_n C0.1 C0.2.1 dL_law_347 rfl (lv_at hl 0 rfl) ?_
  refine lv_iload_n C0.1 C0.2.1 dL_law_348 rfl (lv_at hl 3 rfl) ?_
  refine lv_iconst (v := 2) C0.1 C0.2.1 dL_law_349 (by decide) ?_
  refine lv_iadd C0.1 C0.2.1 dL_law_350 ?_
  refine ww_sld C0 hX hbl hbA hs (j := i + 2) (show nI i + 2 = nI (i + 2) from nI_add i 2) (by omega) (by omega) dL_law_351 ?_
  refine go_lx_choice C0 hl.1 ⟨Nat.le_of_ble_eq_true rfl, Nat.le_of_ble_eq_true rfl, Nat.le_of_ble_eq_true rfl, Nat.le_of_ble_eq_true rfl⟩ (Nat.le_of_ble_eq_true rfl) hK hP hD hs (fun _ h => h) ok.1 dL_law_352 (fun H locs hP hD hs => ?_)
  refine lv_aload_n C0.1 C0.2.1 dL_law_355 rfl (lv_at hl 2 rfl) ?_
  refine lv_aload_n C0.1 C0.2.1 dL_law_356 rfl (lv_at hl 0 rfl) ?_
  refine lv_iload_n C0.1 C0.2.1 dL_law_357 rfl (lv_at hl 3 rfl) ?_
  refine lv_iconst (v := 1) C0.1 C0.2.1 dL_law_358 (by decide) ?_
  refine lv_iadd C0.1 C0.2.1 dL_law_359 ?_
  refine ww_sld C0 hX hbl hbA hs (j := i + 1) (show nI i + 1 = nI (i + 1) from nI_add i 1) (by omega) (by omega) dL_law_360 ?_
  refine lv_aload_n C0.1 C0.2.1 dL_law_361 rfl (lv_at hl 0 rfl) ?_
  refine lv_iload_n C0.1 C0.2.1 dL_law_362 rfl (lv_at hl 3 rfl) ?_
  refine lv_iconst (v := 2) C0.1 C0.2.1 dL_law_363 (by decide) ?_
  refine lv_iadd C0.1 C0.2.1 dL_law_364 ?_
  refine ww_sld C0 hX hbl hbA hs (j := i + 2) (show nI i + 2 = nI (i + 2) from nI_add i 2) (by omega) (by omega) dL_law_365 ?_
  refine go_lm_choice C0 hl.1 ⟨Nat.le_of_ble_eq_true rfl, Nat.le_of_ble_eq_true rfl, Nat.le_of_ble_eq_true rfl, Nat.le_of_ble_eq_true rfl⟩ (Nat.le_of_ble_eq_true rfl) hK (G := G) hP hD hs (fun _ h => h) ok.1 dL_law_366 (fun H locs hP hD hs => ?_)
  refine lv_icmp_eq (tgt := 749) C0.1 C0.2.1 dL_law_369 (by decide) (fun cc => ?_) (fun cc => ?_)
  · exact next _ _ _ _ (ok_choice ok _ _) H locs hP hD hs ls hl
  · exact absurd rfl cc
set_option maxHeartbeats 4000000 in
set_option maxRecDepth 100000 in
/-- case 8: loop -/
theorem law_c8 {p : Program} {l : Launch} {e : Env} {s : State} {m : MethodId} {below : List Frame} {meth : Method} {c : Code} {Q : State → Prop} {D : va_G} {d : ClassId} {h0 hE hS hG n0 nE nS b L : Nat} {xs : Nat → Int32} {i : Nat} (C0 : CallFix p m c cL_law 4 s #[Value.ref b] lw_all R_law) (hX : va_X b L xs s s.heap) (hbl : b < s.heap.size) (hL : L ≤ 256) (hi : i + 4 ≤ L) (hK : va_K D vwCl [(d, .long)] s) (next : law_at p l e s m below meth c Q D d h0 hE hS hG n0 nE nS b i 749) : law_at p l e s m below meth c Q D d h0 hE hS hG n0 nE nS b i 374 := by
  intro E S G k ok H locs hP hD hs ls hl
  have hbA : ¬ s.heap.size ≤ b := by omega
  refine lv_aload_n C0.1 C0.2.1 dL_law_374 rfl (lv_at hl 1 rfl) ?_
  refine lv_aload_n C0.1 C0.2.1 dL_law_375 rfl (lv_at hl 0 rfl) ?_
  refine lv_iload_n C0.1 C0.2.1 dL_law_376 rfl (lv_at hl 3 rfl) ?_
  refine lv_iconst (v := 1) C0.1 C0.2.1 dL_law_377 (by decide) ?_
  refine lv_iadd C0.1 C0.2.1 dL_law_378 ?_
  refine ww_sld C0 hX hbl hbA hs (j := i + 1) (show nI i + 1 = nI (i + 1) from nI_add i 1) (by omega) (by omega) dL_law_379 ?_
  refine lv_aload_n C0.1 C0.2.1 dL_law_380 rfl (lv_at hl 0 rfl) ?_
  refine lv_iload_n C0.1 C0.2.1 dL_law_381 rfl (lv_at hl 3 rfl) ?_
  refine lv_iconst (v := 2) C0.1 C0.2.1 dL_law_382 (by decide) ?_
  refine lv_iadd C0.1 C0.2.1 dL_law_383 ?_
  refine ww_sld C0 hX hbl hbA hs (j := i + 2) (show nI i + 2 = nI (i + 2) from nI_add i 2) (by omega) (by omega) dL_law_384 ?_
  refine go_lx_loop C0 hl.1 ⟨Nat.le_of_ble_eq_true rfl, Nat.le_of_ble_eq_true rfl, Nat.le_of_ble_eq_true rfl, Nat.le_of_ble_eq_true rfl⟩ (Nat.le_of_ble_eq_true rfl) hK hP hD hs (fun _ h => h) ok.1 dL_law_385 (fun H locs hP hD hs => ?_)
  refine lv_aload_n C0.1 C0.2.1 dL_law_388 rfl (lv_at hl 2 rfl) ?_
  refine lv_aload_n C0.1 C0.2.1 dL_law_389 rfl (lv_at hl 0 rfl) ?_
  refine lv_iload_n C0.1 C0.2.1 dL_law_390 rfl (lv_at hl 3 rfl) ?_
  refine lv_iconst (v := 1) C0.1 C0.2.1 dL_law_391 (by decide) ?_
  refine lv_iadd C0.1 C0.2.1 dL_law_392 ?_
  refine ww_sld C0 hX hbl hbA hs (j := i + 1) (show nI i + 1 = nI (i + 1) from nI_add i 1) (by omega) (by omega) dL_law_393 ?_
  refine lv_aload_n C0.1 C0.2.1 dL_law_394 rfl (lv_at hl 0 rfl) ?_
  refine lv_iload_n C0.1 C0.2.1 dL_law_395 rfl (lv_at hl 3 rfl) ?_
  refine lv_iconst (v := 2) C0.1 C0.2.1 dL_law_396 (by decide) ?_
  refine lv_iadd C0.1 C0.2.1 dL_law_397 ?_
  refine ww_sld C0 hX hbl hbA hs (j := i + 2) (show nI i + 2 = nI (i + 2) from nI_add i 2) (by omega) (by omega) dL_law_398 ?_
  refine go_lm_loop C0 hl.1 ⟨Nat.le_of_ble_eq_true rfl, Nat.le_of_ble_eq_true rfl, Nat.le_of_ble_eq_true rfl, Nat.le_of_ble_eq_true rfl⟩ (Nat.le_of_ble_eq_true rfl) hK (G := G) hP hD hs (fun _ h => h) ok.1 dL_law_399 (fun H locs hP hD hs => ?_)
  refine lv_icmp_eq (tgt := 749) C0.1 C0.2.1 dL_law_402 (by decide) (fun cc => ?_) (fun cc => ?_)
  · exact next _ _ _ _ (ok_loop ok _ _) H locs hP hD hs ls hl
  · exact absurd rfl cc
set_option maxHeartbeats 4000000 in
set_option maxRecDepth 100000 in
/-- case 9: programs -/
theorem law_c9 {p : Program} {l : Launch} {e : Env} {s : State} {m : MethodId} {below : List Frame} {meth : Method} {c : Code} {Q : State → Prop} {D : va_G} {d : ClassId} {h0 hE hS hG n0 nE nS b L : Nat} {xs : Nat → Int32} {i : Nat} (C0 : CallFix p m c cL_law 4 s #[Value.ref b] lw_all R_law) (hX : va_X b L xs s s.heap) (hbl : b < s.heap.size) (hL : L ≤ 256) (hi : i + 4 ≤ L) (hK : va_K D vwCl [(d, .long)] s) (next : law_at p l e s m below meth c Q D d h0 hE hS hG n0 nE nS b i 749) : law_at p l e s m below meth c Q D d h0 hE hS hG n0 nE nS b i 407 := by
  intro E S G k ok H locs hP hD hs ls hl
  have hbA : ¬ s.heap.size ≤ b := by omega
  have hPx : va_P D vwCl (gX h0 hE hS hG d E S G k) H := hP.sub [0, 1, 2, 3] rfl
  have hPm : va_P D vwCl (gM n0 nE nS d E S (G 0) (G 1) k) H := hP.sub [4, 5, 6] rfl
  refine lv_aload_n C0.1 C0.2.1 dL_law_407 rfl (lv_at hl 1 rfl) ?_
  refine go_lx_programs C0 hl.1 ⟨Nat.le_of_ble_eq_true rfl, Nat.le_of_ble_eq_true rfl, Nat.le_of_ble_eq_true rfl, Nat.le_of_ble_eq_true rfl⟩ (Nat.le_of_ble_eq_true rfl) hK hPx dL_law_408 ?_
  refine lv_aload_n C0.1 C0.2.1 dL_law_411 rfl (lv_at hl 2 rfl) ?_
  refine go_lm_programs C0 hl.1 ⟨Nat.le_of_ble_eq_true rfl, Nat.le_of_ble_eq_true rfl, Nat.le_of_ble_eq_true rfl, Nat.le_of_ble_eq_true rfl⟩ (Nat.le_of_ble_eq_true rfl) hK (G := G) hPm dL_law_412 ?_
  refine lv_icmp_eq (tgt := 749) C0.1 C0.2.1 dL_law_415 (by decide) (fun cc => ?_) (fun cc => ?_)
  · exact next E S G k ok H locs hP hD hs ls hl
  · exact absurd rfl cc
set_option maxHeartbeats 4000000 in
set_option maxRecDepth 100000 in
/-- case 10: ends -/
theorem law_c10 {p : Program} {l : Launch} {e : Env} {s : State} {m : MethodId} {below : List Frame} {meth : Method} {c : Code} {Q : State → Prop} {D : va_G} {d : ClassId} {h0 hE hS hG n0 nE nS b L : Nat} {xs : Nat → Int32} {i : Nat} (C0 : CallFix p m c cL_law 4 s #[Value.ref b] lw_all R_law) (hX : va_X b L xs s s.heap) (hbl : b < s.heap.size) (hL : L ≤ 256) (hi : i + 4 ≤ L) (hK : va_K D vwCl [(d, .long)] s) (next : law_at p l e s m below meth c Q D d h0 hE hS hG n0 nE nS b i 749) : law_at p l e s m below meth c Q D d h0 hE hS hG n0 nE nS b i 420 := by
  intro E S G k ok H locs hP hD hs ls hl
  have hbA : ¬ s.heap.size ≤ b := by omega
  have hPx : va_P D vwCl (gX h0 hE hS hG d E S G k) H := hP.sub [0, 1, 2, 3] rfl
  have hPm : va_P D vwCl (gM n0 nE nS d E S (G 0) (G 1) k) H := hP.sub [4, 5, 6] rfl
  refine lv_aload_n C0.1 C0.2.1 dL_law_420 rfl (lv_at hl 1 rfl) ?_
  refine lv_aload_n C0.1 C0.2.1 dL_law_421 rfl (lv_at hl 0 rfl) ?_
  refine lv_iload_n C0.1 C0.2.1 dL_law_422 rfl (lv_at hl 3 rfl) ?_
  refine lv_iconst (v := 1) C0.1 C0.2.1 dL_law_423 (by decide) ?_
  refine lv_iadd C0.1 C0.2.1 dL_law_424 ?_
  refine ww_sld C0 hX hbl hbA hs (j := i + 1) (show nI i + 1 = nI (i + 1) from nI_add i 1) (by omega) (by omega) dL_law_425 ?_
  refine lv_aload_n C0.1 C0.2.1 dL_law_426 rfl (lv_at hl 0 rfl) ?_
  refine lv_iload_n C0.1 C0.2.1 dL_law_427 rfl (lv_at hl 3 rfl) ?_
  refine lv_iconst (v := 2) C0.1 C0.2.1 dL_law_428 (by decide) ?_
  refine lv_iadd C0.1 C0.2.1 dL_law_429 ?_
  refine ww_sld C0 hX hbl hbA hs (j := i + 2) (show nI i + 2 = nI (i + 2) from nI_add i 2) (by omega) (by omega) dL_law_430 ?_
  refine go_lx_ends C0 hl.1 ⟨Nat.le_of_ble_eq_true rfl, Nat.le_of_ble_eq_true rfl, Nat.le_of_ble_eq_true rfl, Nat.le_of_ble_eq_true rfl⟩ (Nat.le_of_ble_eq_true rfl) hK hPx ok.1 dL_law_431 ?_
  refine lv_aload_n C0.1 C0.2.1 dL_law_434 rfl (lv_at hl 2 rfl) ?_
  refine lv_aload_n C0.1 C0.2.1 dL_law_435 rfl (lv_at hl 0 rfl) ?_
  refine lv_iload_n C0.1 C0.2.1 dL_law_436 rfl (lv_at hl 3 rfl) ?_
  refine lv_iconst (v := 1) C0.1 C0.2.1 dL_law_437 (by decide) ?_
  refine lv_iadd C0.1 C0.2.1 dL_law_438 ?_
  refine ww_sld C0 hX hbl hbA hs (j := i + 1) (show nI i + 1 = nI (i + 1) from nI_add i 1) (by omega) (by omega) dL_law_439 ?_
  refine lv_aload_n C0.1 C0.2.1 dL_law_440 rfl (lv_at hl 0 rfl) ?_
  refine lv_iload_n C0.1 C0.2.1 dL_law_441 rfl (lv_at hl 3 rfl) ?_
  refine lv_iconst (v := 2) C0.1 C0.2.1 dL_law_442 (by decide) ?_
  refine lv_iadd C0.1 C0.2.1 dL_law_443 ?_
  refine ww_sld C0 hX hbl hbA hs (j := i + 2) (show nI i + 2 = nI (i + 2) from nI_add i 2) (by omega) (by omega) dL_law_444 ?_
  refine go_lm_ends C0 hl.1 ⟨Nat.le_of_ble_eq_true rfl, Nat.le_of_ble_eq_true rfl, Nat.le_of_ble_eq_true rfl, Nat.le_of_ble_eq_true rfl⟩ (Nat.le_of_ble_eq_true rfl) hK (G := G) hPm ok.1 dL_law_445 ?_
  refine W.lcmp C0.1 C0.2.1 dL_law_448 ?_
  refine lv_if_eq (tgt := 749) C0.1 C0.2.1 dL_law_449 (by decide) (fun cc => ?_) (fun cc => ?_)
  · exact next E S G k ok H locs hP hD hs ls hl
  · exact absurd ((lg_cmp_eq _ _).mpr rfl) cc
set_option maxHeartbeats 4000000 in
set_option maxRecDepth 100000 in
/-- case 11: sure -/
theorem law_c11 {p : Program} {l : Launch} {e : Env} {s : State} {m : MethodId} {below : List Frame} {meth : Method} {c : Code} {Q : State → Prop} {D : va_G} {d : ClassId} {h0 hE hS hG n0 nE nS b L : Nat} {xs : Nat → Int32} {i : Nat} (C0 : CallFix p m c cL_law 4 s #[Value.ref b] lw_all R_law) (hX : va_X b L xs s s.heap) (hbl : b < s.heap.size) (hL : L ≤ 256) (hi : i + 4 ≤ L) (hK : va_K D vwCl [(d, .long)] s) (next : law_at p l e s m below meth c Q D d h0 hE hS hG n0 nE nS b i 749) : law_at p l e s m below meth c Q D d h0 hE hS hG n0 nE nS b i 454 := by
  intro E S G k ok H locs hP hD hs ls hl
  have hbA : ¬ s.heap.size ≤ b := by omega
  have hPx : va_P D vwCl (gX h0 hE hS hG d E S G k) H := hP.sub [0, 1, 2, 3] rfl
  have hPm : va_P D vwCl (gM n0 nE nS d E S (G 0) (G 1) k) H := hP.sub [4, 5, 6] rfl
  refine lv_aload_n C0.1 C0.2.1 dL_law_454 rfl (lv_at hl 1 rfl) ?_
  refine lv_aload_n C0.1 C0.2.1 dL_law_455 rfl (lv_at hl 0 rfl) ?_
  refine lv_iload_n C0.1 C0.2.1 dL_law_456 rfl (lv_at hl 3 rfl) ?_
  refine lv_iconst (v := 1) C0.1 C0.2.1 dL_law_457 (by decide) ?_
  refine lv_iadd C0.1 C0.2.1 dL_law_458 ?_
  refine ww_sld C0 hX hbl hbA hs (j := i + 1) (show nI i + 1 = nI (i + 1) from nI_add i 1) (by omega) (by omega) dL_law_459 ?_
  refine go_lx_sure C0 hl.1 ⟨Nat.le_of_ble_eq_true rfl, Nat.le_of_ble_eq_true rfl, Nat.le_of_ble_eq_true rfl, Nat.le_of_ble_eq_true rfl⟩ (Nat.le_of_ble_eq_true rfl) hK hPx ok.1 dL_law_460 ?_
  refine lv_aload_n C0.1 C0.2.1 dL_law_463 rfl (lv_at hl 2 rfl) ?_
  refine lv_aload_n C0.1 C0.2.1 dL_law_464 rfl (lv_at hl 0 rfl) ?_
  refine lv_iload_n C0.1 C0.2.1 dL_law_465 rfl (lv_at hl 3 rfl) ?_
  refine lv_iconst (v := 1) C0.1 C0.2.1 dL_law_466 (by decide) ?_
  refine lv_iadd C0.1 C0.2.1 dL_law_467 ?_
  refine ww_sld C0 hX hbl hbA hs (j := i + 1) (show nI i + 1 = nI (i + 1) from nI_add i 1) (by omega) (by omega) dL_law_468 ?_
  refine go_lm_sure C0 hl.1 ⟨Nat.le_of_ble_eq_true rfl, Nat.le_of_ble_eq_true rfl, Nat.le_of_ble_eq_true rfl, Nat.le_of_ble_eq_true rfl⟩ (Nat.le_of_ble_eq_true rfl) hK (G := G) hPm ok.1 dL_law_469 ?_
  refine W.lcmp C0.1 C0.2.1 dL_law_472 ?_
  refine lv_if_eq (tgt := 749) C0.1 C0.2.1 dL_law_473 (by decide) (fun cc => ?_) (fun cc => ?_)
  · exact next E S G k ok H locs hP hD hs ls hl
  · exact absurd ((lg_cmp_eq _ _).mpr rfl) cc
set_option maxHeartbeats 4000000 in
set_option maxRecDepth 100000 in
/-- case 12: demand -/
theorem law_c12 {p : Program} {l : Launch} {e : Env} {s : State} {m : MethodId} {below : List Frame} {meth : Method} {c : Code} {Q : State → Prop} {D : va_G} {d : ClassId} {h0 hE hS hG n0 nE nS b L : Nat} {xs : Nat → Int32} {i : Nat} (C0 : CallFix p m c cL_law 4 s #[Value.ref b] lw_all R_law) (hX : va_X b L xs s s.heap) (hbl : b < s.heap.size) (hL : L ≤ 256) (hi : i + 4 ≤ L) (hK : va_K D vwCl [(d, .long)] s) (next : law_at p l e s m below meth c Q D d h0 hE hS hG n0 nE nS b i 749) : law_at p l e s m below meth c Q D d h0 hE hS hG n0 nE nS b i 478 := by
  intro E S G k ok H locs hP hD hs ls hl
  have hbA : ¬ s.heap.size ≤ b := by omega
  have hPx : va_P D vwCl (gX h0 hE hS hG d E S G k) H := hP.sub [0, 1, 2, 3] rfl
  have hPm : va_P D vwCl (gM n0 nE nS d E S (G 0) (G 1) k) H := hP.sub [4, 5, 6] rfl
  refine lv_aload_n C0.1 C0.2.1 dL_law_478 rfl (lv_at hl 1 rfl) ?_
  refine lv_aload_n C0.1 C0.2.1 dL_law_479 rfl (lv_at hl 0 rfl) ?_
  refine lv_iload_n C0.1 C0.2.1 dL_law_480 rfl (lv_at hl 3 rfl) ?_
  refine lv_iconst (v := 1) C0.1 C0.2.1 dL_law_481 (by decide) ?_
  refine lv_iadd C0.1 C0.2.1 dL_law_482 ?_
  refine ww_sld C0 hX hbl hbA hs (j := i + 1) (show nI i + 1 = nI (i + 1) from nI_add i 1) (by omega) (by omega) dL_law_483 ?_
  refine lv_aload_n C0.1 C0.2.1 dL_law_484 rfl (lv_at hl 0 rfl) ?_
  refine lv_iload_n C0.1 C0.2.1 dL_law_485 rfl (lv_at hl 3 rfl) ?_
  refine lv_iconst (v := 2) C0.1 C0.2.1 dL_law_486 (by decide) ?_
  refine lv_iadd C0.1 C0.2.1 dL_law_487 ?_
  refine ww_sld C0 hX hbl hbA hs (j := i + 2) (show nI i + 2 = nI (i + 2) from nI_add i 2) (by omega) (by omega) dL_law_488 ?_
  refine lv_i2l (v := (xs (i + 2)).toInt64) C0.1 C0.2.1 dL_law_489 rfl ?_
  refine lv_bipush (v := nI 32) C0.1 C0.2.1 dL_law_490 (by decide) ?_
  refine lv_lshl (v := ((xs (i + 2)).toInt64) <<< ((nI 32).toInt64 &&& 63)) C0.1 C0.2.1 dL_law_492 rfl ?_
  refine lv_aload_n C0.1 C0.2.1 dL_law_493 rfl (lv_at hl 0 rfl) ?_
  refine lv_iload_n C0.1 C0.2.1 dL_law_494 rfl (lv_at hl 3 rfl) ?_
  refine lv_iconst (v := 3) C0.1 C0.2.1 dL_law_495 (by decide) ?_
  refine lv_iadd C0.1 C0.2.1 dL_law_496 ?_
  refine ww_sld C0 hX hbl hbA hs (j := i + 3) (show nI i + 3 = nI (i + 3) from nI_add i 3) (by omega) (by omega) dL_law_497 ?_
  refine lv_i2l (v := (xs (i + 3)).toInt64) C0.1 C0.2.1 dL_law_498 rfl ?_
  refine lv_ldc2 (v := 4294967295) C0.1 C0.2.1 C0.2.2.2.1 (C0.2.2.2.2 _ q307) dL_law_499 ?_
  refine lv_land C0.1 C0.2.1 dL_law_502 ?_
  refine lv_lor C0.1 C0.2.1 dL_law_503 ?_
  refine go_lx_demand C0 hl.1 ⟨Nat.le_of_ble_eq_true rfl, Nat.le_of_ble_eq_true rfl, Nat.le_of_ble_eq_true rfl, Nat.le_of_ble_eq_true rfl⟩ (Nat.le_of_ble_eq_true rfl) hK hPx ok.1 dL_law_504 ?_
  refine lv_aload_n C0.1 C0.2.1 dL_law_507 rfl (lv_at hl 2 rfl) ?_
  refine lv_aload_n C0.1 C0.2.1 dL_law_508 rfl (lv_at hl 0 rfl) ?_
  refine lv_iload_n C0.1 C0.2.1 dL_law_509 rfl (lv_at hl 3 rfl) ?_
  refine lv_iconst (v := 1) C0.1 C0.2.1 dL_law_510 (by decide) ?_
  refine lv_iadd C0.1 C0.2.1 dL_law_511 ?_
  refine ww_sld C0 hX hbl hbA hs (j := i + 1) (show nI i + 1 = nI (i + 1) from nI_add i 1) (by omega) (by omega) dL_law_512 ?_
  refine lv_aload_n C0.1 C0.2.1 dL_law_513 rfl (lv_at hl 0 rfl) ?_
  refine lv_iload_n C0.1 C0.2.1 dL_law_514 rfl (lv_at hl 3 rfl) ?_
  refine lv_iconst (v := 2) C0.1 C0.2.1 dL_law_515 (by decide) ?_
  refine lv_iadd C0.1 C0.2.1 dL_law_516 ?_
  refine ww_sld C0 hX hbl hbA hs (j := i + 2) (show nI i + 2 = nI (i + 2) from nI_add i 2) (by omega) (by omega) dL_law_517 ?_
  refine lv_i2l (v := (xs (i + 2)).toInt64) C0.1 C0.2.1 dL_law_518 rfl ?_
  refine lv_bipush (v := nI 32) C0.1 C0.2.1 dL_law_519 (by decide) ?_
  refine lv_lshl (v := ((xs (i + 2)).toInt64) <<< ((nI 32).toInt64 &&& 63)) C0.1 C0.2.1 dL_law_521 rfl ?_
  refine lv_aload_n C0.1 C0.2.1 dL_law_522 rfl (lv_at hl 0 rfl) ?_
  refine lv_iload_n C0.1 C0.2.1 dL_law_523 rfl (lv_at hl 3 rfl) ?_
  refine lv_iconst (v := 3) C0.1 C0.2.1 dL_law_524 (by decide) ?_
  refine lv_iadd C0.1 C0.2.1 dL_law_525 ?_
  refine ww_sld C0 hX hbl hbA hs (j := i + 3) (show nI i + 3 = nI (i + 3) from nI_add i 3) (by omega) (by omega) dL_law_526 ?_
  refine lv_i2l (v := (xs (i + 3)).toInt64) C0.1 C0.2.1 dL_law_527 rfl ?_
  refine lv_ldc2 (v := 4294967295) C0.1 C0.2.1 C0.2.2.2.1 (C0.2.2.2.2 _ q307) dL_law_528 ?_
  refine lv_land C0.1 C0.2.1 dL_law_531 ?_
  refine lv_lor C0.1 C0.2.1 dL_law_532 ?_
  refine go_lm_demand C0 hl.1 ⟨Nat.le_of_ble_eq_true rfl, Nat.le_of_ble_eq_true rfl, Nat.le_of_ble_eq_true rfl, Nat.le_of_ble_eq_true rfl⟩ (Nat.le_of_ble_eq_true rfl) hK (G := G) hPm ok.1 dL_law_533 ?_
  refine W.lcmp C0.1 C0.2.1 dL_law_536 ?_
  refine lv_if_eq (tgt := 749) C0.1 C0.2.1 dL_law_537 (by decide) (fun cc => ?_) (fun cc => ?_)
  · exact next E S G k ok H locs hP hD hs ls hl
  · exact absurd ((lg_cmp_eq _ _).mpr rfl) cc
set_option maxHeartbeats 4000000 in
set_option maxRecDepth 100000 in
/-- case 13: weakDemand -/
theorem law_c13 {p : Program} {l : Launch} {e : Env} {s : State} {m : MethodId} {below : List Frame} {meth : Method} {c : Code} {Q : State → Prop} {D : va_G} {d : ClassId} {h0 hE hS hG n0 nE nS b L : Nat} {xs : Nat → Int32} {i : Nat} (C0 : CallFix p m c cL_law 4 s #[Value.ref b] lw_all R_law) (hX : va_X b L xs s s.heap) (hbl : b < s.heap.size) (hL : L ≤ 256) (hi : i + 4 ≤ L) (hK : va_K D vwCl [(d, .long)] s) (next : law_at p l e s m below meth c Q D d h0 hE hS hG n0 nE nS b i 749) : law_at p l e s m below meth c Q D d h0 hE hS hG n0 nE nS b i 542 := by
  intro E S G k ok H locs hP hD hs ls hl
  have hbA : ¬ s.heap.size ≤ b := by omega
  have hPx : va_P D vwCl (gX h0 hE hS hG d E S G k) H := hP.sub [0, 1, 2, 3] rfl
  have hPm : va_P D vwCl (gM n0 nE nS d E S (G 0) (G 1) k) H := hP.sub [4, 5, 6] rfl
  refine lv_aload_n C0.1 C0.2.1 dL_law_542 rfl (lv_at hl 1 rfl) ?_
  refine lv_aload_n C0.1 C0.2.1 dL_law_543 rfl (lv_at hl 0 rfl) ?_
  refine lv_iload_n C0.1 C0.2.1 dL_law_544 rfl (lv_at hl 3 rfl) ?_
  refine lv_iconst (v := 1) C0.1 C0.2.1 dL_law_545 (by decide) ?_
  refine lv_iadd C0.1 C0.2.1 dL_law_546 ?_
  refine ww_sld C0 hX hbl hbA hs (j := i + 1) (show nI i + 1 = nI (i + 1) from nI_add i 1) (by omega) (by omega) dL_law_547 ?_
  refine lv_aload_n C0.1 C0.2.1 dL_law_548 rfl (lv_at hl 0 rfl) ?_
  refine lv_iload_n C0.1 C0.2.1 dL_law_549 rfl (lv_at hl 3 rfl) ?_
  refine lv_iconst (v := 2) C0.1 C0.2.1 dL_law_550 (by decide) ?_
  refine lv_iadd C0.1 C0.2.1 dL_law_551 ?_
  refine ww_sld C0 hX hbl hbA hs (j := i + 2) (show nI i + 2 = nI (i + 2) from nI_add i 2) (by omega) (by omega) dL_law_552 ?_
  refine lv_i2l (v := (xs (i + 2)).toInt64) C0.1 C0.2.1 dL_law_553 rfl ?_
  refine lv_bipush (v := nI 32) C0.1 C0.2.1 dL_law_554 (by decide) ?_
  refine lv_lshl (v := ((xs (i + 2)).toInt64) <<< ((nI 32).toInt64 &&& 63)) C0.1 C0.2.1 dL_law_556 rfl ?_
  refine lv_aload_n C0.1 C0.2.1 dL_law_557 rfl (lv_at hl 0 rfl) ?_
  refine lv_iload_n C0.1 C0.2.1 dL_law_558 rfl (lv_at hl 3 rfl) ?_
  refine lv_iconst (v := 3) C0.1 C0.2.1 dL_law_559 (by decide) ?_
  refine lv_iadd C0.1 C0.2.1 dL_law_560 ?_
  refine ww_sld C0 hX hbl hbA hs (j := i + 3) (show nI i + 3 = nI (i + 3) from nI_add i 3) (by omega) (by omega) dL_law_561 ?_
  refine lv_i2l (v := (xs (i + 3)).toInt64) C0.1 C0.2.1 dL_law_562 rfl ?_
  refine lv_ldc2 (v := 4294967295) C0.1 C0.2.1 C0.2.2.2.1 (C0.2.2.2.2 _ q307) dL_law_563 ?_
  refine lv_land C0.1 C0.2.1 dL_law_566 ?_
  refine lv_lor C0.1 C0.2.1 dL_law_567 ?_
  refine go_lx_weakDemand C0 hl.1 ⟨Nat.le_of_ble_eq_true rfl, Nat.le_of_ble_eq_true rfl, Nat.le_of_ble_eq_true rfl, Nat.le_of_ble_eq_true rfl⟩ (Nat.le_of_ble_eq_true rfl) hK hPx ok.1 dL_law_568 ?_
  refine lv_aload_n C0.1 C0.2.1 dL_law_571 rfl (lv_at hl 2 rfl) ?_
  refine lv_aload_n C0.1 C0.2.1 dL_law_572 rfl (lv_at hl 0 rfl) ?_
  refine lv_iload_n C0.1 C0.2.1 dL_law_573 rfl (lv_at hl 3 rfl) ?_
  refine lv_iconst (v := 1) C0.1 C0.2.1 dL_law_574 (by decide) ?_
  refine lv_iadd C0.1 C0.2.1 dL_law_575 ?_
  refine ww_sld C0 hX hbl hbA hs (j := i + 1) (show nI i + 1 = nI (i + 1) from nI_add i 1) (by omega) (by omega) dL_law_576 ?_
  refine lv_aload_n C0.1 C0.2.1 dL_law_577 rfl (lv_at hl 0 rfl) ?_
  refine lv_iload_n C0.1 C0.2.1 dL_law_578 rfl (lv_at hl 3 rfl) ?_
  refine lv_iconst (v := 2) C0.1 C0.2.1 dL_law_579 (by decide) ?_
  refine lv_iadd C0.1 C0.2.1 dL_law_580 ?_
  refine ww_sld C0 hX hbl hbA hs (j := i + 2) (show nI i + 2 = nI (i + 2) from nI_add i 2) (by omega) (by omega) dL_law_581 ?_
  refine lv_i2l (v := (xs (i + 2)).toInt64) C0.1 C0.2.1 dL_law_582 rfl ?_
  refine lv_bipush (v := nI 32) C0.1 C0.2.1 dL_law_583 (by decide) ?_
  refine lv_lshl (v := ((xs (i + 2)).toInt64) <<< ((nI 32).toInt64 &&& 63)) C0.1 C0.2.1 dL_law_585 rfl ?_
  refine lv_aload_n C0.1 C0.2.1 dL_law_586 rfl (lv_at hl 0 rfl) ?_
  refine lv_iload_n C0.1 C0.2.1 dL_law_587 rfl (lv_at hl 3 rfl) ?_
  refine lv_iconst (v := 3) C0.1 C0.2.1 dL_law_588 (by decide) ?_
  refine lv_iadd C0.1 C0.2.1 dL_law_589 ?_
  refine ww_sld C0 hX hbl hbA hs (j := i + 3) (show nI i + 3 = nI (i + 3) from nI_add i 3) (by omega) (by omega) dL_law_590 ?_
  refine lv_i2l (v := (xs (i + 3)).toInt64) C0.1 C0.2.1 dL_law_591 rfl ?_
  refine lv_ldc2 (v := 4294967295) C0.1 C0.2.1 C0.2.2.2.1 (C0.2.2.2.2 _ q307) dL_law_592 ?_
  refine lv_land C0.1 C0.2.1 dL_law_595 ?_
  refine lv_lor C0.1 C0.2.1 dL_law_596 ?_
  refine go_lm_weakDemand C0 hl.1 ⟨Nat.le_of_ble_eq_true rfl, Nat.le_of_ble_eq_true rfl, Nat.le_of_ble_eq_true rfl, Nat.le_of_ble_eq_true rfl⟩ (Nat.le_of_ble_eq_true rfl) hK (G := G) hPm ok.1 dL_law_597 ?_
  refine W.lcmp C0.1 C0.2.1 dL_law_600 ?_
  refine lv_if_eq (tgt := 749) C0.1 C0.2.1 dL_law_601 (by decide) (fun cc => ?_) (fun cc => ?_)
  · exact next E S G k ok H locs hP hD hs ls hl
  · exact absurd ((lg_cmp_eq _ _).mpr rfl) cc
set_option maxHeartbeats 4000000 in
set_option maxRecDepth 100000 in
/-- case 14: image -/
theorem law_c14 {p : Program} {l : Launch} {e : Env} {s : State} {m : MethodId} {below : List Frame} {meth : Method} {c : Code} {Q : State → Prop} {D : va_G} {d : ClassId} {h0 hE hS hG n0 nE nS b L : Nat} {xs : Nat → Int32} {i : Nat} (C0 : CallFix p m c cL_law 4 s #[Value.ref b] lw_all R_law) (hX : va_X b L xs s s.heap) (hbl : b < s.heap.size) (hL : L ≤ 256) (hi : i + 4 ≤ L) (hK : va_K D vwCl [(d, .long)] s) (next : law_at p l e s m below meth c Q D d h0 hE hS hG n0 nE nS b i 749) : law_at p l e s m below meth c Q D d h0 hE hS hG n0 nE nS b i 606 := by
  intro E S G k ok H locs hP hD hs ls hl
  have hbA : ¬ s.heap.size ≤ b := by omega
  have hPx : va_P D vwCl (gX h0 hE hS hG d E S G k) H := hP.sub [0, 1, 2, 3] rfl
  have hPm : va_P D vwCl (gM n0 nE nS d E S (G 0) (G 1) k) H := hP.sub [4, 5, 6] rfl
  refine lv_aload_n C0.1 C0.2.1 dL_law_606 rfl (lv_at hl 1 rfl) ?_
  refine lv_aload_n C0.1 C0.2.1 dL_law_607 rfl (lv_at hl 0 rfl) ?_
  refine lv_iload_n C0.1 C0.2.1 dL_law_608 rfl (lv_at hl 3 rfl) ?_
  refine lv_iconst (v := 1) C0.1 C0.2.1 dL_law_609 (by decide) ?_
  refine lv_iadd C0.1 C0.2.1 dL_law_610 ?_
  refine ww_sld C0 hX hbl hbA hs (j := i + 1) (show nI i + 1 = nI (i + 1) from nI_add i 1) (by omega) (by omega) dL_law_611 ?_
  refine lv_aload_n C0.1 C0.2.1 dL_law_612 rfl (lv_at hl 0 rfl) ?_
  refine lv_iload_n C0.1 C0.2.1 dL_law_613 rfl (lv_at hl 3 rfl) ?_
  refine lv_iconst (v := 2) C0.1 C0.2.1 dL_law_614 (by decide) ?_
  refine lv_iadd C0.1 C0.2.1 dL_law_615 ?_
  refine ww_sld C0 hX hbl hbA hs (j := i + 2) (show nI i + 2 = nI (i + 2) from nI_add i 2) (by omega) (by omega) dL_law_616 ?_
  refine lv_i2l (v := (xs (i + 2)).toInt64) C0.1 C0.2.1 dL_law_617 rfl ?_
  refine lv_bipush (v := nI 32) C0.1 C0.2.1 dL_law_618 (by decide) ?_
  refine lv_lshl (v := ((xs (i + 2)).toInt64) <<< ((nI 32).toInt64 &&& 63)) C0.1 C0.2.1 dL_law_620 rfl ?_
  refine lv_aload_n C0.1 C0.2.1 dL_law_621 rfl (lv_at hl 0 rfl) ?_
  refine lv_iload_n C0.1 C0.2.1 dL_law_622 rfl (lv_at hl 3 rfl) ?_
  refine lv_iconst (v := 3) C0.1 C0.2.1 dL_law_623 (by decide) ?_
  refine lv_iadd C0.1 C0.2.1 dL_law_624 ?_
  refine ww_sld C0 hX hbl hbA hs (j := i + 3) (show nI i + 3 = nI (i + 3) from nI_add i 3) (by omega) (by omega) dL_law_625 ?_
  refine lv_i2l (v := (xs (i + 3)).toInt64) C0.1 C0.2.1 dL_law_626 rfl ?_
  refine lv_ldc2 (v := 4294967295) C0.1 C0.2.1 C0.2.2.2.1 (C0.2.2.2.2 _ q307) dL_law_627 ?_
  refine lv_land C0.1 C0.2.1 dL_law_630 ?_
  refine lv_lor C0.1 C0.2.1 dL_law_631 ?_
  refine go_lx_image C0 hl.1 ⟨Nat.le_of_ble_eq_true rfl, Nat.le_of_ble_eq_true rfl, Nat.le_of_ble_eq_true rfl, Nat.le_of_ble_eq_true rfl⟩ (Nat.le_of_ble_eq_true rfl) hK hPx ok.1 dL_law_632 ?_
  refine lv_aload_n C0.1 C0.2.1 dL_law_635 rfl (lv_at hl 2 rfl) ?_
  refine lv_aload_n C0.1 C0.2.1 dL_law_636 rfl (lv_at hl 0 rfl) ?_
  refine lv_iload_n C0.1 C0.2.1 dL_law_637 rfl (lv_at hl 3 rfl) ?_
  refine lv_iconst (v := 1) C0.1 C0.2.1 dL_law_638 (by decide) ?_
  refine lv_iadd C0.1 C0.2.1 dL_law_639 ?_
  refine ww_sld C0 hX hbl hbA hs (j := i + 1) (show nI i + 1 = nI (i + 1) from nI_add i 1) (by omega) (by omega) dL_law_640 ?_
  refine lv_aload_n C0.1 C0.2.1 dL_law_641 rfl (lv_at hl 0 rfl) ?_
  refine lv_iload_n C0.1 C0.2.1 dL_law_642 rfl (lv_at hl 3 rfl) ?_
  refine lv_iconst (v := 2) C0.1 C0.2.1 dL_law_643 (by decide) ?_
  refine lv_iadd C0.1 C0.2.1 dL_law_644 ?_
  refine ww_sld C0 hX hbl hbA hs (j := i + 2) (show nI i + 2 = nI (i + 2) from nI_add i 2) (by omega) (by omega) dL_law_645 ?_
  refine lv_i2l (v := (xs (i + 2)).toInt64) C0.1 C0.2.1 dL_law_646 rfl ?_
  refine lv_bipush (v := nI 32) C0.1 C0.2.1 dL_law_647 (by decide) ?_
  refine lv_lshl (v := ((xs (i + 2)).toInt64) <<< ((nI 32).toInt64 &&& 63)) C0.1 C0.2.1 dL_law_649 rfl ?_
  refine lv_aload_n C0.1 C0.2.1 dL_law_650 rfl (lv_at hl 0 rfl) ?_
  refine lv_iload_n C0.1 C0.2.1 dL_law_651 rfl (lv_at hl 3 rfl) ?_
  refine lv_iconst (v := 3) C0.1 C0.2.1 dL_law_652 (by decide) ?_
  refine lv_iadd C0.1 C0.2.1 dL_law_653 ?_
  refine ww_sld C0 hX hbl hbA hs (j := i + 3) (show nI i + 3 = nI (i + 3) from nI_add i 3) (by omega) (by omega) dL_law_654 ?_
  refine lv_i2l (v := (xs (i + 3)).toInt64) C0.1 C0.2.1 dL_law_655 rfl ?_
  refine lv_ldc2 (v := 4294967295) C0.1 C0.2.1 C0.2.2.2.1 (C0.2.2.2.2 _ q307) dL_law_656 ?_
  refine lv_land C0.1 C0.2.1 dL_law_659 ?_
  refine lv_lor C0.1 C0.2.1 dL_law_660 ?_
  refine go_lm_image C0 hl.1 ⟨Nat.le_of_ble_eq_true rfl, Nat.le_of_ble_eq_true rfl, Nat.le_of_ble_eq_true rfl, Nat.le_of_ble_eq_true rfl⟩ (Nat.le_of_ble_eq_true rfl) hK (G := G) hPm ok.1 dL_law_661 ?_
  refine W.lcmp C0.1 C0.2.1 dL_law_664 ?_
  refine lv_if_eq (tgt := 749) C0.1 C0.2.1 dL_law_665 (by decide) (fun cc => ?_) (fun cc => ?_)
  · exact next E S G k ok H locs hP hD hs ls hl
  · exact absurd ((lg_cmp_eq _ _).mpr rfl) cc
set_option maxHeartbeats 4000000 in
set_option maxRecDepth 100000 in
/-- case 15: refines -/
theorem law_c15 {p : Program} {l : Launch} {e : Env} {s : State} {m : MethodId} {below : List Frame} {meth : Method} {c : Code} {Q : State → Prop} {D : va_G} {d : ClassId} {h0 hE hS hG n0 nE nS b L : Nat} {xs : Nat → Int32} {i : Nat} (C0 : CallFix p m c cL_law 4 s #[Value.ref b] lw_all R_law) (hX : va_X b L xs s s.heap) (hbl : b < s.heap.size) (hL : L ≤ 256) (hi : i + 4 ≤ L) (hK : va_K D vwCl [(d, .long)] s) (next : law_at p l e s m below meth c Q D d h0 hE hS hG n0 nE nS b i 749) : law_at p l e s m below meth c Q D d h0 hE hS hG n0 nE nS b i 670 := by
  intro E S G k ok H locs hP hD hs ls hl
  have hbA : ¬ s.heap.size ≤ b := by omega
  have hPx : va_P D vwCl (gX h0 hE hS hG d E S G k) H := hP.sub [0, 1, 2, 3] rfl
  have hPm : va_P D vwCl (gM n0 nE nS d E S (G 0) (G 1) k) H := hP.sub [4, 5, 6] rfl
  refine lv_aload_n C0.1 C0.2.1 dL_law_670 rfl (lv_at hl 1 rfl) ?_
  refine lv_aload_n C0.1 C0.2.1 dL_law_671 rfl (lv_at hl 0 rfl) ?_
  refine lv_iload_n C0.1 C0.2.1 dL_law_672 rfl (lv_at hl 3 rfl) ?_
  refine lv_iconst (v := 1) C0.1 C0.2.1 dL_law_673 (by decide) ?_
  refine lv_iadd C0.1 C0.2.1 dL_law_674 ?_
  refine ww_sld C0 hX hbl hbA hs (j := i + 1) (show nI i + 1 = nI (i + 1) from nI_add i 1) (by omega) (by omega) dL_law_675 ?_
  refine lv_aload_n C0.1 C0.2.1 dL_law_676 rfl (lv_at hl 0 rfl) ?_
  refine lv_iload_n C0.1 C0.2.1 dL_law_677 rfl (lv_at hl 3 rfl) ?_
  refine lv_iconst (v := 2) C0.1 C0.2.1 dL_law_678 (by decide) ?_
  refine lv_iadd C0.1 C0.2.1 dL_law_679 ?_
  refine ww_sld C0 hX hbl hbA hs (j := i + 2) (show nI i + 2 = nI (i + 2) from nI_add i 2) (by omega) (by omega) dL_law_680 ?_
  refine go_lx_refines C0 hl.1 ⟨Nat.le_of_ble_eq_true rfl, Nat.le_of_ble_eq_true rfl, Nat.le_of_ble_eq_true rfl, Nat.le_of_ble_eq_true rfl⟩ (Nat.le_of_ble_eq_true rfl) hK hPx ok.1 dL_law_681 ?_
  refine lv_aload_n C0.1 C0.2.1 dL_law_684 rfl (lv_at hl 2 rfl) ?_
  refine lv_aload_n C0.1 C0.2.1 dL_law_685 rfl (lv_at hl 0 rfl) ?_
  refine lv_iload_n C0.1 C0.2.1 dL_law_686 rfl (lv_at hl 3 rfl) ?_
  refine lv_iconst (v := 1) C0.1 C0.2.1 dL_law_687 (by decide) ?_
  refine lv_iadd C0.1 C0.2.1 dL_law_688 ?_
  refine ww_sld C0 hX hbl hbA hs (j := i + 1) (show nI i + 1 = nI (i + 1) from nI_add i 1) (by omega) (by omega) dL_law_689 ?_
  refine lv_aload_n C0.1 C0.2.1 dL_law_690 rfl (lv_at hl 0 rfl) ?_
  refine lv_iload_n C0.1 C0.2.1 dL_law_691 rfl (lv_at hl 3 rfl) ?_
  refine lv_iconst (v := 2) C0.1 C0.2.1 dL_law_692 (by decide) ?_
  refine lv_iadd C0.1 C0.2.1 dL_law_693 ?_
  refine ww_sld C0 hX hbl hbA hs (j := i + 2) (show nI i + 2 = nI (i + 2) from nI_add i 2) (by omega) (by omega) dL_law_694 ?_
  refine go_lm_refines C0 hl.1 ⟨Nat.le_of_ble_eq_true rfl, Nat.le_of_ble_eq_true rfl, Nat.le_of_ble_eq_true rfl, Nat.le_of_ble_eq_true rfl⟩ (Nat.le_of_ble_eq_true rfl) hK (G := G) hPm ok.1 dL_law_695 ?_
  refine lv_icmp_eq (tgt := 749) C0.1 C0.2.1 dL_law_698 (by decide) (fun cc => ?_) (fun cc => ?_)
  · exact next E S G k ok H locs hP hD hs ls hl
  · exact absurd rfl cc
set_option maxHeartbeats 4000000 in
set_option maxRecDepth 100000 in
/-- case 16: settled -/
theorem law_c16 {p : Program} {l : Launch} {e : Env} {s : State} {m : MethodId} {below : List Frame} {meth : Method} {c : Code} {Q : State → Prop} {D : va_G} {d : ClassId} {h0 hE hS hG n0 nE nS b L : Nat} {xs : Nat → Int32} {i : Nat} (C0 : CallFix p m c cL_law 4 s #[Value.ref b] lw_all R_law) (hX : va_X b L xs s s.heap) (hbl : b < s.heap.size) (hL : L ≤ 256) (hi : i + 4 ≤ L) (hK : va_K D vwCl [(d, .long)] s) (next : law_at p l e s m below meth c Q D d h0 hE hS hG n0 nE nS b i 749) : law_at p l e s m below meth c Q D d h0 hE hS hG n0 nE nS b i 703 := by
  intro E S G k ok H locs hP hD hs ls hl
  have hbA : ¬ s.heap.size ≤ b := by omega
  have hPx : va_P D vwCl (gX h0 hE hS hG d E S G k) H := hP.sub [0, 1, 2, 3] rfl
  have hPm : va_P D vwCl (gM n0 nE nS d E S (G 0) (G 1) k) H := hP.sub [4, 5, 6] rfl
  refine lv_aload_n C0.1 C0.2.1 dL_law_703 rfl (lv_at hl 1 rfl) ?_
  refine lv_aload_n C0.1 C0.2.1 dL_law_704 rfl (lv_at hl 0 rfl) ?_
  refine lv_iload_n C0.1 C0.2.1 dL_law_705 rfl (lv_at hl 3 rfl) ?_
  refine lv_iconst (v := 1) C0.1 C0.2.1 dL_law_706 (by decide) ?_
  refine lv_iadd C0.1 C0.2.1 dL_law_707 ?_
  refine ww_sld C0 hX hbl hbA hs (j := i + 1) (show nI i + 1 = nI (i + 1) from nI_add i 1) (by omega) (by omega) dL_law_708 ?_
  refine go_lx_settled C0 hl.1 ⟨Nat.le_of_ble_eq_true rfl, Nat.le_of_ble_eq_true rfl, Nat.le_of_ble_eq_true rfl, Nat.le_of_ble_eq_true rfl⟩ (Nat.le_of_ble_eq_true rfl) hK hPx ok.1 ok.2 dL_law_709 ?_
  refine lv_aload_n C0.1 C0.2.1 dL_law_712 rfl (lv_at hl 2 rfl) ?_
  refine lv_aload_n C0.1 C0.2.1 dL_law_713 rfl (lv_at hl 0 rfl) ?_
  refine lv_iload_n C0.1 C0.2.1 dL_law_714 rfl (lv_at hl 3 rfl) ?_
  refine lv_iconst (v := 1) C0.1 C0.2.1 dL_law_715 (by decide) ?_
  refine lv_iadd C0.1 C0.2.1 dL_law_716 ?_
  refine ww_sld C0 hX hbl hbA hs (j := i + 1) (show nI i + 1 = nI (i + 1) from nI_add i 1) (by omega) (by omega) dL_law_717 ?_
  refine go_lm_settled C0 hl.1 ⟨Nat.le_of_ble_eq_true rfl, Nat.le_of_ble_eq_true rfl, Nat.le_of_ble_eq_true rfl, Nat.le_of_ble_eq_true rfl⟩ (Nat.le_of_ble_eq_true rfl) hK (G := G) hPm ok.1 dL_law_718 ?_
  refine lv_icmp_eq (tgt := 749) C0.1 C0.2.1 dL_law_721 (by decide) (fun cc => ?_) (fun cc => ?_)
  · exact next E S G k ok H locs hP hD hs ls hl
  · exact absurd rfl cc
set_option maxHeartbeats 4000000 in
set_option maxRecDepth 100000 in
/-- case 17: widest -/
theorem law_c17 {p : Program} {l : Launch} {e : Env} {s : State} {m : MethodId} {below : List Frame} {meth : Method} {c : Code} {Q : State → Prop} {D : va_G} {d : ClassId} {h0 hE hS hG n0 nE nS b L : Nat} {xs : Nat → Int32} {i : Nat} (C0 : CallFix p m c cL_law 4 s #[Value.ref b] lw_all R_law) (hX : va_X b L xs s s.heap) (hbl : b < s.heap.size) (hL : L ≤ 256) (hi : i + 4 ≤ L) (hK : va_K D vwCl [(d, .long)] s) (next : law_at p l e s m below meth c Q D d h0 hE hS hG n0 nE nS b i 749) : law_at p l e s m below meth c Q D d h0 hE hS hG n0 nE nS b i 726 := by
  intro E S G k ok H locs hP hD hs ls hl
  have hbA : ¬ s.heap.size ≤ b := by omega
  have hPx : va_P D vwCl (gX h0 hE hS hG d E S G k) H := hP.sub [0, 1, 2, 3] rfl
  have hPm : va_P D vwCl (gM n0 nE nS d E S (G 0) (G 1) k) H := hP.sub [4, 5, 6] rfl
  refine lv_aload_n C0.1 C0.2.1 dL_law_726 rfl (lv_at hl 1 rfl) ?_
  refine lv_aload_n C0.1 C0.2.1 dL_law_727 rfl (lv_at hl 0 rfl) ?_
  refine lv_iload_n C0.1 C0.2.1 dL_law_728 rfl (lv_at hl 3 rfl) ?_
  refine lv_iconst (v := 1) C0.1 C0.2.1 dL_law_729 (by decide) ?_
  refine lv_iadd C0.1 C0.2.1 dL_law_730 ?_
  refine ww_sld C0 hX hbl hbA hs (j := i + 1) (show nI i + 1 = nI (i + 1) from nI_add i 1) (by omega) (by omega) dL_law_731 ?_
  refine go_lx_widest C0 hl.1 ⟨Nat.le_of_ble_eq_true rfl, Nat.le_of_ble_eq_true rfl, Nat.le_of_ble_eq_true rfl, Nat.le_of_ble_eq_true rfl⟩ (Nat.le_of_ble_eq_true rfl) hK hPx ok.1 dL_law_732 ?_
  refine lv_aload_n C0.1 C0.2.1 dL_law_735 rfl (lv_at hl 2 rfl) ?_
  refine lv_aload_n C0.1 C0.2.1 dL_law_736 rfl (lv_at hl 0 rfl) ?_
  refine lv_iload_n C0.1 C0.2.1 dL_law_737 rfl (lv_at hl 3 rfl) ?_
  refine lv_iconst (v := 1) C0.1 C0.2.1 dL_law_738 (by decide) ?_
  refine lv_iadd C0.1 C0.2.1 dL_law_739 ?_
  refine ww_sld C0 hX hbl hbA hs (j := i + 1) (show nI i + 1 = nI (i + 1) from nI_add i 1) (by omega) (by omega) dL_law_740 ?_
  refine go_lm_widest C0 hl.1 ⟨Nat.le_of_ble_eq_true rfl, Nat.le_of_ble_eq_true rfl, Nat.le_of_ble_eq_true rfl, Nat.le_of_ble_eq_true rfl⟩ (Nat.le_of_ble_eq_true rfl) hK (G := G) hPm ok.1 dL_law_741 ?_
  refine lv_icmp_eq (tgt := 749) C0.1 C0.2.1 dL_law_744 (by decide) (fun cc => ?_) (fun cc => ?_)
  · exact next E S G k ok H locs hP hD hs ls hl
  · exact absurd rfl cc
end
section
/-! THE LAW: its loop -/
set_option maxRecDepth 100000
theorem law_sub {i L : Nat} (hi : i ≤ 1000) (hL : L ≤ 256) : (nI L - 4 < nI i → L < i + 4) ∧ (¬ nI L - 4 < nI i → i + 4 ≤ L) := by
  have h1 : (nI L - 4).toInt = (L : Int) - 4 := pk_sub_toInt (a := L) (b := 4) (by omega) (by decide)
  have h2 : (nI i).toInt = (i : Int) := nI_toInt (by omega)
  constructor
  · intro h
    have h3 := Int32.lt_iff_toInt_lt.mp h
    rw [h1, h2] at h3
    omega
  · intro h
    have h3 : ¬ (nI L - 4).toInt < (nI i).toInt := fun q => h (Int32.lt_iff_toInt_lt.mpr q)
    rw [h1, h2] at h3
    omega
set_option maxHeartbeats 4000000 in
set_option maxRecDepth 100000 in
/-- the law's loop at its head -/
theorem law_loop {p : Program} {l : Launch} {e : Env} {s : State} {m : MethodId} {below : List Frame} {meth : Method} {c : Code} {D : va_G} {d : ClassId} {h0 hE hS hG n0 nE nS b L : Nat} {xs : Nat → Int32} (C0 : CallFix p m c cL_law 4 s #[Value.ref b] lw_all R_law) (hr : meth.sig.returnType = ret) (hlk : meth.locks = false) (hX : va_X b L xs s s.heap) (hbl : b < s.heap.size) (hL : L ≤ 256) (hK : va_K D vwCl [(d, .long)] s) : ∀ n i : Nat, L < i + n → i ≤ L + 4 → law_at p l e s m below meth c (lw_Z below #[Value.ref b] s) D d h0 hE hS hG n0 nE nS b i 18 := by
  have hbA : ¬ s.heap.size ≤ b := by omega
  intro n
  induction n with
  | zero =>
    intro i h1 h2 E S G k ok H locs hP hD hs ls hl
    refine lv_iload_n C0.1 C0.2.1 dL_law_18 rfl (lv_at hl 3 rfl) ?_
    refine lv_aload_n C0.1 C0.2.1 dL_law_19 rfl (lv_at hl 0 rfl) ?_
    refine va_slen C0.1 C0.2.1 hX hbl hbA hs dL_law_20 ?_
    refine lv_iconst (v := 4) C0.1 C0.2.1 dL_law_21 (by decide) ?_
    refine lv_isub C0.1 C0.2.1 dL_law_22 ?_
    refine lv_icmp_gt (tgt := 755) C0.1 C0.2.1 dL_law_23 (by decide) (fun cc => ?_) (fun cc => ?_)
    · refine lv_iconst (v := 1) C0.1 C0.2.1 dL_law_755 (by decide) ?_
      refine va_forget hs.2.2 ?_
      exact lw_ret C0.1 C0.2.1 hr hlk dL_law_756
    · exact absurd ((law_sub (by omega) hL).2 cc) (by omega)
  | succ n ih =>
    intro i h1 h2 E S G k ok H locs hP hD hs ls hl
    refine lv_iload_n C0.1 C0.2.1 dL_law_18 rfl (lv_at hl 3 rfl) ?_
    refine lv_aload_n C0.1 C0.2.1 dL_law_19 rfl (lv_at hl 0 rfl) ?_
    refine va_slen C0.1 C0.2.1 hX hbl hbA hs dL_law_20 ?_
    refine lv_iconst (v := 4) C0.1 C0.2.1 dL_law_21 (by decide) ?_
    refine lv_isub C0.1 C0.2.1 dL_law_22 ?_
    refine lv_icmp_gt (tgt := 755) C0.1 C0.2.1 dL_law_23 (by decide) (fun cc => ?_) (fun cc => ?_)
    · refine lv_iconst (v := 1) C0.1 C0.2.1 dL_law_755 (by decide) ?_
      refine va_forget hs.2.2 ?_
      exact lw_ret C0.1 C0.2.1 hr hlk dL_law_756
    · have hi := (law_sub (by omega) hL).2 cc
      have next : law_at p l e s m below meth c (lw_Z below #[Value.ref b] s) D d h0 hE hS hG n0 nE nS b i 749 := by
        intro E S G k ok H locs hP hD hs ls hl
        refine lv_iinc (v := nI (i + 4)) (lv' := [(3, .int (nI (i + 4))), (0, .ref b), (1, .ref h0), (2, .ref n0)]) C0.1 C0.2.1 dL_law_749 hl (k := 3) rfl (show nI i + Int32.ofInt 4 = nI (i + 4) from nI_add i 4) (by decide) rfl (fun ls hl => ?_)
        refine lv_goto (tgt := 18) C0.1 C0.2.1 dL_law_752 (by decide) ?_
        exact ih (i + 4) (by omega) (by omega) E S G k ok H locs hP hD hs ls (lv_sub hl [1, 2, 3, 0] rfl)
      refine lv_aload_n C0.1 C0.2.1 dL_law_26 rfl (lv_at hl 0 rfl) ?_
      refine lv_iload_n C0.1 C0.2.1 dL_law_27 rfl (lv_at hl 3 rfl) ?_
      refine ww_sld C0 hX hbl hbA hs (j := i) rfl (by omega) (by omega) dL_law_28 ?_
      refine lv_bipush (v := nI 31) C0.1 C0.2.1 dL_law_29 (by decide) ?_
      refine lv_iand C0.1 C0.2.1 dL_law_31 ?_
      obtain ⟨j, hj, ej⟩ := pk_andE (xs i) (m := nI 31) 5 (by decide)
      refine ww_ti (v := nI j) ej ?_
      by_cases h17 : j ≤ 17
      · have hc : j = 0 ∨ j = 1 ∨ j = 2 ∨ j = 3 ∨ j = 4 ∨ j = 5 ∨ j = 6 ∨ j = 7 ∨ j = 8 ∨ j = 9 ∨ j = 10 ∨ j = 11 ∨ j = 12 ∨ j = 13 ∨ j = 14 ∨ j = 15 ∨ j = 16 ∨ j = 17 := by omega
        rcases hc with rfl | rfl | rfl | rfl | rfl | rfl | rfl | rfl | rfl | rfl | rfl | rfl | rfl | rfl | rfl | rfl | rfl | rfl
        · refine lv_tableIn (off := 88) (tgt := 120) C0.1 C0.2.1 dL_law_32 (by decide) (by decide) rfl (by decide) ?_
          exact law_c0 C0 hX hbl hL hi hK next E S G k ok H locs hP hD hs ls hl
        · refine lv_tableIn (off := 151) (tgt := 183) C0.1 C0.2.1 dL_law_32 (by decide) (by decide) rfl (by decide) ?_
          exact law_c1 C0 hX hbl hL hi hK next E S G k ok H locs hP hD hs ls hl
        · refine lv_tableIn (off := 194) (tgt := 226) C0.1 C0.2.1 dL_law_32 (by decide) (by decide) rfl (by decide) ?_
          exact law_c2 C0 hX hbl hL hi hK next E S G k ok H locs hP hD hs ls hl
        · refine lv_tableIn (off := 217) (tgt := 249) C0.1 C0.2.1 dL_law_32 (by decide) (by decide) rfl (by decide) ?_
          exact law_c3 C0 hX hbl hL hi hK next E S G k ok H locs hP hD hs ls hl
        · refine lv_tableIn (off := 230) (tgt := 262) C0.1 C0.2.1 dL_law_32 (by decide) (by decide) rfl (by decide) ?_
          exact law_c4 C0 hX hbl hL hi hK next E S G k ok H locs hP hD hs ls hl
        · refine lv_tableIn (off := 243) (tgt := 275) C0.1 C0.2.1 dL_law_32 (by decide) (by decide) rfl (by decide) ?_
          exact law_c5 C0 hX hbl hL hi hK next E S G k ok H locs hP hD hs ls hl
        · refine lv_tableIn (off := 276) (tgt := 308) C0.1 C0.2.1 dL_law_32 (by decide) (by decide) rfl (by decide) ?_
          exact law_c6 C0 hX hbl hL hi hK next E S G k ok H locs hP hD hs ls hl
        · refine lv_tableIn (off := 309) (tgt := 341) C0.1 C0.2.1 dL_law_32 (by decide) (by decide) rfl (by decide) ?_
          exact law_c7 C0 hX hbl hL hi hK next E S G k ok H locs hP hD hs ls hl
        · refine lv_tableIn (off := 342) (tgt := 374) C0.1 C0.2.1 dL_law_32 (by decide) (by decide) rfl (by decide) ?_
          exact law_c8 C0 hX hbl hL hi hK next E S G k ok H locs hP hD hs ls hl
        · refine lv_tableIn (off := 375) (tgt := 407) C0.1 C0.2.1 dL_law_32 (by decide) (by decide) rfl (by decide) ?_
          exact law_c9 C0 hX hbl hL hi hK next E S G k ok H locs hP hD hs ls hl
        · refine lv_tableIn (off := 388) (tgt := 420) C0.1 C0.2.1 dL_law_32 (by decide) (by decide) rfl (by decide) ?_
          exact law_c10 C0 hX hbl hL hi hK next E S G k ok H locs hP hD hs ls hl
        · refine lv_tableIn (off := 422) (tgt := 454) C0.1 C0.2.1 dL_law_32 (by decide) (by decide) rfl (by decide) ?_
          exact law_c11 C0 hX hbl hL hi hK next E S G k ok H locs hP hD hs ls hl
        · refine lv_tableIn (off := 446) (tgt := 478) C0.1 C0.2.1 dL_law_32 (by decide) (by decide) rfl (by decide) ?_
          exact law_c12 C0 hX hbl hL hi hK next E S G k ok H locs hP hD hs ls hl
        · refine lv_tableIn (off := 510) (tgt := 542) C0.1 C0.2.1 dL_law_32 (by decide) (by decide) rfl (by decide) ?_
          exact law_c13 C0 hX hbl hL hi hK next E S G k ok H locs hP hD hs ls hl
        · refine lv_tableIn (off := 574) (tgt := 606) C0.1 C0.2.1 dL_law_32 (by decide) (by decide) rfl (by decide) ?_
          exact law_c14 C0 hX hbl hL hi hK next E S G k ok H locs hP hD hs ls hl
        · refine lv_tableIn (off := 638) (tgt := 670) C0.1 C0.2.1 dL_law_32 (by decide) (by decide) rfl (by decide) ?_
          exact law_c15 C0 hX hbl hL hi hK next E S G k ok H locs hP hD hs ls hl
        · refine lv_tableIn (off := 671) (tgt := 703) C0.1 C0.2.1 dL_law_32 (by decide) (by decide) rfl (by decide) ?_
          exact law_c16 C0 hX hbl hL hi hK next E S G k ok H locs hP hD hs ls hl
        · refine lv_tableIn (off := 694) (tgt := 726) C0.1 C0.2.1 dL_law_32 (by decide) (by decide) rfl (by decide) ?_
          exact law_c17 C0 hX hbl hL hi hK next E S G k ok H locs hP hD hs ls hl
      · refine lv_tableOut (tgt := 749) C0.1 C0.2.1 dL_law_32 (Or.inr (by rw [nI_toInt (by omega)]; omega)) (by decide) ?_
        exact next E S G k ok H locs hP hD hs ls hl
end
section
/-! THE LAW: from its entry to its loop -/
set_option maxRecDepth 100000
set_option maxHeartbeats 4000000 in
/-- from the entry, for every script of at most 256 ints, the law comes to its end with true -/
theorem whole_start {p : Program} {e : Env} {s : State} {m : MethodId} {below : List Frame} {meth : Method} {c : Code} (l : Launch) {b L : Nat} {xs : Nat → Int32} (hL : L ≤ 256) (C0 : lw_At p s m meth c b L xs) : W p l e room_1 s m #[Value.ref b] below meth c s.heap [] 0 0 (lw_Z below #[Value.ref b] s) (entryFrame m ([Value.ref b] : List Value).toArray 4) := by
  obtain ⟨hx, hb, hr, hml, hown, hts0, hX, hbl, hlk, hg⟩ := C0
  have hts : ∀ w ∈ lw_all, w.before #[Value.ref b] s = true := fun w h => hts0 w (lw_all_tbl h)
  have C1 : CallFix p m c cL_law 4 s #[Value.ref b] lw_all R_law := ⟨hx, hb, hml, hown, hts⟩
  obtain ⟨c0_, iS0, hKn0⟩ := u_known (C := RX0) (T := TX0) (N := 4) (n := 4) hts0 (fun w h => lw_all_tbl (in_X0 w h)) (hts0 _ (lw_all_tbl q25))
  obtain ⟨c1_, iS1, hKn1⟩ := u_known (C := RX1) (T := TX1) (N := 5) (n := 5) hts0 (fun w h => lw_all_tbl (in_X1 w h)) (hts0 _ (lw_all_tbl q157))
  obtain ⟨D, hKc⟩ : ∃ D : va_G, ∀ (k : Nat) (q : vw_C), vwCl[k]? = some q → u_Kn s q.1 q.2.1 q.2.2 (D.1 k) (D.2 k) := by
    refine ⟨(fun k => if k = 0 then c0_ else c1_, fun k => if k = 0 then iS0 else iS1), ?_⟩
    intro k q hq
    match k, hq with
    | 0, hq => cases hq; exact hKn0
    | 1, hq => cases hq; exact hKn1
    | k + 2, hq => simp [vwCl] at hq
  have hK : va_K D vwCl [] s := ⟨hKc, fun k q h => by simp at h⟩
  have hP : va_P D vwCl [] s.heap := fun k q h => by simp at h
  have hD : va_D (fun q => s.heap.size ≤ q) [] := ⟨fun i j p q h => by simp at h, fun k q h => by simp at h⟩
  have hS : va_S (fun q => s.heap.size ≤ q) s.heap s.heap [] := va_S.rf
  have hA : ∀ q : Nat, s.heap.size ≤ q → (fun q => s.heap.size ≤ q) q := fun _ h => h
  have hl := lv_entry ([.ref b]) (n := 4) (Nat.le_of_ble_eq_true rfl)
  rw [lg_entry_eq]
  generalize (lg_sl ([.ref b]) ++ List.replicate (4 - (lg_sl ([.ref b])).length) Slot.unset).toArray = ls at hl ⊢
  have hl : lv_has ls 4 [(0, .ref b)] := hl
  refine va_new (ci := 0) (fs := [.null, .null, .null, .int 0]) (C := RX0) (T := TX0) (N := 4) hx hb hts in_X0 tyX0 tyX0_ok hown (hts _ q24) (hts _ q25) (hts _ q22) hK hP hD hS hA rfl (fun j hj => by rcases (show j = 0 ∨ j = 1 ∨ j = 2 ∨ j = 3 by omega) with rfl | rfl | rfl | rfl <;> rfl) (Nat.le_of_ble_eq_true rfl) (Nat.le_of_ble_eq_true rfl) dL_law_0 (fun h0 H hP hD hS => ?_)
  have hP : va_P D vwCl (gX0 h0) H := hP
  have hD : va_D (fun q => s.heap.size ≤ q) (gX0 h0) := hD
  refine W.widen (k := 1) (n := 4) (Nat.le_of_ble_eq_true rfl) (Nat.le_of_ble_eq_true rfl) ?_
  refine lv_dup hx hb dL_law_3 rfl ?_
  have hFc := va_free (wc := gX0 h0) hD hS hA [0] rfl
  refine va_callv (va_runI (As := []) (rest := [.ref h0]) C1 (mX0_init l D h0 H.size) (cwI 0 hts (lw_meth q28) rfl rfl rfl (hts _ q22) (hts _ q26) (hts _ q27) rfl (by decide +kernel) ⟨Nat.le_of_ble_eq_true rfl, Nat.le_of_ble_eq_true rfl⟩) ⟨fun a U g mk q => by obtain ⟨q0, q1, qP, qK, qD⟩ := q; exact ⟨q0, q1, qP, va_K.moved (u := U) (U := U.calling g mk a) (Vm.Alike.refl U.vm) qK, qD⟩, fun U hU hW => ⟨rfl, by rw [hU], by rw [hU]; exact hP, va_K.moved hW.alike hK, hD.weaken (fun _ _ _ _ => trivial)⟩⟩ rfl rfl hl.1 rfl (lv_room (Nat.le_of_ble_eq_true rfl)) dL_law_4 ⟨Nat.le_of_ble_eq_true rfl, Nat.le_of_ble_eq_true rfl⟩) hS (fun q _ h => hFc q h) hFc (fun u t H1 locs ht hvm _ hB hz1 hk1 hS => ?_)
  obtain ⟨hE, hSs, hG, d⟩ := u
  obtain ⟨hP1, hK1, hD1⟩ := hB
  rw [ht] at hP1
  have hK : va_K D vwCl [(d, .long)] s := va_K.moved hvm.symm hK1
  have hP : va_P D vwCl (gX h0 hE hSs hG d gZ gZ gZ 0) H1 := hP1
  have hD : va_D (fun q => s.heap.size ≤ q) (gX h0 hE hSs hG d gZ gZ gZ 0) := hD1.weaken (fun _ _ _ h => hFc _ h)
  refine W.widen (k := 4) (n := 1956) (Nat.le_of_ble_eq_true rfl) (Nat.le_of_ble_eq_true rfl) ?_
  refine lv_astore_n (lv' := [(1, .ref h0), (0, .ref b)]) hx hb dL_law_7 rfl hl (by decide) rfl (fun ls hl => ?_)
  refine va_new (ci := 1) (fs := [.long 0, .long 0, .int 0, .null, .null]) (C := RX1) (T := TX1) (N := 5) hx hb hts in_X1 tyX1 tyX1_ok hown (hts _ q156) (hts _ q157) (hts _ q23) hK hP hD hS hA rfl (fun j hj => by rcases (show j = 0 ∨ j = 1 ∨ j = 2 ∨ j = 3 ∨ j = 4 by omega) with rfl | rfl | rfl | rfl | rfl <;> rfl) (Nat.le_of_ble_eq_true rfl) (Nat.le_of_ble_eq_true rfl) dL_law_8 (fun n0 H hP hD hS => ?_)
  have hP : va_P D vwCl (gX h0 hE hSs hG d gZ gZ gZ 0 ++ gM0 n0) H := hP
  have hD : va_D (fun q => s.heap.size ≤ q) (gX h0 hE hSs hG d gZ gZ gZ 0 ++ gM0 n0) := hD
  refine W.widen (k := 5) (n := 1961) (Nat.le_of_ble_eq_true rfl) (Nat.le_of_ble_eq_true rfl) ?_
  refine lv_dup hx hb dL_law_11 rfl ?_
  have hPc : va_P D vwCl (gM0 n0) H := hP.sub [4] rfl
  have hDc : va_D (fun q => s.heap.size ≤ q) (gM0 n0) := hD.sub [4] (by decide) rfl
  have hKc0 : va_K D vwCl [] s := hK.sub [] rfl
  have hFc := va_free (wc := gM0 n0) hD hS hA [4] rfl
  refine va_callv (va_runI (As := []) (rest := [.ref n0]) C1 (mX1_init l D n0 H.size) (cwI 0 hts (lw_meth q160) rfl rfl rfl (hts _ q23) (hts _ q158) (hts _ q159) rfl (by decide +kernel) ⟨Nat.le_of_ble_eq_true rfl, Nat.le_of_ble_eq_true rfl⟩) ⟨fun a U g mk q => by obtain ⟨q0, q1, qP, qK, qD⟩ := q; exact ⟨q0, q1, qP, va_K.moved (u := U) (U := U.calling g mk a) (Vm.Alike.refl U.vm) qK, qD⟩, fun U hU hW => ⟨rfl, by rw [hU], by rw [hU]; exact hPc, va_K.moved hW.alike hKc0, hDc.weaken (fun _ _ _ _ => trivial)⟩⟩ rfl rfl hl.1 rfl (lv_room (Nat.le_of_ble_eq_true rfl)) dL_law_12 ⟨Nat.le_of_ble_eq_true rfl, Nat.le_of_ble_eq_true rfl⟩) hS (fun q _ h => hFc q h) hFc (fun u t H1 locs ht hvm _ hB hz1 hk1 hS => ?_)
  obtain ⟨nE, nS, d2⟩ := u
  obtain ⟨hP1, hK1, hD1⟩ := hB
  rw [ht] at hP1
  have hK1 := va_K.moved hvm.symm hK1
  have hK2 : va_K D vwCl [(d, .long), (d2, .long)] s := hK.app hK1
  have ed : d = d2 := gc_same hK2 0 1 rfl rfl
  subst ed
  have hP1 : va_P D vwCl (gM n0 nE nS d gZ gZ (gZ 0) (gZ 1) 0) H1 := hP1
  have hD1 : va_D (va_A (gM0 n0) H.size) (gM n0 nE nS d gZ gZ (gZ 0) (gZ 1) 0) := hD1
  obtain ⟨hP, hD⟩ := va_join (wr := gX h0 hE hSs hG d gZ gZ gZ 0) hP hD [4] [0, 1, 2, 3] rfl rfl (by decide) (by decide) hk1 hFc hP1 hD1
  refine W.widen (k := 600000) (n := 7290000) (Nat.le_of_ble_eq_true rfl) (Nat.le_of_ble_eq_true rfl) ?_
  refine lv_astore_n (lv' := [(2, .ref n0), (1, .ref h0), (0, .ref b)]) hx hb dL_law_15 rfl hl (by decide) rfl (fun ls hl => ?_)
  refine lv_iconst (v := 0) hx hb dL_law_16 (by decide) ?_
  refine lv_istore_n (lv' := [(3, .int 0), (2, .ref n0), (1, .ref h0), (0, .ref b)]) hx hb dL_law_17 rfl hl (by decide) rfl (fun ls hl => ?_)
  exact law_loop C1 hr hlk hX hbl hL hK (L + 1) 0 (by omega) (by omega) gZ gZ gZ 0 (ok_0 gZ gZ gZ) H1 locs hP hD hS ls (lv_sub hl [3, 2, 1, 0] rfl)
end
section
set_option maxRecDepth 100000
set_option maxHeartbeats 4000000 in
theorem lw_walk (l : Launch) (b : Addr) (xs : List Int32) : MetFree l x (headSpec (Jvm.Cond.code x code maxLocals ret :: tables_1) room_1) (lw_P b xs) (fun _ _ _ _ _ => True) lw_Q := by
  refine MetFree.of_bodyS (code := code) (maxLocals := maxLocals) (ret := ret) (by decide) ?_ ?_
  · intro args s m h hn
    obtain ⟨meth, c, h1, h2, h3, h4, h5, h6, -, -⟩ := Cond.code_spec hn (atoms_spec (ws := Jvm.Cond.code x code maxLocals ret :: tables_1) h _ List.mem_cons_self)
    exact ⟨meth, c, h1, h2, h3, h4, h5, h6⟩
  · intro p e s m args below meth c s₁ B hml0 hP _
    obtain ⟨rfl, hx, hbd, hgv⟩ := hP
    obtain ⟨scr, harrAt, hlist, hof, hsmall⟩ := hx
    obtain ⟨hcb, hkn, -, -⟩ := State.arrayAt?_spec harrAt
    have hown : s.vm.findClass R_law = some m.cls := findClass_of_methodNamed B.named
    have hts0 : ∀ c ∈ (Jvm.Cond.code x code maxLocals ret :: tables_1), c.before #[Value.ref b] s = true := atoms_spec (ws := Jvm.Cond.code x code maxLocals ret :: tables_1) B.pre
    have hts : ∀ w ∈ lw_tbl, w.before #[Value.ref b] s = true := k2_hts_sels lw_privs (fun w hw => hts0 w (List.mem_cons_of_mem _ hw)) lw_privs_ok
    have hml : c.maxLocals = 4 := B.maxLocals_eq (hts0 _ List.mem_cons_self)
    have X₀ : Stand p l e room_1 s m #[Value.ref b] below meth c s₁ [] 0 0 := Stand.of_body B
    have hh0 : s₁.heap = s.heap := by rw [B.state]; rfl
    have hsz : scr.slots.size = xs.length := by rw [← Array.length_toList, hlist, List.length_map]
    have hval : ∀ j : Nat, j < xs.length → scr.slots[j]? = some (.int (xs.getD j 0)) := fun j hj => by
      rw [← Array.getElem?_toList, hlist]
      simp [hj]
    have hbl : b < s.heap.size := (Array.getElem?_eq_some_iff.mp hcb).1
    have hX : va_X b xs.length (fun j => xs.getD j 0) s s.heap := ⟨scr, hcb, hof, hkn, hsz, hval⟩
    have K : W p l e room_1 s m #[Value.ref b] below meth c s₁.heap [] 0 0 (lw_Z below #[Value.ref b] s) (entryFrame m ([Value.ref b] : List Value).toArray 4) := by
      rw [hh0]
      exact whole_start l hbd ⟨B.exec, B.bytes, B.returns, hml, hown, hts, hX, hbl, B.notSynchronized, hgv⟩
    obtain ⟨t, a1, o, b1, b2, b3⟩ := K s₁ rfl X₀
    exact ⟨t, o, a1, b1, b2, b3⟩
theorem lw_pre_spec {args : Array Value} {s : State} (h : (Jvm.Cond.and given_1 narrow_1).before args s = true) (hr : rest_1_c.before args s = true) : ∃ (b : Addr) (xs : List Int32), lw_P b xs args s := by
  have hs := flat_of_before _ h
  have hq := flat_of_before _ hr
  have hc : (Cond.count 1).before args s = true := hs _ (by decide +kernel)
  have harr : (Cond.arrayOf (.arg 0) .int).before args s = true := hs _ (by decide +kernel)
  have hle : (Cond.le (.length (.arg 0)) (.int 256)).before args s = true := hs _ (by decide +kernel)
  have hlen : (Cond.isInt (.length (.arg 0))).before args s = true := hq _ (by decide +kernel)
  have hall : (Cond.all (.arg 0) (.isInt (.elem (.arg 0) (.index 0)))).before args s = true := hq _ (by decide +kernel)
  obtain ⟨b, xs, hb, hx⟩ := State.ints_of_pre rfl harr hlen hall
  have hsm : xs.length < 2 ^ 31 := hx.choose_spec.2.2.2
  have hev : (Term.length (.arg 0)).eval args s none [] s = some (.int xs.length.toInt32) := hx.length_eval hb
  have hv := Cond.le_ints hev (show (Term.int 256).eval args s none [] s = some (.int 256) from rfl)
  have hd : xs.length.toInt32 ≤ 256 := by
    simpa [Cond.before, Cond.holds, hv] using hle
  have hN : xs.length ≤ 256 := (Int32.ofNat_le_ofNat hsm (by decide)).mp (show Int32.ofNat xs.length ≤ Int32.ofNat 256 from hd)
  exact ⟨b, xs, Cond.one_arg hc (show args[0]? = some (.ref b) from hb), hx, hN, h⟩
theorem lw_comes (l : Launch) : Comes l x (Jvm.Cond.code x code maxLocals ret :: tables_1) room_1 (fun tb e args s => Calls_1 tb e args s ∧ rest_1 tb e args s ∧ Pre_1 tb e args s)
    (fun _ _ args s o t => lw_Q args s o t) := by
  intro p e ha hc hk s m args below hf hfit hheap happ hpre
  obtain ⟨b, xs, hP⟩ := lw_pre_spec hpre.2.2 hpre.2.1
  obtain ⟨k, o, h1, h2, h3, hQ⟩ := lw_walk l b xs p e ha hc hk s m args below hf ((Spec.applies_iff_loose hf).mp happ).1 hP trivial
  exact ⟨k, o, h1, h2, h3, hQ⟩
theorem lw_frame {s t : State} {o : Outcome} {args : Array Value} (h : Framed s o t [] 600000 7290000) :
    Framed s o t (fieldLocs frame_1_writes args s ++ arrayLocs frame_1_arrays args s ++ staticLocs frame_1_statics s) 600000 7290000 := h
theorem lw_limb (L : Cond) (hL : ∀ (args : Array Value) (s t : State), L.after args s (.returned (some (.int 1))) t = true) :
    ArmFor flags0 classFile x code maxLocals ret World_1 tables_1 room_1 Calls_1 rest_1 Pre_1
      (fun tb e a s o t => postC L tb e a s o t ∧ Framed s o t (fieldLocs frame_1_writes a s ++ arrayLocs frame_1_arrays a s ++ staticLocs frame_1_statics s) 600000 7290000) := by
  intro l _ _ _ p e ha hc hk s m args below hf hfit hheap happ hpre
  obtain ⟨k, o, h1, h2, h3, rfl, hF⟩ := lw_comes l p e ha hc hk s m args below hf hfit hheap happ hpre
  exact ⟨k, _, h1, h2, h3, hL args s _, lw_frame hF⟩
theorem i_vc : Claimed_1_1 ∧ Claimed_1_2 := ⟨lw_limb limb_1_1 (fun args s t => by simp [limb_1_1, Cond.after, Cond.holds, Cond.value]), lw_limb limb_1_2 (fun args s t => Cond.after_iff.mpr (by
  first | (rw [show limb_1_2 = Cond.eq .result (.int 1) from rfl, Cond.eq_ints (x := 1) (y := 1) rfl rfl]; simp; done) | (simp [limb_1_2, Cond.value, Term.eval]; done)))⟩
end
