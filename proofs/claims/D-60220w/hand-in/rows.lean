section
-- ===== PART A: goes FIRST, ahead of the names: the tables' words, and 'selects' of the private methods out of them =====
/-- a private method of a class that the tables say can be made, by its rows of tables_1 -/
def lw_okq (q : MethodName × Nat) : Prop := (q.1.cls ≠ "java/lang/invoke/MethodHandle" ∧ q.1.cls ≠ "java/lang/invoke/VarHandle") ∧ Cond.instantiable q.1.cls q.2 ∈ tables_1 ∧ Cond.privateMethod q.1 ∈ tables_1 ∧ Cond.instanceMethod q.1 ∈ tables_1
set_option maxRecDepth 100000
theorem lw_t1 {w : Cond} (h : w ∈ tables_1_1) : w ∈ tables_1 := List.mem_append_left _ h
theorem lw_t2 {w : Cond} (h : w ∈ tables_1_2) : w ∈ tables_1 := List.mem_append_right _ h
theorem lw_p0 : lw_okq (⟨"SexpMotion", "isGap", "(I)Z"⟩, 12) := ⟨⟨by decide +kernel, by decide +kernel⟩, lw_t1 (List.mem_of_getElem? (i := 4) rfl), lw_t1 (List.mem_of_getElem? (i := 55) rfl), lw_t1 (List.mem_of_getElem? (i := 56) rfl)⟩
theorem lw_p1 : lw_okq (⟨"SexpMotion", "forgetFrom", "(I)V"⟩, 12) := ⟨⟨by decide +kernel, by decide +kernel⟩, lw_t1 (List.mem_of_getElem? (i := 4) rfl), lw_t1 (List.mem_of_getElem? (i := 62) rfl), lw_t1 (List.mem_of_getElem? (i := 63) rfl)⟩
theorem lw_p2 : lw_okq (⟨"SexpMotion", "isPlace", "(I)Z"⟩, 12) := ⟨⟨by decide +kernel, by decide +kernel⟩, lw_t1 (List.mem_of_getElem? (i := 4) rfl), lw_t1 (List.mem_of_getElem? (i := 74) rfl), lw_t1 (List.mem_of_getElem? (i := 75) rfl)⟩
theorem lw_p3 : lw_okq (⟨"SexpMotion", "stateAt", "(I)V"⟩, 12) := ⟨⟨by decide +kernel, by decide +kernel⟩, lw_t1 (List.mem_of_getElem? (i := 4) rfl), lw_t1 (List.mem_of_getElem? (i := 90) rfl), lw_t1 (List.mem_of_getElem? (i := 91) rfl)⟩
theorem lw_p4 : lw_okq (⟨"SexpMotion", "readTo", "(I)V"⟩, 12) := ⟨⟨by decide +kernel, by decide +kernel⟩, lw_t1 (List.mem_of_getElem? (i := 4) rfl), lw_t1 (List.mem_of_getElem? (i := 94) rfl), lw_t1 (List.mem_of_getElem? (i := 95) rfl)⟩
theorem lw_p5 : lw_okq (⟨"SexpMotion", "load", "(I)V"⟩, 12) := ⟨⟨by decide +kernel, by decide +kernel⟩, lw_t1 (List.mem_of_getElem? (i := 4) rfl), lw_t1 (List.mem_of_getElem? (i := 98) rfl), lw_t1 (List.mem_of_getElem? (i := 99) rfl)⟩
theorem lw_p6 : lw_okq (⟨"SexpMotion", "keep", "(I)V"⟩, 12) := ⟨⟨by decide +kernel, by decide +kernel⟩, lw_t1 (List.mem_of_getElem? (i := 4) rfl), lw_t1 (List.mem_of_getElem? (i := 102) rfl), lw_t1 (List.mem_of_getElem? (i := 103) rfl)⟩
theorem lw_p7 : lw_okq (⟨"SexpMotion", "note", "(I)V"⟩, 12) := ⟨⟨by decide +kernel, by decide +kernel⟩, lw_t1 (List.mem_of_getElem? (i := 4) rfl), lw_t1 (List.mem_of_getElem? (i := 106) rfl), lw_t1 (List.mem_of_getElem? (i := 107) rfl)⟩
theorem lw_p8 : lw_okq (⟨"SexpMotion", "step", "(I)V"⟩, 12) := ⟨⟨by decide +kernel, by decide +kernel⟩, lw_t1 (List.mem_of_getElem? (i := 4) rfl), lw_t1 (List.mem_of_getElem? (i := 110) rfl), lw_t1 (List.mem_of_getElem? (i := 111) rfl)⟩
theorem lw_p9 : lw_okq (⟨"SexpMotion", "depthOf", "(I)I"⟩, 12) := ⟨⟨by decide +kernel, by decide +kernel⟩, lw_t1 (List.mem_of_getElem? (i := 4) rfl), lw_t1 (List.mem_of_getElem? (i := 122) rfl), lw_t1 (List.mem_of_getElem? (i := 123) rfl)⟩
theorem lw_p10 : lw_okq (⟨"SexpMotion", "unitEnd", "(I)I"⟩, 12) := ⟨⟨by decide +kernel, by decide +kernel⟩, lw_t1 (List.mem_of_getElem? (i := 4) rfl), lw_t1 (List.mem_of_getElem? (i := 142) rfl), lw_t1 (List.mem_of_getElem? (i := 143) rfl)⟩
theorem lw_p11 : lw_okq (⟨"SexpMotion", "unitStart", "(I)I"⟩, 12) := ⟨⟨by decide +kernel, by decide +kernel⟩, lw_t1 (List.mem_of_getElem? (i := 4) rfl), lw_t1 (List.mem_of_getElem? (i := 150) rfl), lw_t1 (List.mem_of_getElem? (i := 151) rfl)⟩
theorem lw_p12 : lw_okq (⟨"SexpMotionModel", "badGap", "(I)Z"⟩, 11) := ⟨⟨by decide +kernel, by decide +kernel⟩, lw_t1 (List.mem_of_getElem? (i := 166) rfl), lw_t1 (List.mem_of_getElem? (i := 210) rfl), lw_t1 (List.mem_of_getElem? (i := 211) rfl)⟩
theorem lw_p13 : lw_okq (⟨"SexpMotionModel", "badPosition", "(I)Z"⟩, 11) := ⟨⟨by decide +kernel, by decide +kernel⟩, lw_t1 (List.mem_of_getElem? (i := 166) rfl), lw_t1 (List.mem_of_getElem? (i := 222) rfl), lw_t1 (List.mem_of_getElem? (i := 223) rfl)⟩
theorem lw_p14 : lw_okq (⟨"SexpMotionModel", "read", "(I)V"⟩, 11) := ⟨⟨by decide +kernel, by decide +kernel⟩, lw_t1 (List.mem_of_getElem? (i := 166) rfl), lw_t1 (List.mem_of_getElem? (i := 238) rfl), lw_t1 (List.mem_of_getElem? (i := 239) rfl)⟩
theorem lw_p15 : lw_okq (⟨"SexpMotionModel", "plain", "(I)I"⟩, 11) := ⟨⟨by decide +kernel, by decide +kernel⟩, lw_t1 (List.mem_of_getElem? (i := 166) rfl), lw_t2 (List.mem_of_getElem? (i := 2) rfl), lw_t2 (List.mem_of_getElem? (i := 3) rfl)⟩
def lw_privs_1 : List (MethodName × Nat) := [(⟨"SexpMotion", "isGap", "(I)Z"⟩, 12), (⟨"SexpMotion", "forgetFrom", "(I)V"⟩, 12), (⟨"SexpMotion", "isPlace", "(I)Z"⟩, 12), (⟨"SexpMotion", "stateAt", "(I)V"⟩, 12), (⟨"SexpMotion", "readTo", "(I)V"⟩, 12), (⟨"SexpMotion", "load", "(I)V"⟩, 12), (⟨"SexpMotion", "keep", "(I)V"⟩, 12), (⟨"SexpMotion", "note", "(I)V"⟩, 12), (⟨"SexpMotion", "step", "(I)V"⟩, 12), (⟨"SexpMotion", "depthOf", "(I)I"⟩, 12), (⟨"SexpMotion", "unitEnd", "(I)I"⟩, 12), (⟨"SexpMotion", "unitStart", "(I)I"⟩, 12), (⟨"SexpMotionModel", "badGap", "(I)Z"⟩, 11), (⟨"SexpMotionModel", "badPosition", "(I)Z"⟩, 11), (⟨"SexpMotionModel", "read", "(I)V"⟩, 11), (⟨"SexpMotionModel", "plain", "(I)I"⟩, 11)]
theorem lw_r1 : ∀ q ∈ lw_privs_1, lw_okq q := List.forall_mem_cons.mpr ⟨lw_p0, List.forall_mem_cons.mpr ⟨lw_p1, List.forall_mem_cons.mpr ⟨lw_p2, List.forall_mem_cons.mpr ⟨lw_p3, List.forall_mem_cons.mpr ⟨lw_p4, List.forall_mem_cons.mpr ⟨lw_p5, List.forall_mem_cons.mpr ⟨lw_p6, List.forall_mem_cons.mpr ⟨lw_p7, List.forall_mem_cons.mpr ⟨lw_p8, List.forall_mem_cons.mpr ⟨lw_p9, List.forall_mem_cons.mpr ⟨lw_p10, List.forall_mem_cons.mpr ⟨lw_p11, List.forall_mem_cons.mpr ⟨lw_p12, List.forall_mem_cons.mpr ⟨lw_p13, List.forall_mem_cons.mpr ⟨lw_p14, List.forall_mem_cons.mpr ⟨lw_p15, fun _ h => absurd h List.not_mem_nil⟩⟩⟩⟩⟩⟩⟩⟩⟩⟩⟩⟩⟩⟩⟩⟩
theorem lw_p16 : lw_okq (⟨"SexpMotionModel", "unitEnd", "(I)I"⟩, 11) := ⟨⟨by decide +kernel, by decide +kernel⟩, lw_t1 (List.mem_of_getElem? (i := 166) rfl), lw_t2 (List.mem_of_getElem? (i := 30) rfl), lw_t2 (List.mem_of_getElem? (i := 31) rfl)⟩
theorem lw_p17 : lw_okq (⟨"SexpMotionModel", "wordEnd", "(I)I"⟩, 11) := ⟨⟨by decide +kernel, by decide +kernel⟩, lw_t1 (List.mem_of_getElem? (i := 166) rfl), lw_t2 (List.mem_of_getElem? (i := 34) rfl), lw_t2 (List.mem_of_getElem? (i := 35) rfl)⟩
theorem lw_p18 : lw_okq (⟨"SexpMotionModel", "wordy", "(I)Z"⟩, 11) := ⟨⟨by decide +kernel, by decide +kernel⟩, lw_t1 (List.mem_of_getElem? (i := 166) rfl), lw_t2 (List.mem_of_getElem? (i := 38) rfl), lw_t2 (List.mem_of_getElem? (i := 39) rfl)⟩
theorem lw_p19 : lw_okq (⟨"SexpMotionModel", "stringEnd", "(I)I"⟩, 11) := ⟨⟨by decide +kernel, by decide +kernel⟩, lw_t1 (List.mem_of_getElem? (i := 166) rfl), lw_t2 (List.mem_of_getElem? (i := 42) rfl), lw_t2 (List.mem_of_getElem? (i := 43) rfl)⟩
theorem lw_p20 : lw_okq (⟨"SexpMotionModel", "unitStart", "(I)I"⟩, 11) := ⟨⟨by decide +kernel, by decide +kernel⟩, lw_t1 (List.mem_of_getElem? (i := 166) rfl), lw_t2 (List.mem_of_getElem? (i := 50) rfl), lw_t2 (List.mem_of_getElem? (i := 51) rfl)⟩
def lw_privs_2 : List (MethodName × Nat) := [(⟨"SexpMotionModel", "unitEnd", "(I)I"⟩, 11), (⟨"SexpMotionModel", "wordEnd", "(I)I"⟩, 11), (⟨"SexpMotionModel", "wordy", "(I)Z"⟩, 11), (⟨"SexpMotionModel", "stringEnd", "(I)I"⟩, 11), (⟨"SexpMotionModel", "unitStart", "(I)I"⟩, 11)]
theorem lw_r2 : ∀ q ∈ lw_privs_2, lw_okq q := List.forall_mem_cons.mpr ⟨lw_p16, List.forall_mem_cons.mpr ⟨lw_p17, List.forall_mem_cons.mpr ⟨lw_p18, List.forall_mem_cons.mpr ⟨lw_p19, List.forall_mem_cons.mpr ⟨lw_p20, fun _ h => absurd h List.not_mem_nil⟩⟩⟩⟩⟩
def lw_privs : List (MethodName × Nat) := lw_privs_1 ++ (lw_privs_2)
def lw_tbl : List Cond := k2_sels lw_privs ++ tables_1
theorem lw_privs_ok : ∀ q ∈ lw_privs, lw_okq q := by
  show ∀ q ∈ lw_privs_1 ++ (lw_privs_2), lw_okq q
  exact List.forall_mem_append.mpr ⟨lw_r1, lw_r2⟩
-- ===== ONE list of words for every method: the tables' words that hold all through a run =====
def lw_all : List Cond := lw_tbl.filter goodWord
/-- a word of the tables by its place: claim/WORDS.tsv -/
theorem lw_w {w : Cond} (i : Nat) (h : lw_tbl[i]? = some w) (g : goodWord w = true) : w ∈ lw_all := List.mem_filter.mpr ⟨List.mem_of_getElem? h, g⟩
theorem lw_all_tbl {w : Cond} (h : w ∈ lw_all) : w ∈ lw_tbl := (List.mem_filter.mp h).1
theorem lw_self : GoodIn lw_all lw_all := fun w h => ⟨h, good_of_word (List.mem_filter.mp h).2⟩
/-- a class's field words, by their places -/
theorem lw_in (ws : List Cond) (ps : List Nat) (hp : ws = ps.filterMap (fun i => lw_tbl[i]?)) (hg : ws.all goodWord = true) : ∀ w ∈ ws, w ∈ lw_all := by
  intro w h
  have h1 := List.all_eq_true.mp hg w h
  rw [hp] at h
  obtain ⟨i, -, hi⟩ := List.mem_filterMap.mp h
  exact lw_w i hi h1
/-- the words of a contract for the method y with code b, L locals, answer r -/
abbrev ws_ (y : MethodName) (b : ByteArray) (L : Nat) (r : Option FieldType) : List Cond := Cond.code y b L r :: lw_all
theorem lw_meth {y : MethodName} {b : ByteArray} {L : Nat} {r : Option FieldType} (h : Cond.code y b L r ∈ lw_all) : GoodIn lw_all (ws_ y b L r) := by
  intro w hw
  rcases List.mem_cons.mp hw with e | e
  · rw [e]
    exact lw_self _ h
  · exact lw_self _ e
theorem lw_app {a c : List Cond} (ha : ∀ w ∈ a, w ∈ lw_all) (hc : GoodIn lw_all c) : GoodIn lw_all (a ++ c) := by
  intro w hw
  rcases List.mem_append.mp hw with e | e
  · exact lw_self w (ha w e)
  · exact hc w e
/-- what a call through an object asks: cwV n hts (lw_V ..) -/
theorem lw_V {own : String} {idx : Nat} {C : String} {y : MethodName} {b : ByteArray} {L : Nat} {r : Option FieldType} (h1 : Cond.methodLink own idx y ∈ lw_all) (h2 : Cond.instanceMethod y ∈ lw_all) (h3 : Cond.selects C y y ∈ lw_all) (h4 : Cond.initialized C ∈ lw_all) (h5 : Cond.code y b L r ∈ lw_all) : GoodIn lw_all (wsV own idx C y (ws_ y b L r)) := by
  refine lw_app ?_ (lw_meth h5)
  intro w hw
  simp only [List.mem_cons, List.not_mem_nil, or_false] at hw
  rcases hw with e | e | e | e
  · rw [e]; exact h1
  · rw [e]; exact h2
  · rw [e]; exact h3
  · rw [e]; exact h4
/-- what a static call asks: va_cwS n hts (lw_S ..) -/
theorem lw_S {own : String} {idx : Nat} {y : MethodName} {b : ByteArray} {L : Nat} {r : Option FieldType} (h1 : Cond.methodLink own idx y ∈ lw_all) (h2 : Cond.static y ∈ lw_all) (h3 : Cond.initialized y.cls ∈ lw_all) (h4 : Cond.code y b L r ∈ lw_all) : GoodIn lw_all (va_wsS own idx y (ws_ y b L r)) := by
  refine lw_app ?_ (lw_meth h4)
  intro w hw
  simp only [List.mem_cons, List.not_mem_nil, or_false] at hw
  rcases hw with e | e | e
  · rw [e]; exact h1
  · rw [e]; exact h2
  · rw [e]; exact h3
/-- the words of a contract for a method WITH HANDLERS (hh: its table) -/
abbrev wsW_ (y : MethodName) (b : ByteArray) (L : Nat) (r : Option FieldType) (hh : List (Nat × Nat × Nat × Nat)) : List Cond := Cond.codeWith y b L r hh :: lw_all
theorem lw_methW {y : MethodName} {b : ByteArray} {L : Nat} {r : Option FieldType} {hh : List (Nat × Nat × Nat × Nat)} (h : Cond.codeWith y b L r hh ∈ lw_all) : GoodIn lw_all (wsW_ y b L r hh) := by
  intro w hw
  rcases List.mem_cons.mp hw with e | e
  · rw [e]
    exact lw_self _ h
  · exact lw_self _ e
/-- any list of words by their places (lw_in), good -/
theorem lw_good {ws : List Cond} (h : ∀ w ∈ ws, w ∈ lw_all) : GoodIn lw_all ws := fun w hw => lw_self w (h w hw)
/-- what a call of a method with handlers asks: vx_cwVW n hts (lw_VW ..), vx_cwSW n hts (lw_SW ..) -/
theorem lw_VW {own : String} {idx : Nat} {C : String} {y : MethodName} {b : ByteArray} {L : Nat} {r : Option FieldType} {hh : List (Nat × Nat × Nat × Nat)} (h1 : Cond.methodLink own idx y ∈ lw_all) (h2 : Cond.instanceMethod y ∈ lw_all) (h3 : Cond.selects C y y ∈ lw_all) (h4 : Cond.initialized C ∈ lw_all) (h5 : Cond.codeWith y b L r hh ∈ lw_all) : GoodIn lw_all (wsV own idx C y (wsW_ y b L r hh)) := by
  refine lw_app ?_ (lw_methW h5)
  intro w hw
  simp only [List.mem_cons, List.not_mem_nil, or_false] at hw
  rcases hw with e | e | e | e
  · rw [e]; exact h1
  · rw [e]; exact h2
  · rw [e]; exact h3
  · rw [e]; exact h4
theorem lw_SW {own : String} {idx : Nat} {y : MethodName} {b : ByteArray} {L : Nat} {r : Option FieldType} {hh : List (Nat × Nat × Nat × Nat)} (h1 : Cond.methodLink own idx y ∈ lw_all) (h2 : Cond.static y ∈ lw_all) (h3 : Cond.initialized y.cls ∈ lw_all) (h4 : Cond.codeWith y b L r hh ∈ lw_all) : GoodIn lw_all (va_wsS own idx y (wsW_ y b L r hh)) := by
  refine lw_app ?_ (lw_methW h4)
  intro w hw
  simp only [List.mem_cons, List.not_mem_nil, or_false] at hw
  rcases hw with e | e | e
  · rw [e]; exact h1
  · rw [e]; exact h2
  · rw [e]; exact h3
/-- a word by its place in its run of the tables -/
theorem lw_at {r : List Cond} (hr : ∀ w ∈ r, w ∈ lw_tbl) {w : Cond} (i : Nat) (h : r[i]? = some w) : w ∈ lw_tbl := hr w (List.mem_of_getElem? h)
theorem lw_g {w : Cond} (h : w ∈ lw_tbl) (g : goodWord w = true) : w ∈ lw_all := List.mem_filter.mpr ⟨h, g⟩
theorem lw_ms : ∀ w ∈ k2_sels lw_privs, w ∈ lw_tbl := fun w h => show w ∈ k2_sels lw_privs ++ tables_1 from List.mem_append_left _ h
theorem lw_m1 : ∀ w ∈ tables_1_1, w ∈ lw_tbl := fun w h => show w ∈ k2_sels lw_privs ++ tables_1 from List.mem_append_right (k2_sels lw_privs) (show w ∈ tables_1 from List.mem_append_left _ h)
theorem lw_m2 : ∀ w ∈ tables_1_2, w ∈ lw_tbl := fun w h => show w ∈ k2_sels lw_privs ++ tables_1 from List.mem_append_right (k2_sels lw_privs) (show w ∈ tables_1 from List.mem_append_right _ h)
theorem qs0 : (Cond.selects "SexpMotion" ⟨"SexpMotion", "isGap", "(I)Z"⟩ ⟨"SexpMotion", "isGap", "(I)Z"⟩) ∈ lw_all := lw_g (lw_at lw_ms 0 rfl) rfl
theorem qs1 : (Cond.selects "SexpMotion" ⟨"SexpMotion", "forgetFrom", "(I)V"⟩ ⟨"SexpMotion", "forgetFrom", "(I)V"⟩) ∈ lw_all := lw_g (lw_at lw_ms 1 rfl) rfl
theorem qs2 : (Cond.selects "SexpMotion" ⟨"SexpMotion", "isPlace", "(I)Z"⟩ ⟨"SexpMotion", "isPlace", "(I)Z"⟩) ∈ lw_all := lw_g (lw_at lw_ms 2 rfl) rfl
theorem qs3 : (Cond.selects "SexpMotion" ⟨"SexpMotion", "stateAt", "(I)V"⟩ ⟨"SexpMotion", "stateAt", "(I)V"⟩) ∈ lw_all := lw_g (lw_at lw_ms 3 rfl) rfl
theorem qs4 : (Cond.selects "SexpMotion" ⟨"SexpMotion", "readTo", "(I)V"⟩ ⟨"SexpMotion", "readTo", "(I)V"⟩) ∈ lw_all := lw_g (lw_at lw_ms 4 rfl) rfl
theorem qs5 : (Cond.selects "SexpMotion" ⟨"SexpMotion", "load", "(I)V"⟩ ⟨"SexpMotion", "load", "(I)V"⟩) ∈ lw_all := lw_g (lw_at lw_ms 5 rfl) rfl
theorem qs6 : (Cond.selects "SexpMotion" ⟨"SexpMotion", "keep", "(I)V"⟩ ⟨"SexpMotion", "keep", "(I)V"⟩) ∈ lw_all := lw_g (lw_at lw_ms 6 rfl) rfl
theorem qs7 : (Cond.selects "SexpMotion" ⟨"SexpMotion", "note", "(I)V"⟩ ⟨"SexpMotion", "note", "(I)V"⟩) ∈ lw_all := lw_g (lw_at lw_ms 7 rfl) rfl
theorem qs8 : (Cond.selects "SexpMotion" ⟨"SexpMotion", "step", "(I)V"⟩ ⟨"SexpMotion", "step", "(I)V"⟩) ∈ lw_all := lw_g (lw_at lw_ms 8 rfl) rfl
theorem qs9 : (Cond.selects "SexpMotion" ⟨"SexpMotion", "depthOf", "(I)I"⟩ ⟨"SexpMotion", "depthOf", "(I)I"⟩) ∈ lw_all := lw_g (lw_at lw_ms 9 rfl) rfl
theorem qs10 : (Cond.selects "SexpMotion" ⟨"SexpMotion", "unitEnd", "(I)I"⟩ ⟨"SexpMotion", "unitEnd", "(I)I"⟩) ∈ lw_all := lw_g (lw_at lw_ms 10 rfl) rfl
theorem qs11 : (Cond.selects "SexpMotion" ⟨"SexpMotion", "unitStart", "(I)I"⟩ ⟨"SexpMotion", "unitStart", "(I)I"⟩) ∈ lw_all := lw_g (lw_at lw_ms 11 rfl) rfl
theorem qs12 : (Cond.selects "SexpMotionModel" ⟨"SexpMotionModel", "badGap", "(I)Z"⟩ ⟨"SexpMotionModel", "badGap", "(I)Z"⟩) ∈ lw_all := lw_g (lw_at lw_ms 12 rfl) rfl
theorem qs13 : (Cond.selects "SexpMotionModel" ⟨"SexpMotionModel", "badPosition", "(I)Z"⟩ ⟨"SexpMotionModel", "badPosition", "(I)Z"⟩) ∈ lw_all := lw_g (lw_at lw_ms 13 rfl) rfl
theorem qs14 : (Cond.selects "SexpMotionModel" ⟨"SexpMotionModel", "read", "(I)V"⟩ ⟨"SexpMotionModel", "read", "(I)V"⟩) ∈ lw_all := lw_g (lw_at lw_ms 14 rfl) rfl
theorem qs15 : (Cond.selects "SexpMotionModel" ⟨"SexpMotionModel", "plain", "(I)I"⟩ ⟨"SexpMotionModel", "plain", "(I)I"⟩) ∈ lw_all := lw_g (lw_at lw_ms 15 rfl) rfl
theorem qs16 : (Cond.selects "SexpMotionModel" ⟨"SexpMotionModel", "unitEnd", "(I)I"⟩ ⟨"SexpMotionModel", "unitEnd", "(I)I"⟩) ∈ lw_all := lw_g (lw_at lw_ms 16 rfl) rfl
theorem qs17 : (Cond.selects "SexpMotionModel" ⟨"SexpMotionModel", "wordEnd", "(I)I"⟩ ⟨"SexpMotionModel", "wordEnd", "(I)I"⟩) ∈ lw_all := lw_g (lw_at lw_ms 17 rfl) rfl
theorem qs18 : (Cond.selects "SexpMotionModel" ⟨"SexpMotionModel", "wordy", "(I)Z"⟩ ⟨"SexpMotionModel", "wordy", "(I)Z"⟩) ∈ lw_all := lw_g (lw_at lw_ms 18 rfl) rfl
theorem qs19 : (Cond.selects "SexpMotionModel" ⟨"SexpMotionModel", "stringEnd", "(I)I"⟩ ⟨"SexpMotionModel", "stringEnd", "(I)I"⟩) ∈ lw_all := lw_g (lw_at lw_ms 19 rfl) rfl
theorem qs20 : (Cond.selects "SexpMotionModel" ⟨"SexpMotionModel", "unitStart", "(I)I"⟩ ⟨"SexpMotionModel", "unitStart", "(I)I"⟩) ∈ lw_all := lw_g (lw_at lw_ms 20 rfl) rfl
end
section
set_option maxRecDepth 100000
/-! SexpMotion -/
def RX0 : String := "SexpMotion"
def TX0 : u_T := fun k => match k with
  | 0 => ("SexpMotion", "kind", "[I", true)
  | 1 => ("SexpMotion", "role", "[I", true)
  | 2 => ("SexpMotion", "partners", "[I", true)
  | 3 => ("SexpMotion", "around", "[I", true)
  | 4 => ("SexpMotion", "keptMode", "[I", true)
  | 5 => ("SexpMotion", "keptEscape", "[Z", true)
  | 6 => ("SexpMotion", "keptInner", "[I", true)
  | 7 => ("SexpMotion", "length", "I", false)
  | 8 => ("SexpMotion", "known", "I", false)
  | 9 => ("SexpMotion", "mode", "I", false)
  | 10 => ("SexpMotion", "escape", "Z", false)
  | _ => ("SexpMotion", "inner", "I", false)
def tyX0 : Nat → FieldType := fun k => match k with
  | 0 => .array .int
  | 1 => .array .int
  | 2 => .array .int
  | 3 => .array .int
  | 4 => .array .int
  | 5 => .array .boolean
  | 6 => .array .int
  | 7 => .int
  | 8 => .int
  | 9 => .int
  | 10 => .boolean
  | _ => .int
abbrev wsX00 : List Cond := u_ws RX0 TX0 12
theorem nmX0 : ∀ a, a < 12 → ∀ b, b < 12 → a ≠ b → (TX0 a).2.1 ≠ (TX0 b).2.1 := by decide +kernel
theorem tyX0_ok : ∀ k, k < 12 → parseFieldDescriptor (TX0 k).2.2.1 = some (tyX0 k) := by decide +kernel
abbrev cX0_init : ByteArray := prog_1_method_1_code
def yX0_init : MethodName := ⟨RX0, "<init>", "()V"⟩
abbrev cX0_insert : ByteArray := prog_1_method_2_code
def yX0_insert : MethodName := ⟨RX0, "insert", "(II)I"⟩
abbrev cX0_isGap : ByteArray := prog_1_method_19_code
def yX0_isGap : MethodName := ⟨RX0, "isGap", "(I)Z"⟩
abbrev cX0_isKind : ByteArray := prog_1_method_20_code
def yX0_isKind : MethodName := ⟨RX0, "isKind", "(I)Z"⟩
abbrev cX0_forgetFrom : ByteArray := prog_1_method_21_code
def yX0_forgetFrom : MethodName := ⟨RX0, "forgetFrom", "(I)V"⟩
abbrev cX0_delete : ByteArray := prog_1_method_3_code
def yX0_delete : MethodName := ⟨RX0, "delete", "(II)I"⟩
abbrev cX0_set : ByteArray := prog_1_method_4_code
def yX0_set : MethodName := ⟨RX0, "set", "(II)I"⟩
abbrev cX0_isPlace : ByteArray := prog_1_method_18_code
def yX0_isPlace : MethodName := ⟨RX0, "isPlace", "(I)Z"⟩
abbrev cX0_length : ByteArray := prog_1_method_5_code
def yX0_length : MethodName := ⟨RX0, "length", "()I"⟩
abbrev cX0_kindAt : ByteArray := prog_1_method_6_code
def yX0_kindAt : MethodName := ⟨RX0, "kindAt", "(I)I"⟩
abbrev cX0_mode : ByteArray := prog_1_method_7_code
def yX0_mode : MethodName := ⟨RX0, "mode", "(I)I"⟩
abbrev cX0_stateAt : ByteArray := prog_1_method_25_code
def yX0_stateAt : MethodName := ⟨RX0, "stateAt", "(I)V"⟩
abbrev cX0_readTo : ByteArray := prog_1_method_22_code
def yX0_readTo : MethodName := ⟨RX0, "readTo", "(I)V"⟩
abbrev cX0_load : ByteArray := prog_1_method_23_code
def yX0_load : MethodName := ⟨RX0, "load", "(I)V"⟩
abbrev cX0_keep : ByteArray := prog_1_method_24_code
def yX0_keep : MethodName := ⟨RX0, "keep", "(I)V"⟩
abbrev cX0_note : ByteArray := prog_1_method_26_code
def yX0_note : MethodName := ⟨RX0, "note", "(I)V"⟩
abbrev cX0_step : ByteArray := prog_1_method_27_code
def yX0_step : MethodName := ⟨RX0, "step", "(I)V"⟩
abbrev cX0_escaped : ByteArray := prog_1_method_8_code
def yX0_escaped : MethodName := ⟨RX0, "escaped", "(I)I"⟩
abbrev cX0_depth : ByteArray := prog_1_method_9_code
def yX0_depth : MethodName := ⟨RX0, "depth", "(I)I"⟩
abbrev cX0_depthOf : ByteArray := prog_1_method_28_code
def yX0_depthOf : MethodName := ⟨RX0, "depthOf", "(I)I"⟩
abbrev cX0_bracketAt : ByteArray := prog_1_method_10_code
def yX0_bracketAt : MethodName := ⟨RX0, "bracketAt", "(II)I"⟩
abbrev cX0_partner : ByteArray := prog_1_method_11_code
def yX0_partner : MethodName := ⟨RX0, "partner", "(I)I"⟩
abbrev cX0_strays : ByteArray := prog_1_method_12_code
def yX0_strays : MethodName := ⟨RX0, "strays", "()I"⟩
abbrev cX0_forward : ByteArray := prog_1_method_13_code
def yX0_forward : MethodName := ⟨RX0, "forward", "(I)I"⟩
abbrev cX0_unitEnd : ByteArray := prog_1_method_29_code
def yX0_unitEnd : MethodName := ⟨RX0, "unitEnd", "(I)I"⟩
abbrev cX0_backward : ByteArray := prog_1_method_14_code
def yX0_backward : MethodName := ⟨RX0, "backward", "(I)I"⟩
abbrev cX0_unitStart : ByteArray := prog_1_method_30_code
def yX0_unitStart : MethodName := ⟨RX0, "unitStart", "(I)I"⟩
abbrev cX0_up : ByteArray := prog_1_method_15_code
def yX0_up : MethodName := ⟨RX0, "up", "(I)I"⟩
abbrev cX0_down : ByteArray := prog_1_method_16_code
def yX0_down : MethodName := ⟨RX0, "down", "(I)I"⟩
abbrev cX0_units : ByteArray := prog_1_method_17_code
def yX0_units : MethodName := ⟨RX0, "units", "()I"⟩
/-! SexpMotionModel -/
def RX1 : String := "SexpMotionModel"
def TX1 : u_T := fun k => match k with
  | 0 => ("SexpMotionModel", "length", "I", false)
  | 1 => ("SexpMotionModel", "text", "[I", false)
  | 2 => ("SexpMotionModel", "modes", "[I", false)
  | 3 => ("SexpMotionModel", "escapes", "[Z", false)
  | 4 => ("SexpMotionModel", "depths", "[I", false)
  | 5 => ("SexpMotionModel", "partners", "[I", false)
  | 6 => ("SexpMotionModel", "joins", "[Z", false)
  | 7 => ("SexpMotionModel", "closes", "[Z", false)
  | 8 => ("SexpMotionModel", "stray", "[Z", false)
  | 9 => ("SexpMotionModel", "stack", "[I", false)
  | _ => ("SexpMotionModel", "top", "I", false)
def tyX1 : Nat → FieldType := fun k => match k with
  | 0 => .int
  | 1 => .array .int
  | 2 => .array .int
  | 3 => .array .boolean
  | 4 => .array .int
  | 5 => .array .int
  | 6 => .array .boolean
  | 7 => .array .boolean
  | 8 => .array .boolean
  | 9 => .array .int
  | _ => .int
abbrev wsX10 : List Cond := u_ws RX1 TX1 11
theorem nmX1 : ∀ a, a < 11 → ∀ b, b < 11 → a ≠ b → (TX1 a).2.1 ≠ (TX1 b).2.1 := by decide +kernel
theorem tyX1_ok : ∀ k, k < 11 → parseFieldDescriptor (TX1 k).2.2.1 = some (tyX1 k) := by decide +kernel
abbrev cX1_init : ByteArray := prog_3_method_1_code
def yX1_init : MethodName := ⟨RX1, "<init>", "()V"⟩
abbrev cX1_insert : ByteArray := prog_3_method_4_code
def yX1_insert : MethodName := ⟨RX1, "insert", "(II)I"⟩
abbrev cX1_badGap : ByteArray := prog_3_method_3_code
def yX1_badGap : MethodName := ⟨RX1, "badGap", "(I)Z"⟩
abbrev cX1_delete : ByteArray := prog_3_method_5_code
def yX1_delete : MethodName := ⟨RX1, "delete", "(II)I"⟩
abbrev cX1_set : ByteArray := prog_3_method_6_code
def yX1_set : MethodName := ⟨RX1, "set", "(II)I"⟩
abbrev cX1_badPosition : ByteArray := prog_3_method_2_code
def yX1_badPosition : MethodName := ⟨RX1, "badPosition", "(I)Z"⟩
abbrev cX1_length : ByteArray := prog_3_method_7_code
def yX1_length : MethodName := ⟨RX1, "length", "()I"⟩
abbrev cX1_kindAt : ByteArray := prog_3_method_8_code
def yX1_kindAt : MethodName := ⟨RX1, "kindAt", "(I)I"⟩
abbrev cX1_mode : ByteArray := prog_3_method_11_code
def yX1_mode : MethodName := ⟨RX1, "mode", "(I)I"⟩
abbrev cX1_read : ByteArray := prog_3_method_10_code
def yX1_read : MethodName := ⟨RX1, "read", "(I)V"⟩
abbrev cX1_plain : ByteArray := prog_3_method_9_code
def yX1_plain : MethodName := ⟨RX1, "plain", "(I)I"⟩
abbrev cX1_escaped : ByteArray := prog_3_method_12_code
def yX1_escaped : MethodName := ⟨RX1, "escaped", "(I)I"⟩
abbrev cX1_depth : ByteArray := prog_3_method_13_code
def yX1_depth : MethodName := ⟨RX1, "depth", "(I)I"⟩
abbrev cX1_bracketAt : ByteArray := prog_3_method_14_code
def yX1_bracketAt : MethodName := ⟨RX1, "bracketAt", "(II)I"⟩
abbrev cX1_partner : ByteArray := prog_3_method_15_code
def yX1_partner : MethodName := ⟨RX1, "partner", "(I)I"⟩
abbrev cX1_strays : ByteArray := prog_3_method_16_code
def yX1_strays : MethodName := ⟨RX1, "strays", "()I"⟩
abbrev cX1_forward : ByteArray := prog_3_method_21_code
def yX1_forward : MethodName := ⟨RX1, "forward", "(I)I"⟩
abbrev cX1_unitEnd : ByteArray := prog_3_method_20_code
def yX1_unitEnd : MethodName := ⟨RX1, "unitEnd", "(I)I"⟩
abbrev cX1_wordEnd : ByteArray := prog_3_method_18_code
def yX1_wordEnd : MethodName := ⟨RX1, "wordEnd", "(I)I"⟩
abbrev cX1_wordy : ByteArray := prog_3_method_17_code
def yX1_wordy : MethodName := ⟨RX1, "wordy", "(I)Z"⟩
abbrev cX1_stringEnd : ByteArray := prog_3_method_19_code
def yX1_stringEnd : MethodName := ⟨RX1, "stringEnd", "(I)I"⟩
abbrev cX1_backward : ByteArray := prog_3_method_23_code
def yX1_backward : MethodName := ⟨RX1, "backward", "(I)I"⟩
abbrev cX1_unitStart : ByteArray := prog_3_method_22_code
def yX1_unitStart : MethodName := ⟨RX1, "unitStart", "(I)I"⟩
abbrev cX1_up : ByteArray := prog_3_method_24_code
def yX1_up : MethodName := ⟨RX1, "up", "(I)I"⟩
abbrev cX1_down : ByteArray := prog_3_method_25_code
def yX1_down : MethodName := ⟨RX1, "down", "(I)I"⟩
abbrev cX1_units : ByteArray := prog_3_method_26_code
def yX1_units : MethodName := ⟨RX1, "units", "()I"⟩
/-! java/lang/Object -/
def RJ0 : String := "java/lang/Object"
abbrev cJ0_init : ByteArray := object_method_1_code
def yJ0_init : MethodName := ⟨RJ0, "<init>", "()V"⟩
/-! the law's own entry -/
abbrev cL_law : ByteArray := code
theorem q22 : (Jvm.Cond.initialized "SexpMotion") ∈ lw_all := lw_g (lw_at lw_m1 1 rfl) rfl
theorem q25 : (Jvm.Cond.instantiable "SexpMotion" (12 : Nat)) ∈ lw_all := lw_g (lw_at lw_m1 4 rfl) rfl
theorem q27 : (Jvm.Cond.instanceMethod ({ cls := "SexpMotion", name := "<init>", desc := "()V" } : Jvm.MethodName)) ∈ lw_all := lw_g (lw_at lw_m1 6 rfl) rfl
theorem q28 : (Jvm.Cond.code ({ cls := "SexpMotion", name := "<init>", desc := "()V" } : Jvm.MethodName) prog_1_method_1_code (1 : Nat) (Option.none : Option Jvm.ClassFile.FieldType)) ∈ lw_all := lw_g (lw_at lw_m1 7 rfl) rfl
theorem q29 : (Jvm.Cond.methodLink "SexpMotion" (1 : Nat) ({ cls := "java/lang/Object", name := "<init>", desc := "()V" } : Jvm.MethodName)) ∈ lw_all := lw_g (lw_at lw_m1 8 rfl) rfl
theorem q32 : (Jvm.Cond.fieldLink "SexpMotion" (7 : Nat) "SexpMotion" "kind" "[I") ∈ lw_all := lw_g (lw_at lw_m1 11 rfl) rfl
theorem q33 : (Jvm.Cond.fieldLink "SexpMotion" (13 : Nat) "SexpMotion" "role" "[I") ∈ lw_all := lw_g (lw_at lw_m1 12 rfl) rfl
theorem q34 : (Jvm.Cond.fieldLink "SexpMotion" (16 : Nat) "SexpMotion" "partners" "[I") ∈ lw_all := lw_g (lw_at lw_m1 13 rfl) rfl
theorem q35 : (Jvm.Cond.fieldLink "SexpMotion" (19 : Nat) "SexpMotion" "around" "[I") ∈ lw_all := lw_g (lw_at lw_m1 14 rfl) rfl
theorem q36 : (Jvm.Cond.fieldLink "SexpMotion" (22 : Nat) "SexpMotion" "keptMode" "[I") ∈ lw_all := lw_g (lw_at lw_m1 15 rfl) rfl
theorem q37 : (Jvm.Cond.fieldLink "SexpMotion" (25 : Nat) "SexpMotion" "keptEscape" "[Z") ∈ lw_all := lw_g (lw_at lw_m1 16 rfl) rfl
theorem q38 : (Jvm.Cond.fieldLink "SexpMotion" (29 : Nat) "SexpMotion" "keptInner" "[I") ∈ lw_all := lw_g (lw_at lw_m1 17 rfl) rfl
theorem q39 : (Jvm.Cond.fieldLink "SexpMotion" (39 : Nat) "SexpMotion" "length" "I") ∈ lw_all := lw_g (lw_at lw_m1 18 rfl) rfl
theorem q40 : (Jvm.Cond.fieldLink "SexpMotion" (76 : Nat) "SexpMotion" "known" "I") ∈ lw_all := lw_g (lw_at lw_m1 19 rfl) rfl
theorem q41 : (Jvm.Cond.fieldLink "SexpMotion" (53 : Nat) "SexpMotion" "mode" "I") ∈ lw_all := lw_g (lw_at lw_m1 20 rfl) rfl
theorem q42 : (Jvm.Cond.fieldLink "SexpMotion" (56 : Nat) "SexpMotion" "escape" "Z") ∈ lw_all := lw_g (lw_at lw_m1 21 rfl) rfl
theorem q43 : (Jvm.Cond.fieldLink "SexpMotion" (60 : Nat) "SexpMotion" "inner" "I") ∈ lw_all := lw_g (lw_at lw_m1 22 rfl) rfl
theorem q44 : (Jvm.Cond.laysFinal "SexpMotion" "SexpMotion" "kind" "[I") ∈ lw_all := lw_g (lw_at lw_m1 23 rfl) rfl
theorem q45 : (Jvm.Cond.soleField "SexpMotion" "kind") ∈ lw_all := lw_g (lw_at lw_m1 24 rfl) rfl
theorem q46 : (Jvm.Cond.laysFinal "SexpMotion" "SexpMotion" "role" "[I") ∈ lw_all := lw_g (lw_at lw_m1 25 rfl) rfl
theorem q47 : (Jvm.Cond.soleField "SexpMotion" "role") ∈ lw_all := lw_g (lw_at lw_m1 26 rfl) rfl
theorem q48 : (Jvm.Cond.laysFinal "SexpMotion" "SexpMotion" "partners" "[I") ∈ lw_all := lw_g (lw_at lw_m1 27 rfl) rfl
theorem q49 : (Jvm.Cond.soleField "SexpMotion" "partners") ∈ lw_all := lw_g (lw_at lw_m1 28 rfl) rfl
theorem q50 : (Jvm.Cond.laysFinal "SexpMotion" "SexpMotion" "around" "[I") ∈ lw_all := lw_g (lw_at lw_m1 29 rfl) rfl
theorem q51 : (Jvm.Cond.soleField "SexpMotion" "around") ∈ lw_all := lw_g (lw_at lw_m1 30 rfl) rfl
theorem q52 : (Jvm.Cond.laysFinal "SexpMotion" "SexpMotion" "keptMode" "[I") ∈ lw_all := lw_g (lw_at lw_m1 31 rfl) rfl
theorem q53 : (Jvm.Cond.soleField "SexpMotion" "keptMode") ∈ lw_all := lw_g (lw_at lw_m1 32 rfl) rfl
theorem q54 : (Jvm.Cond.laysFinal "SexpMotion" "SexpMotion" "keptEscape" "[Z") ∈ lw_all := lw_g (lw_at lw_m1 33 rfl) rfl
theorem q55 : (Jvm.Cond.soleField "SexpMotion" "keptEscape") ∈ lw_all := lw_g (lw_at lw_m1 34 rfl) rfl
theorem q56 : (Jvm.Cond.laysFinal "SexpMotion" "SexpMotion" "keptInner" "[I") ∈ lw_all := lw_g (lw_at lw_m1 35 rfl) rfl
theorem q57 : (Jvm.Cond.soleField "SexpMotion" "keptInner") ∈ lw_all := lw_g (lw_at lw_m1 36 rfl) rfl
theorem q58 : (Jvm.Cond.lays "SexpMotion" "SexpMotion" "length" "I") ∈ lw_all := lw_g (lw_at lw_m1 37 rfl) rfl
theorem q59 : (Jvm.Cond.soleField "SexpMotion" "length") ∈ lw_all := lw_g (lw_at lw_m1 38 rfl) rfl
theorem q60 : (Jvm.Cond.lays "SexpMotion" "SexpMotion" "known" "I") ∈ lw_all := lw_g (lw_at lw_m1 39 rfl) rfl
theorem q61 : (Jvm.Cond.soleField "SexpMotion" "known") ∈ lw_all := lw_g (lw_at lw_m1 40 rfl) rfl
theorem q62 : (Jvm.Cond.lays "SexpMotion" "SexpMotion" "mode" "I") ∈ lw_all := lw_g (lw_at lw_m1 41 rfl) rfl
theorem q63 : (Jvm.Cond.soleField "SexpMotion" "mode") ∈ lw_all := lw_g (lw_at lw_m1 42 rfl) rfl
theorem q64 : (Jvm.Cond.lays "SexpMotion" "SexpMotion" "escape" "Z") ∈ lw_all := lw_g (lw_at lw_m1 43 rfl) rfl
theorem q65 : (Jvm.Cond.soleField "SexpMotion" "escape") ∈ lw_all := lw_g (lw_at lw_m1 44 rfl) rfl
theorem q66 : (Jvm.Cond.lays "SexpMotion" "SexpMotion" "inner" "I") ∈ lw_all := lw_g (lw_at lw_m1 45 rfl) rfl
theorem q67 : (Jvm.Cond.soleField "SexpMotion" "inner") ∈ lw_all := lw_g (lw_at lw_m1 46 rfl) rfl
theorem q68 : (Jvm.Cond.superclass "SexpMotion" "java/lang/Object") ∈ lw_all := lw_g (lw_at lw_m1 47 rfl) rfl
theorem q72 : (Jvm.Cond.instanceMethod ({ cls := "SexpMotion", name := "insert", desc := "(II)I" } : Jvm.MethodName)) ∈ lw_all := lw_g (lw_at lw_m1 51 rfl) rfl
theorem q73 : (Jvm.Cond.selects "SexpMotion" ({ cls := "SexpMotion", name := "insert", desc := "(II)I" } : Jvm.MethodName) ({ cls := "SexpMotion", name := "insert", desc := "(II)I" } : Jvm.MethodName)) ∈ lw_all := lw_g (lw_at lw_m1 52 rfl) rfl
theorem q74 : (Jvm.Cond.code ({ cls := "SexpMotion", name := "insert", desc := "(II)I" } : Jvm.MethodName) prog_1_method_2_code (4 : Nat) (Option.some Jvm.ClassFile.FieldType.int)) ∈ lw_all := lw_g (lw_at lw_m1 53 rfl) rfl
theorem q75 : (Jvm.Cond.methodLink "SexpMotion" (32 : Nat) ({ cls := "SexpMotion", name := "isGap", desc := "(I)Z" } : Jvm.MethodName)) ∈ lw_all := lw_g (lw_at lw_m1 54 rfl) rfl
theorem q76 : (Jvm.Cond.privateMethod ({ cls := "SexpMotion", name := "isGap", desc := "(I)Z" } : Jvm.MethodName)) ∈ lw_tbl := lw_at lw_m1 55 rfl
theorem q77 : (Jvm.Cond.instanceMethod ({ cls := "SexpMotion", name := "isGap", desc := "(I)Z" } : Jvm.MethodName)) ∈ lw_all := lw_g (lw_at lw_m1 56 rfl) rfl
theorem q78 : (Jvm.Cond.code ({ cls := "SexpMotion", name := "isGap", desc := "(I)Z" } : Jvm.MethodName) prog_1_method_19_code (2 : Nat) (Option.some Jvm.ClassFile.FieldType.boolean)) ∈ lw_all := lw_g (lw_at lw_m1 57 rfl) rfl
theorem q79 : (Jvm.Cond.methodLink "SexpMotion" (36 : Nat) ({ cls := "SexpMotion", name := "isKind", desc := "(I)Z" } : Jvm.MethodName)) ∈ lw_all := lw_g (lw_at lw_m1 58 rfl) rfl
theorem q80 : (Jvm.Cond.static ({ cls := "SexpMotion", name := "isKind", desc := "(I)Z" } : Jvm.MethodName)) ∈ lw_all := lw_g (lw_at lw_m1 59 rfl) rfl
theorem q81 : (Jvm.Cond.code ({ cls := "SexpMotion", name := "isKind", desc := "(I)Z" } : Jvm.MethodName) prog_1_method_20_code (1 : Nat) (Option.some Jvm.ClassFile.FieldType.boolean)) ∈ lw_all := lw_g (lw_at lw_m1 60 rfl) rfl
theorem q82 : (Jvm.Cond.methodLink "SexpMotion" (43 : Nat) ({ cls := "SexpMotion", name := "forgetFrom", desc := "(I)V" } : Jvm.MethodName)) ∈ lw_all := lw_g (lw_at lw_m1 61 rfl) rfl
theorem q83 : (Jvm.Cond.privateMethod ({ cls := "SexpMotion", name := "forgetFrom", desc := "(I)V" } : Jvm.MethodName)) ∈ lw_tbl := lw_at lw_m1 62 rfl
theorem q84 : (Jvm.Cond.instanceMethod ({ cls := "SexpMotion", name := "forgetFrom", desc := "(I)V" } : Jvm.MethodName)) ∈ lw_all := lw_g (lw_at lw_m1 63 rfl) rfl
theorem q85 : (Jvm.Cond.code ({ cls := "SexpMotion", name := "forgetFrom", desc := "(I)V" } : Jvm.MethodName) prog_1_method_21_code (3 : Nat) (Option.none : Option Jvm.ClassFile.FieldType)) ∈ lw_all := lw_g (lw_at lw_m1 64 rfl) rfl
theorem q87 : (Jvm.Cond.instanceMethod ({ cls := "SexpMotion", name := "delete", desc := "(II)I" } : Jvm.MethodName)) ∈ lw_all := lw_g (lw_at lw_m1 66 rfl) rfl
theorem q88 : (Jvm.Cond.selects "SexpMotion" ({ cls := "SexpMotion", name := "delete", desc := "(II)I" } : Jvm.MethodName) ({ cls := "SexpMotion", name := "delete", desc := "(II)I" } : Jvm.MethodName)) ∈ lw_all := lw_g (lw_at lw_m1 67 rfl) rfl
theorem q89 : (Jvm.Cond.code ({ cls := "SexpMotion", name := "delete", desc := "(II)I" } : Jvm.MethodName) prog_1_method_3_code (5 : Nat) (Option.some Jvm.ClassFile.FieldType.int)) ∈ lw_all := lw_g (lw_at lw_m1 68 rfl) rfl
theorem q91 : (Jvm.Cond.instanceMethod ({ cls := "SexpMotion", name := "set", desc := "(II)I" } : Jvm.MethodName)) ∈ lw_all := lw_g (lw_at lw_m1 70 rfl) rfl
theorem q92 : (Jvm.Cond.selects "SexpMotion" ({ cls := "SexpMotion", name := "set", desc := "(II)I" } : Jvm.MethodName) ({ cls := "SexpMotion", name := "set", desc := "(II)I" } : Jvm.MethodName)) ∈ lw_all := lw_g (lw_at lw_m1 71 rfl) rfl
theorem q93 : (Jvm.Cond.code ({ cls := "SexpMotion", name := "set", desc := "(II)I" } : Jvm.MethodName) prog_1_method_4_code (4 : Nat) (Option.some Jvm.ClassFile.FieldType.int)) ∈ lw_all := lw_g (lw_at lw_m1 72 rfl) rfl
theorem q94 : (Jvm.Cond.methodLink "SexpMotion" (47 : Nat) ({ cls := "SexpMotion", name := "isPlace", desc := "(I)Z" } : Jvm.MethodName)) ∈ lw_all := lw_g (lw_at lw_m1 73 rfl) rfl
theorem q95 : (Jvm.Cond.privateMethod ({ cls := "SexpMotion", name := "isPlace", desc := "(I)Z" } : Jvm.MethodName)) ∈ lw_tbl := lw_at lw_m1 74 rfl
theorem q96 : (Jvm.Cond.instanceMethod ({ cls := "SexpMotion", name := "isPlace", desc := "(I)Z" } : Jvm.MethodName)) ∈ lw_all := lw_g (lw_at lw_m1 75 rfl) rfl
theorem q97 : (Jvm.Cond.code ({ cls := "SexpMotion", name := "isPlace", desc := "(I)Z" } : Jvm.MethodName) prog_1_method_18_code (2 : Nat) (Option.some Jvm.ClassFile.FieldType.boolean)) ∈ lw_all := lw_g (lw_at lw_m1 76 rfl) rfl
theorem q99 : (Jvm.Cond.instanceMethod ({ cls := "SexpMotion", name := "length", desc := "()I" } : Jvm.MethodName)) ∈ lw_all := lw_g (lw_at lw_m1 78 rfl) rfl
theorem q100 : (Jvm.Cond.selects "SexpMotion" ({ cls := "SexpMotion", name := "length", desc := "()I" } : Jvm.MethodName) ({ cls := "SexpMotion", name := "length", desc := "()I" } : Jvm.MethodName)) ∈ lw_all := lw_g (lw_at lw_m1 79 rfl) rfl
theorem q101 : (Jvm.Cond.code ({ cls := "SexpMotion", name := "length", desc := "()I" } : Jvm.MethodName) prog_1_method_5_code (1 : Nat) (Option.some Jvm.ClassFile.FieldType.int)) ∈ lw_all := lw_g (lw_at lw_m1 80 rfl) rfl
theorem q103 : (Jvm.Cond.instanceMethod ({ cls := "SexpMotion", name := "kindAt", desc := "(I)I" } : Jvm.MethodName)) ∈ lw_all := lw_g (lw_at lw_m1 82 rfl) rfl
theorem q104 : (Jvm.Cond.selects "SexpMotion" ({ cls := "SexpMotion", name := "kindAt", desc := "(I)I" } : Jvm.MethodName) ({ cls := "SexpMotion", name := "kindAt", desc := "(I)I" } : Jvm.MethodName)) ∈ lw_all := lw_g (lw_at lw_m1 83 rfl) rfl
theorem q105 : (Jvm.Cond.code ({ cls := "SexpMotion", name := "kindAt", desc := "(I)I" } : Jvm.MethodName) prog_1_method_6_code (2 : Nat) (Option.some Jvm.ClassFile.FieldType.int)) ∈ lw_all := lw_g (lw_at lw_m1 84 rfl) rfl
theorem q107 : (Jvm.Cond.instanceMethod ({ cls := "SexpMotion", name := "mode", desc := "(I)I" } : Jvm.MethodName)) ∈ lw_all := lw_g (lw_at lw_m1 86 rfl) rfl
theorem q108 : (Jvm.Cond.selects "SexpMotion" ({ cls := "SexpMotion", name := "mode", desc := "(I)I" } : Jvm.MethodName) ({ cls := "SexpMotion", name := "mode", desc := "(I)I" } : Jvm.MethodName)) ∈ lw_all := lw_g (lw_at lw_m1 87 rfl) rfl
theorem q109 : (Jvm.Cond.code ({ cls := "SexpMotion", name := "mode", desc := "(I)I" } : Jvm.MethodName) prog_1_method_7_code (2 : Nat) (Option.some Jvm.ClassFile.FieldType.int)) ∈ lw_all := lw_g (lw_at lw_m1 88 rfl) rfl
theorem q110 : (Jvm.Cond.methodLink "SexpMotion" (50 : Nat) ({ cls := "SexpMotion", name := "stateAt", desc := "(I)V" } : Jvm.MethodName)) ∈ lw_all := lw_g (lw_at lw_m1 89 rfl) rfl
theorem q111 : (Jvm.Cond.privateMethod ({ cls := "SexpMotion", name := "stateAt", desc := "(I)V" } : Jvm.MethodName)) ∈ lw_tbl := lw_at lw_m1 90 rfl
theorem q112 : (Jvm.Cond.instanceMethod ({ cls := "SexpMotion", name := "stateAt", desc := "(I)V" } : Jvm.MethodName)) ∈ lw_all := lw_g (lw_at lw_m1 91 rfl) rfl
theorem q113 : (Jvm.Cond.code ({ cls := "SexpMotion", name := "stateAt", desc := "(I)V" } : Jvm.MethodName) prog_1_method_25_code (3 : Nat) (Option.none : Option Jvm.ClassFile.FieldType)) ∈ lw_all := lw_g (lw_at lw_m1 92 rfl) rfl
theorem q114 : (Jvm.Cond.methodLink "SexpMotion" (67 : Nat) ({ cls := "SexpMotion", name := "readTo", desc := "(I)V" } : Jvm.MethodName)) ∈ lw_all := lw_g (lw_at lw_m1 93 rfl) rfl
theorem q115 : (Jvm.Cond.privateMethod ({ cls := "SexpMotion", name := "readTo", desc := "(I)V" } : Jvm.MethodName)) ∈ lw_tbl := lw_at lw_m1 94 rfl
theorem q116 : (Jvm.Cond.instanceMethod ({ cls := "SexpMotion", name := "readTo", desc := "(I)V" } : Jvm.MethodName)) ∈ lw_all := lw_g (lw_at lw_m1 95 rfl) rfl
theorem q117 : (Jvm.Cond.code ({ cls := "SexpMotion", name := "readTo", desc := "(I)V" } : Jvm.MethodName) prog_1_method_22_code (3 : Nat) (Option.none : Option Jvm.ClassFile.FieldType)) ∈ lw_all := lw_g (lw_at lw_m1 96 rfl) rfl
theorem q118 : (Jvm.Cond.methodLink "SexpMotion" (79 : Nat) ({ cls := "SexpMotion", name := "load", desc := "(I)V" } : Jvm.MethodName)) ∈ lw_all := lw_g (lw_at lw_m1 97 rfl) rfl
theorem q119 : (Jvm.Cond.privateMethod ({ cls := "SexpMotion", name := "load", desc := "(I)V" } : Jvm.MethodName)) ∈ lw_tbl := lw_at lw_m1 98 rfl
theorem q120 : (Jvm.Cond.instanceMethod ({ cls := "SexpMotion", name := "load", desc := "(I)V" } : Jvm.MethodName)) ∈ lw_all := lw_g (lw_at lw_m1 99 rfl) rfl
theorem q121 : (Jvm.Cond.code ({ cls := "SexpMotion", name := "load", desc := "(I)V" } : Jvm.MethodName) prog_1_method_23_code (2 : Nat) (Option.none : Option Jvm.ClassFile.FieldType)) ∈ lw_all := lw_g (lw_at lw_m1 100 rfl) rfl
theorem q122 : (Jvm.Cond.methodLink "SexpMotion" (82 : Nat) ({ cls := "SexpMotion", name := "keep", desc := "(I)V" } : Jvm.MethodName)) ∈ lw_all := lw_g (lw_at lw_m1 101 rfl) rfl
theorem q123 : (Jvm.Cond.privateMethod ({ cls := "SexpMotion", name := "keep", desc := "(I)V" } : Jvm.MethodName)) ∈ lw_tbl := lw_at lw_m1 102 rfl
theorem q124 : (Jvm.Cond.instanceMethod ({ cls := "SexpMotion", name := "keep", desc := "(I)V" } : Jvm.MethodName)) ∈ lw_all := lw_g (lw_at lw_m1 103 rfl) rfl
theorem q125 : (Jvm.Cond.code ({ cls := "SexpMotion", name := "keep", desc := "(I)V" } : Jvm.MethodName) prog_1_method_24_code (2 : Nat) (Option.none : Option Jvm.ClassFile.FieldType)) ∈ lw_all := lw_g (lw_at lw_m1 104 rfl) rfl
theorem q126 : (Jvm.Cond.methodLink "SexpMotion" (85 : Nat) ({ cls := "SexpMotion", name := "note", desc := "(I)V" } : Jvm.MethodName)) ∈ lw_all := lw_g (lw_at lw_m1 105 rfl) rfl
theorem q127 : (Jvm.Cond.privateMethod ({ cls := "SexpMotion", name := "note", desc := "(I)V" } : Jvm.MethodName)) ∈ lw_tbl := lw_at lw_m1 106 rfl
theorem q128 : (Jvm.Cond.instanceMethod ({ cls := "SexpMotion", name := "note", desc := "(I)V" } : Jvm.MethodName)) ∈ lw_all := lw_g (lw_at lw_m1 107 rfl) rfl
theorem q129 : (Jvm.Cond.code ({ cls := "SexpMotion", name := "note", desc := "(I)V" } : Jvm.MethodName) prog_1_method_26_code (3 : Nat) (Option.none : Option Jvm.ClassFile.FieldType)) ∈ lw_all := lw_g (lw_at lw_m1 108 rfl) rfl
theorem q130 : (Jvm.Cond.methodLink "SexpMotion" (88 : Nat) ({ cls := "SexpMotion", name := "step", desc := "(I)V" } : Jvm.MethodName)) ∈ lw_all := lw_g (lw_at lw_m1 109 rfl) rfl
theorem q131 : (Jvm.Cond.privateMethod ({ cls := "SexpMotion", name := "step", desc := "(I)V" } : Jvm.MethodName)) ∈ lw_tbl := lw_at lw_m1 110 rfl
theorem q132 : (Jvm.Cond.instanceMethod ({ cls := "SexpMotion", name := "step", desc := "(I)V" } : Jvm.MethodName)) ∈ lw_all := lw_g (lw_at lw_m1 111 rfl) rfl
theorem q133 : (Jvm.Cond.code ({ cls := "SexpMotion", name := "step", desc := "(I)V" } : Jvm.MethodName) prog_1_method_27_code (3 : Nat) (Option.none : Option Jvm.ClassFile.FieldType)) ∈ lw_all := lw_g (lw_at lw_m1 112 rfl) rfl
theorem q135 : (Jvm.Cond.instanceMethod ({ cls := "SexpMotion", name := "escaped", desc := "(I)I" } : Jvm.MethodName)) ∈ lw_all := lw_g (lw_at lw_m1 114 rfl) rfl
theorem q136 : (Jvm.Cond.selects "SexpMotion" ({ cls := "SexpMotion", name := "escaped", desc := "(I)I" } : Jvm.MethodName) ({ cls := "SexpMotion", name := "escaped", desc := "(I)I" } : Jvm.MethodName)) ∈ lw_all := lw_g (lw_at lw_m1 115 rfl) rfl
theorem q137 : (Jvm.Cond.code ({ cls := "SexpMotion", name := "escaped", desc := "(I)I" } : Jvm.MethodName) prog_1_method_8_code (2 : Nat) (Option.some Jvm.ClassFile.FieldType.int)) ∈ lw_all := lw_g (lw_at lw_m1 116 rfl) rfl
theorem q139 : (Jvm.Cond.instanceMethod ({ cls := "SexpMotion", name := "depth", desc := "(I)I" } : Jvm.MethodName)) ∈ lw_all := lw_g (lw_at lw_m1 118 rfl) rfl
theorem q140 : (Jvm.Cond.selects "SexpMotion" ({ cls := "SexpMotion", name := "depth", desc := "(I)I" } : Jvm.MethodName) ({ cls := "SexpMotion", name := "depth", desc := "(I)I" } : Jvm.MethodName)) ∈ lw_all := lw_g (lw_at lw_m1 119 rfl) rfl
theorem q141 : (Jvm.Cond.code ({ cls := "SexpMotion", name := "depth", desc := "(I)I" } : Jvm.MethodName) prog_1_method_9_code (2 : Nat) (Option.some Jvm.ClassFile.FieldType.int)) ∈ lw_all := lw_g (lw_at lw_m1 120 rfl) rfl
theorem q142 : (Jvm.Cond.methodLink "SexpMotion" (63 : Nat) ({ cls := "SexpMotion", name := "depthOf", desc := "(I)I" } : Jvm.MethodName)) ∈ lw_all := lw_g (lw_at lw_m1 121 rfl) rfl
theorem q143 : (Jvm.Cond.privateMethod ({ cls := "SexpMotion", name := "depthOf", desc := "(I)I" } : Jvm.MethodName)) ∈ lw_tbl := lw_at lw_m1 122 rfl
theorem q144 : (Jvm.Cond.instanceMethod ({ cls := "SexpMotion", name := "depthOf", desc := "(I)I" } : Jvm.MethodName)) ∈ lw_all := lw_g (lw_at lw_m1 123 rfl) rfl
theorem q145 : (Jvm.Cond.code ({ cls := "SexpMotion", name := "depthOf", desc := "(I)I" } : Jvm.MethodName) prog_1_method_28_code (5 : Nat) (Option.some Jvm.ClassFile.FieldType.int)) ∈ lw_all := lw_g (lw_at lw_m1 124 rfl) rfl
theorem q147 : (Jvm.Cond.instanceMethod ({ cls := "SexpMotion", name := "bracketAt", desc := "(II)I" } : Jvm.MethodName)) ∈ lw_all := lw_g (lw_at lw_m1 126 rfl) rfl
theorem q148 : (Jvm.Cond.selects "SexpMotion" ({ cls := "SexpMotion", name := "bracketAt", desc := "(II)I" } : Jvm.MethodName) ({ cls := "SexpMotion", name := "bracketAt", desc := "(II)I" } : Jvm.MethodName)) ∈ lw_all := lw_g (lw_at lw_m1 127 rfl) rfl
theorem q149 : (Jvm.Cond.code ({ cls := "SexpMotion", name := "bracketAt", desc := "(II)I" } : Jvm.MethodName) prog_1_method_10_code (6 : Nat) (Option.some Jvm.ClassFile.FieldType.int)) ∈ lw_all := lw_g (lw_at lw_m1 128 rfl) rfl
theorem q151 : (Jvm.Cond.instanceMethod ({ cls := "SexpMotion", name := "partner", desc := "(I)I" } : Jvm.MethodName)) ∈ lw_all := lw_g (lw_at lw_m1 130 rfl) rfl
theorem q152 : (Jvm.Cond.selects "SexpMotion" ({ cls := "SexpMotion", name := "partner", desc := "(I)I" } : Jvm.MethodName) ({ cls := "SexpMotion", name := "partner", desc := "(I)I" } : Jvm.MethodName)) ∈ lw_all := lw_g (lw_at lw_m1 131 rfl) rfl
theorem q153 : (Jvm.Cond.code ({ cls := "SexpMotion", name := "partner", desc := "(I)I" } : Jvm.MethodName) prog_1_method_11_code (2 : Nat) (Option.some Jvm.ClassFile.FieldType.int)) ∈ lw_all := lw_g (lw_at lw_m1 132 rfl) rfl
theorem q155 : (Jvm.Cond.instanceMethod ({ cls := "SexpMotion", name := "strays", desc := "()I" } : Jvm.MethodName)) ∈ lw_all := lw_g (lw_at lw_m1 134 rfl) rfl
theorem q156 : (Jvm.Cond.selects "SexpMotion" ({ cls := "SexpMotion", name := "strays", desc := "()I" } : Jvm.MethodName) ({ cls := "SexpMotion", name := "strays", desc := "()I" } : Jvm.MethodName)) ∈ lw_all := lw_g (lw_at lw_m1 135 rfl) rfl
theorem q157 : (Jvm.Cond.code ({ cls := "SexpMotion", name := "strays", desc := "()I" } : Jvm.MethodName) prog_1_method_12_code (3 : Nat) (Option.some Jvm.ClassFile.FieldType.int)) ∈ lw_all := lw_g (lw_at lw_m1 136 rfl) rfl
theorem q159 : (Jvm.Cond.instanceMethod ({ cls := "SexpMotion", name := "forward", desc := "(I)I" } : Jvm.MethodName)) ∈ lw_all := lw_g (lw_at lw_m1 138 rfl) rfl
theorem q160 : (Jvm.Cond.selects "SexpMotion" ({ cls := "SexpMotion", name := "forward", desc := "(I)I" } : Jvm.MethodName) ({ cls := "SexpMotion", name := "forward", desc := "(I)I" } : Jvm.MethodName)) ∈ lw_all := lw_g (lw_at lw_m1 139 rfl) rfl
theorem q161 : (Jvm.Cond.code ({ cls := "SexpMotion", name := "forward", desc := "(I)I" } : Jvm.MethodName) prog_1_method_13_code (4 : Nat) (Option.some Jvm.ClassFile.FieldType.int)) ∈ lw_all := lw_g (lw_at lw_m1 140 rfl) rfl
theorem q162 : (Jvm.Cond.methodLink "SexpMotion" (70 : Nat) ({ cls := "SexpMotion", name := "unitEnd", desc := "(I)I" } : Jvm.MethodName)) ∈ lw_all := lw_g (lw_at lw_m1 141 rfl) rfl
theorem q163 : (Jvm.Cond.privateMethod ({ cls := "SexpMotion", name := "unitEnd", desc := "(I)I" } : Jvm.MethodName)) ∈ lw_tbl := lw_at lw_m1 142 rfl
theorem q164 : (Jvm.Cond.instanceMethod ({ cls := "SexpMotion", name := "unitEnd", desc := "(I)I" } : Jvm.MethodName)) ∈ lw_all := lw_g (lw_at lw_m1 143 rfl) rfl
theorem q165 : (Jvm.Cond.code ({ cls := "SexpMotion", name := "unitEnd", desc := "(I)I" } : Jvm.MethodName) prog_1_method_29_code (3 : Nat) (Option.some Jvm.ClassFile.FieldType.int)) ∈ lw_all := lw_g (lw_at lw_m1 144 rfl) rfl
theorem q167 : (Jvm.Cond.instanceMethod ({ cls := "SexpMotion", name := "backward", desc := "(I)I" } : Jvm.MethodName)) ∈ lw_all := lw_g (lw_at lw_m1 146 rfl) rfl
theorem q168 : (Jvm.Cond.selects "SexpMotion" ({ cls := "SexpMotion", name := "backward", desc := "(I)I" } : Jvm.MethodName) ({ cls := "SexpMotion", name := "backward", desc := "(I)I" } : Jvm.MethodName)) ∈ lw_all := lw_g (lw_at lw_m1 147 rfl) rfl
theorem q169 : (Jvm.Cond.code ({ cls := "SexpMotion", name := "backward", desc := "(I)I" } : Jvm.MethodName) prog_1_method_14_code (4 : Nat) (Option.some Jvm.ClassFile.FieldType.int)) ∈ lw_all := lw_g (lw_at lw_m1 148 rfl) rfl
theorem q170 : (Jvm.Cond.methodLink "SexpMotion" (73 : Nat) ({ cls := "SexpMotion", name := "unitStart", desc := "(I)I" } : Jvm.MethodName)) ∈ lw_all := lw_g (lw_at lw_m1 149 rfl) rfl
theorem q171 : (Jvm.Cond.privateMethod ({ cls := "SexpMotion", name := "unitStart", desc := "(I)I" } : Jvm.MethodName)) ∈ lw_tbl := lw_at lw_m1 150 rfl
theorem q172 : (Jvm.Cond.instanceMethod ({ cls := "SexpMotion", name := "unitStart", desc := "(I)I" } : Jvm.MethodName)) ∈ lw_all := lw_g (lw_at lw_m1 151 rfl) rfl
theorem q173 : (Jvm.Cond.code ({ cls := "SexpMotion", name := "unitStart", desc := "(I)I" } : Jvm.MethodName) prog_1_method_30_code (3 : Nat) (Option.some Jvm.ClassFile.FieldType.int)) ∈ lw_all := lw_g (lw_at lw_m1 152 rfl) rfl
theorem q175 : (Jvm.Cond.instanceMethod ({ cls := "SexpMotion", name := "up", desc := "(I)I" } : Jvm.MethodName)) ∈ lw_all := lw_g (lw_at lw_m1 154 rfl) rfl
theorem q176 : (Jvm.Cond.selects "SexpMotion" ({ cls := "SexpMotion", name := "up", desc := "(I)I" } : Jvm.MethodName) ({ cls := "SexpMotion", name := "up", desc := "(I)I" } : Jvm.MethodName)) ∈ lw_all := lw_g (lw_at lw_m1 155 rfl) rfl
theorem q177 : (Jvm.Cond.code ({ cls := "SexpMotion", name := "up", desc := "(I)I" } : Jvm.MethodName) prog_1_method_15_code (2 : Nat) (Option.some Jvm.ClassFile.FieldType.int)) ∈ lw_all := lw_g (lw_at lw_m1 156 rfl) rfl
theorem q179 : (Jvm.Cond.instanceMethod ({ cls := "SexpMotion", name := "down", desc := "(I)I" } : Jvm.MethodName)) ∈ lw_all := lw_g (lw_at lw_m1 158 rfl) rfl
theorem q180 : (Jvm.Cond.selects "SexpMotion" ({ cls := "SexpMotion", name := "down", desc := "(I)I" } : Jvm.MethodName) ({ cls := "SexpMotion", name := "down", desc := "(I)I" } : Jvm.MethodName)) ∈ lw_all := lw_g (lw_at lw_m1 159 rfl) rfl
theorem q181 : (Jvm.Cond.code ({ cls := "SexpMotion", name := "down", desc := "(I)I" } : Jvm.MethodName) prog_1_method_16_code (4 : Nat) (Option.some Jvm.ClassFile.FieldType.int)) ∈ lw_all := lw_g (lw_at lw_m1 160 rfl) rfl
theorem q183 : (Jvm.Cond.instanceMethod ({ cls := "SexpMotion", name := "units", desc := "()I" } : Jvm.MethodName)) ∈ lw_all := lw_g (lw_at lw_m1 162 rfl) rfl
theorem q184 : (Jvm.Cond.selects "SexpMotion" ({ cls := "SexpMotion", name := "units", desc := "()I" } : Jvm.MethodName) ({ cls := "SexpMotion", name := "units", desc := "()I" } : Jvm.MethodName)) ∈ lw_all := lw_g (lw_at lw_m1 163 rfl) rfl
theorem q185 : (Jvm.Cond.code ({ cls := "SexpMotion", name := "units", desc := "()I" } : Jvm.MethodName) prog_1_method_17_code (4 : Nat) (Option.some Jvm.ClassFile.FieldType.int)) ∈ lw_all := lw_g (lw_at lw_m1 164 rfl) rfl
theorem in_X0 : ∀ w ∈ wsX00, w ∈ lw_all := lw_in wsX00 [44, 46, 48, 50, 52, 54, 56, 58, 60, 62, 64, 66] (by decide +kernel) (by decide +kernel)
theorem q23 : (Jvm.Cond.initialized "SexpMotionModel") ∈ lw_all := lw_g (lw_at lw_m1 2 rfl) rfl
theorem q187 : (Jvm.Cond.instantiable "SexpMotionModel" (11 : Nat)) ∈ lw_all := lw_g (lw_at lw_m1 166 rfl) rfl
theorem q189 : (Jvm.Cond.instanceMethod ({ cls := "SexpMotionModel", name := "<init>", desc := "()V" } : Jvm.MethodName)) ∈ lw_all := lw_g (lw_at lw_m1 168 rfl) rfl
theorem q190 : (Jvm.Cond.code ({ cls := "SexpMotionModel", name := "<init>", desc := "()V" } : Jvm.MethodName) prog_3_method_1_code (1 : Nat) (Option.none : Option Jvm.ClassFile.FieldType)) ∈ lw_all := lw_g (lw_at lw_m1 169 rfl) rfl
theorem q191 : (Jvm.Cond.methodLink "SexpMotionModel" (1 : Nat) ({ cls := "java/lang/Object", name := "<init>", desc := "()V" } : Jvm.MethodName)) ∈ lw_all := lw_g (lw_at lw_m1 170 rfl) rfl
theorem q192 : (Jvm.Cond.fieldLink "SexpMotionModel" (38 : Nat) "SexpMotionModel" "length" "I") ∈ lw_all := lw_g (lw_at lw_m1 171 rfl) rfl
theorem q193 : (Jvm.Cond.fieldLink "SexpMotionModel" (7 : Nat) "SexpMotionModel" "text" "[I") ∈ lw_all := lw_g (lw_at lw_m1 172 rfl) rfl
theorem q194 : (Jvm.Cond.fieldLink "SexpMotionModel" (13 : Nat) "SexpMotionModel" "modes" "[I") ∈ lw_all := lw_g (lw_at lw_m1 173 rfl) rfl
theorem q195 : (Jvm.Cond.fieldLink "SexpMotionModel" (16 : Nat) "SexpMotionModel" "escapes" "[Z") ∈ lw_all := lw_g (lw_at lw_m1 174 rfl) rfl
theorem q196 : (Jvm.Cond.fieldLink "SexpMotionModel" (20 : Nat) "SexpMotionModel" "depths" "[I") ∈ lw_all := lw_g (lw_at lw_m1 175 rfl) rfl
theorem q197 : (Jvm.Cond.fieldLink "SexpMotionModel" (23 : Nat) "SexpMotionModel" "partners" "[I") ∈ lw_all := lw_g (lw_at lw_m1 176 rfl) rfl
theorem q198 : (Jvm.Cond.fieldLink "SexpMotionModel" (26 : Nat) "SexpMotionModel" "joins" "[Z") ∈ lw_all := lw_g (lw_at lw_m1 177 rfl) rfl
theorem q199 : (Jvm.Cond.fieldLink "SexpMotionModel" (29 : Nat) "SexpMotionModel" "closes" "[Z") ∈ lw_all := lw_g (lw_at lw_m1 178 rfl) rfl
theorem q200 : (Jvm.Cond.fieldLink "SexpMotionModel" (32 : Nat) "SexpMotionModel" "stray" "[Z") ∈ lw_all := lw_g (lw_at lw_m1 179 rfl) rfl
theorem q201 : (Jvm.Cond.fieldLink "SexpMotionModel" (35 : Nat) "SexpMotionModel" "stack" "[I") ∈ lw_all := lw_g (lw_at lw_m1 180 rfl) rfl
theorem q202 : (Jvm.Cond.fieldLink "SexpMotionModel" (49 : Nat) "SexpMotionModel" "top" "I") ∈ lw_all := lw_g (lw_at lw_m1 181 rfl) rfl
theorem q203 : (Jvm.Cond.lays "SexpMotionModel" "SexpMotionModel" "length" "I") ∈ lw_all := lw_g (lw_at lw_m1 182 rfl) rfl
theorem q204 : (Jvm.Cond.soleField "SexpMotionModel" "length") ∈ lw_all := lw_g (lw_at lw_m1 183 rfl) rfl
theorem q205 : (Jvm.Cond.lays "SexpMotionModel" "SexpMotionModel" "text" "[I") ∈ lw_all := lw_g (lw_at lw_m1 184 rfl) rfl
theorem q206 : (Jvm.Cond.soleField "SexpMotionModel" "text") ∈ lw_all := lw_g (lw_at lw_m1 185 rfl) rfl
theorem q207 : (Jvm.Cond.lays "SexpMotionModel" "SexpMotionModel" "modes" "[I") ∈ lw_all := lw_g (lw_at lw_m1 186 rfl) rfl
theorem q208 : (Jvm.Cond.soleField "SexpMotionModel" "modes") ∈ lw_all := lw_g (lw_at lw_m1 187 rfl) rfl
theorem q209 : (Jvm.Cond.lays "SexpMotionModel" "SexpMotionModel" "escapes" "[Z") ∈ lw_all := lw_g (lw_at lw_m1 188 rfl) rfl
theorem q210 : (Jvm.Cond.soleField "SexpMotionModel" "escapes") ∈ lw_all := lw_g (lw_at lw_m1 189 rfl) rfl
theorem q211 : (Jvm.Cond.lays "SexpMotionModel" "SexpMotionModel" "depths" "[I") ∈ lw_all := lw_g (lw_at lw_m1 190 rfl) rfl
theorem q212 : (Jvm.Cond.soleField "SexpMotionModel" "depths") ∈ lw_all := lw_g (lw_at lw_m1 191 rfl) rfl
theorem q213 : (Jvm.Cond.lays "SexpMotionModel" "SexpMotionModel" "partners" "[I") ∈ lw_all := lw_g (lw_at lw_m1 192 rfl) rfl
theorem q214 : (Jvm.Cond.soleField "SexpMotionModel" "partners") ∈ lw_all := lw_g (lw_at lw_m1 193 rfl) rfl
theorem q215 : (Jvm.Cond.lays "SexpMotionModel" "SexpMotionModel" "joins" "[Z") ∈ lw_all := lw_g (lw_at lw_m1 194 rfl) rfl
theorem q216 : (Jvm.Cond.soleField "SexpMotionModel" "joins") ∈ lw_all := lw_g (lw_at lw_m1 195 rfl) rfl
theorem q217 : (Jvm.Cond.lays "SexpMotionModel" "SexpMotionModel" "closes" "[Z") ∈ lw_all := lw_g (lw_at lw_m1 196 rfl) rfl
theorem q218 : (Jvm.Cond.soleField "SexpMotionModel" "closes") ∈ lw_all := lw_g (lw_at lw_m1 197 rfl) rfl
theorem q219 : (Jvm.Cond.lays "SexpMotionModel" "SexpMotionModel" "stray" "[Z") ∈ lw_all := lw_g (lw_at lw_m1 198 rfl) rfl
theorem q220 : (Jvm.Cond.soleField "SexpMotionModel" "stray") ∈ lw_all := lw_g (lw_at lw_m1 199 rfl) rfl
theorem q221 : (Jvm.Cond.lays "SexpMotionModel" "SexpMotionModel" "stack" "[I") ∈ lw_all := lw_g (lw_at lw_m1 200 rfl) rfl
theorem q222 : (Jvm.Cond.soleField "SexpMotionModel" "stack") ∈ lw_all := lw_g (lw_at lw_m1 201 rfl) rfl
theorem q223 : (Jvm.Cond.lays "SexpMotionModel" "SexpMotionModel" "top" "I") ∈ lw_all := lw_g (lw_at lw_m1 202 rfl) rfl
theorem q224 : (Jvm.Cond.soleField "SexpMotionModel" "top") ∈ lw_all := lw_g (lw_at lw_m1 203 rfl) rfl
theorem q225 : (Jvm.Cond.superclass "SexpMotionModel" "java/lang/Object") ∈ lw_all := lw_g (lw_at lw_m1 204 rfl) rfl
theorem q227 : (Jvm.Cond.instanceMethod ({ cls := "SexpMotionModel", name := "insert", desc := "(II)I" } : Jvm.MethodName)) ∈ lw_all := lw_g (lw_at lw_m1 206 rfl) rfl
theorem q228 : (Jvm.Cond.selects "SexpMotionModel" ({ cls := "SexpMotionModel", name := "insert", desc := "(II)I" } : Jvm.MethodName) ({ cls := "SexpMotionModel", name := "insert", desc := "(II)I" } : Jvm.MethodName)) ∈ lw_all := lw_g (lw_at lw_m1 207 rfl) rfl
theorem q229 : (Jvm.Cond.code ({ cls := "SexpMotionModel", name := "insert", desc := "(II)I" } : Jvm.MethodName) prog_3_method_4_code (4 : Nat) (Option.some Jvm.ClassFile.FieldType.int)) ∈ lw_all := lw_g (lw_at lw_m1 208 rfl) rfl
theorem q230 : (Jvm.Cond.methodLink "SexpMotionModel" (42 : Nat) ({ cls := "SexpMotionModel", name := "badGap", desc := "(I)Z" } : Jvm.MethodName)) ∈ lw_all := lw_g (lw_at lw_m1 209 rfl) rfl
theorem q231 : (Jvm.Cond.privateMethod ({ cls := "SexpMotionModel", name := "badGap", desc := "(I)Z" } : Jvm.MethodName)) ∈ lw_tbl := lw_at lw_m1 210 rfl
theorem q232 : (Jvm.Cond.instanceMethod ({ cls := "SexpMotionModel", name := "badGap", desc := "(I)Z" } : Jvm.MethodName)) ∈ lw_all := lw_g (lw_at lw_m1 211 rfl) rfl
theorem q233 : (Jvm.Cond.code ({ cls := "SexpMotionModel", name := "badGap", desc := "(I)Z" } : Jvm.MethodName) prog_3_method_3_code (2 : Nat) (Option.some Jvm.ClassFile.FieldType.boolean)) ∈ lw_all := lw_g (lw_at lw_m1 212 rfl) rfl
theorem q235 : (Jvm.Cond.instanceMethod ({ cls := "SexpMotionModel", name := "delete", desc := "(II)I" } : Jvm.MethodName)) ∈ lw_all := lw_g (lw_at lw_m1 214 rfl) rfl
theorem q236 : (Jvm.Cond.selects "SexpMotionModel" ({ cls := "SexpMotionModel", name := "delete", desc := "(II)I" } : Jvm.MethodName) ({ cls := "SexpMotionModel", name := "delete", desc := "(II)I" } : Jvm.MethodName)) ∈ lw_all := lw_g (lw_at lw_m1 215 rfl) rfl
theorem q237 : (Jvm.Cond.code ({ cls := "SexpMotionModel", name := "delete", desc := "(II)I" } : Jvm.MethodName) prog_3_method_5_code (5 : Nat) (Option.some Jvm.ClassFile.FieldType.int)) ∈ lw_all := lw_g (lw_at lw_m1 216 rfl) rfl
theorem q239 : (Jvm.Cond.instanceMethod ({ cls := "SexpMotionModel", name := "set", desc := "(II)I" } : Jvm.MethodName)) ∈ lw_all := lw_g (lw_at lw_m1 218 rfl) rfl
theorem q240 : (Jvm.Cond.selects "SexpMotionModel" ({ cls := "SexpMotionModel", name := "set", desc := "(II)I" } : Jvm.MethodName) ({ cls := "SexpMotionModel", name := "set", desc := "(II)I" } : Jvm.MethodName)) ∈ lw_all := lw_g (lw_at lw_m1 219 rfl) rfl
theorem q241 : (Jvm.Cond.code ({ cls := "SexpMotionModel", name := "set", desc := "(II)I" } : Jvm.MethodName) prog_3_method_6_code (4 : Nat) (Option.some Jvm.ClassFile.FieldType.int)) ∈ lw_all := lw_g (lw_at lw_m1 220 rfl) rfl
theorem q242 : (Jvm.Cond.methodLink "SexpMotionModel" (46 : Nat) ({ cls := "SexpMotionModel", name := "badPosition", desc := "(I)Z" } : Jvm.MethodName)) ∈ lw_all := lw_g (lw_at lw_m1 221 rfl) rfl
theorem q243 : (Jvm.Cond.privateMethod ({ cls := "SexpMotionModel", name := "badPosition", desc := "(I)Z" } : Jvm.MethodName)) ∈ lw_tbl := lw_at lw_m1 222 rfl
theorem q244 : (Jvm.Cond.instanceMethod ({ cls := "SexpMotionModel", name := "badPosition", desc := "(I)Z" } : Jvm.MethodName)) ∈ lw_all := lw_g (lw_at lw_m1 223 rfl) rfl
theorem q245 : (Jvm.Cond.code ({ cls := "SexpMotionModel", name := "badPosition", desc := "(I)Z" } : Jvm.MethodName) prog_3_method_2_code (2 : Nat) (Option.some Jvm.ClassFile.FieldType.boolean)) ∈ lw_all := lw_g (lw_at lw_m1 224 rfl) rfl
theorem q247 : (Jvm.Cond.instanceMethod ({ cls := "SexpMotionModel", name := "length", desc := "()I" } : Jvm.MethodName)) ∈ lw_all := lw_g (lw_at lw_m1 226 rfl) rfl
theorem q248 : (Jvm.Cond.selects "SexpMotionModel" ({ cls := "SexpMotionModel", name := "length", desc := "()I" } : Jvm.MethodName) ({ cls := "SexpMotionModel", name := "length", desc := "()I" } : Jvm.MethodName)) ∈ lw_all := lw_g (lw_at lw_m1 227 rfl) rfl
theorem q249 : (Jvm.Cond.code ({ cls := "SexpMotionModel", name := "length", desc := "()I" } : Jvm.MethodName) prog_3_method_7_code (1 : Nat) (Option.some Jvm.ClassFile.FieldType.int)) ∈ lw_all := lw_g (lw_at lw_m1 228 rfl) rfl
theorem q251 : (Jvm.Cond.instanceMethod ({ cls := "SexpMotionModel", name := "kindAt", desc := "(I)I" } : Jvm.MethodName)) ∈ lw_all := lw_g (lw_at lw_m1 230 rfl) rfl
theorem q252 : (Jvm.Cond.selects "SexpMotionModel" ({ cls := "SexpMotionModel", name := "kindAt", desc := "(I)I" } : Jvm.MethodName) ({ cls := "SexpMotionModel", name := "kindAt", desc := "(I)I" } : Jvm.MethodName)) ∈ lw_all := lw_g (lw_at lw_m1 231 rfl) rfl
theorem q253 : (Jvm.Cond.code ({ cls := "SexpMotionModel", name := "kindAt", desc := "(I)I" } : Jvm.MethodName) prog_3_method_8_code (2 : Nat) (Option.some Jvm.ClassFile.FieldType.int)) ∈ lw_all := lw_g (lw_at lw_m1 232 rfl) rfl
theorem q255 : (Jvm.Cond.instanceMethod ({ cls := "SexpMotionModel", name := "mode", desc := "(I)I" } : Jvm.MethodName)) ∈ lw_all := lw_g (lw_at lw_m1 234 rfl) rfl
theorem q256 : (Jvm.Cond.selects "SexpMotionModel" ({ cls := "SexpMotionModel", name := "mode", desc := "(I)I" } : Jvm.MethodName) ({ cls := "SexpMotionModel", name := "mode", desc := "(I)I" } : Jvm.MethodName)) ∈ lw_all := lw_g (lw_at lw_m1 235 rfl) rfl
theorem q257 : (Jvm.Cond.code ({ cls := "SexpMotionModel", name := "mode", desc := "(I)I" } : Jvm.MethodName) prog_3_method_11_code (2 : Nat) (Option.some Jvm.ClassFile.FieldType.int)) ∈ lw_all := lw_g (lw_at lw_m1 236 rfl) rfl
theorem q258 : (Jvm.Cond.methodLink "SexpMotionModel" (56 : Nat) ({ cls := "SexpMotionModel", name := "read", desc := "(I)V" } : Jvm.MethodName)) ∈ lw_all := lw_g (lw_at lw_m1 237 rfl) rfl
theorem q259 : (Jvm.Cond.privateMethod ({ cls := "SexpMotionModel", name := "read", desc := "(I)V" } : Jvm.MethodName)) ∈ lw_tbl := lw_at lw_m1 238 rfl
theorem q260 : (Jvm.Cond.instanceMethod ({ cls := "SexpMotionModel", name := "read", desc := "(I)V" } : Jvm.MethodName)) ∈ lw_all := lw_g (lw_at lw_m1 239 rfl) rfl
theorem q261 : (Jvm.Cond.code ({ cls := "SexpMotionModel", name := "read", desc := "(I)V" } : Jvm.MethodName) prog_3_method_10_code (7 : Nat) (Option.none : Option Jvm.ClassFile.FieldType)) ∈ lw_all := lw_g (lw_at lw_m2 0 rfl) rfl
theorem q262 : (Jvm.Cond.methodLink "SexpMotionModel" (52 : Nat) ({ cls := "SexpMotionModel", name := "plain", desc := "(I)I" } : Jvm.MethodName)) ∈ lw_all := lw_g (lw_at lw_m2 1 rfl) rfl
theorem q263 : (Jvm.Cond.privateMethod ({ cls := "SexpMotionModel", name := "plain", desc := "(I)I" } : Jvm.MethodName)) ∈ lw_tbl := lw_at lw_m2 2 rfl
theorem q264 : (Jvm.Cond.instanceMethod ({ cls := "SexpMotionModel", name := "plain", desc := "(I)I" } : Jvm.MethodName)) ∈ lw_all := lw_g (lw_at lw_m2 3 rfl) rfl
theorem q265 : (Jvm.Cond.code ({ cls := "SexpMotionModel", name := "plain", desc := "(I)I" } : Jvm.MethodName) prog_3_method_9_code (3 : Nat) (Option.some Jvm.ClassFile.FieldType.int)) ∈ lw_all := lw_g (lw_at lw_m2 4 rfl) rfl
theorem q267 : (Jvm.Cond.instanceMethod ({ cls := "SexpMotionModel", name := "escaped", desc := "(I)I" } : Jvm.MethodName)) ∈ lw_all := lw_g (lw_at lw_m2 6 rfl) rfl
theorem q268 : (Jvm.Cond.selects "SexpMotionModel" ({ cls := "SexpMotionModel", name := "escaped", desc := "(I)I" } : Jvm.MethodName) ({ cls := "SexpMotionModel", name := "escaped", desc := "(I)I" } : Jvm.MethodName)) ∈ lw_all := lw_g (lw_at lw_m2 7 rfl) rfl
theorem q269 : (Jvm.Cond.code ({ cls := "SexpMotionModel", name := "escaped", desc := "(I)I" } : Jvm.MethodName) prog_3_method_12_code (2 : Nat) (Option.some Jvm.ClassFile.FieldType.int)) ∈ lw_all := lw_g (lw_at lw_m2 8 rfl) rfl
theorem q271 : (Jvm.Cond.instanceMethod ({ cls := "SexpMotionModel", name := "depth", desc := "(I)I" } : Jvm.MethodName)) ∈ lw_all := lw_g (lw_at lw_m2 10 rfl) rfl
theorem q272 : (Jvm.Cond.selects "SexpMotionModel" ({ cls := "SexpMotionModel", name := "depth", desc := "(I)I" } : Jvm.MethodName) ({ cls := "SexpMotionModel", name := "depth", desc := "(I)I" } : Jvm.MethodName)) ∈ lw_all := lw_g (lw_at lw_m2 11 rfl) rfl
theorem q273 : (Jvm.Cond.code ({ cls := "SexpMotionModel", name := "depth", desc := "(I)I" } : Jvm.MethodName) prog_3_method_13_code (2 : Nat) (Option.some Jvm.ClassFile.FieldType.int)) ∈ lw_all := lw_g (lw_at lw_m2 12 rfl) rfl
theorem q275 : (Jvm.Cond.instanceMethod ({ cls := "SexpMotionModel", name := "bracketAt", desc := "(II)I" } : Jvm.MethodName)) ∈ lw_all := lw_g (lw_at lw_m2 14 rfl) rfl
theorem q276 : (Jvm.Cond.selects "SexpMotionModel" ({ cls := "SexpMotionModel", name := "bracketAt", desc := "(II)I" } : Jvm.MethodName) ({ cls := "SexpMotionModel", name := "bracketAt", desc := "(II)I" } : Jvm.MethodName)) ∈ lw_all := lw_g (lw_at lw_m2 15 rfl) rfl
theorem q277 : (Jvm.Cond.code ({ cls := "SexpMotionModel", name := "bracketAt", desc := "(II)I" } : Jvm.MethodName) prog_3_method_14_code (3 : Nat) (Option.some Jvm.ClassFile.FieldType.int)) ∈ lw_all := lw_g (lw_at lw_m2 16 rfl) rfl
theorem q279 : (Jvm.Cond.instanceMethod ({ cls := "SexpMotionModel", name := "partner", desc := "(I)I" } : Jvm.MethodName)) ∈ lw_all := lw_g (lw_at lw_m2 18 rfl) rfl
theorem q280 : (Jvm.Cond.selects "SexpMotionModel" ({ cls := "SexpMotionModel", name := "partner", desc := "(I)I" } : Jvm.MethodName) ({ cls := "SexpMotionModel", name := "partner", desc := "(I)I" } : Jvm.MethodName)) ∈ lw_all := lw_g (lw_at lw_m2 19 rfl) rfl
theorem q281 : (Jvm.Cond.code ({ cls := "SexpMotionModel", name := "partner", desc := "(I)I" } : Jvm.MethodName) prog_3_method_15_code (2 : Nat) (Option.some Jvm.ClassFile.FieldType.int)) ∈ lw_all := lw_g (lw_at lw_m2 20 rfl) rfl
theorem q283 : (Jvm.Cond.instanceMethod ({ cls := "SexpMotionModel", name := "strays", desc := "()I" } : Jvm.MethodName)) ∈ lw_all := lw_g (lw_at lw_m2 22 rfl) rfl
theorem q284 : (Jvm.Cond.selects "SexpMotionModel" ({ cls := "SexpMotionModel", name := "strays", desc := "()I" } : Jvm.MethodName) ({ cls := "SexpMotionModel", name := "strays", desc := "()I" } : Jvm.MethodName)) ∈ lw_all := lw_g (lw_at lw_m2 23 rfl) rfl
theorem q285 : (Jvm.Cond.code ({ cls := "SexpMotionModel", name := "strays", desc := "()I" } : Jvm.MethodName) prog_3_method_16_code (3 : Nat) (Option.some Jvm.ClassFile.FieldType.int)) ∈ lw_all := lw_g (lw_at lw_m2 24 rfl) rfl
theorem q287 : (Jvm.Cond.instanceMethod ({ cls := "SexpMotionModel", name := "forward", desc := "(I)I" } : Jvm.MethodName)) ∈ lw_all := lw_g (lw_at lw_m2 26 rfl) rfl
theorem q288 : (Jvm.Cond.selects "SexpMotionModel" ({ cls := "SexpMotionModel", name := "forward", desc := "(I)I" } : Jvm.MethodName) ({ cls := "SexpMotionModel", name := "forward", desc := "(I)I" } : Jvm.MethodName)) ∈ lw_all := lw_g (lw_at lw_m2 27 rfl) rfl
theorem q289 : (Jvm.Cond.code ({ cls := "SexpMotionModel", name := "forward", desc := "(I)I" } : Jvm.MethodName) prog_3_method_21_code (4 : Nat) (Option.some Jvm.ClassFile.FieldType.int)) ∈ lw_all := lw_g (lw_at lw_m2 28 rfl) rfl
theorem q290 : (Jvm.Cond.methodLink "SexpMotionModel" (69 : Nat) ({ cls := "SexpMotionModel", name := "unitEnd", desc := "(I)I" } : Jvm.MethodName)) ∈ lw_all := lw_g (lw_at lw_m2 29 rfl) rfl
theorem q291 : (Jvm.Cond.privateMethod ({ cls := "SexpMotionModel", name := "unitEnd", desc := "(I)I" } : Jvm.MethodName)) ∈ lw_tbl := lw_at lw_m2 30 rfl
theorem q292 : (Jvm.Cond.instanceMethod ({ cls := "SexpMotionModel", name := "unitEnd", desc := "(I)I" } : Jvm.MethodName)) ∈ lw_all := lw_g (lw_at lw_m2 31 rfl) rfl
theorem q293 : (Jvm.Cond.code ({ cls := "SexpMotionModel", name := "unitEnd", desc := "(I)I" } : Jvm.MethodName) prog_3_method_20_code (3 : Nat) (Option.some Jvm.ClassFile.FieldType.int)) ∈ lw_all := lw_g (lw_at lw_m2 32 rfl) rfl
theorem q294 : (Jvm.Cond.methodLink "SexpMotionModel" (63 : Nat) ({ cls := "SexpMotionModel", name := "wordEnd", desc := "(I)I" } : Jvm.MethodName)) ∈ lw_all := lw_g (lw_at lw_m2 33 rfl) rfl
theorem q295 : (Jvm.Cond.privateMethod ({ cls := "SexpMotionModel", name := "wordEnd", desc := "(I)I" } : Jvm.MethodName)) ∈ lw_tbl := lw_at lw_m2 34 rfl
theorem q296 : (Jvm.Cond.instanceMethod ({ cls := "SexpMotionModel", name := "wordEnd", desc := "(I)I" } : Jvm.MethodName)) ∈ lw_all := lw_g (lw_at lw_m2 35 rfl) rfl
theorem q297 : (Jvm.Cond.code ({ cls := "SexpMotionModel", name := "wordEnd", desc := "(I)I" } : Jvm.MethodName) prog_3_method_18_code (3 : Nat) (Option.some Jvm.ClassFile.FieldType.int)) ∈ lw_all := lw_g (lw_at lw_m2 36 rfl) rfl
theorem q298 : (Jvm.Cond.methodLink "SexpMotionModel" (60 : Nat) ({ cls := "SexpMotionModel", name := "wordy", desc := "(I)Z" } : Jvm.MethodName)) ∈ lw_all := lw_g (lw_at lw_m2 37 rfl) rfl
theorem q299 : (Jvm.Cond.privateMethod ({ cls := "SexpMotionModel", name := "wordy", desc := "(I)Z" } : Jvm.MethodName)) ∈ lw_tbl := lw_at lw_m2 38 rfl
theorem q300 : (Jvm.Cond.instanceMethod ({ cls := "SexpMotionModel", name := "wordy", desc := "(I)Z" } : Jvm.MethodName)) ∈ lw_all := lw_g (lw_at lw_m2 39 rfl) rfl
theorem q301 : (Jvm.Cond.code ({ cls := "SexpMotionModel", name := "wordy", desc := "(I)Z" } : Jvm.MethodName) prog_3_method_17_code (2 : Nat) (Option.some Jvm.ClassFile.FieldType.boolean)) ∈ lw_all := lw_g (lw_at lw_m2 40 rfl) rfl
theorem q302 : (Jvm.Cond.methodLink "SexpMotionModel" (66 : Nat) ({ cls := "SexpMotionModel", name := "stringEnd", desc := "(I)I" } : Jvm.MethodName)) ∈ lw_all := lw_g (lw_at lw_m2 41 rfl) rfl
theorem q303 : (Jvm.Cond.privateMethod ({ cls := "SexpMotionModel", name := "stringEnd", desc := "(I)I" } : Jvm.MethodName)) ∈ lw_tbl := lw_at lw_m2 42 rfl
theorem q304 : (Jvm.Cond.instanceMethod ({ cls := "SexpMotionModel", name := "stringEnd", desc := "(I)I" } : Jvm.MethodName)) ∈ lw_all := lw_g (lw_at lw_m2 43 rfl) rfl
theorem q305 : (Jvm.Cond.code ({ cls := "SexpMotionModel", name := "stringEnd", desc := "(I)I" } : Jvm.MethodName) prog_3_method_19_code (3 : Nat) (Option.some Jvm.ClassFile.FieldType.int)) ∈ lw_all := lw_g (lw_at lw_m2 44 rfl) rfl
theorem q307 : (Jvm.Cond.instanceMethod ({ cls := "SexpMotionModel", name := "backward", desc := "(I)I" } : Jvm.MethodName)) ∈ lw_all := lw_g (lw_at lw_m2 46 rfl) rfl
theorem q308 : (Jvm.Cond.selects "SexpMotionModel" ({ cls := "SexpMotionModel", name := "backward", desc := "(I)I" } : Jvm.MethodName) ({ cls := "SexpMotionModel", name := "backward", desc := "(I)I" } : Jvm.MethodName)) ∈ lw_all := lw_g (lw_at lw_m2 47 rfl) rfl
theorem q309 : (Jvm.Cond.code ({ cls := "SexpMotionModel", name := "backward", desc := "(I)I" } : Jvm.MethodName) prog_3_method_23_code (4 : Nat) (Option.some Jvm.ClassFile.FieldType.int)) ∈ lw_all := lw_g (lw_at lw_m2 48 rfl) rfl
theorem q310 : (Jvm.Cond.methodLink "SexpMotionModel" (72 : Nat) ({ cls := "SexpMotionModel", name := "unitStart", desc := "(I)I" } : Jvm.MethodName)) ∈ lw_all := lw_g (lw_at lw_m2 49 rfl) rfl
theorem q311 : (Jvm.Cond.privateMethod ({ cls := "SexpMotionModel", name := "unitStart", desc := "(I)I" } : Jvm.MethodName)) ∈ lw_tbl := lw_at lw_m2 50 rfl
theorem q312 : (Jvm.Cond.instanceMethod ({ cls := "SexpMotionModel", name := "unitStart", desc := "(I)I" } : Jvm.MethodName)) ∈ lw_all := lw_g (lw_at lw_m2 51 rfl) rfl
theorem q313 : (Jvm.Cond.code ({ cls := "SexpMotionModel", name := "unitStart", desc := "(I)I" } : Jvm.MethodName) prog_3_method_22_code (3 : Nat) (Option.some Jvm.ClassFile.FieldType.int)) ∈ lw_all := lw_g (lw_at lw_m2 52 rfl) rfl
theorem q315 : (Jvm.Cond.instanceMethod ({ cls := "SexpMotionModel", name := "up", desc := "(I)I" } : Jvm.MethodName)) ∈ lw_all := lw_g (lw_at lw_m2 54 rfl) rfl
theorem q316 : (Jvm.Cond.selects "SexpMotionModel" ({ cls := "SexpMotionModel", name := "up", desc := "(I)I" } : Jvm.MethodName) ({ cls := "SexpMotionModel", name := "up", desc := "(I)I" } : Jvm.MethodName)) ∈ lw_all := lw_g (lw_at lw_m2 55 rfl) rfl
theorem q317 : (Jvm.Cond.code ({ cls := "SexpMotionModel", name := "up", desc := "(I)I" } : Jvm.MethodName) prog_3_method_24_code (2 : Nat) (Option.some Jvm.ClassFile.FieldType.int)) ∈ lw_all := lw_g (lw_at lw_m2 56 rfl) rfl
theorem q319 : (Jvm.Cond.instanceMethod ({ cls := "SexpMotionModel", name := "down", desc := "(I)I" } : Jvm.MethodName)) ∈ lw_all := lw_g (lw_at lw_m2 58 rfl) rfl
theorem q320 : (Jvm.Cond.selects "SexpMotionModel" ({ cls := "SexpMotionModel", name := "down", desc := "(I)I" } : Jvm.MethodName) ({ cls := "SexpMotionModel", name := "down", desc := "(I)I" } : Jvm.MethodName)) ∈ lw_all := lw_g (lw_at lw_m2 59 rfl) rfl
theorem q321 : (Jvm.Cond.code ({ cls := "SexpMotionModel", name := "down", desc := "(I)I" } : Jvm.MethodName) prog_3_method_25_code (4 : Nat) (Option.some Jvm.ClassFile.FieldType.int)) ∈ lw_all := lw_g (lw_at lw_m2 60 rfl) rfl
theorem q323 : (Jvm.Cond.instanceMethod ({ cls := "SexpMotionModel", name := "units", desc := "()I" } : Jvm.MethodName)) ∈ lw_all := lw_g (lw_at lw_m2 62 rfl) rfl
theorem q324 : (Jvm.Cond.selects "SexpMotionModel" ({ cls := "SexpMotionModel", name := "units", desc := "()I" } : Jvm.MethodName) ({ cls := "SexpMotionModel", name := "units", desc := "()I" } : Jvm.MethodName)) ∈ lw_all := lw_g (lw_at lw_m2 63 rfl) rfl
theorem q325 : (Jvm.Cond.code ({ cls := "SexpMotionModel", name := "units", desc := "()I" } : Jvm.MethodName) prog_3_method_26_code (4 : Nat) (Option.some Jvm.ClassFile.FieldType.int)) ∈ lw_all := lw_g (lw_at lw_m2 64 rfl) rfl
theorem in_X1 : ∀ w ∈ wsX10, w ∈ lw_all := lw_in wsX10 [203, 205, 207, 209, 211, 213, 215, 217, 219, 221, 223] (by decide +kernel) (by decide +kernel)
theorem q30 : (Jvm.Cond.instanceMethod ({ cls := "java/lang/Object", name := "<init>", desc := "()V" } : Jvm.MethodName)) ∈ lw_all := lw_g (lw_at lw_m1 9 rfl) rfl
theorem q31 : (Jvm.Cond.code ({ cls := "java/lang/Object", name := "<init>", desc := "()V" } : Jvm.MethodName) object_method_1_code (1 : Nat) (Option.none : Option Jvm.ClassFile.FieldType)) ∈ lw_all := lw_g (lw_at lw_m1 10 rfl) rfl
theorem q21 : (Jvm.Cond.initialized "SexpMotionLaw") ∈ lw_all := lw_g (lw_at lw_m1 0 rfl) rfl
theorem q24 : (Jvm.Cond.classLink "SexpMotionLaw" (7 : Nat) "SexpMotion") ∈ lw_all := lw_g (lw_at lw_m1 3 rfl) rfl
theorem q26 : (Jvm.Cond.methodLink "SexpMotionLaw" (9 : Nat) ({ cls := "SexpMotion", name := "<init>", desc := "()V" } : Jvm.MethodName)) ∈ lw_all := lw_g (lw_at lw_m1 5 rfl) rfl
theorem q71 : (Jvm.Cond.methodLink "SexpMotionLaw" (13 : Nat) ({ cls := "SexpMotion", name := "insert", desc := "(II)I" } : Jvm.MethodName)) ∈ lw_all := lw_g (lw_at lw_m1 50 rfl) rfl
theorem q86 : (Jvm.Cond.methodLink "SexpMotionLaw" (18 : Nat) ({ cls := "SexpMotion", name := "delete", desc := "(II)I" } : Jvm.MethodName)) ∈ lw_all := lw_g (lw_at lw_m1 65 rfl) rfl
theorem q90 : (Jvm.Cond.methodLink "SexpMotionLaw" (22 : Nat) ({ cls := "SexpMotion", name := "set", desc := "(II)I" } : Jvm.MethodName)) ∈ lw_all := lw_g (lw_at lw_m1 69 rfl) rfl
theorem q98 : (Jvm.Cond.methodLink "SexpMotionLaw" (26 : Nat) ({ cls := "SexpMotion", name := "length", desc := "()I" } : Jvm.MethodName)) ∈ lw_all := lw_g (lw_at lw_m1 77 rfl) rfl
theorem q102 : (Jvm.Cond.methodLink "SexpMotionLaw" (31 : Nat) ({ cls := "SexpMotion", name := "kindAt", desc := "(I)I" } : Jvm.MethodName)) ∈ lw_all := lw_g (lw_at lw_m1 81 rfl) rfl
theorem q106 : (Jvm.Cond.methodLink "SexpMotionLaw" (36 : Nat) ({ cls := "SexpMotion", name := "mode", desc := "(I)I" } : Jvm.MethodName)) ∈ lw_all := lw_g (lw_at lw_m1 85 rfl) rfl
theorem q134 : (Jvm.Cond.methodLink "SexpMotionLaw" (40 : Nat) ({ cls := "SexpMotion", name := "escaped", desc := "(I)I" } : Jvm.MethodName)) ∈ lw_all := lw_g (lw_at lw_m1 113 rfl) rfl
theorem q138 : (Jvm.Cond.methodLink "SexpMotionLaw" (44 : Nat) ({ cls := "SexpMotion", name := "depth", desc := "(I)I" } : Jvm.MethodName)) ∈ lw_all := lw_g (lw_at lw_m1 117 rfl) rfl
theorem q146 : (Jvm.Cond.methodLink "SexpMotionLaw" (48 : Nat) ({ cls := "SexpMotion", name := "bracketAt", desc := "(II)I" } : Jvm.MethodName)) ∈ lw_all := lw_g (lw_at lw_m1 125 rfl) rfl
theorem q150 : (Jvm.Cond.methodLink "SexpMotionLaw" (52 : Nat) ({ cls := "SexpMotion", name := "partner", desc := "(I)I" } : Jvm.MethodName)) ∈ lw_all := lw_g (lw_at lw_m1 129 rfl) rfl
theorem q154 : (Jvm.Cond.methodLink "SexpMotionLaw" (56 : Nat) ({ cls := "SexpMotion", name := "strays", desc := "()I" } : Jvm.MethodName)) ∈ lw_all := lw_g (lw_at lw_m1 133 rfl) rfl
theorem q158 : (Jvm.Cond.methodLink "SexpMotionLaw" (60 : Nat) ({ cls := "SexpMotion", name := "forward", desc := "(I)I" } : Jvm.MethodName)) ∈ lw_all := lw_g (lw_at lw_m1 137 rfl) rfl
theorem q166 : (Jvm.Cond.methodLink "SexpMotionLaw" (64 : Nat) ({ cls := "SexpMotion", name := "backward", desc := "(I)I" } : Jvm.MethodName)) ∈ lw_all := lw_g (lw_at lw_m1 145 rfl) rfl
theorem q174 : (Jvm.Cond.methodLink "SexpMotionLaw" (68 : Nat) ({ cls := "SexpMotion", name := "up", desc := "(I)I" } : Jvm.MethodName)) ∈ lw_all := lw_g (lw_at lw_m1 153 rfl) rfl
theorem q178 : (Jvm.Cond.methodLink "SexpMotionLaw" (72 : Nat) ({ cls := "SexpMotion", name := "down", desc := "(I)I" } : Jvm.MethodName)) ∈ lw_all := lw_g (lw_at lw_m1 157 rfl) rfl
theorem q182 : (Jvm.Cond.methodLink "SexpMotionLaw" (76 : Nat) ({ cls := "SexpMotion", name := "units", desc := "()I" } : Jvm.MethodName)) ∈ lw_all := lw_g (lw_at lw_m1 161 rfl) rfl
theorem q186 : (Jvm.Cond.classLink "SexpMotionLaw" (10 : Nat) "SexpMotionModel") ∈ lw_all := lw_g (lw_at lw_m1 165 rfl) rfl
theorem q188 : (Jvm.Cond.methodLink "SexpMotionLaw" (12 : Nat) ({ cls := "SexpMotionModel", name := "<init>", desc := "()V" } : Jvm.MethodName)) ∈ lw_all := lw_g (lw_at lw_m1 167 rfl) rfl
theorem q226 : (Jvm.Cond.methodLink "SexpMotionLaw" (17 : Nat) ({ cls := "SexpMotionModel", name := "insert", desc := "(II)I" } : Jvm.MethodName)) ∈ lw_all := lw_g (lw_at lw_m1 205 rfl) rfl
theorem q234 : (Jvm.Cond.methodLink "SexpMotionLaw" (21 : Nat) ({ cls := "SexpMotionModel", name := "delete", desc := "(II)I" } : Jvm.MethodName)) ∈ lw_all := lw_g (lw_at lw_m1 213 rfl) rfl
theorem q238 : (Jvm.Cond.methodLink "SexpMotionLaw" (25 : Nat) ({ cls := "SexpMotionModel", name := "set", desc := "(II)I" } : Jvm.MethodName)) ∈ lw_all := lw_g (lw_at lw_m1 217 rfl) rfl
theorem q246 : (Jvm.Cond.methodLink "SexpMotionLaw" (30 : Nat) ({ cls := "SexpMotionModel", name := "length", desc := "()I" } : Jvm.MethodName)) ∈ lw_all := lw_g (lw_at lw_m1 225 rfl) rfl
theorem q250 : (Jvm.Cond.methodLink "SexpMotionLaw" (35 : Nat) ({ cls := "SexpMotionModel", name := "kindAt", desc := "(I)I" } : Jvm.MethodName)) ∈ lw_all := lw_g (lw_at lw_m1 229 rfl) rfl
theorem q254 : (Jvm.Cond.methodLink "SexpMotionLaw" (39 : Nat) ({ cls := "SexpMotionModel", name := "mode", desc := "(I)I" } : Jvm.MethodName)) ∈ lw_all := lw_g (lw_at lw_m1 233 rfl) rfl
theorem q266 : (Jvm.Cond.methodLink "SexpMotionLaw" (43 : Nat) ({ cls := "SexpMotionModel", name := "escaped", desc := "(I)I" } : Jvm.MethodName)) ∈ lw_all := lw_g (lw_at lw_m2 5 rfl) rfl
theorem q270 : (Jvm.Cond.methodLink "SexpMotionLaw" (47 : Nat) ({ cls := "SexpMotionModel", name := "depth", desc := "(I)I" } : Jvm.MethodName)) ∈ lw_all := lw_g (lw_at lw_m2 9 rfl) rfl
theorem q274 : (Jvm.Cond.methodLink "SexpMotionLaw" (51 : Nat) ({ cls := "SexpMotionModel", name := "bracketAt", desc := "(II)I" } : Jvm.MethodName)) ∈ lw_all := lw_g (lw_at lw_m2 13 rfl) rfl
theorem q278 : (Jvm.Cond.methodLink "SexpMotionLaw" (55 : Nat) ({ cls := "SexpMotionModel", name := "partner", desc := "(I)I" } : Jvm.MethodName)) ∈ lw_all := lw_g (lw_at lw_m2 17 rfl) rfl
theorem q282 : (Jvm.Cond.methodLink "SexpMotionLaw" (59 : Nat) ({ cls := "SexpMotionModel", name := "strays", desc := "()I" } : Jvm.MethodName)) ∈ lw_all := lw_g (lw_at lw_m2 21 rfl) rfl
theorem q286 : (Jvm.Cond.methodLink "SexpMotionLaw" (63 : Nat) ({ cls := "SexpMotionModel", name := "forward", desc := "(I)I" } : Jvm.MethodName)) ∈ lw_all := lw_g (lw_at lw_m2 25 rfl) rfl
theorem q306 : (Jvm.Cond.methodLink "SexpMotionLaw" (67 : Nat) ({ cls := "SexpMotionModel", name := "backward", desc := "(I)I" } : Jvm.MethodName)) ∈ lw_all := lw_g (lw_at lw_m2 45 rfl) rfl
theorem q314 : (Jvm.Cond.methodLink "SexpMotionLaw" (71 : Nat) ({ cls := "SexpMotionModel", name := "up", desc := "(I)I" } : Jvm.MethodName)) ∈ lw_all := lw_g (lw_at lw_m2 53 rfl) rfl
theorem q318 : (Jvm.Cond.methodLink "SexpMotionLaw" (75 : Nat) ({ cls := "SexpMotionModel", name := "down", desc := "(I)I" } : Jvm.MethodName)) ∈ lw_all := lw_g (lw_at lw_m2 57 rfl) rfl
theorem q322 : (Jvm.Cond.methodLink "SexpMotionLaw" (79 : Nat) ({ cls := "SexpMotionModel", name := "units", desc := "()I" } : Jvm.MethodName)) ∈ lw_all := lw_g (lw_at lw_m2 61 rfl) rfl
theorem q69 : (Jvm.Cond.arrayClass Jvm.ClassFile.FieldType.int) ∈ lw_all := lw_g (lw_at lw_m1 48 rfl) rfl
theorem q70 : (Jvm.Cond.arrayClass Jvm.ClassFile.FieldType.boolean) ∈ lw_all := lw_g (lw_at lw_m1 49 rfl) rfl
end
section
set_option maxRecDepth 100000
theorem dX0_init_0 : decode cX0_init 0 = .ok (.aload_n 0, 1) := by decide +kernel
theorem dX0_init_1 : decode cX0_init 1 = .ok (.invokespecial 1, 3) := by decide +kernel
theorem dX0_init_4 : decode cX0_init 4 = .ok (.aload_n 0, 1) := by decide +kernel
theorem dX0_init_5 : decode cX0_init 5 = .ok (.bipush 64, 2) := by decide +kernel
theorem dX0_init_7 : decode cX0_init 7 = .ok (.newarray .int, 2) := by decide +kernel
theorem dX0_init_9 : decode cX0_init 9 = .ok (.putfield 7, 3) := by decide +kernel
theorem dX0_init_12 : decode cX0_init 12 = .ok (.aload_n 0, 1) := by decide +kernel
theorem dX0_init_13 : decode cX0_init 13 = .ok (.bipush 64, 2) := by decide +kernel
theorem dX0_init_15 : decode cX0_init 15 = .ok (.newarray .int, 2) := by decide +kernel
theorem dX0_init_17 : decode cX0_init 17 = .ok (.putfield 13, 3) := by decide +kernel
theorem dX0_init_20 : decode cX0_init 20 = .ok (.aload_n 0, 1) := by decide +kernel
theorem dX0_init_21 : decode cX0_init 21 = .ok (.bipush 64, 2) := by decide +kernel
theorem dX0_init_23 : decode cX0_init 23 = .ok (.newarray .int, 2) := by decide +kernel
theorem dX0_init_25 : decode cX0_init 25 = .ok (.putfield 16, 3) := by decide +kernel
theorem dX0_init_28 : decode cX0_init 28 = .ok (.aload_n 0, 1) := by decide +kernel
theorem dX0_init_29 : decode cX0_init 29 = .ok (.bipush 64, 2) := by decide +kernel
theorem dX0_init_31 : decode cX0_init 31 = .ok (.newarray .int, 2) := by decide +kernel
theorem dX0_init_33 : decode cX0_init 33 = .ok (.putfield 19, 3) := by decide +kernel
theorem dX0_init_36 : decode cX0_init 36 = .ok (.aload_n 0, 1) := by decide +kernel
theorem dX0_init_37 : decode cX0_init 37 = .ok (.iconst 5, 1) := by decide +kernel
theorem dX0_init_38 : decode cX0_init 38 = .ok (.newarray .int, 2) := by decide +kernel
theorem dX0_init_40 : decode cX0_init 40 = .ok (.putfield 22, 3) := by decide +kernel
theorem dX0_init_43 : decode cX0_init 43 = .ok (.aload_n 0, 1) := by decide +kernel
theorem dX0_init_44 : decode cX0_init 44 = .ok (.iconst 5, 1) := by decide +kernel
theorem dX0_init_45 : decode cX0_init 45 = .ok (.newarray .boolean, 2) := by decide +kernel
theorem dX0_init_47 : decode cX0_init 47 = .ok (.putfield 25, 3) := by decide +kernel
theorem dX0_init_50 : decode cX0_init 50 = .ok (.aload_n 0, 1) := by decide +kernel
theorem dX0_init_51 : decode cX0_init 51 = .ok (.iconst 5, 1) := by decide +kernel
theorem dX0_init_52 : decode cX0_init 52 = .ok (.newarray .int, 2) := by decide +kernel
theorem dX0_init_54 : decode cX0_init 54 = .ok (.putfield 29, 3) := by decide +kernel
theorem dX0_init_57 : decode cX0_init 57 = .ok (.aload_n 0, 1) := by decide +kernel
theorem dX0_init_58 : decode cX0_init 58 = .ok (.getfield 29, 3) := by decide +kernel
theorem dX0_init_61 : decode cX0_init 61 = .ok (.iconst 0, 1) := by decide +kernel
theorem dX0_init_62 : decode cX0_init 62 = .ok (.bipush (-2), 2) := by decide +kernel
theorem dX0_init_64 : decode cX0_init 64 = .ok (.iastore, 1) := by decide +kernel
theorem dX0_init_65 : decode cX0_init 65 = .ok (.return_, 1) := by decide +kernel
theorem dX0_insert_0 : decode cX0_insert 0 = .ok (.aload_n 0, 1) := by decide +kernel
theorem dX0_insert_1 : decode cX0_insert 1 = .ok (.iload_n 1, 1) := by decide +kernel
theorem dX0_insert_2 : decode cX0_insert 2 = .ok (.invokevirtual 32, 3) := by decide +kernel
theorem dX0_insert_5 : decode cX0_insert 5 = .ok (.ifCond .ne 5, 3) := by decide +kernel
theorem dX0_insert_8 : decode cX0_insert 8 = .ok (.iconst (-1), 1) := by decide +kernel
theorem dX0_insert_9 : decode cX0_insert 9 = .ok (.ireturn, 1) := by decide +kernel
theorem dX0_insert_10 : decode cX0_insert 10 = .ok (.iload_n 2, 1) := by decide +kernel
theorem dX0_insert_11 : decode cX0_insert 11 = .ok (.invokestatic 36, 3) := by decide +kernel
theorem dX0_insert_14 : decode cX0_insert 14 = .ok (.ifCond .ne 6, 3) := by decide +kernel
theorem dX0_insert_17 : decode cX0_insert 17 = .ok (.bipush (-2), 2) := by decide +kernel
theorem dX0_insert_19 : decode cX0_insert 19 = .ok (.ireturn, 1) := by decide +kernel
theorem dX0_insert_20 : decode cX0_insert 20 = .ok (.aload_n 0, 1) := by decide +kernel
theorem dX0_insert_21 : decode cX0_insert 21 = .ok (.getfield 39, 3) := by decide +kernel
theorem dX0_insert_24 : decode cX0_insert 24 = .ok (.bipush 64, 2) := by decide +kernel
theorem dX0_insert_26 : decode cX0_insert 26 = .ok (.if_icmp .ne 6, 3) := by decide +kernel
theorem dX0_insert_29 : decode cX0_insert 29 = .ok (.bipush (-3), 2) := by decide +kernel
theorem dX0_insert_31 : decode cX0_insert 31 = .ok (.ireturn, 1) := by decide +kernel
theorem dX0_insert_32 : decode cX0_insert 32 = .ok (.aload_n 0, 1) := by decide +kernel
theorem dX0_insert_33 : decode cX0_insert 33 = .ok (.getfield 39, 3) := by decide +kernel
theorem dX0_insert_36 : decode cX0_insert 36 = .ok (.istore_n 3, 1) := by decide +kernel
theorem dX0_insert_37 : decode cX0_insert 37 = .ok (.iload_n 3, 1) := by decide +kernel
theorem dX0_insert_38 : decode cX0_insert 38 = .ok (.iload_n 1, 1) := by decide +kernel
theorem dX0_insert_39 : decode cX0_insert 39 = .ok (.if_icmp .le 23, 3) := by decide +kernel
theorem dX0_insert_42 : decode cX0_insert 42 = .ok (.aload_n 0, 1) := by decide +kernel
theorem dX0_insert_43 : decode cX0_insert 43 = .ok (.getfield 7, 3) := by decide +kernel
theorem dX0_insert_46 : decode cX0_insert 46 = .ok (.iload_n 3, 1) := by decide +kernel
theorem dX0_insert_47 : decode cX0_insert 47 = .ok (.aload_n 0, 1) := by decide +kernel
theorem dX0_insert_48 : decode cX0_insert 48 = .ok (.getfield 7, 3) := by decide +kernel
theorem dX0_insert_51 : decode cX0_insert 51 = .ok (.iload_n 3, 1) := by decide +kernel
theorem dX0_insert_52 : decode cX0_insert 52 = .ok (.iconst 1, 1) := by decide +kernel
theorem dX0_insert_53 : decode cX0_insert 53 = .ok (.isub, 1) := by decide +kernel
theorem dX0_insert_54 : decode cX0_insert 54 = .ok (.iaload, 1) := by decide +kernel
theorem dX0_insert_55 : decode cX0_insert 55 = .ok (.iastore, 1) := by decide +kernel
theorem dX0_insert_56 : decode cX0_insert 56 = .ok (.iinc 3 (-1), 3) := by decide +kernel
theorem dX0_insert_59 : decode cX0_insert 59 = .ok (.goto (-22), 3) := by decide +kernel
theorem dX0_insert_62 : decode cX0_insert 62 = .ok (.aload_n 0, 1) := by decide +kernel
theorem dX0_insert_63 : decode cX0_insert 63 = .ok (.getfield 7, 3) := by decide +kernel
theorem dX0_insert_66 : decode cX0_insert 66 = .ok (.iload_n 1, 1) := by decide +kernel
theorem dX0_insert_67 : decode cX0_insert 67 = .ok (.iload_n 2, 1) := by decide +kernel
theorem dX0_insert_68 : decode cX0_insert 68 = .ok (.iastore, 1) := by decide +kernel
theorem dX0_insert_69 : decode cX0_insert 69 = .ok (.aload_n 0, 1) := by decide +kernel
theorem dX0_insert_70 : decode cX0_insert 70 = .ok (.dup, 1) := by decide +kernel
theorem dX0_insert_71 : decode cX0_insert 71 = .ok (.getfield 39, 3) := by decide +kernel
theorem dX0_insert_74 : decode cX0_insert 74 = .ok (.iconst 1, 1) := by decide +kernel
theorem dX0_insert_75 : decode cX0_insert 75 = .ok (.iadd, 1) := by decide +kernel
theorem dX0_insert_76 : decode cX0_insert 76 = .ok (.putfield 39, 3) := by decide +kernel
theorem dX0_insert_79 : decode cX0_insert 79 = .ok (.aload_n 0, 1) := by decide +kernel
theorem dX0_insert_80 : decode cX0_insert 80 = .ok (.iload_n 1, 1) := by decide +kernel
theorem dX0_insert_81 : decode cX0_insert 81 = .ok (.invokevirtual 43, 3) := by decide +kernel
theorem dX0_insert_84 : decode cX0_insert 84 = .ok (.aload_n 0, 1) := by decide +kernel
theorem dX0_insert_85 : decode cX0_insert 85 = .ok (.getfield 39, 3) := by decide +kernel
theorem dX0_insert_88 : decode cX0_insert 88 = .ok (.ireturn, 1) := by decide +kernel
theorem dX0_isGap_0 : decode cX0_isGap 0 = .ok (.iload_n 1, 1) := by decide +kernel
theorem dX0_isGap_1 : decode cX0_isGap 1 = .ok (.ifCond .lt 15, 3) := by decide +kernel
theorem dX0_isGap_4 : decode cX0_isGap 4 = .ok (.iload_n 1, 1) := by decide +kernel
theorem dX0_isGap_5 : decode cX0_isGap 5 = .ok (.aload_n 0, 1) := by decide +kernel
theorem dX0_isGap_6 : decode cX0_isGap 6 = .ok (.getfield 39, 3) := by decide +kernel
theorem dX0_isGap_9 : decode cX0_isGap 9 = .ok (.if_icmp .gt 7, 3) := by decide +kernel
theorem dX0_isGap_12 : decode cX0_isGap 12 = .ok (.iconst 1, 1) := by decide +kernel
theorem dX0_isGap_13 : decode cX0_isGap 13 = .ok (.goto 4, 3) := by decide +kernel
theorem dX0_isGap_16 : decode cX0_isGap 16 = .ok (.iconst 0, 1) := by decide +kernel
theorem dX0_isGap_17 : decode cX0_isGap 17 = .ok (.ireturn, 1) := by decide +kernel
theorem dX0_isKind_0 : decode cX0_isKind 0 = .ok (.iload_n 0, 1) := by decide +kernel
theorem dX0_isKind_1 : decode cX0_isKind 1 = .ok (.ifCond .lt 13, 3) := by decide +kernel
theorem dX0_isKind_4 : decode cX0_isKind 4 = .ok (.iload_n 0, 1) := by decide +kernel
theorem dX0_isKind_5 : decode cX0_isKind 5 = .ok (.bipush 7, 2) := by decide +kernel
theorem dX0_isKind_7 : decode cX0_isKind 7 = .ok (.if_icmp .gt 7, 3) := by decide +kernel
theorem dX0_isKind_10 : decode cX0_isKind 10 = .ok (.iconst 1, 1) := by decide +kernel
theorem dX0_isKind_11 : decode cX0_isKind 11 = .ok (.goto 4, 3) := by decide +kernel
theorem dX0_isKind_14 : decode cX0_isKind 14 = .ok (.iconst 0, 1) := by decide +kernel
theorem dX0_isKind_15 : decode cX0_isKind 15 = .ok (.ireturn, 1) := by decide +kernel
theorem dX0_forgetFrom_0 : decode cX0_forgetFrom 0 = .ok (.aload_n 0, 1) := by decide +kernel
theorem dX0_forgetFrom_1 : decode cX0_forgetFrom 1 = .ok (.getfield 76, 3) := by decide +kernel
theorem dX0_forgetFrom_4 : decode cX0_forgetFrom 4 = .ok (.iload_n 1, 1) := by decide +kernel
theorem dX0_forgetFrom_5 : decode cX0_forgetFrom 5 = .ok (.if_icmp .le 8, 3) := by decide +kernel
theorem dX0_forgetFrom_8 : decode cX0_forgetFrom 8 = .ok (.aload_n 0, 1) := by decide +kernel
theorem dX0_forgetFrom_9 : decode cX0_forgetFrom 9 = .ok (.iload_n 1, 1) := by decide +kernel
theorem dX0_forgetFrom_10 : decode cX0_forgetFrom 10 = .ok (.putfield 76, 3) := by decide +kernel
theorem dX0_forgetFrom_13 : decode cX0_forgetFrom 13 = .ok (.iconst 0, 1) := by decide +kernel
theorem dX0_forgetFrom_14 : decode cX0_forgetFrom 14 = .ok (.istore_n 2, 1) := by decide +kernel
theorem dX0_forgetFrom_15 : decode cX0_forgetFrom 15 = .ok (.iload_n 2, 1) := by decide +kernel
theorem dX0_forgetFrom_16 : decode cX0_forgetFrom 16 = .ok (.aload_n 0, 1) := by decide +kernel
theorem dX0_forgetFrom_17 : decode cX0_forgetFrom 17 = .ok (.getfield 76, 3) := by decide +kernel
theorem dX0_forgetFrom_20 : decode cX0_forgetFrom 20 = .ok (.if_icmp .ge 40, 3) := by decide +kernel
theorem dX0_forgetFrom_23 : decode cX0_forgetFrom 23 = .ok (.aload_n 0, 1) := by decide +kernel
theorem dX0_forgetFrom_24 : decode cX0_forgetFrom 24 = .ok (.getfield 13, 3) := by decide +kernel
theorem dX0_forgetFrom_27 : decode cX0_forgetFrom 27 = .ok (.iload_n 2, 1) := by decide +kernel
theorem dX0_forgetFrom_28 : decode cX0_forgetFrom 28 = .ok (.iaload, 1) := by decide +kernel
theorem dX0_forgetFrom_29 : decode cX0_forgetFrom 29 = .ok (.iconst 1, 1) := by decide +kernel
theorem dX0_forgetFrom_30 : decode cX0_forgetFrom 30 = .ok (.if_icmp .ne 24, 3) := by decide +kernel
theorem dX0_forgetFrom_33 : decode cX0_forgetFrom 33 = .ok (.aload_n 0, 1) := by decide +kernel
theorem dX0_forgetFrom_34 : decode cX0_forgetFrom 34 = .ok (.getfield 16, 3) := by decide +kernel
theorem dX0_forgetFrom_37 : decode cX0_forgetFrom 37 = .ok (.iload_n 2, 1) := by decide +kernel
theorem dX0_forgetFrom_38 : decode cX0_forgetFrom 38 = .ok (.iaload, 1) := by decide +kernel
theorem dX0_forgetFrom_39 : decode cX0_forgetFrom 39 = .ok (.aload_n 0, 1) := by decide +kernel
theorem dX0_forgetFrom_40 : decode cX0_forgetFrom 40 = .ok (.getfield 76, 3) := by decide +kernel
theorem dX0_forgetFrom_43 : decode cX0_forgetFrom 43 = .ok (.if_icmp .lt 11, 3) := by decide +kernel
theorem dX0_forgetFrom_46 : decode cX0_forgetFrom 46 = .ok (.aload_n 0, 1) := by decide +kernel
theorem dX0_forgetFrom_47 : decode cX0_forgetFrom 47 = .ok (.getfield 16, 3) := by decide +kernel
theorem dX0_forgetFrom_50 : decode cX0_forgetFrom 50 = .ok (.iload_n 2, 1) := by decide +kernel
theorem dX0_forgetFrom_51 : decode cX0_forgetFrom 51 = .ok (.bipush (-2), 2) := by decide +kernel
theorem dX0_forgetFrom_53 : decode cX0_forgetFrom 53 = .ok (.iastore, 1) := by decide +kernel
theorem dX0_forgetFrom_54 : decode cX0_forgetFrom 54 = .ok (.iinc 2 1, 3) := by decide +kernel
theorem dX0_forgetFrom_57 : decode cX0_forgetFrom 57 = .ok (.goto (-42), 3) := by decide +kernel
theorem dX0_forgetFrom_60 : decode cX0_forgetFrom 60 = .ok (.return_, 1) := by decide +kernel
theorem dX0_delete_0 : decode cX0_delete 0 = .ok (.iload_n 1, 1) := by decide +kernel
theorem dX0_delete_1 : decode cX0_delete 1 = .ok (.ifCond .lt 16, 3) := by decide +kernel
theorem dX0_delete_4 : decode cX0_delete 4 = .ok (.iload_n 1, 1) := by decide +kernel
theorem dX0_delete_5 : decode cX0_delete 5 = .ok (.iload_n 2, 1) := by decide +kernel
theorem dX0_delete_6 : decode cX0_delete 6 = .ok (.if_icmp .gt 11, 3) := by decide +kernel
theorem dX0_delete_9 : decode cX0_delete 9 = .ok (.iload_n 2, 1) := by decide +kernel
theorem dX0_delete_10 : decode cX0_delete 10 = .ok (.aload_n 0, 1) := by decide +kernel
theorem dX0_delete_11 : decode cX0_delete 11 = .ok (.getfield 39, 3) := by decide +kernel
theorem dX0_delete_14 : decode cX0_delete 14 = .ok (.if_icmp .le 5, 3) := by decide +kernel
theorem dX0_delete_17 : decode cX0_delete 17 = .ok (.iconst (-1), 1) := by decide +kernel
theorem dX0_delete_18 : decode cX0_delete 18 = .ok (.ireturn, 1) := by decide +kernel
theorem dX0_delete_19 : decode cX0_delete 19 = .ok (.iload_n 2, 1) := by decide +kernel
theorem dX0_delete_20 : decode cX0_delete 20 = .ok (.iload_n 1, 1) := by decide +kernel
theorem dX0_delete_21 : decode cX0_delete 21 = .ok (.isub, 1) := by decide +kernel
theorem dX0_delete_22 : decode cX0_delete 22 = .ok (.istore_n 3, 1) := by decide +kernel
theorem dX0_delete_23 : decode cX0_delete 23 = .ok (.iload_n 2, 1) := by decide +kernel
theorem dX0_delete_24 : decode cX0_delete 24 = .ok (.istore 4, 2) := by decide +kernel
theorem dX0_delete_26 : decode cX0_delete 26 = .ok (.iload 4, 2) := by decide +kernel
theorem dX0_delete_28 : decode cX0_delete 28 = .ok (.aload_n 0, 1) := by decide +kernel
theorem dX0_delete_29 : decode cX0_delete 29 = .ok (.getfield 39, 3) := by decide +kernel
theorem dX0_delete_32 : decode cX0_delete 32 = .ok (.if_icmp .ge 25, 3) := by decide +kernel
theorem dX0_delete_35 : decode cX0_delete 35 = .ok (.aload_n 0, 1) := by decide +kernel
theorem dX0_delete_36 : decode cX0_delete 36 = .ok (.getfield 7, 3) := by decide +kernel
theorem dX0_delete_39 : decode cX0_delete 39 = .ok (.iload 4, 2) := by decide +kernel
theorem dX0_delete_41 : decode cX0_delete 41 = .ok (.iload_n 3, 1) := by decide +kernel
theorem dX0_delete_42 : decode cX0_delete 42 = .ok (.isub, 1) := by decide +kernel
theorem dX0_delete_43 : decode cX0_delete 43 = .ok (.aload_n 0, 1) := by decide +kernel
theorem dX0_delete_44 : decode cX0_delete 44 = .ok (.getfield 7, 3) := by decide +kernel
theorem dX0_delete_47 : decode cX0_delete 47 = .ok (.iload 4, 2) := by decide +kernel
theorem dX0_delete_49 : decode cX0_delete 49 = .ok (.iaload, 1) := by decide +kernel
theorem dX0_delete_50 : decode cX0_delete 50 = .ok (.iastore, 1) := by decide +kernel
theorem dX0_delete_51 : decode cX0_delete 51 = .ok (.iinc 4 1, 3) := by decide +kernel
theorem dX0_delete_54 : decode cX0_delete 54 = .ok (.goto (-28), 3) := by decide +kernel
theorem dX0_delete_57 : decode cX0_delete 57 = .ok (.aload_n 0, 1) := by decide +kernel
theorem dX0_delete_58 : decode cX0_delete 58 = .ok (.dup, 1) := by decide +kernel
theorem dX0_delete_59 : decode cX0_delete 59 = .ok (.getfield 39, 3) := by decide +kernel
theorem dX0_delete_62 : decode cX0_delete 62 = .ok (.iload_n 3, 1) := by decide +kernel
theorem dX0_delete_63 : decode cX0_delete 63 = .ok (.isub, 1) := by decide +kernel
theorem dX0_delete_64 : decode cX0_delete 64 = .ok (.putfield 39, 3) := by decide +kernel
theorem dX0_delete_67 : decode cX0_delete 67 = .ok (.iload_n 3, 1) := by decide +kernel
theorem dX0_delete_68 : decode cX0_delete 68 = .ok (.ifCond .le 8, 3) := by decide +kernel
theorem dX0_delete_71 : decode cX0_delete 71 = .ok (.aload_n 0, 1) := by decide +kernel
theorem dX0_delete_72 : decode cX0_delete 72 = .ok (.iload_n 1, 1) := by decide +kernel
theorem dX0_delete_73 : decode cX0_delete 73 = .ok (.invokevirtual 43, 3) := by decide +kernel
theorem dX0_delete_76 : decode cX0_delete 76 = .ok (.aload_n 0, 1) := by decide +kernel
theorem dX0_delete_77 : decode cX0_delete 77 = .ok (.getfield 39, 3) := by decide +kernel
theorem dX0_delete_80 : decode cX0_delete 80 = .ok (.ireturn, 1) := by decide +kernel
theorem dX0_set_0 : decode cX0_set 0 = .ok (.aload_n 0, 1) := by decide +kernel
theorem dX0_set_1 : decode cX0_set 1 = .ok (.iload_n 1, 1) := by decide +kernel
theorem dX0_set_2 : decode cX0_set 2 = .ok (.invokevirtual 47, 3) := by decide +kernel
theorem dX0_set_5 : decode cX0_set 5 = .ok (.ifCond .ne 5, 3) := by decide +kernel
theorem dX0_set_8 : decode cX0_set 8 = .ok (.iconst (-1), 1) := by decide +kernel
theorem dX0_set_9 : decode cX0_set 9 = .ok (.ireturn, 1) := by decide +kernel
theorem dX0_set_10 : decode cX0_set 10 = .ok (.iload_n 2, 1) := by decide +kernel
theorem dX0_set_11 : decode cX0_set 11 = .ok (.invokestatic 36, 3) := by decide +kernel
theorem dX0_set_14 : decode cX0_set 14 = .ok (.ifCond .ne 6, 3) := by decide +kernel
theorem dX0_set_17 : decode cX0_set 17 = .ok (.bipush (-2), 2) := by decide +kernel
theorem dX0_set_19 : decode cX0_set 19 = .ok (.ireturn, 1) := by decide +kernel
theorem dX0_set_20 : decode cX0_set 20 = .ok (.aload_n 0, 1) := by decide +kernel
theorem dX0_set_21 : decode cX0_set 21 = .ok (.getfield 7, 3) := by decide +kernel
theorem dX0_set_24 : decode cX0_set 24 = .ok (.iload_n 1, 1) := by decide +kernel
theorem dX0_set_25 : decode cX0_set 25 = .ok (.iaload, 1) := by decide +kernel
theorem dX0_set_26 : decode cX0_set 26 = .ok (.istore_n 3, 1) := by decide +kernel
theorem dX0_set_27 : decode cX0_set 27 = .ok (.aload_n 0, 1) := by decide +kernel
theorem dX0_set_28 : decode cX0_set 28 = .ok (.getfield 7, 3) := by decide +kernel
theorem dX0_set_31 : decode cX0_set 31 = .ok (.iload_n 1, 1) := by decide +kernel
theorem dX0_set_32 : decode cX0_set 32 = .ok (.iload_n 2, 1) := by decide +kernel
theorem dX0_set_33 : decode cX0_set 33 = .ok (.iastore, 1) := by decide +kernel
theorem dX0_set_34 : decode cX0_set 34 = .ok (.aload_n 0, 1) := by decide +kernel
theorem dX0_set_35 : decode cX0_set 35 = .ok (.iload_n 1, 1) := by decide +kernel
theorem dX0_set_36 : decode cX0_set 36 = .ok (.invokevirtual 43, 3) := by decide +kernel
theorem dX0_set_39 : decode cX0_set 39 = .ok (.iload_n 3, 1) := by decide +kernel
theorem dX0_set_40 : decode cX0_set 40 = .ok (.ireturn, 1) := by decide +kernel
theorem dX0_isPlace_0 : decode cX0_isPlace 0 = .ok (.iload_n 1, 1) := by decide +kernel
theorem dX0_isPlace_1 : decode cX0_isPlace 1 = .ok (.ifCond .lt 15, 3) := by decide +kernel
theorem dX0_isPlace_4 : decode cX0_isPlace 4 = .ok (.iload_n 1, 1) := by decide +kernel
theorem dX0_isPlace_5 : decode cX0_isPlace 5 = .ok (.aload_n 0, 1) := by decide +kernel
theorem dX0_isPlace_6 : decode cX0_isPlace 6 = .ok (.getfield 39, 3) := by decide +kernel
theorem dX0_isPlace_9 : decode cX0_isPlace 9 = .ok (.if_icmp .ge 7, 3) := by decide +kernel
theorem dX0_isPlace_12 : decode cX0_isPlace 12 = .ok (.iconst 1, 1) := by decide +kernel
theorem dX0_isPlace_13 : decode cX0_isPlace 13 = .ok (.goto 4, 3) := by decide +kernel
theorem dX0_isPlace_16 : decode cX0_isPlace 16 = .ok (.iconst 0, 1) := by decide +kernel
theorem dX0_isPlace_17 : decode cX0_isPlace 17 = .ok (.ireturn, 1) := by decide +kernel
theorem dX0_length_0 : decode cX0_length 0 = .ok (.aload_n 0, 1) := by decide +kernel
theorem dX0_length_1 : decode cX0_length 1 = .ok (.getfield 39, 3) := by decide +kernel
theorem dX0_length_4 : decode cX0_length 4 = .ok (.ireturn, 1) := by decide +kernel
theorem dX0_kindAt_0 : decode cX0_kindAt 0 = .ok (.aload_n 0, 1) := by decide +kernel
theorem dX0_kindAt_1 : decode cX0_kindAt 1 = .ok (.iload_n 1, 1) := by decide +kernel
theorem dX0_kindAt_2 : decode cX0_kindAt 2 = .ok (.invokevirtual 47, 3) := by decide +kernel
theorem dX0_kindAt_5 : decode cX0_kindAt 5 = .ok (.ifCond .eq 12, 3) := by decide +kernel
theorem dX0_kindAt_8 : decode cX0_kindAt 8 = .ok (.aload_n 0, 1) := by decide +kernel
theorem dX0_kindAt_9 : decode cX0_kindAt 9 = .ok (.getfield 7, 3) := by decide +kernel
theorem dX0_kindAt_12 : decode cX0_kindAt 12 = .ok (.iload_n 1, 1) := by decide +kernel
theorem dX0_kindAt_13 : decode cX0_kindAt 13 = .ok (.iaload, 1) := by decide +kernel
theorem dX0_kindAt_14 : decode cX0_kindAt 14 = .ok (.goto 4, 3) := by decide +kernel
theorem dX0_kindAt_17 : decode cX0_kindAt 17 = .ok (.iconst (-1), 1) := by decide +kernel
theorem dX0_kindAt_18 : decode cX0_kindAt 18 = .ok (.ireturn, 1) := by decide +kernel
theorem dX0_mode_0 : decode cX0_mode 0 = .ok (.aload_n 0, 1) := by decide +kernel
theorem dX0_mode_1 : decode cX0_mode 1 = .ok (.iload_n 1, 1) := by decide +kernel
theorem dX0_mode_2 : decode cX0_mode 2 = .ok (.invokevirtual 32, 3) := by decide +kernel
theorem dX0_mode_5 : decode cX0_mode 5 = .ok (.ifCond .ne 5, 3) := by decide +kernel
theorem dX0_mode_8 : decode cX0_mode 8 = .ok (.iconst (-1), 1) := by decide +kernel
theorem dX0_mode_9 : decode cX0_mode 9 = .ok (.ireturn, 1) := by decide +kernel
theorem dX0_mode_10 : decode cX0_mode 10 = .ok (.aload_n 0, 1) := by decide +kernel
theorem dX0_mode_11 : decode cX0_mode 11 = .ok (.iload_n 1, 1) := by decide +kernel
theorem dX0_mode_12 : decode cX0_mode 12 = .ok (.invokevirtual 50, 3) := by decide +kernel
theorem dX0_mode_15 : decode cX0_mode 15 = .ok (.aload_n 0, 1) := by decide +kernel
theorem dX0_mode_16 : decode cX0_mode 16 = .ok (.getfield 53, 3) := by decide +kernel
theorem dX0_mode_19 : decode cX0_mode 19 = .ok (.ireturn, 1) := by decide +kernel
theorem dX0_stateAt_0 : decode cX0_stateAt 0 = .ok (.aload_n 0, 1) := by decide +kernel
theorem dX0_stateAt_1 : decode cX0_stateAt 1 = .ok (.iload_n 1, 1) := by decide +kernel
theorem dX0_stateAt_2 : decode cX0_stateAt 2 = .ok (.invokevirtual 67, 3) := by decide +kernel
theorem dX0_stateAt_5 : decode cX0_stateAt 5 = .ok (.aload_n 0, 1) := by decide +kernel
theorem dX0_stateAt_6 : decode cX0_stateAt 6 = .ok (.iload_n 1, 1) := by decide +kernel
theorem dX0_stateAt_7 : decode cX0_stateAt 7 = .ok (.iconst 4, 1) := by decide +kernel
theorem dX0_stateAt_8 : decode cX0_stateAt 8 = .ok (.ishr, 1) := by decide +kernel
theorem dX0_stateAt_9 : decode cX0_stateAt 9 = .ok (.invokevirtual 79, 3) := by decide +kernel
theorem dX0_stateAt_12 : decode cX0_stateAt 12 = .ok (.iload_n 1, 1) := by decide +kernel
theorem dX0_stateAt_13 : decode cX0_stateAt 13 = .ok (.bipush (-16), 2) := by decide +kernel
theorem dX0_stateAt_15 : decode cX0_stateAt 15 = .ok (.iand, 1) := by decide +kernel
theorem dX0_stateAt_16 : decode cX0_stateAt 16 = .ok (.istore_n 2, 1) := by decide +kernel
theorem dX0_stateAt_17 : decode cX0_stateAt 17 = .ok (.iload_n 2, 1) := by decide +kernel
theorem dX0_stateAt_18 : decode cX0_stateAt 18 = .ok (.iload_n 1, 1) := by decide +kernel
theorem dX0_stateAt_19 : decode cX0_stateAt 19 = .ok (.if_icmp .ge 14, 3) := by decide +kernel
theorem dX0_stateAt_22 : decode cX0_stateAt 22 = .ok (.aload_n 0, 1) := by decide +kernel
theorem dX0_stateAt_23 : decode cX0_stateAt 23 = .ok (.iload_n 2, 1) := by decide +kernel
theorem dX0_stateAt_24 : decode cX0_stateAt 24 = .ok (.invokevirtual 88, 3) := by decide +kernel
theorem dX0_stateAt_27 : decode cX0_stateAt 27 = .ok (.iinc 2 1, 3) := by decide +kernel
theorem dX0_stateAt_30 : decode cX0_stateAt 30 = .ok (.goto (-13), 3) := by decide +kernel
theorem dX0_stateAt_33 : decode cX0_stateAt 33 = .ok (.return_, 1) := by decide +kernel
theorem dX0_readTo_0 : decode cX0_readTo 0 = .ok (.aload_n 0, 1) := by decide +kernel
theorem dX0_readTo_1 : decode cX0_readTo 1 = .ok (.getfield 76, 3) := by decide +kernel
theorem dX0_readTo_4 : decode cX0_readTo 4 = .ok (.iload_n 1, 1) := by decide +kernel
theorem dX0_readTo_5 : decode cX0_readTo 5 = .ok (.if_icmp .lt 4, 3) := by decide +kernel
theorem dX0_readTo_8 : decode cX0_readTo 8 = .ok (.return_, 1) := by decide +kernel
theorem dX0_readTo_9 : decode cX0_readTo 9 = .ok (.aload_n 0, 1) := by decide +kernel
theorem dX0_readTo_10 : decode cX0_readTo 10 = .ok (.aload_n 0, 1) := by decide +kernel
theorem dX0_readTo_11 : decode cX0_readTo 11 = .ok (.getfield 76, 3) := by decide +kernel
theorem dX0_readTo_14 : decode cX0_readTo 14 = .ok (.iconst 4, 1) := by decide +kernel
theorem dX0_readTo_15 : decode cX0_readTo 15 = .ok (.ishr, 1) := by decide +kernel
theorem dX0_readTo_16 : decode cX0_readTo 16 = .ok (.invokevirtual 79, 3) := by decide +kernel
theorem dX0_readTo_19 : decode cX0_readTo 19 = .ok (.aload_n 0, 1) := by decide +kernel
theorem dX0_readTo_20 : decode cX0_readTo 20 = .ok (.getfield 76, 3) := by decide +kernel
theorem dX0_readTo_23 : decode cX0_readTo 23 = .ok (.bipush (-16), 2) := by decide +kernel
theorem dX0_readTo_25 : decode cX0_readTo 25 = .ok (.iand, 1) := by decide +kernel
theorem dX0_readTo_26 : decode cX0_readTo 26 = .ok (.istore_n 2, 1) := by decide +kernel
theorem dX0_readTo_27 : decode cX0_readTo 27 = .ok (.iload_n 2, 1) := by decide +kernel
theorem dX0_readTo_28 : decode cX0_readTo 28 = .ok (.iload_n 1, 1) := by decide +kernel
theorem dX0_readTo_29 : decode cX0_readTo 29 = .ok (.if_icmp .ge 33, 3) := by decide +kernel
theorem dX0_readTo_32 : decode cX0_readTo 32 = .ok (.iload_n 2, 1) := by decide +kernel
theorem dX0_readTo_33 : decode cX0_readTo 33 = .ok (.bipush 15, 2) := by decide +kernel
theorem dX0_readTo_35 : decode cX0_readTo 35 = .ok (.iand, 1) := by decide +kernel
theorem dX0_readTo_36 : decode cX0_readTo 36 = .ok (.ifCond .ne 10, 3) := by decide +kernel
theorem dX0_readTo_39 : decode cX0_readTo 39 = .ok (.aload_n 0, 1) := by decide +kernel
theorem dX0_readTo_40 : decode cX0_readTo 40 = .ok (.iload_n 2, 1) := by decide +kernel
theorem dX0_readTo_41 : decode cX0_readTo 41 = .ok (.iconst 4, 1) := by decide +kernel
theorem dX0_readTo_42 : decode cX0_readTo 42 = .ok (.ishr, 1) := by decide +kernel
theorem dX0_readTo_43 : decode cX0_readTo 43 = .ok (.invokevirtual 82, 3) := by decide +kernel
theorem dX0_readTo_46 : decode cX0_readTo 46 = .ok (.aload_n 0, 1) := by decide +kernel
theorem dX0_readTo_47 : decode cX0_readTo 47 = .ok (.iload_n 2, 1) := by decide +kernel
theorem dX0_readTo_48 : decode cX0_readTo 48 = .ok (.invokevirtual 85, 3) := by decide +kernel
theorem dX0_readTo_51 : decode cX0_readTo 51 = .ok (.aload_n 0, 1) := by decide +kernel
theorem dX0_readTo_52 : decode cX0_readTo 52 = .ok (.iload_n 2, 1) := by decide +kernel
theorem dX0_readTo_53 : decode cX0_readTo 53 = .ok (.invokevirtual 88, 3) := by decide +kernel
theorem dX0_readTo_56 : decode cX0_readTo 56 = .ok (.iinc 2 1, 3) := by decide +kernel
theorem dX0_readTo_59 : decode cX0_readTo 59 = .ok (.goto (-32), 3) := by decide +kernel
theorem dX0_readTo_62 : decode cX0_readTo 62 = .ok (.iload_n 1, 1) := by decide +kernel
theorem dX0_readTo_63 : decode cX0_readTo 63 = .ok (.bipush 15, 2) := by decide +kernel
theorem dX0_readTo_65 : decode cX0_readTo 65 = .ok (.iand, 1) := by decide +kernel
theorem dX0_readTo_66 : decode cX0_readTo 66 = .ok (.ifCond .ne 10, 3) := by decide +kernel
theorem dX0_readTo_69 : decode cX0_readTo 69 = .ok (.aload_n 0, 1) := by decide +kernel
theorem dX0_readTo_70 : decode cX0_readTo 70 = .ok (.iload_n 1, 1) := by decide +kernel
theorem dX0_readTo_71 : decode cX0_readTo 71 = .ok (.iconst 4, 1) := by decide +kernel
theorem dX0_readTo_72 : decode cX0_readTo 72 = .ok (.ishr, 1) := by decide +kernel
theorem dX0_readTo_73 : decode cX0_readTo 73 = .ok (.invokevirtual 82, 3) := by decide +kernel
theorem dX0_readTo_76 : decode cX0_readTo 76 = .ok (.aload_n 0, 1) := by decide +kernel
theorem dX0_readTo_77 : decode cX0_readTo 77 = .ok (.iload_n 1, 1) := by decide +kernel
theorem dX0_readTo_78 : decode cX0_readTo 78 = .ok (.putfield 76, 3) := by decide +kernel
theorem dX0_readTo_81 : decode cX0_readTo 81 = .ok (.return_, 1) := by decide +kernel
theorem dX0_load_0 : decode cX0_load 0 = .ok (.aload_n 0, 1) := by decide +kernel
theorem dX0_load_1 : decode cX0_load 1 = .ok (.aload_n 0, 1) := by decide +kernel
theorem dX0_load_2 : decode cX0_load 2 = .ok (.getfield 22, 3) := by decide +kernel
theorem dX0_load_5 : decode cX0_load 5 = .ok (.iload_n 1, 1) := by decide +kernel
theorem dX0_load_6 : decode cX0_load 6 = .ok (.iaload, 1) := by decide +kernel
theorem dX0_load_7 : decode cX0_load 7 = .ok (.putfield 53, 3) := by decide +kernel
theorem dX0_load_10 : decode cX0_load 10 = .ok (.aload_n 0, 1) := by decide +kernel
theorem dX0_load_11 : decode cX0_load 11 = .ok (.aload_n 0, 1) := by decide +kernel
theorem dX0_load_12 : decode cX0_load 12 = .ok (.getfield 25, 3) := by decide +kernel
theorem dX0_load_15 : decode cX0_load 15 = .ok (.iload_n 1, 1) := by decide +kernel
theorem dX0_load_16 : decode cX0_load 16 = .ok (.baload, 1) := by decide +kernel
theorem dX0_load_17 : decode cX0_load 17 = .ok (.putfield 56, 3) := by decide +kernel
theorem dX0_load_20 : decode cX0_load 20 = .ok (.aload_n 0, 1) := by decide +kernel
theorem dX0_load_21 : decode cX0_load 21 = .ok (.aload_n 0, 1) := by decide +kernel
theorem dX0_load_22 : decode cX0_load 22 = .ok (.getfield 29, 3) := by decide +kernel
theorem dX0_load_25 : decode cX0_load 25 = .ok (.iload_n 1, 1) := by decide +kernel
theorem dX0_load_26 : decode cX0_load 26 = .ok (.iaload, 1) := by decide +kernel
theorem dX0_load_27 : decode cX0_load 27 = .ok (.putfield 60, 3) := by decide +kernel
theorem dX0_load_30 : decode cX0_load 30 = .ok (.return_, 1) := by decide +kernel
theorem dX0_keep_0 : decode cX0_keep 0 = .ok (.aload_n 0, 1) := by decide +kernel
theorem dX0_keep_1 : decode cX0_keep 1 = .ok (.getfield 22, 3) := by decide +kernel
theorem dX0_keep_4 : decode cX0_keep 4 = .ok (.iload_n 1, 1) := by decide +kernel
theorem dX0_keep_5 : decode cX0_keep 5 = .ok (.aload_n 0, 1) := by decide +kernel
theorem dX0_keep_6 : decode cX0_keep 6 = .ok (.getfield 53, 3) := by decide +kernel
theorem dX0_keep_9 : decode cX0_keep 9 = .ok (.iastore, 1) := by decide +kernel
theorem dX0_keep_10 : decode cX0_keep 10 = .ok (.aload_n 0, 1) := by decide +kernel
theorem dX0_keep_11 : decode cX0_keep 11 = .ok (.getfield 25, 3) := by decide +kernel
end
section
set_option maxRecDepth 100000
theorem dX0_keep_14 : decode cX0_keep 14 = .ok (.iload_n 1, 1) := by decide +kernel
theorem dX0_keep_15 : decode cX0_keep 15 = .ok (.aload_n 0, 1) := by decide +kernel
theorem dX0_keep_16 : decode cX0_keep 16 = .ok (.getfield 56, 3) := by decide +kernel
theorem dX0_keep_19 : decode cX0_keep 19 = .ok (.bastore, 1) := by decide +kernel
theorem dX0_keep_20 : decode cX0_keep 20 = .ok (.aload_n 0, 1) := by decide +kernel
theorem dX0_keep_21 : decode cX0_keep 21 = .ok (.getfield 29, 3) := by decide +kernel
theorem dX0_keep_24 : decode cX0_keep 24 = .ok (.iload_n 1, 1) := by decide +kernel
theorem dX0_keep_25 : decode cX0_keep 25 = .ok (.aload_n 0, 1) := by decide +kernel
theorem dX0_keep_26 : decode cX0_keep 26 = .ok (.getfield 60, 3) := by decide +kernel
theorem dX0_keep_29 : decode cX0_keep 29 = .ok (.iastore, 1) := by decide +kernel
theorem dX0_keep_30 : decode cX0_keep 30 = .ok (.return_, 1) := by decide +kernel
theorem dX0_note_0 : decode cX0_note 0 = .ok (.aload_n 0, 1) := by decide +kernel
theorem dX0_note_1 : decode cX0_note 1 = .ok (.getfield 7, 3) := by decide +kernel
theorem dX0_note_4 : decode cX0_note 4 = .ok (.iload_n 1, 1) := by decide +kernel
theorem dX0_note_5 : decode cX0_note 5 = .ok (.iaload, 1) := by decide +kernel
theorem dX0_note_6 : decode cX0_note 6 = .ok (.istore_n 2, 1) := by decide +kernel
theorem dX0_note_7 : decode cX0_note 7 = .ok (.aload_n 0, 1) := by decide +kernel
theorem dX0_note_8 : decode cX0_note 8 = .ok (.getfield 13, 3) := by decide +kernel
theorem dX0_note_11 : decode cX0_note 11 = .ok (.iload_n 1, 1) := by decide +kernel
theorem dX0_note_12 : decode cX0_note 12 = .ok (.iconst 0, 1) := by decide +kernel
theorem dX0_note_13 : decode cX0_note 13 = .ok (.iastore, 1) := by decide +kernel
theorem dX0_note_14 : decode cX0_note 14 = .ok (.aload_n 0, 1) := by decide +kernel
theorem dX0_note_15 : decode cX0_note 15 = .ok (.getfield 16, 3) := by decide +kernel
theorem dX0_note_18 : decode cX0_note 18 = .ok (.iload_n 1, 1) := by decide +kernel
theorem dX0_note_19 : decode cX0_note 19 = .ok (.bipush (-2), 2) := by decide +kernel
theorem dX0_note_21 : decode cX0_note 21 = .ok (.iastore, 1) := by decide +kernel
theorem dX0_note_22 : decode cX0_note 22 = .ok (.aload_n 0, 1) := by decide +kernel
theorem dX0_note_23 : decode cX0_note 23 = .ok (.getfield 53, 3) := by decide +kernel
theorem dX0_note_26 : decode cX0_note 26 = .ok (.ifCond .ne 127, 3) := by decide +kernel
theorem dX0_note_29 : decode cX0_note 29 = .ok (.aload_n 0, 1) := by decide +kernel
theorem dX0_note_30 : decode cX0_note 30 = .ok (.getfield 56, 3) := by decide +kernel
theorem dX0_note_33 : decode cX0_note 33 = .ok (.ifCond .ne 12, 3) := by decide +kernel
theorem dX0_note_36 : decode cX0_note 36 = .ok (.iload_n 2, 1) := by decide +kernel
theorem dX0_note_37 : decode cX0_note 37 = .ok (.ifCond .eq 8, 3) := by decide +kernel
theorem dX0_note_40 : decode cX0_note 40 = .ok (.iload_n 2, 1) := by decide +kernel
theorem dX0_note_41 : decode cX0_note 41 = .ok (.iconst 5, 1) := by decide +kernel
theorem dX0_note_42 : decode cX0_note 42 = .ok (.if_icmp .ne 14, 3) := by decide +kernel
theorem dX0_note_45 : decode cX0_note 45 = .ok (.aload_n 0, 1) := by decide +kernel
theorem dX0_note_46 : decode cX0_note 46 = .ok (.getfield 13, 3) := by decide +kernel
theorem dX0_note_49 : decode cX0_note 49 = .ok (.iload_n 1, 1) := by decide +kernel
theorem dX0_note_50 : decode cX0_note 50 = .ok (.bipush 6, 2) := by decide +kernel
theorem dX0_note_52 : decode cX0_note 52 = .ok (.iastore, 1) := by decide +kernel
theorem dX0_note_53 : decode cX0_note 53 = .ok (.goto 127, 3) := by decide +kernel
theorem dX0_note_56 : decode cX0_note 56 = .ok (.iload_n 2, 1) := by decide +kernel
theorem dX0_note_57 : decode cX0_note 57 = .ok (.iconst 2, 1) := by decide +kernel
theorem dX0_note_58 : decode cX0_note 58 = .ok (.if_icmp .ne 23, 3) := by decide +kernel
theorem dX0_note_61 : decode cX0_note 61 = .ok (.aload_n 0, 1) := by decide +kernel
theorem dX0_note_62 : decode cX0_note 62 = .ok (.getfield 13, 3) := by decide +kernel
theorem dX0_note_65 : decode cX0_note 65 = .ok (.iload_n 1, 1) := by decide +kernel
theorem dX0_note_66 : decode cX0_note 66 = .ok (.iconst 1, 1) := by decide +kernel
theorem dX0_note_67 : decode cX0_note 67 = .ok (.iastore, 1) := by decide +kernel
theorem dX0_note_68 : decode cX0_note 68 = .ok (.aload_n 0, 1) := by decide +kernel
theorem dX0_note_69 : decode cX0_note 69 = .ok (.getfield 19, 3) := by decide +kernel
theorem dX0_note_72 : decode cX0_note 72 = .ok (.iload_n 1, 1) := by decide +kernel
theorem dX0_note_73 : decode cX0_note 73 = .ok (.aload_n 0, 1) := by decide +kernel
theorem dX0_note_74 : decode cX0_note 74 = .ok (.getfield 60, 3) := by decide +kernel
theorem dX0_note_77 : decode cX0_note 77 = .ok (.iastore, 1) := by decide +kernel
theorem dX0_note_78 : decode cX0_note 78 = .ok (.goto 102, 3) := by decide +kernel
theorem dX0_note_81 : decode cX0_note 81 = .ok (.iload_n 2, 1) := by decide +kernel
theorem dX0_note_82 : decode cX0_note 82 = .ok (.iconst 3, 1) := by decide +kernel
theorem dX0_note_83 : decode cX0_note 83 = .ok (.if_icmp .ne 55, 3) := by decide +kernel
theorem dX0_note_86 : decode cX0_note 86 = .ok (.aload_n 0, 1) := by decide +kernel
theorem dX0_note_87 : decode cX0_note 87 = .ok (.getfield 13, 3) := by decide +kernel
theorem dX0_note_90 : decode cX0_note 90 = .ok (.iload_n 1, 1) := by decide +kernel
theorem dX0_note_91 : decode cX0_note 91 = .ok (.aload_n 0, 1) := by decide +kernel
theorem dX0_note_92 : decode cX0_note 92 = .ok (.getfield 60, 3) := by decide +kernel
theorem dX0_note_95 : decode cX0_note 95 = .ok (.bipush (-2), 2) := by decide +kernel
theorem dX0_note_97 : decode cX0_note 97 = .ok (.if_icmp .ne 7, 3) := by decide +kernel
theorem dX0_note_100 : decode cX0_note 100 = .ok (.iconst 3, 1) := by decide +kernel
theorem dX0_note_101 : decode cX0_note 101 = .ok (.goto 4, 3) := by decide +kernel
theorem dX0_note_104 : decode cX0_note 104 = .ok (.iconst 2, 1) := by decide +kernel
theorem dX0_note_105 : decode cX0_note 105 = .ok (.iastore, 1) := by decide +kernel
theorem dX0_note_106 : decode cX0_note 106 = .ok (.aload_n 0, 1) := by decide +kernel
theorem dX0_note_107 : decode cX0_note 107 = .ok (.getfield 60, 3) := by decide +kernel
theorem dX0_note_110 : decode cX0_note 110 = .ok (.bipush (-2), 2) := by decide +kernel
theorem dX0_note_112 : decode cX0_note 112 = .ok (.if_icmp .eq 68, 3) := by decide +kernel
theorem dX0_note_115 : decode cX0_note 115 = .ok (.aload_n 0, 1) := by decide +kernel
theorem dX0_note_116 : decode cX0_note 116 = .ok (.getfield 16, 3) := by decide +kernel
theorem dX0_note_119 : decode cX0_note 119 = .ok (.iload_n 1, 1) := by decide +kernel
theorem dX0_note_120 : decode cX0_note 120 = .ok (.aload_n 0, 1) := by decide +kernel
theorem dX0_note_121 : decode cX0_note 121 = .ok (.getfield 60, 3) := by decide +kernel
theorem dX0_note_124 : decode cX0_note 124 = .ok (.iastore, 1) := by decide +kernel
theorem dX0_note_125 : decode cX0_note 125 = .ok (.aload_n 0, 1) := by decide +kernel
theorem dX0_note_126 : decode cX0_note 126 = .ok (.getfield 16, 3) := by decide +kernel
theorem dX0_note_129 : decode cX0_note 129 = .ok (.aload_n 0, 1) := by decide +kernel
theorem dX0_note_130 : decode cX0_note 130 = .ok (.getfield 60, 3) := by decide +kernel
theorem dX0_note_133 : decode cX0_note 133 = .ok (.iload_n 1, 1) := by decide +kernel
theorem dX0_note_134 : decode cX0_note 134 = .ok (.iastore, 1) := by decide +kernel
theorem dX0_note_135 : decode cX0_note 135 = .ok (.goto 45, 3) := by decide +kernel
theorem dX0_note_138 : decode cX0_note 138 = .ok (.iload_n 2, 1) := by decide +kernel
theorem dX0_note_139 : decode cX0_note 139 = .ok (.iconst 4, 1) := by decide +kernel
theorem dX0_note_140 : decode cX0_note 140 = .ok (.if_icmp .ne 40, 3) := by decide +kernel
theorem dX0_note_143 : decode cX0_note 143 = .ok (.aload_n 0, 1) := by decide +kernel
theorem dX0_note_144 : decode cX0_note 144 = .ok (.getfield 13, 3) := by decide +kernel
theorem dX0_note_147 : decode cX0_note 147 = .ok (.iload_n 1, 1) := by decide +kernel
theorem dX0_note_148 : decode cX0_note 148 = .ok (.iconst 4, 1) := by decide +kernel
theorem dX0_note_149 : decode cX0_note 149 = .ok (.iastore, 1) := by decide +kernel
theorem dX0_note_150 : decode cX0_note 150 = .ok (.goto 30, 3) := by decide +kernel
theorem dX0_note_153 : decode cX0_note 153 = .ok (.aload_n 0, 1) := by decide +kernel
theorem dX0_note_154 : decode cX0_note 154 = .ok (.getfield 53, 3) := by decide +kernel
theorem dX0_note_157 : decode cX0_note 157 = .ok (.iconst 1, 1) := by decide +kernel
theorem dX0_note_158 : decode cX0_note 158 = .ok (.if_icmp .ne 22, 3) := by decide +kernel
theorem dX0_note_161 : decode cX0_note 161 = .ok (.aload_n 0, 1) := by decide +kernel
theorem dX0_note_162 : decode cX0_note 162 = .ok (.getfield 56, 3) := by decide +kernel
theorem dX0_note_165 : decode cX0_note 165 = .ok (.ifCond .ne 15, 3) := by decide +kernel
theorem dX0_note_168 : decode cX0_note 168 = .ok (.iload_n 2, 1) := by decide +kernel
theorem dX0_note_169 : decode cX0_note 169 = .ok (.iconst 4, 1) := by decide +kernel
theorem dX0_note_170 : decode cX0_note 170 = .ok (.if_icmp .ne 10, 3) := by decide +kernel
theorem dX0_note_173 : decode cX0_note 173 = .ok (.aload_n 0, 1) := by decide +kernel
theorem dX0_note_174 : decode cX0_note 174 = .ok (.getfield 13, 3) := by decide +kernel
theorem dX0_note_177 : decode cX0_note 177 = .ok (.iload_n 1, 1) := by decide +kernel
theorem dX0_note_178 : decode cX0_note 178 = .ok (.iconst 5, 1) := by decide +kernel
theorem dX0_note_179 : decode cX0_note 179 = .ok (.iastore, 1) := by decide +kernel
theorem dX0_note_180 : decode cX0_note 180 = .ok (.return_, 1) := by decide +kernel
theorem dX0_step_0 : decode cX0_step 0 = .ok (.aload_n 0, 1) := by decide +kernel
theorem dX0_step_1 : decode cX0_step 1 = .ok (.getfield 7, 3) := by decide +kernel
theorem dX0_step_4 : decode cX0_step 4 = .ok (.iload_n 1, 1) := by decide +kernel
theorem dX0_step_5 : decode cX0_step 5 = .ok (.iaload, 1) := by decide +kernel
theorem dX0_step_6 : decode cX0_step 6 = .ok (.istore_n 2, 1) := by decide +kernel
theorem dX0_step_7 : decode cX0_step 7 = .ok (.aload_n 0, 1) := by decide +kernel
theorem dX0_step_8 : decode cX0_step 8 = .ok (.getfield 56, 3) := by decide +kernel
theorem dX0_step_11 : decode cX0_step 11 = .ok (.ifCond .eq 11, 3) := by decide +kernel
theorem dX0_step_14 : decode cX0_step 14 = .ok (.aload_n 0, 1) := by decide +kernel
theorem dX0_step_15 : decode cX0_step 15 = .ok (.iconst 0, 1) := by decide +kernel
theorem dX0_step_16 : decode cX0_step 16 = .ok (.putfield 56, 3) := by decide +kernel
theorem dX0_step_19 : decode cX0_step 19 = .ok (.goto 149, 3) := by decide +kernel
theorem dX0_step_22 : decode cX0_step 22 = .ok (.aload_n 0, 1) := by decide +kernel
theorem dX0_step_23 : decode cX0_step 23 = .ok (.getfield 53, 3) := by decide +kernel
theorem dX0_step_26 : decode cX0_step 26 = .ok (.ifCond .ne 92, 3) := by decide +kernel
theorem dX0_step_29 : decode cX0_step 29 = .ok (.iload_n 2, 1) := by decide +kernel
theorem dX0_step_30 : decode cX0_step 30 = .ok (.iconst 2, 1) := by decide +kernel
theorem dX0_step_31 : decode cX0_step 31 = .ok (.if_icmp .ne 11, 3) := by decide +kernel
theorem dX0_step_34 : decode cX0_step 34 = .ok (.aload_n 0, 1) := by decide +kernel
theorem dX0_step_35 : decode cX0_step 35 = .ok (.iload_n 1, 1) := by decide +kernel
theorem dX0_step_36 : decode cX0_step 36 = .ok (.putfield 60, 3) := by decide +kernel
theorem dX0_step_39 : decode cX0_step 39 = .ok (.goto 62, 3) := by decide +kernel
theorem dX0_step_42 : decode cX0_step 42 = .ok (.iload_n 2, 1) := by decide +kernel
theorem dX0_step_43 : decode cX0_step 43 = .ok (.iconst 3, 1) := by decide +kernel
theorem dX0_step_44 : decode cX0_step 44 = .ok (.if_icmp .ne 33, 3) := by decide +kernel
theorem dX0_step_47 : decode cX0_step 47 = .ok (.aload_n 0, 1) := by decide +kernel
theorem dX0_step_48 : decode cX0_step 48 = .ok (.aload_n 0, 1) := by decide +kernel
theorem dX0_step_49 : decode cX0_step 49 = .ok (.getfield 60, 3) := by decide +kernel
theorem dX0_step_52 : decode cX0_step 52 = .ok (.bipush (-2), 2) := by decide +kernel
theorem dX0_step_54 : decode cX0_step 54 = .ok (.if_icmp .ne 8, 3) := by decide +kernel
theorem dX0_step_57 : decode cX0_step 57 = .ok (.bipush (-2), 2) := by decide +kernel
theorem dX0_step_59 : decode cX0_step 59 = .ok (.goto 12, 3) := by decide +kernel
theorem dX0_step_62 : decode cX0_step 62 = .ok (.aload_n 0, 1) := by decide +kernel
theorem dX0_step_63 : decode cX0_step 63 = .ok (.getfield 19, 3) := by decide +kernel
theorem dX0_step_66 : decode cX0_step 66 = .ok (.aload_n 0, 1) := by decide +kernel
theorem dX0_step_67 : decode cX0_step 67 = .ok (.getfield 60, 3) := by decide +kernel
theorem dX0_step_70 : decode cX0_step 70 = .ok (.iaload, 1) := by decide +kernel
theorem dX0_step_71 : decode cX0_step 71 = .ok (.putfield 60, 3) := by decide +kernel
theorem dX0_step_74 : decode cX0_step 74 = .ok (.goto 27, 3) := by decide +kernel
theorem dX0_step_77 : decode cX0_step 77 = .ok (.iload_n 2, 1) := by decide +kernel
theorem dX0_step_78 : decode cX0_step 78 = .ok (.iconst 4, 1) := by decide +kernel
theorem dX0_step_79 : decode cX0_step 79 = .ok (.if_icmp .ne 11, 3) := by decide +kernel
theorem dX0_step_82 : decode cX0_step 82 = .ok (.aload_n 0, 1) := by decide +kernel
theorem dX0_step_83 : decode cX0_step 83 = .ok (.iconst 1, 1) := by decide +kernel
theorem dX0_step_84 : decode cX0_step 84 = .ok (.putfield 53, 3) := by decide +kernel
theorem dX0_step_87 : decode cX0_step 87 = .ok (.goto 14, 3) := by decide +kernel
theorem dX0_step_90 : decode cX0_step 90 = .ok (.iload_n 2, 1) := by decide +kernel
theorem dX0_step_91 : decode cX0_step 91 = .ok (.bipush 6, 2) := by decide +kernel
theorem dX0_step_93 : decode cX0_step 93 = .ok (.if_icmp .ne 8, 3) := by decide +kernel
theorem dX0_step_96 : decode cX0_step 96 = .ok (.aload_n 0, 1) := by decide +kernel
theorem dX0_step_97 : decode cX0_step 97 = .ok (.iconst 2, 1) := by decide +kernel
theorem dX0_step_98 : decode cX0_step 98 = .ok (.putfield 53, 3) := by decide +kernel
theorem dX0_step_101 : decode cX0_step 101 = .ok (.aload_n 0, 1) := by decide +kernel
theorem dX0_step_102 : decode cX0_step 102 = .ok (.iload_n 2, 1) := by decide +kernel
theorem dX0_step_103 : decode cX0_step 103 = .ok (.iconst 5, 1) := by decide +kernel
theorem dX0_step_104 : decode cX0_step 104 = .ok (.if_icmp .ne 7, 3) := by decide +kernel
theorem dX0_step_107 : decode cX0_step 107 = .ok (.iconst 1, 1) := by decide +kernel
theorem dX0_step_108 : decode cX0_step 108 = .ok (.goto 4, 3) := by decide +kernel
theorem dX0_step_111 : decode cX0_step 111 = .ok (.iconst 0, 1) := by decide +kernel
theorem dX0_step_112 : decode cX0_step 112 = .ok (.putfield 56, 3) := by decide +kernel
theorem dX0_step_115 : decode cX0_step 115 = .ok (.goto 53, 3) := by decide +kernel
theorem dX0_step_118 : decode cX0_step 118 = .ok (.aload_n 0, 1) := by decide +kernel
theorem dX0_step_119 : decode cX0_step 119 = .ok (.getfield 53, 3) := by decide +kernel
theorem dX0_step_122 : decode cX0_step 122 = .ok (.iconst 1, 1) := by decide +kernel
theorem dX0_step_123 : decode cX0_step 123 = .ok (.if_icmp .ne 34, 3) := by decide +kernel
theorem dX0_step_126 : decode cX0_step 126 = .ok (.aload_n 0, 1) := by decide +kernel
theorem dX0_step_127 : decode cX0_step 127 = .ok (.iload_n 2, 1) := by decide +kernel
theorem dX0_step_128 : decode cX0_step 128 = .ok (.iconst 4, 1) := by decide +kernel
theorem dX0_step_129 : decode cX0_step 129 = .ok (.if_icmp .ne 7, 3) := by decide +kernel
theorem dX0_step_132 : decode cX0_step 132 = .ok (.iconst 0, 1) := by decide +kernel
theorem dX0_step_133 : decode cX0_step 133 = .ok (.goto 4, 3) := by decide +kernel
theorem dX0_step_136 : decode cX0_step 136 = .ok (.iconst 1, 1) := by decide +kernel
theorem dX0_step_137 : decode cX0_step 137 = .ok (.putfield 53, 3) := by decide +kernel
theorem dX0_step_140 : decode cX0_step 140 = .ok (.aload_n 0, 1) := by decide +kernel
theorem dX0_step_141 : decode cX0_step 141 = .ok (.iload_n 2, 1) := by decide +kernel
theorem dX0_step_142 : decode cX0_step 142 = .ok (.iconst 5, 1) := by decide +kernel
theorem dX0_step_143 : decode cX0_step 143 = .ok (.if_icmp .ne 7, 3) := by decide +kernel
theorem dX0_step_146 : decode cX0_step 146 = .ok (.iconst 1, 1) := by decide +kernel
theorem dX0_step_147 : decode cX0_step 147 = .ok (.goto 4, 3) := by decide +kernel
theorem dX0_step_150 : decode cX0_step 150 = .ok (.iconst 0, 1) := by decide +kernel
theorem dX0_step_151 : decode cX0_step 151 = .ok (.putfield 56, 3) := by decide +kernel
theorem dX0_step_154 : decode cX0_step 154 = .ok (.goto 14, 3) := by decide +kernel
theorem dX0_step_157 : decode cX0_step 157 = .ok (.iload_n 2, 1) := by decide +kernel
theorem dX0_step_158 : decode cX0_step 158 = .ok (.bipush 7, 2) := by decide +kernel
theorem dX0_step_160 : decode cX0_step 160 = .ok (.if_icmp .ne 8, 3) := by decide +kernel
theorem dX0_step_163 : decode cX0_step 163 = .ok (.aload_n 0, 1) := by decide +kernel
theorem dX0_step_164 : decode cX0_step 164 = .ok (.iconst 0, 1) := by decide +kernel
theorem dX0_step_165 : decode cX0_step 165 = .ok (.putfield 53, 3) := by decide +kernel
theorem dX0_step_168 : decode cX0_step 168 = .ok (.return_, 1) := by decide +kernel
theorem dX0_escaped_0 : decode cX0_escaped 0 = .ok (.aload_n 0, 1) := by decide +kernel
theorem dX0_escaped_1 : decode cX0_escaped 1 = .ok (.iload_n 1, 1) := by decide +kernel
theorem dX0_escaped_2 : decode cX0_escaped 2 = .ok (.invokevirtual 32, 3) := by decide +kernel
theorem dX0_escaped_5 : decode cX0_escaped 5 = .ok (.ifCond .ne 5, 3) := by decide +kernel
theorem dX0_escaped_8 : decode cX0_escaped 8 = .ok (.iconst (-1), 1) := by decide +kernel
theorem dX0_escaped_9 : decode cX0_escaped 9 = .ok (.ireturn, 1) := by decide +kernel
theorem dX0_escaped_10 : decode cX0_escaped 10 = .ok (.aload_n 0, 1) := by decide +kernel
theorem dX0_escaped_11 : decode cX0_escaped 11 = .ok (.iload_n 1, 1) := by decide +kernel
theorem dX0_escaped_12 : decode cX0_escaped 12 = .ok (.invokevirtual 50, 3) := by decide +kernel
theorem dX0_escaped_15 : decode cX0_escaped 15 = .ok (.aload_n 0, 1) := by decide +kernel
theorem dX0_escaped_16 : decode cX0_escaped 16 = .ok (.getfield 56, 3) := by decide +kernel
theorem dX0_escaped_19 : decode cX0_escaped 19 = .ok (.ifCond .eq 7, 3) := by decide +kernel
theorem dX0_escaped_22 : decode cX0_escaped 22 = .ok (.iconst 1, 1) := by decide +kernel
theorem dX0_escaped_23 : decode cX0_escaped 23 = .ok (.goto 4, 3) := by decide +kernel
theorem dX0_escaped_26 : decode cX0_escaped 26 = .ok (.iconst 0, 1) := by decide +kernel
theorem dX0_escaped_27 : decode cX0_escaped 27 = .ok (.ireturn, 1) := by decide +kernel
theorem dX0_depth_0 : decode cX0_depth 0 = .ok (.aload_n 0, 1) := by decide +kernel
theorem dX0_depth_1 : decode cX0_depth 1 = .ok (.iload_n 1, 1) := by decide +kernel
theorem dX0_depth_2 : decode cX0_depth 2 = .ok (.invokevirtual 32, 3) := by decide +kernel
theorem dX0_depth_5 : decode cX0_depth 5 = .ok (.ifCond .ne 5, 3) := by decide +kernel
theorem dX0_depth_8 : decode cX0_depth 8 = .ok (.iconst (-1), 1) := by decide +kernel
theorem dX0_depth_9 : decode cX0_depth 9 = .ok (.ireturn, 1) := by decide +kernel
theorem dX0_depth_10 : decode cX0_depth 10 = .ok (.aload_n 0, 1) := by decide +kernel
theorem dX0_depth_11 : decode cX0_depth 11 = .ok (.iload_n 1, 1) := by decide +kernel
theorem dX0_depth_12 : decode cX0_depth 12 = .ok (.invokevirtual 50, 3) := by decide +kernel
theorem dX0_depth_15 : decode cX0_depth 15 = .ok (.aload_n 0, 1) := by decide +kernel
theorem dX0_depth_16 : decode cX0_depth 16 = .ok (.aload_n 0, 1) := by decide +kernel
theorem dX0_depth_17 : decode cX0_depth 17 = .ok (.getfield 60, 3) := by decide +kernel
theorem dX0_depth_20 : decode cX0_depth 20 = .ok (.invokevirtual 63, 3) := by decide +kernel
theorem dX0_depth_23 : decode cX0_depth 23 = .ok (.ireturn, 1) := by decide +kernel
theorem dX0_depthOf_0 : decode cX0_depthOf 0 = .ok (.iconst 0, 1) := by decide +kernel
theorem dX0_depthOf_1 : decode cX0_depthOf 1 = .ok (.istore_n 2, 1) := by decide +kernel
theorem dX0_depthOf_2 : decode cX0_depthOf 2 = .ok (.iload_n 1, 1) := by decide +kernel
theorem dX0_depthOf_3 : decode cX0_depthOf 3 = .ok (.istore_n 3, 1) := by decide +kernel
theorem dX0_depthOf_4 : decode cX0_depthOf 4 = .ok (.iconst 0, 1) := by decide +kernel
theorem dX0_depthOf_5 : decode cX0_depthOf 5 = .ok (.istore 4, 2) := by decide +kernel
theorem dX0_depthOf_7 : decode cX0_depthOf 7 = .ok (.iload 4, 2) := by decide +kernel
theorem dX0_depthOf_9 : decode cX0_depthOf 9 = .ok (.bipush 64, 2) := by decide +kernel
theorem dX0_depthOf_11 : decode cX0_depthOf 11 = .ok (.if_icmp .ge 25, 3) := by decide +kernel
theorem dX0_depthOf_14 : decode cX0_depthOf 14 = .ok (.iload_n 3, 1) := by decide +kernel
theorem dX0_depthOf_15 : decode cX0_depthOf 15 = .ok (.bipush (-2), 2) := by decide +kernel
theorem dX0_depthOf_17 : decode cX0_depthOf 17 = .ok (.if_icmp .eq 19, 3) := by decide +kernel
theorem dX0_depthOf_20 : decode cX0_depthOf 20 = .ok (.iinc 2 1, 3) := by decide +kernel
theorem dX0_depthOf_23 : decode cX0_depthOf 23 = .ok (.aload_n 0, 1) := by decide +kernel
theorem dX0_depthOf_24 : decode cX0_depthOf 24 = .ok (.getfield 19, 3) := by decide +kernel
theorem dX0_depthOf_27 : decode cX0_depthOf 27 = .ok (.iload_n 3, 1) := by decide +kernel
theorem dX0_depthOf_28 : decode cX0_depthOf 28 = .ok (.iaload, 1) := by decide +kernel
theorem dX0_depthOf_29 : decode cX0_depthOf 29 = .ok (.istore_n 3, 1) := by decide +kernel
theorem dX0_depthOf_30 : decode cX0_depthOf 30 = .ok (.iinc 4 1, 3) := by decide +kernel
theorem dX0_depthOf_33 : decode cX0_depthOf 33 = .ok (.goto (-26), 3) := by decide +kernel
theorem dX0_depthOf_36 : decode cX0_depthOf 36 = .ok (.iload_n 2, 1) := by decide +kernel
theorem dX0_depthOf_37 : decode cX0_depthOf 37 = .ok (.ireturn, 1) := by decide +kernel
theorem dX0_bracketAt_0 : decode cX0_bracketAt 0 = .ok (.aload_n 0, 1) := by decide +kernel
theorem dX0_bracketAt_1 : decode cX0_bracketAt 1 = .ok (.iload_n 1, 1) := by decide +kernel
theorem dX0_bracketAt_2 : decode cX0_bracketAt 2 = .ok (.invokevirtual 32, 3) := by decide +kernel
theorem dX0_bracketAt_5 : decode cX0_bracketAt 5 = .ok (.ifCond .ne 5, 3) := by decide +kernel
theorem dX0_bracketAt_8 : decode cX0_bracketAt 8 = .ok (.iconst (-1), 1) := by decide +kernel
theorem dX0_bracketAt_9 : decode cX0_bracketAt 9 = .ok (.ireturn, 1) := by decide +kernel
theorem dX0_bracketAt_10 : decode cX0_bracketAt 10 = .ok (.aload_n 0, 1) := by decide +kernel
theorem dX0_bracketAt_11 : decode cX0_bracketAt 11 = .ok (.iload_n 1, 1) := by decide +kernel
theorem dX0_bracketAt_12 : decode cX0_bracketAt 12 = .ok (.invokevirtual 50, 3) := by decide +kernel
theorem dX0_bracketAt_15 : decode cX0_bracketAt 15 = .ok (.aload_n 0, 1) := by decide +kernel
theorem dX0_bracketAt_16 : decode cX0_bracketAt 16 = .ok (.aload_n 0, 1) := by decide +kernel
theorem dX0_bracketAt_17 : decode cX0_bracketAt 17 = .ok (.getfield 60, 3) := by decide +kernel
theorem dX0_bracketAt_20 : decode cX0_bracketAt 20 = .ok (.invokevirtual 63, 3) := by decide +kernel
theorem dX0_bracketAt_23 : decode cX0_bracketAt 23 = .ok (.istore_n 3, 1) := by decide +kernel
theorem dX0_bracketAt_24 : decode cX0_bracketAt 24 = .ok (.iload_n 2, 1) := by decide +kernel
theorem dX0_bracketAt_25 : decode cX0_bracketAt 25 = .ok (.ifCond .lt 8, 3) := by decide +kernel
theorem dX0_bracketAt_28 : decode cX0_bracketAt 28 = .ok (.iload_n 2, 1) := by decide +kernel
theorem dX0_bracketAt_29 : decode cX0_bracketAt 29 = .ok (.iload_n 3, 1) := by decide +kernel
theorem dX0_bracketAt_30 : decode cX0_bracketAt 30 = .ok (.if_icmp .lt 6, 3) := by decide +kernel
theorem dX0_bracketAt_33 : decode cX0_bracketAt 33 = .ok (.bipush (-2), 2) := by decide +kernel
theorem dX0_bracketAt_35 : decode cX0_bracketAt 35 = .ok (.ireturn, 1) := by decide +kernel
theorem dX0_bracketAt_36 : decode cX0_bracketAt 36 = .ok (.aload_n 0, 1) := by decide +kernel
theorem dX0_bracketAt_37 : decode cX0_bracketAt 37 = .ok (.getfield 60, 3) := by decide +kernel
theorem dX0_bracketAt_40 : decode cX0_bracketAt 40 = .ok (.istore 4, 2) := by decide +kernel
theorem dX0_bracketAt_42 : decode cX0_bracketAt 42 = .ok (.iload_n 3, 1) := by decide +kernel
theorem dX0_bracketAt_43 : decode cX0_bracketAt 43 = .ok (.iconst 1, 1) := by decide +kernel
theorem dX0_bracketAt_44 : decode cX0_bracketAt 44 = .ok (.isub, 1) := by decide +kernel
theorem dX0_bracketAt_45 : decode cX0_bracketAt 45 = .ok (.istore 5, 2) := by decide +kernel
theorem dX0_bracketAt_47 : decode cX0_bracketAt 47 = .ok (.iload 5, 2) := by decide +kernel
theorem dX0_bracketAt_49 : decode cX0_bracketAt 49 = .ok (.iload_n 2, 1) := by decide +kernel
theorem dX0_bracketAt_50 : decode cX0_bracketAt 50 = .ok (.if_icmp .le 18, 3) := by decide +kernel
theorem dX0_bracketAt_53 : decode cX0_bracketAt 53 = .ok (.aload_n 0, 1) := by decide +kernel
theorem dX0_bracketAt_54 : decode cX0_bracketAt 54 = .ok (.getfield 19, 3) := by decide +kernel
theorem dX0_bracketAt_57 : decode cX0_bracketAt 57 = .ok (.iload 4, 2) := by decide +kernel
theorem dX0_bracketAt_59 : decode cX0_bracketAt 59 = .ok (.iaload, 1) := by decide +kernel
theorem dX0_bracketAt_60 : decode cX0_bracketAt 60 = .ok (.istore 4, 2) := by decide +kernel
theorem dX0_bracketAt_62 : decode cX0_bracketAt 62 = .ok (.iinc 5 (-1), 3) := by decide +kernel
theorem dX0_bracketAt_65 : decode cX0_bracketAt 65 = .ok (.goto (-18), 3) := by decide +kernel
theorem dX0_bracketAt_68 : decode cX0_bracketAt 68 = .ok (.iload 4, 2) := by decide +kernel
theorem dX0_bracketAt_70 : decode cX0_bracketAt 70 = .ok (.ireturn, 1) := by decide +kernel
theorem dX0_partner_0 : decode cX0_partner 0 = .ok (.aload_n 0, 1) := by decide +kernel
theorem dX0_partner_1 : decode cX0_partner 1 = .ok (.iload_n 1, 1) := by decide +kernel
theorem dX0_partner_2 : decode cX0_partner 2 = .ok (.invokevirtual 47, 3) := by decide +kernel
theorem dX0_partner_5 : decode cX0_partner 5 = .ok (.ifCond .ne 5, 3) := by decide +kernel
theorem dX0_partner_8 : decode cX0_partner 8 = .ok (.iconst (-1), 1) := by decide +kernel
theorem dX0_partner_9 : decode cX0_partner 9 = .ok (.ireturn, 1) := by decide +kernel
theorem dX0_partner_10 : decode cX0_partner 10 = .ok (.aload_n 0, 1) := by decide +kernel
theorem dX0_partner_11 : decode cX0_partner 11 = .ok (.aload_n 0, 1) := by decide +kernel
theorem dX0_partner_12 : decode cX0_partner 12 = .ok (.getfield 39, 3) := by decide +kernel
theorem dX0_partner_15 : decode cX0_partner 15 = .ok (.invokevirtual 67, 3) := by decide +kernel
theorem dX0_partner_18 : decode cX0_partner 18 = .ok (.aload_n 0, 1) := by decide +kernel
theorem dX0_partner_19 : decode cX0_partner 19 = .ok (.getfield 13, 3) := by decide +kernel
theorem dX0_partner_22 : decode cX0_partner 22 = .ok (.iload_n 1, 1) := by decide +kernel
theorem dX0_partner_23 : decode cX0_partner 23 = .ok (.iaload, 1) := by decide +kernel
theorem dX0_partner_24 : decode cX0_partner 24 = .ok (.iconst 1, 1) := by decide +kernel
theorem dX0_partner_25 : decode cX0_partner 25 = .ok (.if_icmp .eq 13, 3) := by decide +kernel
theorem dX0_partner_28 : decode cX0_partner 28 = .ok (.aload_n 0, 1) := by decide +kernel
theorem dX0_partner_29 : decode cX0_partner 29 = .ok (.getfield 13, 3) := by decide +kernel
theorem dX0_partner_32 : decode cX0_partner 32 = .ok (.iload_n 1, 1) := by decide +kernel
theorem dX0_partner_33 : decode cX0_partner 33 = .ok (.iaload, 1) := by decide +kernel
theorem dX0_partner_34 : decode cX0_partner 34 = .ok (.iconst 2, 1) := by decide +kernel
theorem dX0_partner_35 : decode cX0_partner 35 = .ok (.if_icmp .ne 12, 3) := by decide +kernel
theorem dX0_partner_38 : decode cX0_partner 38 = .ok (.aload_n 0, 1) := by decide +kernel
theorem dX0_partner_39 : decode cX0_partner 39 = .ok (.getfield 16, 3) := by decide +kernel
theorem dX0_partner_42 : decode cX0_partner 42 = .ok (.iload_n 1, 1) := by decide +kernel
theorem dX0_partner_43 : decode cX0_partner 43 = .ok (.iaload, 1) := by decide +kernel
theorem dX0_partner_44 : decode cX0_partner 44 = .ok (.goto 5, 3) := by decide +kernel
theorem dX0_partner_47 : decode cX0_partner 47 = .ok (.bipush (-2), 2) := by decide +kernel
theorem dX0_partner_49 : decode cX0_partner 49 = .ok (.ireturn, 1) := by decide +kernel
theorem dX0_strays_0 : decode cX0_strays 0 = .ok (.aload_n 0, 1) := by decide +kernel
theorem dX0_strays_1 : decode cX0_strays 1 = .ok (.aload_n 0, 1) := by decide +kernel
theorem dX0_strays_2 : decode cX0_strays 2 = .ok (.getfield 39, 3) := by decide +kernel
theorem dX0_strays_5 : decode cX0_strays 5 = .ok (.invokevirtual 67, 3) := by decide +kernel
theorem dX0_strays_8 : decode cX0_strays 8 = .ok (.iconst 0, 1) := by decide +kernel
theorem dX0_strays_9 : decode cX0_strays 9 = .ok (.istore_n 1, 1) := by decide +kernel
theorem dX0_strays_10 : decode cX0_strays 10 = .ok (.iconst 0, 1) := by decide +kernel
theorem dX0_strays_11 : decode cX0_strays 11 = .ok (.istore_n 2, 1) := by decide +kernel
theorem dX0_strays_12 : decode cX0_strays 12 = .ok (.iload_n 2, 1) := by decide +kernel
theorem dX0_strays_13 : decode cX0_strays 13 = .ok (.aload_n 0, 1) := by decide +kernel
theorem dX0_strays_14 : decode cX0_strays 14 = .ok (.getfield 39, 3) := by decide +kernel
theorem dX0_strays_17 : decode cX0_strays 17 = .ok (.if_icmp .ge 22, 3) := by decide +kernel
theorem dX0_strays_20 : decode cX0_strays 20 = .ok (.aload_n 0, 1) := by decide +kernel
theorem dX0_strays_21 : decode cX0_strays 21 = .ok (.getfield 13, 3) := by decide +kernel
theorem dX0_strays_24 : decode cX0_strays 24 = .ok (.iload_n 2, 1) := by decide +kernel
theorem dX0_strays_25 : decode cX0_strays 25 = .ok (.iaload, 1) := by decide +kernel
theorem dX0_strays_26 : decode cX0_strays 26 = .ok (.iconst 3, 1) := by decide +kernel
theorem dX0_strays_27 : decode cX0_strays 27 = .ok (.if_icmp .ne 6, 3) := by decide +kernel
theorem dX0_strays_30 : decode cX0_strays 30 = .ok (.iinc 1 1, 3) := by decide +kernel
theorem dX0_strays_33 : decode cX0_strays 33 = .ok (.iinc 2 1, 3) := by decide +kernel
theorem dX0_strays_36 : decode cX0_strays 36 = .ok (.goto (-24), 3) := by decide +kernel
theorem dX0_strays_39 : decode cX0_strays 39 = .ok (.iload_n 1, 1) := by decide +kernel
theorem dX0_strays_40 : decode cX0_strays 40 = .ok (.ireturn, 1) := by decide +kernel
end
section
set_option maxRecDepth 100000
theorem dX0_forward_0 : decode cX0_forward 0 = .ok (.aload_n 0, 1) := by decide +kernel
theorem dX0_forward_1 : decode cX0_forward 1 = .ok (.iload_n 1, 1) := by decide +kernel
theorem dX0_forward_2 : decode cX0_forward 2 = .ok (.invokevirtual 32, 3) := by decide +kernel
theorem dX0_forward_5 : decode cX0_forward 5 = .ok (.ifCond .ne 5, 3) := by decide +kernel
theorem dX0_forward_8 : decode cX0_forward 8 = .ok (.iconst (-1), 1) := by decide +kernel
theorem dX0_forward_9 : decode cX0_forward 9 = .ok (.ireturn, 1) := by decide +kernel
theorem dX0_forward_10 : decode cX0_forward 10 = .ok (.aload_n 0, 1) := by decide +kernel
theorem dX0_forward_11 : decode cX0_forward 11 = .ok (.aload_n 0, 1) := by decide +kernel
theorem dX0_forward_12 : decode cX0_forward 12 = .ok (.getfield 39, 3) := by decide +kernel
theorem dX0_forward_15 : decode cX0_forward 15 = .ok (.invokevirtual 67, 3) := by decide +kernel
theorem dX0_forward_18 : decode cX0_forward 18 = .ok (.iload_n 1, 1) := by decide +kernel
theorem dX0_forward_19 : decode cX0_forward 19 = .ok (.istore_n 2, 1) := by decide +kernel
theorem dX0_forward_20 : decode cX0_forward 20 = .ok (.iload_n 2, 1) := by decide +kernel
theorem dX0_forward_21 : decode cX0_forward 21 = .ok (.aload_n 0, 1) := by decide +kernel
theorem dX0_forward_22 : decode cX0_forward 22 = .ok (.getfield 39, 3) := by decide +kernel
theorem dX0_forward_25 : decode cX0_forward 25 = .ok (.if_icmp .ge 46, 3) := by decide +kernel
theorem dX0_forward_28 : decode cX0_forward 28 = .ok (.aload_n 0, 1) := by decide +kernel
theorem dX0_forward_29 : decode cX0_forward 29 = .ok (.getfield 13, 3) := by decide +kernel
theorem dX0_forward_32 : decode cX0_forward 32 = .ok (.iload_n 2, 1) := by decide +kernel
theorem dX0_forward_33 : decode cX0_forward 33 = .ok (.iaload, 1) := by decide +kernel
theorem dX0_forward_34 : decode cX0_forward 34 = .ok (.iconst 2, 1) := by decide +kernel
theorem dX0_forward_35 : decode cX0_forward 35 = .ok (.if_icmp .eq 13, 3) := by decide +kernel
theorem dX0_forward_38 : decode cX0_forward 38 = .ok (.aload_n 0, 1) := by decide +kernel
theorem dX0_forward_39 : decode cX0_forward 39 = .ok (.getfield 13, 3) := by decide +kernel
theorem dX0_forward_42 : decode cX0_forward 42 = .ok (.iload_n 2, 1) := by decide +kernel
theorem dX0_forward_43 : decode cX0_forward 43 = .ok (.iaload, 1) := by decide +kernel
theorem dX0_forward_44 : decode cX0_forward 44 = .ok (.iconst 3, 1) := by decide +kernel
theorem dX0_forward_45 : decode cX0_forward 45 = .ok (.if_icmp .ne 6, 3) := by decide +kernel
theorem dX0_forward_48 : decode cX0_forward 48 = .ok (.bipush (-3), 2) := by decide +kernel
theorem dX0_forward_50 : decode cX0_forward 50 = .ok (.ireturn, 1) := by decide +kernel
theorem dX0_forward_51 : decode cX0_forward 51 = .ok (.aload_n 0, 1) := by decide +kernel
theorem dX0_forward_52 : decode cX0_forward 52 = .ok (.iload_n 2, 1) := by decide +kernel
theorem dX0_forward_53 : decode cX0_forward 53 = .ok (.invokevirtual 70, 3) := by decide +kernel
theorem dX0_forward_56 : decode cX0_forward 56 = .ok (.istore_n 3, 1) := by decide +kernel
theorem dX0_forward_57 : decode cX0_forward 57 = .ok (.iload_n 3, 1) := by decide +kernel
theorem dX0_forward_58 : decode cX0_forward 58 = .ok (.ifCond .lt 7, 3) := by decide +kernel
theorem dX0_forward_61 : decode cX0_forward 61 = .ok (.iload_n 3, 1) := by decide +kernel
theorem dX0_forward_62 : decode cX0_forward 62 = .ok (.iconst 1, 1) := by decide +kernel
theorem dX0_forward_63 : decode cX0_forward 63 = .ok (.iadd, 1) := by decide +kernel
theorem dX0_forward_64 : decode cX0_forward 64 = .ok (.ireturn, 1) := by decide +kernel
theorem dX0_forward_65 : decode cX0_forward 65 = .ok (.iinc 2 1, 3) := by decide +kernel
theorem dX0_forward_68 : decode cX0_forward 68 = .ok (.goto (-48), 3) := by decide +kernel
theorem dX0_forward_71 : decode cX0_forward 71 = .ok (.bipush (-2), 2) := by decide +kernel
theorem dX0_forward_73 : decode cX0_forward 73 = .ok (.ireturn, 1) := by decide +kernel
theorem dX0_unitEnd_0 : decode cX0_unitEnd 0 = .ok (.aload_n 0, 1) := by decide +kernel
theorem dX0_unitEnd_1 : decode cX0_unitEnd 1 = .ok (.getfield 13, 3) := by decide +kernel
theorem dX0_unitEnd_4 : decode cX0_unitEnd 4 = .ok (.iload_n 1, 1) := by decide +kernel
theorem dX0_unitEnd_5 : decode cX0_unitEnd 5 = .ok (.iaload, 1) := by decide +kernel
theorem dX0_unitEnd_6 : decode cX0_unitEnd 6 = .ok (.iconst 1, 1) := by decide +kernel
theorem dX0_unitEnd_7 : decode cX0_unitEnd 7 = .ok (.if_icmp .ne 23, 3) := by decide +kernel
theorem dX0_unitEnd_10 : decode cX0_unitEnd 10 = .ok (.aload_n 0, 1) := by decide +kernel
theorem dX0_unitEnd_11 : decode cX0_unitEnd 11 = .ok (.getfield 16, 3) := by decide +kernel
theorem dX0_unitEnd_14 : decode cX0_unitEnd 14 = .ok (.iload_n 1, 1) := by decide +kernel
theorem dX0_unitEnd_15 : decode cX0_unitEnd 15 = .ok (.iaload, 1) := by decide +kernel
theorem dX0_unitEnd_16 : decode cX0_unitEnd 16 = .ok (.ifCond .ge 7, 3) := by decide +kernel
theorem dX0_unitEnd_19 : decode cX0_unitEnd 19 = .ok (.iconst (-1), 1) := by decide +kernel
theorem dX0_unitEnd_20 : decode cX0_unitEnd 20 = .ok (.goto 9, 3) := by decide +kernel
theorem dX0_unitEnd_23 : decode cX0_unitEnd 23 = .ok (.aload_n 0, 1) := by decide +kernel
theorem dX0_unitEnd_24 : decode cX0_unitEnd 24 = .ok (.getfield 16, 3) := by decide +kernel
theorem dX0_unitEnd_27 : decode cX0_unitEnd 27 = .ok (.iload_n 1, 1) := by decide +kernel
theorem dX0_unitEnd_28 : decode cX0_unitEnd 28 = .ok (.iaload, 1) := by decide +kernel
theorem dX0_unitEnd_29 : decode cX0_unitEnd 29 = .ok (.ireturn, 1) := by decide +kernel
theorem dX0_unitEnd_30 : decode cX0_unitEnd 30 = .ok (.aload_n 0, 1) := by decide +kernel
theorem dX0_unitEnd_31 : decode cX0_unitEnd 31 = .ok (.getfield 13, 3) := by decide +kernel
theorem dX0_unitEnd_34 : decode cX0_unitEnd 34 = .ok (.iload_n 1, 1) := by decide +kernel
theorem dX0_unitEnd_35 : decode cX0_unitEnd 35 = .ok (.iaload, 1) := by decide +kernel
theorem dX0_unitEnd_36 : decode cX0_unitEnd 36 = .ok (.iconst 4, 1) := by decide +kernel
theorem dX0_unitEnd_37 : decode cX0_unitEnd 37 = .ok (.if_icmp .ne 35, 3) := by decide +kernel
theorem dX0_unitEnd_40 : decode cX0_unitEnd 40 = .ok (.iload_n 1, 1) := by decide +kernel
theorem dX0_unitEnd_41 : decode cX0_unitEnd 41 = .ok (.iconst 1, 1) := by decide +kernel
theorem dX0_unitEnd_42 : decode cX0_unitEnd 42 = .ok (.iadd, 1) := by decide +kernel
theorem dX0_unitEnd_43 : decode cX0_unitEnd 43 = .ok (.istore_n 2, 1) := by decide +kernel
theorem dX0_unitEnd_44 : decode cX0_unitEnd 44 = .ok (.iload_n 2, 1) := by decide +kernel
theorem dX0_unitEnd_45 : decode cX0_unitEnd 45 = .ok (.aload_n 0, 1) := by decide +kernel
theorem dX0_unitEnd_46 : decode cX0_unitEnd 46 = .ok (.getfield 39, 3) := by decide +kernel
theorem dX0_unitEnd_49 : decode cX0_unitEnd 49 = .ok (.if_icmp .ge 21, 3) := by decide +kernel
theorem dX0_unitEnd_52 : decode cX0_unitEnd 52 = .ok (.aload_n 0, 1) := by decide +kernel
theorem dX0_unitEnd_53 : decode cX0_unitEnd 53 = .ok (.getfield 13, 3) := by decide +kernel
theorem dX0_unitEnd_56 : decode cX0_unitEnd 56 = .ok (.iload_n 2, 1) := by decide +kernel
theorem dX0_unitEnd_57 : decode cX0_unitEnd 57 = .ok (.iaload, 1) := by decide +kernel
theorem dX0_unitEnd_58 : decode cX0_unitEnd 58 = .ok (.iconst 5, 1) := by decide +kernel
theorem dX0_unitEnd_59 : decode cX0_unitEnd 59 = .ok (.if_icmp .ne 5, 3) := by decide +kernel
theorem dX0_unitEnd_62 : decode cX0_unitEnd 62 = .ok (.iload_n 2, 1) := by decide +kernel
theorem dX0_unitEnd_63 : decode cX0_unitEnd 63 = .ok (.ireturn, 1) := by decide +kernel
theorem dX0_unitEnd_64 : decode cX0_unitEnd 64 = .ok (.iinc 2 1, 3) := by decide +kernel
theorem dX0_unitEnd_67 : decode cX0_unitEnd 67 = .ok (.goto (-23), 3) := by decide +kernel
theorem dX0_unitEnd_70 : decode cX0_unitEnd 70 = .ok (.iconst (-1), 1) := by decide +kernel
theorem dX0_unitEnd_71 : decode cX0_unitEnd 71 = .ok (.ireturn, 1) := by decide +kernel
theorem dX0_unitEnd_72 : decode cX0_unitEnd 72 = .ok (.aload_n 0, 1) := by decide +kernel
theorem dX0_unitEnd_73 : decode cX0_unitEnd 73 = .ok (.getfield 13, 3) := by decide +kernel
theorem dX0_unitEnd_76 : decode cX0_unitEnd 76 = .ok (.iload_n 1, 1) := by decide +kernel
theorem dX0_unitEnd_77 : decode cX0_unitEnd 77 = .ok (.iaload, 1) := by decide +kernel
theorem dX0_unitEnd_78 : decode cX0_unitEnd 78 = .ok (.bipush 6, 2) := by decide +kernel
theorem dX0_unitEnd_80 : decode cX0_unitEnd 80 = .ok (.if_icmp .ne 20, 3) := by decide +kernel
theorem dX0_unitEnd_83 : decode cX0_unitEnd 83 = .ok (.iload_n 1, 1) := by decide +kernel
theorem dX0_unitEnd_84 : decode cX0_unitEnd 84 = .ok (.ifCond .le 18, 3) := by decide +kernel
theorem dX0_unitEnd_87 : decode cX0_unitEnd 87 = .ok (.aload_n 0, 1) := by decide +kernel
theorem dX0_unitEnd_88 : decode cX0_unitEnd 88 = .ok (.getfield 13, 3) := by decide +kernel
theorem dX0_unitEnd_91 : decode cX0_unitEnd 91 = .ok (.iload_n 1, 1) := by decide +kernel
theorem dX0_unitEnd_92 : decode cX0_unitEnd 92 = .ok (.iconst 1, 1) := by decide +kernel
theorem dX0_unitEnd_93 : decode cX0_unitEnd 93 = .ok (.isub, 1) := by decide +kernel
theorem dX0_unitEnd_94 : decode cX0_unitEnd 94 = .ok (.iaload, 1) := by decide +kernel
theorem dX0_unitEnd_95 : decode cX0_unitEnd 95 = .ok (.bipush 6, 2) := by decide +kernel
theorem dX0_unitEnd_97 : decode cX0_unitEnd 97 = .ok (.if_icmp .ne 5, 3) := by decide +kernel
theorem dX0_unitEnd_100 : decode cX0_unitEnd 100 = .ok (.iconst (-1), 1) := by decide +kernel
theorem dX0_unitEnd_101 : decode cX0_unitEnd 101 = .ok (.ireturn, 1) := by decide +kernel
theorem dX0_unitEnd_102 : decode cX0_unitEnd 102 = .ok (.iload_n 1, 1) := by decide +kernel
theorem dX0_unitEnd_103 : decode cX0_unitEnd 103 = .ok (.istore_n 2, 1) := by decide +kernel
theorem dX0_unitEnd_104 : decode cX0_unitEnd 104 = .ok (.iload_n 2, 1) := by decide +kernel
theorem dX0_unitEnd_105 : decode cX0_unitEnd 105 = .ok (.iconst 1, 1) := by decide +kernel
theorem dX0_unitEnd_106 : decode cX0_unitEnd 106 = .ok (.iadd, 1) := by decide +kernel
theorem dX0_unitEnd_107 : decode cX0_unitEnd 107 = .ok (.aload_n 0, 1) := by decide +kernel
theorem dX0_unitEnd_108 : decode cX0_unitEnd 108 = .ok (.getfield 39, 3) := by decide +kernel
theorem dX0_unitEnd_111 : decode cX0_unitEnd 111 = .ok (.if_icmp .ge 22, 3) := by decide +kernel
theorem dX0_unitEnd_114 : decode cX0_unitEnd 114 = .ok (.aload_n 0, 1) := by decide +kernel
theorem dX0_unitEnd_115 : decode cX0_unitEnd 115 = .ok (.getfield 13, 3) := by decide +kernel
theorem dX0_unitEnd_118 : decode cX0_unitEnd 118 = .ok (.iload_n 2, 1) := by decide +kernel
theorem dX0_unitEnd_119 : decode cX0_unitEnd 119 = .ok (.iconst 1, 1) := by decide +kernel
theorem dX0_unitEnd_120 : decode cX0_unitEnd 120 = .ok (.iadd, 1) := by decide +kernel
theorem dX0_unitEnd_121 : decode cX0_unitEnd 121 = .ok (.iaload, 1) := by decide +kernel
theorem dX0_unitEnd_122 : decode cX0_unitEnd 122 = .ok (.bipush 6, 2) := by decide +kernel
theorem dX0_unitEnd_124 : decode cX0_unitEnd 124 = .ok (.if_icmp .ne 9, 3) := by decide +kernel
theorem dX0_unitEnd_127 : decode cX0_unitEnd 127 = .ok (.iinc 2 1, 3) := by decide +kernel
theorem dX0_unitEnd_130 : decode cX0_unitEnd 130 = .ok (.goto (-26), 3) := by decide +kernel
theorem dX0_unitEnd_133 : decode cX0_unitEnd 133 = .ok (.aload_n 0, 1) := by decide +kernel
theorem dX0_unitEnd_134 : decode cX0_unitEnd 134 = .ok (.iload_n 2, 1) := by decide +kernel
theorem dX0_unitEnd_135 : decode cX0_unitEnd 135 = .ok (.iconst 1, 1) := by decide +kernel
theorem dX0_unitEnd_136 : decode cX0_unitEnd 136 = .ok (.iadd, 1) := by decide +kernel
theorem dX0_unitEnd_137 : decode cX0_unitEnd 137 = .ok (.invokevirtual 50, 3) := by decide +kernel
theorem dX0_unitEnd_140 : decode cX0_unitEnd 140 = .ok (.aload_n 0, 1) := by decide +kernel
theorem dX0_unitEnd_141 : decode cX0_unitEnd 141 = .ok (.getfield 56, 3) := by decide +kernel
theorem dX0_unitEnd_144 : decode cX0_unitEnd 144 = .ok (.ifCond .eq 7, 3) := by decide +kernel
theorem dX0_unitEnd_147 : decode cX0_unitEnd 147 = .ok (.iconst (-1), 1) := by decide +kernel
theorem dX0_unitEnd_148 : decode cX0_unitEnd 148 = .ok (.goto 4, 3) := by decide +kernel
theorem dX0_unitEnd_151 : decode cX0_unitEnd 151 = .ok (.iload_n 2, 1) := by decide +kernel
theorem dX0_unitEnd_152 : decode cX0_unitEnd 152 = .ok (.ireturn, 1) := by decide +kernel
theorem dX0_backward_0 : decode cX0_backward 0 = .ok (.aload_n 0, 1) := by decide +kernel
theorem dX0_backward_1 : decode cX0_backward 1 = .ok (.iload_n 1, 1) := by decide +kernel
theorem dX0_backward_2 : decode cX0_backward 2 = .ok (.invokevirtual 32, 3) := by decide +kernel
theorem dX0_backward_5 : decode cX0_backward 5 = .ok (.ifCond .ne 5, 3) := by decide +kernel
theorem dX0_backward_8 : decode cX0_backward 8 = .ok (.iconst (-1), 1) := by decide +kernel
theorem dX0_backward_9 : decode cX0_backward 9 = .ok (.ireturn, 1) := by decide +kernel
theorem dX0_backward_10 : decode cX0_backward 10 = .ok (.aload_n 0, 1) := by decide +kernel
theorem dX0_backward_11 : decode cX0_backward 11 = .ok (.aload_n 0, 1) := by decide +kernel
theorem dX0_backward_12 : decode cX0_backward 12 = .ok (.getfield 39, 3) := by decide +kernel
theorem dX0_backward_15 : decode cX0_backward 15 = .ok (.invokevirtual 67, 3) := by decide +kernel
theorem dX0_backward_18 : decode cX0_backward 18 = .ok (.iload_n 1, 1) := by decide +kernel
theorem dX0_backward_19 : decode cX0_backward 19 = .ok (.iconst 1, 1) := by decide +kernel
theorem dX0_backward_20 : decode cX0_backward 20 = .ok (.isub, 1) := by decide +kernel
theorem dX0_backward_21 : decode cX0_backward 21 = .ok (.istore_n 2, 1) := by decide +kernel
theorem dX0_backward_22 : decode cX0_backward 22 = .ok (.iload_n 2, 1) := by decide +kernel
theorem dX0_backward_23 : decode cX0_backward 23 = .ok (.ifCond .lt 53, 3) := by decide +kernel
theorem dX0_backward_26 : decode cX0_backward 26 = .ok (.aload_n 0, 1) := by decide +kernel
theorem dX0_backward_27 : decode cX0_backward 27 = .ok (.getfield 13, 3) := by decide +kernel
theorem dX0_backward_30 : decode cX0_backward 30 = .ok (.iload_n 2, 1) := by decide +kernel
theorem dX0_backward_31 : decode cX0_backward 31 = .ok (.iaload, 1) := by decide +kernel
theorem dX0_backward_32 : decode cX0_backward 32 = .ok (.iconst 1, 1) := by decide +kernel
theorem dX0_backward_33 : decode cX0_backward 33 = .ok (.if_icmp .ne 25, 3) := by decide +kernel
theorem dX0_backward_36 : decode cX0_backward 36 = .ok (.aload_n 0, 1) := by decide +kernel
theorem dX0_backward_37 : decode cX0_backward 37 = .ok (.getfield 16, 3) := by decide +kernel
theorem dX0_backward_40 : decode cX0_backward 40 = .ok (.iload_n 2, 1) := by decide +kernel
theorem dX0_backward_41 : decode cX0_backward 41 = .ok (.iaload, 1) := by decide +kernel
theorem dX0_backward_42 : decode cX0_backward 42 = .ok (.ifCond .lt 13, 3) := by decide +kernel
theorem dX0_backward_45 : decode cX0_backward 45 = .ok (.aload_n 0, 1) := by decide +kernel
theorem dX0_backward_46 : decode cX0_backward 46 = .ok (.getfield 16, 3) := by decide +kernel
theorem dX0_backward_49 : decode cX0_backward 49 = .ok (.iload_n 2, 1) := by decide +kernel
theorem dX0_backward_50 : decode cX0_backward 50 = .ok (.iaload, 1) := by decide +kernel
theorem dX0_backward_51 : decode cX0_backward 51 = .ok (.iload_n 1, 1) := by decide +kernel
theorem dX0_backward_52 : decode cX0_backward 52 = .ok (.if_icmp .lt 6, 3) := by decide +kernel
theorem dX0_backward_55 : decode cX0_backward 55 = .ok (.bipush (-3), 2) := by decide +kernel
theorem dX0_backward_57 : decode cX0_backward 57 = .ok (.ireturn, 1) := by decide +kernel
theorem dX0_backward_58 : decode cX0_backward 58 = .ok (.aload_n 0, 1) := by decide +kernel
theorem dX0_backward_59 : decode cX0_backward 59 = .ok (.iload_n 2, 1) := by decide +kernel
theorem dX0_backward_60 : decode cX0_backward 60 = .ok (.invokevirtual 73, 3) := by decide +kernel
theorem dX0_backward_63 : decode cX0_backward 63 = .ok (.istore_n 3, 1) := by decide +kernel
theorem dX0_backward_64 : decode cX0_backward 64 = .ok (.iload_n 3, 1) := by decide +kernel
theorem dX0_backward_65 : decode cX0_backward 65 = .ok (.ifCond .lt 5, 3) := by decide +kernel
theorem dX0_backward_68 : decode cX0_backward 68 = .ok (.iload_n 3, 1) := by decide +kernel
theorem dX0_backward_69 : decode cX0_backward 69 = .ok (.ireturn, 1) := by decide +kernel
theorem dX0_backward_70 : decode cX0_backward 70 = .ok (.iinc 2 (-1), 3) := by decide +kernel
theorem dX0_backward_73 : decode cX0_backward 73 = .ok (.goto (-51), 3) := by decide +kernel
theorem dX0_backward_76 : decode cX0_backward 76 = .ok (.bipush (-2), 2) := by decide +kernel
theorem dX0_backward_78 : decode cX0_backward 78 = .ok (.ireturn, 1) := by decide +kernel
theorem dX0_unitStart_0 : decode cX0_unitStart 0 = .ok (.aload_n 0, 1) := by decide +kernel
theorem dX0_unitStart_1 : decode cX0_unitStart 1 = .ok (.getfield 13, 3) := by decide +kernel
theorem dX0_unitStart_4 : decode cX0_unitStart 4 = .ok (.iload_n 1, 1) := by decide +kernel
theorem dX0_unitStart_5 : decode cX0_unitStart 5 = .ok (.iaload, 1) := by decide +kernel
theorem dX0_unitStart_6 : decode cX0_unitStart 6 = .ok (.iconst 2, 1) := by decide +kernel
theorem dX0_unitStart_7 : decode cX0_unitStart 7 = .ok (.if_icmp .ne 10, 3) := by decide +kernel
theorem dX0_unitStart_10 : decode cX0_unitStart 10 = .ok (.aload_n 0, 1) := by decide +kernel
theorem dX0_unitStart_11 : decode cX0_unitStart 11 = .ok (.getfield 16, 3) := by decide +kernel
theorem dX0_unitStart_14 : decode cX0_unitStart 14 = .ok (.iload_n 1, 1) := by decide +kernel
theorem dX0_unitStart_15 : decode cX0_unitStart 15 = .ok (.iaload, 1) := by decide +kernel
theorem dX0_unitStart_16 : decode cX0_unitStart 16 = .ok (.ireturn, 1) := by decide +kernel
theorem dX0_unitStart_17 : decode cX0_unitStart 17 = .ok (.aload_n 0, 1) := by decide +kernel
theorem dX0_unitStart_18 : decode cX0_unitStart 18 = .ok (.getfield 13, 3) := by decide +kernel
theorem dX0_unitStart_21 : decode cX0_unitStart 21 = .ok (.iload_n 1, 1) := by decide +kernel
theorem dX0_unitStart_22 : decode cX0_unitStart 22 = .ok (.iaload, 1) := by decide +kernel
theorem dX0_unitStart_23 : decode cX0_unitStart 23 = .ok (.iconst 5, 1) := by decide +kernel
theorem dX0_unitStart_24 : decode cX0_unitStart 24 = .ok (.if_icmp .ne 27, 3) := by decide +kernel
theorem dX0_unitStart_27 : decode cX0_unitStart 27 = .ok (.iload_n 1, 1) := by decide +kernel
theorem dX0_unitStart_28 : decode cX0_unitStart 28 = .ok (.istore_n 2, 1) := by decide +kernel
theorem dX0_unitStart_29 : decode cX0_unitStart 29 = .ok (.iload_n 2, 1) := by decide +kernel
theorem dX0_unitStart_30 : decode cX0_unitStart 30 = .ok (.ifCond .le 19, 3) := by decide +kernel
theorem dX0_unitStart_33 : decode cX0_unitStart 33 = .ok (.aload_n 0, 1) := by decide +kernel
theorem dX0_unitStart_34 : decode cX0_unitStart 34 = .ok (.getfield 13, 3) := by decide +kernel
theorem dX0_unitStart_37 : decode cX0_unitStart 37 = .ok (.iload_n 2, 1) := by decide +kernel
theorem dX0_unitStart_38 : decode cX0_unitStart 38 = .ok (.iaload, 1) := by decide +kernel
theorem dX0_unitStart_39 : decode cX0_unitStart 39 = .ok (.iconst 4, 1) := by decide +kernel
theorem dX0_unitStart_40 : decode cX0_unitStart 40 = .ok (.if_icmp .eq 9, 3) := by decide +kernel
theorem dX0_unitStart_43 : decode cX0_unitStart 43 = .ok (.iinc 2 (-1), 3) := by decide +kernel
theorem dX0_unitStart_46 : decode cX0_unitStart 46 = .ok (.goto (-17), 3) := by decide +kernel
theorem dX0_unitStart_49 : decode cX0_unitStart 49 = .ok (.iload_n 2, 1) := by decide +kernel
theorem dX0_unitStart_50 : decode cX0_unitStart 50 = .ok (.ireturn, 1) := by decide +kernel
theorem dX0_unitStart_51 : decode cX0_unitStart 51 = .ok (.aload_n 0, 1) := by decide +kernel
theorem dX0_unitStart_52 : decode cX0_unitStart 52 = .ok (.getfield 13, 3) := by decide +kernel
theorem dX0_unitStart_55 : decode cX0_unitStart 55 = .ok (.iload_n 1, 1) := by decide +kernel
theorem dX0_unitStart_56 : decode cX0_unitStart 56 = .ok (.iaload, 1) := by decide +kernel
theorem dX0_unitStart_57 : decode cX0_unitStart 57 = .ok (.bipush 6, 2) := by decide +kernel
theorem dX0_unitStart_59 : decode cX0_unitStart 59 = .ok (.if_icmp .ne 26, 3) := by decide +kernel
theorem dX0_unitStart_62 : decode cX0_unitStart 62 = .ok (.iload_n 1, 1) := by decide +kernel
theorem dX0_unitStart_63 : decode cX0_unitStart 63 = .ok (.iconst 1, 1) := by decide +kernel
theorem dX0_unitStart_64 : decode cX0_unitStart 64 = .ok (.iadd, 1) := by decide +kernel
theorem dX0_unitStart_65 : decode cX0_unitStart 65 = .ok (.aload_n 0, 1) := by decide +kernel
theorem dX0_unitStart_66 : decode cX0_unitStart 66 = .ok (.getfield 39, 3) := by decide +kernel
theorem dX0_unitStart_69 : decode cX0_unitStart 69 = .ok (.if_icmp .ge 18, 3) := by decide +kernel
theorem dX0_unitStart_72 : decode cX0_unitStart 72 = .ok (.aload_n 0, 1) := by decide +kernel
theorem dX0_unitStart_73 : decode cX0_unitStart 73 = .ok (.getfield 13, 3) := by decide +kernel
theorem dX0_unitStart_76 : decode cX0_unitStart 76 = .ok (.iload_n 1, 1) := by decide +kernel
theorem dX0_unitStart_77 : decode cX0_unitStart 77 = .ok (.iconst 1, 1) := by decide +kernel
theorem dX0_unitStart_78 : decode cX0_unitStart 78 = .ok (.iadd, 1) := by decide +kernel
theorem dX0_unitStart_79 : decode cX0_unitStart 79 = .ok (.iaload, 1) := by decide +kernel
theorem dX0_unitStart_80 : decode cX0_unitStart 80 = .ok (.bipush 6, 2) := by decide +kernel
theorem dX0_unitStart_82 : decode cX0_unitStart 82 = .ok (.if_icmp .ne 5, 3) := by decide +kernel
theorem dX0_unitStart_85 : decode cX0_unitStart 85 = .ok (.iconst (-1), 1) := by decide +kernel
theorem dX0_unitStart_86 : decode cX0_unitStart 86 = .ok (.ireturn, 1) := by decide +kernel
theorem dX0_unitStart_87 : decode cX0_unitStart 87 = .ok (.aload_n 0, 1) := by decide +kernel
theorem dX0_unitStart_88 : decode cX0_unitStart 88 = .ok (.iload_n 1, 1) := by decide +kernel
theorem dX0_unitStart_89 : decode cX0_unitStart 89 = .ok (.iconst 1, 1) := by decide +kernel
theorem dX0_unitStart_90 : decode cX0_unitStart 90 = .ok (.iadd, 1) := by decide +kernel
theorem dX0_unitStart_91 : decode cX0_unitStart 91 = .ok (.invokevirtual 50, 3) := by decide +kernel
theorem dX0_unitStart_94 : decode cX0_unitStart 94 = .ok (.aload_n 0, 1) := by decide +kernel
theorem dX0_unitStart_95 : decode cX0_unitStart 95 = .ok (.getfield 56, 3) := by decide +kernel
theorem dX0_unitStart_98 : decode cX0_unitStart 98 = .ok (.ifCond .eq 5, 3) := by decide +kernel
theorem dX0_unitStart_101 : decode cX0_unitStart 101 = .ok (.iconst (-1), 1) := by decide +kernel
theorem dX0_unitStart_102 : decode cX0_unitStart 102 = .ok (.ireturn, 1) := by decide +kernel
theorem dX0_unitStart_103 : decode cX0_unitStart 103 = .ok (.iload_n 1, 1) := by decide +kernel
theorem dX0_unitStart_104 : decode cX0_unitStart 104 = .ok (.istore_n 2, 1) := by decide +kernel
theorem dX0_unitStart_105 : decode cX0_unitStart 105 = .ok (.iload_n 2, 1) := by decide +kernel
theorem dX0_unitStart_106 : decode cX0_unitStart 106 = .ok (.ifCond .le 22, 3) := by decide +kernel
theorem dX0_unitStart_109 : decode cX0_unitStart 109 = .ok (.aload_n 0, 1) := by decide +kernel
theorem dX0_unitStart_110 : decode cX0_unitStart 110 = .ok (.getfield 13, 3) := by decide +kernel
theorem dX0_unitStart_113 : decode cX0_unitStart 113 = .ok (.iload_n 2, 1) := by decide +kernel
theorem dX0_unitStart_114 : decode cX0_unitStart 114 = .ok (.iconst 1, 1) := by decide +kernel
theorem dX0_unitStart_115 : decode cX0_unitStart 115 = .ok (.isub, 1) := by decide +kernel
theorem dX0_unitStart_116 : decode cX0_unitStart 116 = .ok (.iaload, 1) := by decide +kernel
theorem dX0_unitStart_117 : decode cX0_unitStart 117 = .ok (.bipush 6, 2) := by decide +kernel
theorem dX0_unitStart_119 : decode cX0_unitStart 119 = .ok (.if_icmp .ne 9, 3) := by decide +kernel
theorem dX0_unitStart_122 : decode cX0_unitStart 122 = .ok (.iinc 2 (-1), 3) := by decide +kernel
theorem dX0_unitStart_125 : decode cX0_unitStart 125 = .ok (.goto (-20), 3) := by decide +kernel
theorem dX0_unitStart_128 : decode cX0_unitStart 128 = .ok (.iload_n 2, 1) := by decide +kernel
theorem dX0_unitStart_129 : decode cX0_unitStart 129 = .ok (.ireturn, 1) := by decide +kernel
theorem dX0_up_0 : decode cX0_up 0 = .ok (.aload_n 0, 1) := by decide +kernel
theorem dX0_up_1 : decode cX0_up 1 = .ok (.iload_n 1, 1) := by decide +kernel
theorem dX0_up_2 : decode cX0_up 2 = .ok (.invokevirtual 32, 3) := by decide +kernel
theorem dX0_up_5 : decode cX0_up 5 = .ok (.ifCond .ne 5, 3) := by decide +kernel
theorem dX0_up_8 : decode cX0_up 8 = .ok (.iconst (-1), 1) := by decide +kernel
theorem dX0_up_9 : decode cX0_up 9 = .ok (.ireturn, 1) := by decide +kernel
theorem dX0_up_10 : decode cX0_up 10 = .ok (.aload_n 0, 1) := by decide +kernel
theorem dX0_up_11 : decode cX0_up 11 = .ok (.iload_n 1, 1) := by decide +kernel
theorem dX0_up_12 : decode cX0_up 12 = .ok (.invokevirtual 50, 3) := by decide +kernel
theorem dX0_up_15 : decode cX0_up 15 = .ok (.aload_n 0, 1) := by decide +kernel
theorem dX0_up_16 : decode cX0_up 16 = .ok (.getfield 60, 3) := by decide +kernel
theorem dX0_up_19 : decode cX0_up 19 = .ok (.ireturn, 1) := by decide +kernel
theorem dX0_down_0 : decode cX0_down 0 = .ok (.aload_n 0, 1) := by decide +kernel
theorem dX0_down_1 : decode cX0_down 1 = .ok (.iload_n 1, 1) := by decide +kernel
theorem dX0_down_2 : decode cX0_down 2 = .ok (.invokevirtual 32, 3) := by decide +kernel
theorem dX0_down_5 : decode cX0_down 5 = .ok (.ifCond .ne 5, 3) := by decide +kernel
theorem dX0_down_8 : decode cX0_down 8 = .ok (.iconst (-1), 1) := by decide +kernel
theorem dX0_down_9 : decode cX0_down 9 = .ok (.ireturn, 1) := by decide +kernel
theorem dX0_down_10 : decode cX0_down 10 = .ok (.aload_n 0, 1) := by decide +kernel
theorem dX0_down_11 : decode cX0_down 11 = .ok (.aload_n 0, 1) := by decide +kernel
theorem dX0_down_12 : decode cX0_down 12 = .ok (.getfield 39, 3) := by decide +kernel
theorem dX0_down_15 : decode cX0_down 15 = .ok (.invokevirtual 67, 3) := by decide +kernel
theorem dX0_down_18 : decode cX0_down 18 = .ok (.iconst 0, 1) := by decide +kernel
theorem dX0_down_19 : decode cX0_down 19 = .ok (.istore_n 2, 1) := by decide +kernel
theorem dX0_down_20 : decode cX0_down 20 = .ok (.iload_n 1, 1) := by decide +kernel
theorem dX0_down_21 : decode cX0_down 21 = .ok (.istore_n 3, 1) := by decide +kernel
theorem dX0_down_22 : decode cX0_down 22 = .ok (.iload_n 3, 1) := by decide +kernel
theorem dX0_down_23 : decode cX0_down 23 = .ok (.aload_n 0, 1) := by decide +kernel
theorem dX0_down_24 : decode cX0_down 24 = .ok (.getfield 39, 3) := by decide +kernel
theorem dX0_down_27 : decode cX0_down 27 = .ok (.if_icmp .ge 54, 3) := by decide +kernel
theorem dX0_down_30 : decode cX0_down 30 = .ok (.aload_n 0, 1) := by decide +kernel
theorem dX0_down_31 : decode cX0_down 31 = .ok (.getfield 13, 3) := by decide +kernel
theorem dX0_down_34 : decode cX0_down 34 = .ok (.iload_n 3, 1) := by decide +kernel
theorem dX0_down_35 : decode cX0_down 35 = .ok (.iaload, 1) := by decide +kernel
theorem dX0_down_36 : decode cX0_down 36 = .ok (.iconst 2, 1) := by decide +kernel
theorem dX0_down_37 : decode cX0_down 37 = .ok (.if_icmp .eq 13, 3) := by decide +kernel
theorem dX0_down_40 : decode cX0_down 40 = .ok (.aload_n 0, 1) := by decide +kernel
theorem dX0_down_41 : decode cX0_down 41 = .ok (.getfield 13, 3) := by decide +kernel
theorem dX0_down_44 : decode cX0_down 44 = .ok (.iload_n 3, 1) := by decide +kernel
theorem dX0_down_45 : decode cX0_down 45 = .ok (.iaload, 1) := by decide +kernel
theorem dX0_down_46 : decode cX0_down 46 = .ok (.iconst 3, 1) := by decide +kernel
theorem dX0_down_47 : decode cX0_down 47 = .ok (.if_icmp .ne 5, 3) := by decide +kernel
theorem dX0_down_50 : decode cX0_down 50 = .ok (.iconst 1, 1) := by decide +kernel
theorem dX0_down_51 : decode cX0_down 51 = .ok (.istore_n 2, 1) := by decide +kernel
theorem dX0_down_52 : decode cX0_down 52 = .ok (.aload_n 0, 1) := by decide +kernel
theorem dX0_down_53 : decode cX0_down 53 = .ok (.getfield 13, 3) := by decide +kernel
theorem dX0_down_56 : decode cX0_down 56 = .ok (.iload_n 3, 1) := by decide +kernel
theorem dX0_down_57 : decode cX0_down 57 = .ok (.iaload, 1) := by decide +kernel
theorem dX0_down_58 : decode cX0_down 58 = .ok (.iconst 1, 1) := by decide +kernel
theorem dX0_down_59 : decode cX0_down 59 = .ok (.if_icmp .ne 16, 3) := by decide +kernel
theorem dX0_down_62 : decode cX0_down 62 = .ok (.iload_n 2, 1) := by decide +kernel
theorem dX0_down_63 : decode cX0_down 63 = .ok (.ifCond .eq 8, 3) := by decide +kernel
theorem dX0_down_66 : decode cX0_down 66 = .ok (.bipush (-3), 2) := by decide +kernel
theorem dX0_down_68 : decode cX0_down 68 = .ok (.goto 6, 3) := by decide +kernel
theorem dX0_down_71 : decode cX0_down 71 = .ok (.iload_n 3, 1) := by decide +kernel
theorem dX0_down_72 : decode cX0_down 72 = .ok (.iconst 1, 1) := by decide +kernel
theorem dX0_down_73 : decode cX0_down 73 = .ok (.iadd, 1) := by decide +kernel
theorem dX0_down_74 : decode cX0_down 74 = .ok (.ireturn, 1) := by decide +kernel
theorem dX0_down_75 : decode cX0_down 75 = .ok (.iinc 3 1, 3) := by decide +kernel
theorem dX0_down_78 : decode cX0_down 78 = .ok (.goto (-56), 3) := by decide +kernel
theorem dX0_down_81 : decode cX0_down 81 = .ok (.bipush (-2), 2) := by decide +kernel
theorem dX0_down_83 : decode cX0_down 83 = .ok (.ireturn, 1) := by decide +kernel
theorem dX0_units_0 : decode cX0_units 0 = .ok (.aload_n 0, 1) := by decide +kernel
theorem dX0_units_1 : decode cX0_units 1 = .ok (.aload_n 0, 1) := by decide +kernel
theorem dX0_units_2 : decode cX0_units 2 = .ok (.getfield 39, 3) := by decide +kernel
theorem dX0_units_5 : decode cX0_units 5 = .ok (.invokevirtual 67, 3) := by decide +kernel
theorem dX0_units_8 : decode cX0_units 8 = .ok (.iconst 0, 1) := by decide +kernel
theorem dX0_units_9 : decode cX0_units 9 = .ok (.istore_n 1, 1) := by decide +kernel
theorem dX0_units_10 : decode cX0_units 10 = .ok (.iconst 0, 1) := by decide +kernel
theorem dX0_units_11 : decode cX0_units 11 = .ok (.istore_n 2, 1) := by decide +kernel
theorem dX0_units_12 : decode cX0_units 12 = .ok (.iload_n 2, 1) := by decide +kernel
theorem dX0_units_13 : decode cX0_units 13 = .ok (.aload_n 0, 1) := by decide +kernel
theorem dX0_units_14 : decode cX0_units 14 = .ok (.getfield 39, 3) := by decide +kernel
theorem dX0_units_17 : decode cX0_units 17 = .ok (.if_icmp .ge 22, 3) := by decide +kernel
theorem dX0_units_20 : decode cX0_units 20 = .ok (.aload_n 0, 1) := by decide +kernel
theorem dX0_units_21 : decode cX0_units 21 = .ok (.iload_n 2, 1) := by decide +kernel
theorem dX0_units_22 : decode cX0_units 22 = .ok (.invokevirtual 70, 3) := by decide +kernel
theorem dX0_units_25 : decode cX0_units 25 = .ok (.istore_n 3, 1) := by decide +kernel
theorem dX0_units_26 : decode cX0_units 26 = .ok (.iload_n 3, 1) := by decide +kernel
theorem dX0_units_27 : decode cX0_units 27 = .ok (.ifCond .lt 6, 3) := by decide +kernel
theorem dX0_units_30 : decode cX0_units 30 = .ok (.iinc 1 1, 3) := by decide +kernel
theorem dX0_units_33 : decode cX0_units 33 = .ok (.iinc 2 1, 3) := by decide +kernel
theorem dX0_units_36 : decode cX0_units 36 = .ok (.goto (-24), 3) := by decide +kernel
theorem dX0_units_39 : decode cX0_units 39 = .ok (.iload_n 1, 1) := by decide +kernel
theorem dX0_units_40 : decode cX0_units 40 = .ok (.ireturn, 1) := by decide +kernel
end
section
set_option maxRecDepth 100000
theorem dX1_init_0 : decode cX1_init 0 = .ok (.aload_n 0, 1) := by decide +kernel
theorem dX1_init_1 : decode cX1_init 1 = .ok (.invokespecial 1, 3) := by decide +kernel
theorem dX1_init_4 : decode cX1_init 4 = .ok (.aload_n 0, 1) := by decide +kernel
theorem dX1_init_5 : decode cX1_init 5 = .ok (.bipush 64, 2) := by decide +kernel
theorem dX1_init_7 : decode cX1_init 7 = .ok (.newarray .int, 2) := by decide +kernel
theorem dX1_init_9 : decode cX1_init 9 = .ok (.putfield 7, 3) := by decide +kernel
theorem dX1_init_12 : decode cX1_init 12 = .ok (.aload_n 0, 1) := by decide +kernel
theorem dX1_init_13 : decode cX1_init 13 = .ok (.bipush 65, 2) := by decide +kernel
theorem dX1_init_15 : decode cX1_init 15 = .ok (.newarray .int, 2) := by decide +kernel
theorem dX1_init_17 : decode cX1_init 17 = .ok (.putfield 13, 3) := by decide +kernel
theorem dX1_init_20 : decode cX1_init 20 = .ok (.aload_n 0, 1) := by decide +kernel
theorem dX1_init_21 : decode cX1_init 21 = .ok (.bipush 65, 2) := by decide +kernel
theorem dX1_init_23 : decode cX1_init 23 = .ok (.newarray .boolean, 2) := by decide +kernel
theorem dX1_init_25 : decode cX1_init 25 = .ok (.putfield 16, 3) := by decide +kernel
theorem dX1_init_28 : decode cX1_init 28 = .ok (.aload_n 0, 1) := by decide +kernel
theorem dX1_init_29 : decode cX1_init 29 = .ok (.bipush 65, 2) := by decide +kernel
theorem dX1_init_31 : decode cX1_init 31 = .ok (.newarray .int, 2) := by decide +kernel
theorem dX1_init_33 : decode cX1_init 33 = .ok (.putfield 20, 3) := by decide +kernel
theorem dX1_init_36 : decode cX1_init 36 = .ok (.aload_n 0, 1) := by decide +kernel
theorem dX1_init_37 : decode cX1_init 37 = .ok (.bipush 64, 2) := by decide +kernel
theorem dX1_init_39 : decode cX1_init 39 = .ok (.newarray .int, 2) := by decide +kernel
theorem dX1_init_41 : decode cX1_init 41 = .ok (.putfield 23, 3) := by decide +kernel
theorem dX1_init_44 : decode cX1_init 44 = .ok (.aload_n 0, 1) := by decide +kernel
theorem dX1_init_45 : decode cX1_init 45 = .ok (.bipush 64, 2) := by decide +kernel
theorem dX1_init_47 : decode cX1_init 47 = .ok (.newarray .boolean, 2) := by decide +kernel
theorem dX1_init_49 : decode cX1_init 49 = .ok (.putfield 26, 3) := by decide +kernel
theorem dX1_init_52 : decode cX1_init 52 = .ok (.aload_n 0, 1) := by decide +kernel
theorem dX1_init_53 : decode cX1_init 53 = .ok (.bipush 64, 2) := by decide +kernel
theorem dX1_init_55 : decode cX1_init 55 = .ok (.newarray .boolean, 2) := by decide +kernel
theorem dX1_init_57 : decode cX1_init 57 = .ok (.putfield 29, 3) := by decide +kernel
theorem dX1_init_60 : decode cX1_init 60 = .ok (.aload_n 0, 1) := by decide +kernel
theorem dX1_init_61 : decode cX1_init 61 = .ok (.bipush 64, 2) := by decide +kernel
theorem dX1_init_63 : decode cX1_init 63 = .ok (.newarray .boolean, 2) := by decide +kernel
theorem dX1_init_65 : decode cX1_init 65 = .ok (.putfield 32, 3) := by decide +kernel
theorem dX1_init_68 : decode cX1_init 68 = .ok (.aload_n 0, 1) := by decide +kernel
theorem dX1_init_69 : decode cX1_init 69 = .ok (.bipush 64, 2) := by decide +kernel
theorem dX1_init_71 : decode cX1_init 71 = .ok (.newarray .int, 2) := by decide +kernel
theorem dX1_init_73 : decode cX1_init 73 = .ok (.putfield 35, 3) := by decide +kernel
theorem dX1_init_76 : decode cX1_init 76 = .ok (.return_, 1) := by decide +kernel
theorem dX1_insert_0 : decode cX1_insert 0 = .ok (.aload_n 0, 1) := by decide +kernel
theorem dX1_insert_1 : decode cX1_insert 1 = .ok (.iload_n 1, 1) := by decide +kernel
theorem dX1_insert_2 : decode cX1_insert 2 = .ok (.invokevirtual 42, 3) := by decide +kernel
theorem dX1_insert_5 : decode cX1_insert 5 = .ok (.ifCond .eq 5, 3) := by decide +kernel
theorem dX1_insert_8 : decode cX1_insert 8 = .ok (.iconst (-1), 1) := by decide +kernel
theorem dX1_insert_9 : decode cX1_insert 9 = .ok (.ireturn, 1) := by decide +kernel
theorem dX1_insert_10 : decode cX1_insert 10 = .ok (.iload_n 2, 1) := by decide +kernel
theorem dX1_insert_11 : decode cX1_insert 11 = .ok (.ifCond .lt 9, 3) := by decide +kernel
theorem dX1_insert_14 : decode cX1_insert 14 = .ok (.iload_n 2, 1) := by decide +kernel
theorem dX1_insert_15 : decode cX1_insert 15 = .ok (.bipush 7, 2) := by decide +kernel
theorem dX1_insert_17 : decode cX1_insert 17 = .ok (.if_icmp .le 6, 3) := by decide +kernel
theorem dX1_insert_20 : decode cX1_insert 20 = .ok (.bipush (-2), 2) := by decide +kernel
theorem dX1_insert_22 : decode cX1_insert 22 = .ok (.ireturn, 1) := by decide +kernel
theorem dX1_insert_23 : decode cX1_insert 23 = .ok (.aload_n 0, 1) := by decide +kernel
theorem dX1_insert_24 : decode cX1_insert 24 = .ok (.getfield 38, 3) := by decide +kernel
theorem dX1_insert_27 : decode cX1_insert 27 = .ok (.bipush 64, 2) := by decide +kernel
theorem dX1_insert_29 : decode cX1_insert 29 = .ok (.if_icmp .lt 6, 3) := by decide +kernel
theorem dX1_insert_32 : decode cX1_insert 32 = .ok (.bipush (-3), 2) := by decide +kernel
theorem dX1_insert_34 : decode cX1_insert 34 = .ok (.ireturn, 1) := by decide +kernel
theorem dX1_insert_35 : decode cX1_insert 35 = .ok (.aload_n 0, 1) := by decide +kernel
theorem dX1_insert_36 : decode cX1_insert 36 = .ok (.getfield 38, 3) := by decide +kernel
theorem dX1_insert_39 : decode cX1_insert 39 = .ok (.istore_n 3, 1) := by decide +kernel
theorem dX1_insert_40 : decode cX1_insert 40 = .ok (.iload_n 3, 1) := by decide +kernel
theorem dX1_insert_41 : decode cX1_insert 41 = .ok (.iload_n 1, 1) := by decide +kernel
theorem dX1_insert_42 : decode cX1_insert 42 = .ok (.if_icmp .le 23, 3) := by decide +kernel
theorem dX1_insert_45 : decode cX1_insert 45 = .ok (.aload_n 0, 1) := by decide +kernel
theorem dX1_insert_46 : decode cX1_insert 46 = .ok (.getfield 7, 3) := by decide +kernel
theorem dX1_insert_49 : decode cX1_insert 49 = .ok (.iload_n 3, 1) := by decide +kernel
theorem dX1_insert_50 : decode cX1_insert 50 = .ok (.aload_n 0, 1) := by decide +kernel
theorem dX1_insert_51 : decode cX1_insert 51 = .ok (.getfield 7, 3) := by decide +kernel
theorem dX1_insert_54 : decode cX1_insert 54 = .ok (.iload_n 3, 1) := by decide +kernel
theorem dX1_insert_55 : decode cX1_insert 55 = .ok (.iconst 1, 1) := by decide +kernel
theorem dX1_insert_56 : decode cX1_insert 56 = .ok (.isub, 1) := by decide +kernel
theorem dX1_insert_57 : decode cX1_insert 57 = .ok (.iaload, 1) := by decide +kernel
theorem dX1_insert_58 : decode cX1_insert 58 = .ok (.iastore, 1) := by decide +kernel
theorem dX1_insert_59 : decode cX1_insert 59 = .ok (.iinc 3 (-1), 3) := by decide +kernel
theorem dX1_insert_62 : decode cX1_insert 62 = .ok (.goto (-22), 3) := by decide +kernel
theorem dX1_insert_65 : decode cX1_insert 65 = .ok (.aload_n 0, 1) := by decide +kernel
theorem dX1_insert_66 : decode cX1_insert 66 = .ok (.getfield 7, 3) := by decide +kernel
theorem dX1_insert_69 : decode cX1_insert 69 = .ok (.iload_n 1, 1) := by decide +kernel
theorem dX1_insert_70 : decode cX1_insert 70 = .ok (.iload_n 2, 1) := by decide +kernel
theorem dX1_insert_71 : decode cX1_insert 71 = .ok (.iastore, 1) := by decide +kernel
theorem dX1_insert_72 : decode cX1_insert 72 = .ok (.aload_n 0, 1) := by decide +kernel
theorem dX1_insert_73 : decode cX1_insert 73 = .ok (.dup, 1) := by decide +kernel
theorem dX1_insert_74 : decode cX1_insert 74 = .ok (.getfield 38, 3) := by decide +kernel
theorem dX1_insert_77 : decode cX1_insert 77 = .ok (.iconst 1, 1) := by decide +kernel
theorem dX1_insert_78 : decode cX1_insert 78 = .ok (.iadd, 1) := by decide +kernel
theorem dX1_insert_79 : decode cX1_insert 79 = .ok (.putfield 38, 3) := by decide +kernel
theorem dX1_insert_82 : decode cX1_insert 82 = .ok (.aload_n 0, 1) := by decide +kernel
theorem dX1_insert_83 : decode cX1_insert 83 = .ok (.getfield 38, 3) := by decide +kernel
theorem dX1_insert_86 : decode cX1_insert 86 = .ok (.ireturn, 1) := by decide +kernel
theorem dX1_badGap_0 : decode cX1_badGap 0 = .ok (.iload_n 1, 1) := by decide +kernel
theorem dX1_badGap_1 : decode cX1_badGap 1 = .ok (.ifCond .lt 17, 3) := by decide +kernel
theorem dX1_badGap_4 : decode cX1_badGap 4 = .ok (.iload_n 1, 1) := by decide +kernel
theorem dX1_badGap_5 : decode cX1_badGap 5 = .ok (.aload_n 0, 1) := by decide +kernel
theorem dX1_badGap_6 : decode cX1_badGap 6 = .ok (.getfield 38, 3) := by decide +kernel
theorem dX1_badGap_9 : decode cX1_badGap 9 = .ok (.if_icmp .gt 9, 3) := by decide +kernel
theorem dX1_badGap_12 : decode cX1_badGap 12 = .ok (.iload_n 1, 1) := by decide +kernel
theorem dX1_badGap_13 : decode cX1_badGap 13 = .ok (.bipush 64, 2) := by decide +kernel
theorem dX1_badGap_15 : decode cX1_badGap 15 = .ok (.if_icmp .le 7, 3) := by decide +kernel
theorem dX1_badGap_18 : decode cX1_badGap 18 = .ok (.iconst 1, 1) := by decide +kernel
theorem dX1_badGap_19 : decode cX1_badGap 19 = .ok (.goto 4, 3) := by decide +kernel
theorem dX1_badGap_22 : decode cX1_badGap 22 = .ok (.iconst 0, 1) := by decide +kernel
theorem dX1_badGap_23 : decode cX1_badGap 23 = .ok (.ireturn, 1) := by decide +kernel
theorem dX1_delete_0 : decode cX1_delete 0 = .ok (.iload_n 1, 1) := by decide +kernel
theorem dX1_delete_1 : decode cX1_delete 1 = .ok (.ifCond .lt 16, 3) := by decide +kernel
theorem dX1_delete_4 : decode cX1_delete 4 = .ok (.iload_n 1, 1) := by decide +kernel
theorem dX1_delete_5 : decode cX1_delete 5 = .ok (.iload_n 2, 1) := by decide +kernel
theorem dX1_delete_6 : decode cX1_delete 6 = .ok (.if_icmp .gt 11, 3) := by decide +kernel
theorem dX1_delete_9 : decode cX1_delete 9 = .ok (.iload_n 2, 1) := by decide +kernel
theorem dX1_delete_10 : decode cX1_delete 10 = .ok (.aload_n 0, 1) := by decide +kernel
theorem dX1_delete_11 : decode cX1_delete 11 = .ok (.getfield 38, 3) := by decide +kernel
theorem dX1_delete_14 : decode cX1_delete 14 = .ok (.if_icmp .le 5, 3) := by decide +kernel
theorem dX1_delete_17 : decode cX1_delete 17 = .ok (.iconst (-1), 1) := by decide +kernel
theorem dX1_delete_18 : decode cX1_delete 18 = .ok (.ireturn, 1) := by decide +kernel
theorem dX1_delete_19 : decode cX1_delete 19 = .ok (.iload_n 2, 1) := by decide +kernel
theorem dX1_delete_20 : decode cX1_delete 20 = .ok (.iload_n 1, 1) := by decide +kernel
theorem dX1_delete_21 : decode cX1_delete 21 = .ok (.isub, 1) := by decide +kernel
theorem dX1_delete_22 : decode cX1_delete 22 = .ok (.istore_n 3, 1) := by decide +kernel
theorem dX1_delete_23 : decode cX1_delete 23 = .ok (.iload_n 1, 1) := by decide +kernel
theorem dX1_delete_24 : decode cX1_delete 24 = .ok (.istore 4, 2) := by decide +kernel
theorem dX1_delete_26 : decode cX1_delete 26 = .ok (.iload 4, 2) := by decide +kernel
theorem dX1_delete_28 : decode cX1_delete 28 = .ok (.iload_n 3, 1) := by decide +kernel
theorem dX1_delete_29 : decode cX1_delete 29 = .ok (.iadd, 1) := by decide +kernel
theorem dX1_delete_30 : decode cX1_delete 30 = .ok (.aload_n 0, 1) := by decide +kernel
theorem dX1_delete_31 : decode cX1_delete 31 = .ok (.getfield 38, 3) := by decide +kernel
theorem dX1_delete_34 : decode cX1_delete 34 = .ok (.if_icmp .ge 34, 3) := by decide +kernel
theorem dX1_delete_37 : decode cX1_delete 37 = .ok (.iload 4, 2) := by decide +kernel
theorem dX1_delete_39 : decode cX1_delete 39 = .ok (.iload_n 3, 1) := by decide +kernel
theorem dX1_delete_40 : decode cX1_delete 40 = .ok (.iadd, 1) := by decide +kernel
theorem dX1_delete_41 : decode cX1_delete 41 = .ok (.bipush 64, 2) := by decide +kernel
theorem dX1_delete_43 : decode cX1_delete 43 = .ok (.if_icmp .ge 25, 3) := by decide +kernel
theorem dX1_delete_46 : decode cX1_delete 46 = .ok (.aload_n 0, 1) := by decide +kernel
theorem dX1_delete_47 : decode cX1_delete 47 = .ok (.getfield 7, 3) := by decide +kernel
theorem dX1_delete_50 : decode cX1_delete 50 = .ok (.iload 4, 2) := by decide +kernel
theorem dX1_delete_52 : decode cX1_delete 52 = .ok (.aload_n 0, 1) := by decide +kernel
theorem dX1_delete_53 : decode cX1_delete 53 = .ok (.getfield 7, 3) := by decide +kernel
theorem dX1_delete_56 : decode cX1_delete 56 = .ok (.iload 4, 2) := by decide +kernel
theorem dX1_delete_58 : decode cX1_delete 58 = .ok (.iload_n 3, 1) := by decide +kernel
theorem dX1_delete_59 : decode cX1_delete 59 = .ok (.iadd, 1) := by decide +kernel
theorem dX1_delete_60 : decode cX1_delete 60 = .ok (.iaload, 1) := by decide +kernel
theorem dX1_delete_61 : decode cX1_delete 61 = .ok (.iastore, 1) := by decide +kernel
theorem dX1_delete_62 : decode cX1_delete 62 = .ok (.iinc 4 1, 3) := by decide +kernel
theorem dX1_delete_65 : decode cX1_delete 65 = .ok (.goto (-39), 3) := by decide +kernel
theorem dX1_delete_68 : decode cX1_delete 68 = .ok (.aload_n 0, 1) := by decide +kernel
theorem dX1_delete_69 : decode cX1_delete 69 = .ok (.dup, 1) := by decide +kernel
theorem dX1_delete_70 : decode cX1_delete 70 = .ok (.getfield 38, 3) := by decide +kernel
theorem dX1_delete_73 : decode cX1_delete 73 = .ok (.iload_n 3, 1) := by decide +kernel
theorem dX1_delete_74 : decode cX1_delete 74 = .ok (.isub, 1) := by decide +kernel
theorem dX1_delete_75 : decode cX1_delete 75 = .ok (.putfield 38, 3) := by decide +kernel
theorem dX1_delete_78 : decode cX1_delete 78 = .ok (.aload_n 0, 1) := by decide +kernel
theorem dX1_delete_79 : decode cX1_delete 79 = .ok (.getfield 38, 3) := by decide +kernel
theorem dX1_delete_82 : decode cX1_delete 82 = .ok (.ireturn, 1) := by decide +kernel
theorem dX1_set_0 : decode cX1_set 0 = .ok (.aload_n 0, 1) := by decide +kernel
theorem dX1_set_1 : decode cX1_set 1 = .ok (.iload_n 1, 1) := by decide +kernel
theorem dX1_set_2 : decode cX1_set 2 = .ok (.invokevirtual 46, 3) := by decide +kernel
theorem dX1_set_5 : decode cX1_set 5 = .ok (.ifCond .eq 5, 3) := by decide +kernel
theorem dX1_set_8 : decode cX1_set 8 = .ok (.iconst (-1), 1) := by decide +kernel
theorem dX1_set_9 : decode cX1_set 9 = .ok (.ireturn, 1) := by decide +kernel
theorem dX1_set_10 : decode cX1_set 10 = .ok (.iload_n 2, 1) := by decide +kernel
theorem dX1_set_11 : decode cX1_set 11 = .ok (.ifCond .lt 9, 3) := by decide +kernel
theorem dX1_set_14 : decode cX1_set 14 = .ok (.iload_n 2, 1) := by decide +kernel
theorem dX1_set_15 : decode cX1_set 15 = .ok (.bipush 7, 2) := by decide +kernel
theorem dX1_set_17 : decode cX1_set 17 = .ok (.if_icmp .le 6, 3) := by decide +kernel
theorem dX1_set_20 : decode cX1_set 20 = .ok (.bipush (-2), 2) := by decide +kernel
theorem dX1_set_22 : decode cX1_set 22 = .ok (.ireturn, 1) := by decide +kernel
theorem dX1_set_23 : decode cX1_set 23 = .ok (.aload_n 0, 1) := by decide +kernel
theorem dX1_set_24 : decode cX1_set 24 = .ok (.getfield 7, 3) := by decide +kernel
theorem dX1_set_27 : decode cX1_set 27 = .ok (.iload_n 1, 1) := by decide +kernel
theorem dX1_set_28 : decode cX1_set 28 = .ok (.iaload, 1) := by decide +kernel
theorem dX1_set_29 : decode cX1_set 29 = .ok (.istore_n 3, 1) := by decide +kernel
theorem dX1_set_30 : decode cX1_set 30 = .ok (.aload_n 0, 1) := by decide +kernel
theorem dX1_set_31 : decode cX1_set 31 = .ok (.getfield 7, 3) := by decide +kernel
theorem dX1_set_34 : decode cX1_set 34 = .ok (.iload_n 1, 1) := by decide +kernel
theorem dX1_set_35 : decode cX1_set 35 = .ok (.iload_n 2, 1) := by decide +kernel
theorem dX1_set_36 : decode cX1_set 36 = .ok (.iastore, 1) := by decide +kernel
theorem dX1_set_37 : decode cX1_set 37 = .ok (.iload_n 3, 1) := by decide +kernel
theorem dX1_set_38 : decode cX1_set 38 = .ok (.ireturn, 1) := by decide +kernel
theorem dX1_badPosition_0 : decode cX1_badPosition 0 = .ok (.iload_n 1, 1) := by decide +kernel
theorem dX1_badPosition_1 : decode cX1_badPosition 1 = .ok (.ifCond .lt 17, 3) := by decide +kernel
theorem dX1_badPosition_4 : decode cX1_badPosition 4 = .ok (.iload_n 1, 1) := by decide +kernel
theorem dX1_badPosition_5 : decode cX1_badPosition 5 = .ok (.aload_n 0, 1) := by decide +kernel
theorem dX1_badPosition_6 : decode cX1_badPosition 6 = .ok (.getfield 38, 3) := by decide +kernel
theorem dX1_badPosition_9 : decode cX1_badPosition 9 = .ok (.if_icmp .ge 9, 3) := by decide +kernel
theorem dX1_badPosition_12 : decode cX1_badPosition 12 = .ok (.iload_n 1, 1) := by decide +kernel
theorem dX1_badPosition_13 : decode cX1_badPosition 13 = .ok (.bipush 64, 2) := by decide +kernel
theorem dX1_badPosition_15 : decode cX1_badPosition 15 = .ok (.if_icmp .lt 7, 3) := by decide +kernel
theorem dX1_badPosition_18 : decode cX1_badPosition 18 = .ok (.iconst 1, 1) := by decide +kernel
theorem dX1_badPosition_19 : decode cX1_badPosition 19 = .ok (.goto 4, 3) := by decide +kernel
theorem dX1_badPosition_22 : decode cX1_badPosition 22 = .ok (.iconst 0, 1) := by decide +kernel
theorem dX1_badPosition_23 : decode cX1_badPosition 23 = .ok (.ireturn, 1) := by decide +kernel
theorem dX1_length_0 : decode cX1_length 0 = .ok (.aload_n 0, 1) := by decide +kernel
theorem dX1_length_1 : decode cX1_length 1 = .ok (.getfield 38, 3) := by decide +kernel
theorem dX1_length_4 : decode cX1_length 4 = .ok (.ireturn, 1) := by decide +kernel
theorem dX1_kindAt_0 : decode cX1_kindAt 0 = .ok (.aload_n 0, 1) := by decide +kernel
theorem dX1_kindAt_1 : decode cX1_kindAt 1 = .ok (.iload_n 1, 1) := by decide +kernel
theorem dX1_kindAt_2 : decode cX1_kindAt 2 = .ok (.invokevirtual 46, 3) := by decide +kernel
theorem dX1_kindAt_5 : decode cX1_kindAt 5 = .ok (.ifCond .eq 7, 3) := by decide +kernel
theorem dX1_kindAt_8 : decode cX1_kindAt 8 = .ok (.iconst (-1), 1) := by decide +kernel
theorem dX1_kindAt_9 : decode cX1_kindAt 9 = .ok (.goto 9, 3) := by decide +kernel
theorem dX1_kindAt_12 : decode cX1_kindAt 12 = .ok (.aload_n 0, 1) := by decide +kernel
theorem dX1_kindAt_13 : decode cX1_kindAt 13 = .ok (.getfield 7, 3) := by decide +kernel
theorem dX1_kindAt_16 : decode cX1_kindAt 16 = .ok (.iload_n 1, 1) := by decide +kernel
theorem dX1_kindAt_17 : decode cX1_kindAt 17 = .ok (.iaload, 1) := by decide +kernel
theorem dX1_kindAt_18 : decode cX1_kindAt 18 = .ok (.ireturn, 1) := by decide +kernel
theorem dX1_mode_0 : decode cX1_mode 0 = .ok (.aload_n 0, 1) := by decide +kernel
theorem dX1_mode_1 : decode cX1_mode 1 = .ok (.iload_n 1, 1) := by decide +kernel
theorem dX1_mode_2 : decode cX1_mode 2 = .ok (.invokevirtual 42, 3) := by decide +kernel
theorem dX1_mode_5 : decode cX1_mode 5 = .ok (.ifCond .eq 5, 3) := by decide +kernel
theorem dX1_mode_8 : decode cX1_mode 8 = .ok (.iconst (-1), 1) := by decide +kernel
theorem dX1_mode_9 : decode cX1_mode 9 = .ok (.ireturn, 1) := by decide +kernel
theorem dX1_mode_10 : decode cX1_mode 10 = .ok (.aload_n 0, 1) := by decide +kernel
theorem dX1_mode_11 : decode cX1_mode 11 = .ok (.iload_n 1, 1) := by decide +kernel
theorem dX1_mode_12 : decode cX1_mode 12 = .ok (.invokevirtual 56, 3) := by decide +kernel
theorem dX1_mode_15 : decode cX1_mode 15 = .ok (.aload_n 0, 1) := by decide +kernel
theorem dX1_mode_16 : decode cX1_mode 16 = .ok (.getfield 13, 3) := by decide +kernel
theorem dX1_mode_19 : decode cX1_mode 19 = .ok (.iload_n 1, 1) := by decide +kernel
theorem dX1_mode_20 : decode cX1_mode 20 = .ok (.iaload, 1) := by decide +kernel
theorem dX1_mode_21 : decode cX1_mode 21 = .ok (.ireturn, 1) := by decide +kernel
theorem dX1_read_0 : decode cX1_read 0 = .ok (.aload_n 0, 1) := by decide +kernel
theorem dX1_read_1 : decode cX1_read 1 = .ok (.iconst 0, 1) := by decide +kernel
theorem dX1_read_2 : decode cX1_read 2 = .ok (.putfield 49, 3) := by decide +kernel
theorem dX1_read_5 : decode cX1_read 5 = .ok (.iconst 0, 1) := by decide +kernel
theorem dX1_read_6 : decode cX1_read 6 = .ok (.istore_n 2, 1) := by decide +kernel
theorem dX1_read_7 : decode cX1_read 7 = .ok (.iconst 0, 1) := by decide +kernel
theorem dX1_read_8 : decode cX1_read 8 = .ok (.istore_n 3, 1) := by decide +kernel
theorem dX1_read_9 : decode cX1_read 9 = .ok (.iconst 0, 1) := by decide +kernel
theorem dX1_read_10 : decode cX1_read 10 = .ok (.istore 4, 2) := by decide +kernel
theorem dX1_read_12 : decode cX1_read 12 = .ok (.iload 4, 2) := by decide +kernel
theorem dX1_read_14 : decode cX1_read 14 = .ok (.bipush 64, 2) := by decide +kernel
theorem dX1_read_16 : decode cX1_read 16 = .ok (.if_icmp .ge 41, 3) := by decide +kernel
theorem dX1_read_19 : decode cX1_read 19 = .ok (.aload_n 0, 1) := by decide +kernel
theorem dX1_read_20 : decode cX1_read 20 = .ok (.getfield 23, 3) := by decide +kernel
theorem dX1_read_23 : decode cX1_read 23 = .ok (.iload 4, 2) := by decide +kernel
theorem dX1_read_25 : decode cX1_read 25 = .ok (.iconst (-1), 1) := by decide +kernel
theorem dX1_read_26 : decode cX1_read 26 = .ok (.iastore, 1) := by decide +kernel
theorem dX1_read_27 : decode cX1_read 27 = .ok (.aload_n 0, 1) := by decide +kernel
theorem dX1_read_28 : decode cX1_read 28 = .ok (.getfield 26, 3) := by decide +kernel
theorem dX1_read_31 : decode cX1_read 31 = .ok (.iload 4, 2) := by decide +kernel
theorem dX1_read_33 : decode cX1_read 33 = .ok (.iconst 0, 1) := by decide +kernel
theorem dX1_read_34 : decode cX1_read 34 = .ok (.bastore, 1) := by decide +kernel
theorem dX1_read_35 : decode cX1_read 35 = .ok (.aload_n 0, 1) := by decide +kernel
theorem dX1_read_36 : decode cX1_read 36 = .ok (.getfield 29, 3) := by decide +kernel
theorem dX1_read_39 : decode cX1_read 39 = .ok (.iload 4, 2) := by decide +kernel
theorem dX1_read_41 : decode cX1_read 41 = .ok (.iconst 0, 1) := by decide +kernel
theorem dX1_read_42 : decode cX1_read 42 = .ok (.bastore, 1) := by decide +kernel
theorem dX1_read_43 : decode cX1_read 43 = .ok (.aload_n 0, 1) := by decide +kernel
theorem dX1_read_44 : decode cX1_read 44 = .ok (.getfield 32, 3) := by decide +kernel
theorem dX1_read_47 : decode cX1_read 47 = .ok (.iload 4, 2) := by decide +kernel
theorem dX1_read_49 : decode cX1_read 49 = .ok (.iconst 0, 1) := by decide +kernel
theorem dX1_read_50 : decode cX1_read 50 = .ok (.bastore, 1) := by decide +kernel
theorem dX1_read_51 : decode cX1_read 51 = .ok (.iinc 4 1, 3) := by decide +kernel
theorem dX1_read_54 : decode cX1_read 54 = .ok (.goto (-42), 3) := by decide +kernel
theorem dX1_read_57 : decode cX1_read 57 = .ok (.iconst 0, 1) := by decide +kernel
theorem dX1_read_58 : decode cX1_read 58 = .ok (.istore 4, 2) := by decide +kernel
theorem dX1_read_60 : decode cX1_read 60 = .ok (.iload 4, 2) := by decide +kernel
theorem dX1_read_62 : decode cX1_read 62 = .ok (.iload_n 1, 1) := by decide +kernel
theorem dX1_read_63 : decode cX1_read 63 = .ok (.if_icmp .gt 153, 3) := by decide +kernel
theorem dX1_read_66 : decode cX1_read 66 = .ok (.iload 4, 2) := by decide +kernel
theorem dX1_read_68 : decode cX1_read 68 = .ok (.bipush 64, 2) := by decide +kernel
theorem dX1_read_70 : decode cX1_read 70 = .ok (.if_icmp .gt 146, 3) := by decide +kernel
theorem dX1_read_73 : decode cX1_read 73 = .ok (.aload_n 0, 1) := by decide +kernel
theorem dX1_read_74 : decode cX1_read 74 = .ok (.getfield 13, 3) := by decide +kernel
theorem dX1_read_77 : decode cX1_read 77 = .ok (.iload 4, 2) := by decide +kernel
theorem dX1_read_79 : decode cX1_read 79 = .ok (.iload_n 2, 1) := by decide +kernel
theorem dX1_read_80 : decode cX1_read 80 = .ok (.iastore, 1) := by decide +kernel
theorem dX1_read_81 : decode cX1_read 81 = .ok (.aload_n 0, 1) := by decide +kernel
theorem dX1_read_82 : decode cX1_read 82 = .ok (.getfield 16, 3) := by decide +kernel
theorem dX1_read_85 : decode cX1_read 85 = .ok (.iload 4, 2) := by decide +kernel
theorem dX1_read_87 : decode cX1_read 87 = .ok (.iload_n 3, 1) := by decide +kernel
theorem dX1_read_88 : decode cX1_read 88 = .ok (.bastore, 1) := by decide +kernel
theorem dX1_read_89 : decode cX1_read 89 = .ok (.aload_n 0, 1) := by decide +kernel
theorem dX1_read_90 : decode cX1_read 90 = .ok (.getfield 20, 3) := by decide +kernel
theorem dX1_read_93 : decode cX1_read 93 = .ok (.iload 4, 2) := by decide +kernel
theorem dX1_read_95 : decode cX1_read 95 = .ok (.aload_n 0, 1) := by decide +kernel
theorem dX1_read_96 : decode cX1_read 96 = .ok (.getfield 49, 3) := by decide +kernel
theorem dX1_read_99 : decode cX1_read 99 = .ok (.iastore, 1) := by decide +kernel
theorem dX1_read_100 : decode cX1_read 100 = .ok (.iload 4, 2) := by decide +kernel
theorem dX1_read_102 : decode cX1_read 102 = .ok (.iload_n 1, 1) := by decide +kernel
theorem dX1_read_103 : decode cX1_read 103 = .ok (.if_icmp .ge 107, 3) := by decide +kernel
theorem dX1_read_106 : decode cX1_read 106 = .ok (.iload 4, 2) := by decide +kernel
theorem dX1_read_108 : decode cX1_read 108 = .ok (.bipush 64, 2) := by decide +kernel
theorem dX1_read_110 : decode cX1_read 110 = .ok (.if_icmp .ge 100, 3) := by decide +kernel
theorem dX1_read_113 : decode cX1_read 113 = .ok (.aload_n 0, 1) := by decide +kernel
theorem dX1_read_114 : decode cX1_read 114 = .ok (.getfield 7, 3) := by decide +kernel
theorem dX1_read_117 : decode cX1_read 117 = .ok (.iload 4, 2) := by decide +kernel
theorem dX1_read_119 : decode cX1_read 119 = .ok (.iaload, 1) := by decide +kernel
theorem dX1_read_120 : decode cX1_read 120 = .ok (.istore 5, 2) := by decide +kernel
theorem dX1_read_122 : decode cX1_read 122 = .ok (.iload_n 3, 1) := by decide +kernel
theorem dX1_read_123 : decode cX1_read 123 = .ok (.ifCond .eq 8, 3) := by decide +kernel
end
section
set_option maxRecDepth 100000
theorem dX1_read_126 : decode cX1_read 126 = .ok (.iconst 0, 1) := by decide +kernel
theorem dX1_read_127 : decode cX1_read 127 = .ok (.istore_n 3, 1) := by decide +kernel
theorem dX1_read_128 : decode cX1_read 128 = .ok (.goto 82, 3) := by decide +kernel
theorem dX1_read_131 : decode cX1_read 131 = .ok (.iload_n 2, 1) := by decide +kernel
theorem dX1_read_132 : decode cX1_read 132 = .ok (.ifCond .ne 41, 3) := by decide +kernel
theorem dX1_read_135 : decode cX1_read 135 = .ok (.aload_n 0, 1) := by decide +kernel
theorem dX1_read_136 : decode cX1_read 136 = .ok (.iload 4, 2) := by decide +kernel
theorem dX1_read_138 : decode cX1_read 138 = .ok (.invokevirtual 52, 3) := by decide +kernel
theorem dX1_read_141 : decode cX1_read 141 = .ok (.istore 6, 2) := by decide +kernel
theorem dX1_read_143 : decode cX1_read 143 = .ok (.iload 6, 2) := by decide +kernel
theorem dX1_read_145 : decode cX1_read 145 = .ok (.iconst 1, 1) := by decide +kernel
theorem dX1_read_146 : decode cX1_read 146 = .ok (.if_icmp .ne 7, 3) := by decide +kernel
theorem dX1_read_149 : decode cX1_read 149 = .ok (.iconst 1, 1) := by decide +kernel
theorem dX1_read_150 : decode cX1_read 150 = .ok (.goto 4, 3) := by decide +kernel
theorem dX1_read_153 : decode cX1_read 153 = .ok (.iconst 0, 1) := by decide +kernel
theorem dX1_read_154 : decode cX1_read 154 = .ok (.istore_n 3, 1) := by decide +kernel
theorem dX1_read_155 : decode cX1_read 155 = .ok (.iload 6, 2) := by decide +kernel
theorem dX1_read_157 : decode cX1_read 157 = .ok (.iconst 1, 1) := by decide +kernel
theorem dX1_read_158 : decode cX1_read 158 = .ok (.if_icmp .le 10, 3) := by decide +kernel
theorem dX1_read_161 : decode cX1_read 161 = .ok (.iload 6, 2) := by decide +kernel
theorem dX1_read_163 : decode cX1_read 163 = .ok (.iconst 1, 1) := by decide +kernel
theorem dX1_read_164 : decode cX1_read 164 = .ok (.isub, 1) := by decide +kernel
theorem dX1_read_165 : decode cX1_read 165 = .ok (.goto 4, 3) := by decide +kernel
theorem dX1_read_168 : decode cX1_read 168 = .ok (.iconst 0, 1) := by decide +kernel
theorem dX1_read_169 : decode cX1_read 169 = .ok (.istore_n 2, 1) := by decide +kernel
theorem dX1_read_170 : decode cX1_read 170 = .ok (.goto 40, 3) := by decide +kernel
theorem dX1_read_173 : decode cX1_read 173 = .ok (.iload_n 2, 1) := by decide +kernel
theorem dX1_read_174 : decode cX1_read 174 = .ok (.iconst 1, 1) := by decide +kernel
theorem dX1_read_175 : decode cX1_read 175 = .ok (.if_icmp .ne 26, 3) := by decide +kernel
theorem dX1_read_178 : decode cX1_read 178 = .ok (.iload 5, 2) := by decide +kernel
theorem dX1_read_180 : decode cX1_read 180 = .ok (.iconst 5, 1) := by decide +kernel
theorem dX1_read_181 : decode cX1_read 181 = .ok (.if_icmp .ne 7, 3) := by decide +kernel
theorem dX1_read_184 : decode cX1_read 184 = .ok (.iconst 1, 1) := by decide +kernel
theorem dX1_read_185 : decode cX1_read 185 = .ok (.goto 4, 3) := by decide +kernel
theorem dX1_read_188 : decode cX1_read 188 = .ok (.iconst 0, 1) := by decide +kernel
theorem dX1_read_189 : decode cX1_read 189 = .ok (.istore_n 3, 1) := by decide +kernel
theorem dX1_read_190 : decode cX1_read 190 = .ok (.iload 5, 2) := by decide +kernel
theorem dX1_read_192 : decode cX1_read 192 = .ok (.iconst 4, 1) := by decide +kernel
theorem dX1_read_193 : decode cX1_read 193 = .ok (.if_icmp .ne 17, 3) := by decide +kernel
theorem dX1_read_196 : decode cX1_read 196 = .ok (.iconst 0, 1) := by decide +kernel
theorem dX1_read_197 : decode cX1_read 197 = .ok (.istore_n 2, 1) := by decide +kernel
theorem dX1_read_198 : decode cX1_read 198 = .ok (.goto 12, 3) := by decide +kernel
theorem dX1_read_201 : decode cX1_read 201 = .ok (.iload 5, 2) := by decide +kernel
theorem dX1_read_203 : decode cX1_read 203 = .ok (.bipush 7, 2) := by decide +kernel
theorem dX1_read_205 : decode cX1_read 205 = .ok (.if_icmp .ne 5, 3) := by decide +kernel
theorem dX1_read_208 : decode cX1_read 208 = .ok (.iconst 0, 1) := by decide +kernel
theorem dX1_read_209 : decode cX1_read 209 = .ok (.istore_n 2, 1) := by decide +kernel
theorem dX1_read_210 : decode cX1_read 210 = .ok (.iinc 4 1, 3) := by decide +kernel
theorem dX1_read_213 : decode cX1_read 213 = .ok (.goto (-153), 3) := by decide +kernel
theorem dX1_read_216 : decode cX1_read 216 = .ok (.return_, 1) := by decide +kernel
theorem dX1_plain_0 : decode cX1_plain 0 = .ok (.aload_n 0, 1) := by decide +kernel
theorem dX1_plain_1 : decode cX1_plain 1 = .ok (.getfield 7, 3) := by decide +kernel
theorem dX1_plain_4 : decode cX1_plain 4 = .ok (.iload_n 1, 1) := by decide +kernel
theorem dX1_plain_5 : decode cX1_plain 5 = .ok (.iaload, 1) := by decide +kernel
theorem dX1_plain_6 : decode cX1_plain 6 = .ok (.istore_n 2, 1) := by decide +kernel
theorem dX1_plain_7 : decode cX1_plain 7 = .ok (.iload_n 2, 1) := by decide +kernel
theorem dX1_plain_8 : decode cX1_plain 8 = .ok (.iconst 2, 1) := by decide +kernel
theorem dX1_plain_9 : decode cX1_plain 9 = .ok (.if_icmp .ne 30, 3) := by decide +kernel
theorem dX1_plain_12 : decode cX1_plain 12 = .ok (.aload_n 0, 1) := by decide +kernel
theorem dX1_plain_13 : decode cX1_plain 13 = .ok (.getfield 26, 3) := by decide +kernel
theorem dX1_plain_16 : decode cX1_plain 16 = .ok (.iload_n 1, 1) := by decide +kernel
theorem dX1_plain_17 : decode cX1_plain 17 = .ok (.iconst 1, 1) := by decide +kernel
theorem dX1_plain_18 : decode cX1_plain 18 = .ok (.bastore, 1) := by decide +kernel
theorem dX1_plain_19 : decode cX1_plain 19 = .ok (.aload_n 0, 1) := by decide +kernel
theorem dX1_plain_20 : decode cX1_plain 20 = .ok (.getfield 35, 3) := by decide +kernel
theorem dX1_plain_23 : decode cX1_plain 23 = .ok (.aload_n 0, 1) := by decide +kernel
theorem dX1_plain_24 : decode cX1_plain 24 = .ok (.getfield 49, 3) := by decide +kernel
theorem dX1_plain_27 : decode cX1_plain 27 = .ok (.iload_n 1, 1) := by decide +kernel
theorem dX1_plain_28 : decode cX1_plain 28 = .ok (.iastore, 1) := by decide +kernel
theorem dX1_plain_29 : decode cX1_plain 29 = .ok (.aload_n 0, 1) := by decide +kernel
theorem dX1_plain_30 : decode cX1_plain 30 = .ok (.dup, 1) := by decide +kernel
theorem dX1_plain_31 : decode cX1_plain 31 = .ok (.getfield 49, 3) := by decide +kernel
theorem dX1_plain_34 : decode cX1_plain 34 = .ok (.iconst 1, 1) := by decide +kernel
theorem dX1_plain_35 : decode cX1_plain 35 = .ok (.iadd, 1) := by decide +kernel
theorem dX1_plain_36 : decode cX1_plain 36 = .ok (.putfield 49, 3) := by decide +kernel
theorem dX1_plain_39 : decode cX1_plain 39 = .ok (.iload_n 2, 1) := by decide +kernel
theorem dX1_plain_40 : decode cX1_plain 40 = .ok (.iconst 3, 1) := by decide +kernel
theorem dX1_plain_41 : decode cX1_plain 41 = .ok (.if_icmp .ne 67, 3) := by decide +kernel
theorem dX1_plain_44 : decode cX1_plain 44 = .ok (.aload_n 0, 1) := by decide +kernel
theorem dX1_plain_45 : decode cX1_plain 45 = .ok (.getfield 29, 3) := by decide +kernel
theorem dX1_plain_48 : decode cX1_plain 48 = .ok (.iload_n 1, 1) := by decide +kernel
theorem dX1_plain_49 : decode cX1_plain 49 = .ok (.iconst 1, 1) := by decide +kernel
theorem dX1_plain_50 : decode cX1_plain 50 = .ok (.bastore, 1) := by decide +kernel
theorem dX1_plain_51 : decode cX1_plain 51 = .ok (.aload_n 0, 1) := by decide +kernel
theorem dX1_plain_52 : decode cX1_plain 52 = .ok (.getfield 49, 3) := by decide +kernel
theorem dX1_plain_55 : decode cX1_plain 55 = .ok (.ifCond .ne 13, 3) := by decide +kernel
theorem dX1_plain_58 : decode cX1_plain 58 = .ok (.aload_n 0, 1) := by decide +kernel
theorem dX1_plain_59 : decode cX1_plain 59 = .ok (.getfield 32, 3) := by decide +kernel
theorem dX1_plain_62 : decode cX1_plain 62 = .ok (.iload_n 1, 1) := by decide +kernel
theorem dX1_plain_63 : decode cX1_plain 63 = .ok (.iconst 1, 1) := by decide +kernel
theorem dX1_plain_64 : decode cX1_plain 64 = .ok (.bastore, 1) := by decide +kernel
theorem dX1_plain_65 : decode cX1_plain 65 = .ok (.goto 43, 3) := by decide +kernel
theorem dX1_plain_68 : decode cX1_plain 68 = .ok (.aload_n 0, 1) := by decide +kernel
theorem dX1_plain_69 : decode cX1_plain 69 = .ok (.dup, 1) := by decide +kernel
theorem dX1_plain_70 : decode cX1_plain 70 = .ok (.getfield 49, 3) := by decide +kernel
theorem dX1_plain_73 : decode cX1_plain 73 = .ok (.iconst 1, 1) := by decide +kernel
theorem dX1_plain_74 : decode cX1_plain 74 = .ok (.isub, 1) := by decide +kernel
theorem dX1_plain_75 : decode cX1_plain 75 = .ok (.putfield 49, 3) := by decide +kernel
theorem dX1_plain_78 : decode cX1_plain 78 = .ok (.aload_n 0, 1) := by decide +kernel
theorem dX1_plain_79 : decode cX1_plain 79 = .ok (.getfield 23, 3) := by decide +kernel
theorem dX1_plain_82 : decode cX1_plain 82 = .ok (.iload_n 1, 1) := by decide +kernel
theorem dX1_plain_83 : decode cX1_plain 83 = .ok (.aload_n 0, 1) := by decide +kernel
theorem dX1_plain_84 : decode cX1_plain 84 = .ok (.getfield 35, 3) := by decide +kernel
theorem dX1_plain_87 : decode cX1_plain 87 = .ok (.aload_n 0, 1) := by decide +kernel
theorem dX1_plain_88 : decode cX1_plain 88 = .ok (.getfield 49, 3) := by decide +kernel
theorem dX1_plain_91 : decode cX1_plain 91 = .ok (.iaload, 1) := by decide +kernel
theorem dX1_plain_92 : decode cX1_plain 92 = .ok (.iastore, 1) := by decide +kernel
theorem dX1_plain_93 : decode cX1_plain 93 = .ok (.aload_n 0, 1) := by decide +kernel
theorem dX1_plain_94 : decode cX1_plain 94 = .ok (.getfield 23, 3) := by decide +kernel
theorem dX1_plain_97 : decode cX1_plain 97 = .ok (.aload_n 0, 1) := by decide +kernel
theorem dX1_plain_98 : decode cX1_plain 98 = .ok (.getfield 35, 3) := by decide +kernel
theorem dX1_plain_101 : decode cX1_plain 101 = .ok (.aload_n 0, 1) := by decide +kernel
theorem dX1_plain_102 : decode cX1_plain 102 = .ok (.getfield 49, 3) := by decide +kernel
theorem dX1_plain_105 : decode cX1_plain 105 = .ok (.iaload, 1) := by decide +kernel
theorem dX1_plain_106 : decode cX1_plain 106 = .ok (.iload_n 1, 1) := by decide +kernel
theorem dX1_plain_107 : decode cX1_plain 107 = .ok (.iastore, 1) := by decide +kernel
theorem dX1_plain_108 : decode cX1_plain 108 = .ok (.iload_n 2, 1) := by decide +kernel
theorem dX1_plain_109 : decode cX1_plain 109 = .ok (.iconst 4, 1) := by decide +kernel
theorem dX1_plain_110 : decode cX1_plain 110 = .ok (.if_icmp .ne 5, 3) := by decide +kernel
theorem dX1_plain_113 : decode cX1_plain 113 = .ok (.iconst 2, 1) := by decide +kernel
theorem dX1_plain_114 : decode cX1_plain 114 = .ok (.ireturn, 1) := by decide +kernel
theorem dX1_plain_115 : decode cX1_plain 115 = .ok (.iload_n 2, 1) := by decide +kernel
theorem dX1_plain_116 : decode cX1_plain 116 = .ok (.iconst 5, 1) := by decide +kernel
theorem dX1_plain_117 : decode cX1_plain 117 = .ok (.if_icmp .ne 5, 3) := by decide +kernel
theorem dX1_plain_120 : decode cX1_plain 120 = .ok (.iconst 1, 1) := by decide +kernel
theorem dX1_plain_121 : decode cX1_plain 121 = .ok (.ireturn, 1) := by decide +kernel
theorem dX1_plain_122 : decode cX1_plain 122 = .ok (.iload_n 2, 1) := by decide +kernel
theorem dX1_plain_123 : decode cX1_plain 123 = .ok (.bipush 6, 2) := by decide +kernel
theorem dX1_plain_125 : decode cX1_plain 125 = .ok (.if_icmp .ne 7, 3) := by decide +kernel
theorem dX1_plain_128 : decode cX1_plain 128 = .ok (.iconst 3, 1) := by decide +kernel
theorem dX1_plain_129 : decode cX1_plain 129 = .ok (.goto 4, 3) := by decide +kernel
theorem dX1_plain_132 : decode cX1_plain 132 = .ok (.iconst 0, 1) := by decide +kernel
theorem dX1_plain_133 : decode cX1_plain 133 = .ok (.ireturn, 1) := by decide +kernel
theorem dX1_escaped_0 : decode cX1_escaped 0 = .ok (.aload_n 0, 1) := by decide +kernel
theorem dX1_escaped_1 : decode cX1_escaped 1 = .ok (.iload_n 1, 1) := by decide +kernel
theorem dX1_escaped_2 : decode cX1_escaped 2 = .ok (.invokevirtual 42, 3) := by decide +kernel
theorem dX1_escaped_5 : decode cX1_escaped 5 = .ok (.ifCond .eq 5, 3) := by decide +kernel
theorem dX1_escaped_8 : decode cX1_escaped 8 = .ok (.iconst (-1), 1) := by decide +kernel
theorem dX1_escaped_9 : decode cX1_escaped 9 = .ok (.ireturn, 1) := by decide +kernel
theorem dX1_escaped_10 : decode cX1_escaped 10 = .ok (.aload_n 0, 1) := by decide +kernel
theorem dX1_escaped_11 : decode cX1_escaped 11 = .ok (.iload_n 1, 1) := by decide +kernel
theorem dX1_escaped_12 : decode cX1_escaped 12 = .ok (.invokevirtual 56, 3) := by decide +kernel
theorem dX1_escaped_15 : decode cX1_escaped 15 = .ok (.aload_n 0, 1) := by decide +kernel
theorem dX1_escaped_16 : decode cX1_escaped 16 = .ok (.getfield 16, 3) := by decide +kernel
theorem dX1_escaped_19 : decode cX1_escaped 19 = .ok (.iload_n 1, 1) := by decide +kernel
theorem dX1_escaped_20 : decode cX1_escaped 20 = .ok (.baload, 1) := by decide +kernel
theorem dX1_escaped_21 : decode cX1_escaped 21 = .ok (.ifCond .eq 7, 3) := by decide +kernel
theorem dX1_escaped_24 : decode cX1_escaped 24 = .ok (.iconst 1, 1) := by decide +kernel
theorem dX1_escaped_25 : decode cX1_escaped 25 = .ok (.goto 4, 3) := by decide +kernel
theorem dX1_escaped_28 : decode cX1_escaped 28 = .ok (.iconst 0, 1) := by decide +kernel
theorem dX1_escaped_29 : decode cX1_escaped 29 = .ok (.ireturn, 1) := by decide +kernel
theorem dX1_depth_0 : decode cX1_depth 0 = .ok (.aload_n 0, 1) := by decide +kernel
theorem dX1_depth_1 : decode cX1_depth 1 = .ok (.iload_n 1, 1) := by decide +kernel
theorem dX1_depth_2 : decode cX1_depth 2 = .ok (.invokevirtual 42, 3) := by decide +kernel
theorem dX1_depth_5 : decode cX1_depth 5 = .ok (.ifCond .eq 5, 3) := by decide +kernel
theorem dX1_depth_8 : decode cX1_depth 8 = .ok (.iconst (-1), 1) := by decide +kernel
theorem dX1_depth_9 : decode cX1_depth 9 = .ok (.ireturn, 1) := by decide +kernel
theorem dX1_depth_10 : decode cX1_depth 10 = .ok (.aload_n 0, 1) := by decide +kernel
theorem dX1_depth_11 : decode cX1_depth 11 = .ok (.iload_n 1, 1) := by decide +kernel
theorem dX1_depth_12 : decode cX1_depth 12 = .ok (.invokevirtual 56, 3) := by decide +kernel
theorem dX1_depth_15 : decode cX1_depth 15 = .ok (.aload_n 0, 1) := by decide +kernel
theorem dX1_depth_16 : decode cX1_depth 16 = .ok (.getfield 20, 3) := by decide +kernel
theorem dX1_depth_19 : decode cX1_depth 19 = .ok (.iload_n 1, 1) := by decide +kernel
theorem dX1_depth_20 : decode cX1_depth 20 = .ok (.iaload, 1) := by decide +kernel
theorem dX1_depth_21 : decode cX1_depth 21 = .ok (.ireturn, 1) := by decide +kernel
theorem dX1_bracketAt_0 : decode cX1_bracketAt 0 = .ok (.aload_n 0, 1) := by decide +kernel
theorem dX1_bracketAt_1 : decode cX1_bracketAt 1 = .ok (.iload_n 1, 1) := by decide +kernel
theorem dX1_bracketAt_2 : decode cX1_bracketAt 2 = .ok (.invokevirtual 42, 3) := by decide +kernel
theorem dX1_bracketAt_5 : decode cX1_bracketAt 5 = .ok (.ifCond .eq 5, 3) := by decide +kernel
theorem dX1_bracketAt_8 : decode cX1_bracketAt 8 = .ok (.iconst (-1), 1) := by decide +kernel
theorem dX1_bracketAt_9 : decode cX1_bracketAt 9 = .ok (.ireturn, 1) := by decide +kernel
theorem dX1_bracketAt_10 : decode cX1_bracketAt 10 = .ok (.aload_n 0, 1) := by decide +kernel
theorem dX1_bracketAt_11 : decode cX1_bracketAt 11 = .ok (.iload_n 1, 1) := by decide +kernel
theorem dX1_bracketAt_12 : decode cX1_bracketAt 12 = .ok (.invokevirtual 56, 3) := by decide +kernel
theorem dX1_bracketAt_15 : decode cX1_bracketAt 15 = .ok (.iload_n 2, 1) := by decide +kernel
theorem dX1_bracketAt_16 : decode cX1_bracketAt 16 = .ok (.ifCond .lt 11, 3) := by decide +kernel
theorem dX1_bracketAt_19 : decode cX1_bracketAt 19 = .ok (.iload_n 2, 1) := by decide +kernel
theorem dX1_bracketAt_20 : decode cX1_bracketAt 20 = .ok (.aload_n 0, 1) := by decide +kernel
theorem dX1_bracketAt_21 : decode cX1_bracketAt 21 = .ok (.getfield 49, 3) := by decide +kernel
theorem dX1_bracketAt_24 : decode cX1_bracketAt 24 = .ok (.if_icmp .lt 6, 3) := by decide +kernel
theorem dX1_bracketAt_27 : decode cX1_bracketAt 27 = .ok (.bipush (-2), 2) := by decide +kernel
theorem dX1_bracketAt_29 : decode cX1_bracketAt 29 = .ok (.ireturn, 1) := by decide +kernel
theorem dX1_bracketAt_30 : decode cX1_bracketAt 30 = .ok (.aload_n 0, 1) := by decide +kernel
theorem dX1_bracketAt_31 : decode cX1_bracketAt 31 = .ok (.getfield 35, 3) := by decide +kernel
theorem dX1_bracketAt_34 : decode cX1_bracketAt 34 = .ok (.iload_n 2, 1) := by decide +kernel
theorem dX1_bracketAt_35 : decode cX1_bracketAt 35 = .ok (.iaload, 1) := by decide +kernel
theorem dX1_bracketAt_36 : decode cX1_bracketAt 36 = .ok (.ireturn, 1) := by decide +kernel
theorem dX1_partner_0 : decode cX1_partner 0 = .ok (.aload_n 0, 1) := by decide +kernel
theorem dX1_partner_1 : decode cX1_partner 1 = .ok (.iload_n 1, 1) := by decide +kernel
theorem dX1_partner_2 : decode cX1_partner 2 = .ok (.invokevirtual 46, 3) := by decide +kernel
theorem dX1_partner_5 : decode cX1_partner 5 = .ok (.ifCond .eq 5, 3) := by decide +kernel
theorem dX1_partner_8 : decode cX1_partner 8 = .ok (.iconst (-1), 1) := by decide +kernel
theorem dX1_partner_9 : decode cX1_partner 9 = .ok (.ireturn, 1) := by decide +kernel
theorem dX1_partner_10 : decode cX1_partner 10 = .ok (.aload_n 0, 1) := by decide +kernel
theorem dX1_partner_11 : decode cX1_partner 11 = .ok (.aload_n 0, 1) := by decide +kernel
theorem dX1_partner_12 : decode cX1_partner 12 = .ok (.getfield 38, 3) := by decide +kernel
theorem dX1_partner_15 : decode cX1_partner 15 = .ok (.invokevirtual 56, 3) := by decide +kernel
theorem dX1_partner_18 : decode cX1_partner 18 = .ok (.aload_n 0, 1) := by decide +kernel
theorem dX1_partner_19 : decode cX1_partner 19 = .ok (.getfield 23, 3) := by decide +kernel
theorem dX1_partner_22 : decode cX1_partner 22 = .ok (.iload_n 1, 1) := by decide +kernel
theorem dX1_partner_23 : decode cX1_partner 23 = .ok (.iaload, 1) := by decide +kernel
theorem dX1_partner_24 : decode cX1_partner 24 = .ok (.ifCond .ge 8, 3) := by decide +kernel
theorem dX1_partner_27 : decode cX1_partner 27 = .ok (.bipush (-2), 2) := by decide +kernel
theorem dX1_partner_29 : decode cX1_partner 29 = .ok (.goto 9, 3) := by decide +kernel
theorem dX1_partner_32 : decode cX1_partner 32 = .ok (.aload_n 0, 1) := by decide +kernel
theorem dX1_partner_33 : decode cX1_partner 33 = .ok (.getfield 23, 3) := by decide +kernel
theorem dX1_partner_36 : decode cX1_partner 36 = .ok (.iload_n 1, 1) := by decide +kernel
theorem dX1_partner_37 : decode cX1_partner 37 = .ok (.iaload, 1) := by decide +kernel
theorem dX1_partner_38 : decode cX1_partner 38 = .ok (.ireturn, 1) := by decide +kernel
theorem dX1_strays_0 : decode cX1_strays 0 = .ok (.aload_n 0, 1) := by decide +kernel
theorem dX1_strays_1 : decode cX1_strays 1 = .ok (.aload_n 0, 1) := by decide +kernel
theorem dX1_strays_2 : decode cX1_strays 2 = .ok (.getfield 38, 3) := by decide +kernel
theorem dX1_strays_5 : decode cX1_strays 5 = .ok (.invokevirtual 56, 3) := by decide +kernel
theorem dX1_strays_8 : decode cX1_strays 8 = .ok (.iconst 0, 1) := by decide +kernel
theorem dX1_strays_9 : decode cX1_strays 9 = .ok (.istore_n 1, 1) := by decide +kernel
theorem dX1_strays_10 : decode cX1_strays 10 = .ok (.iconst 0, 1) := by decide +kernel
theorem dX1_strays_11 : decode cX1_strays 11 = .ok (.istore_n 2, 1) := by decide +kernel
theorem dX1_strays_12 : decode cX1_strays 12 = .ok (.iload_n 2, 1) := by decide +kernel
theorem dX1_strays_13 : decode cX1_strays 13 = .ok (.bipush 64, 2) := by decide +kernel
theorem dX1_strays_15 : decode cX1_strays 15 = .ok (.if_icmp .ge 21, 3) := by decide +kernel
theorem dX1_strays_18 : decode cX1_strays 18 = .ok (.aload_n 0, 1) := by decide +kernel
theorem dX1_strays_19 : decode cX1_strays 19 = .ok (.getfield 32, 3) := by decide +kernel
theorem dX1_strays_22 : decode cX1_strays 22 = .ok (.iload_n 2, 1) := by decide +kernel
theorem dX1_strays_23 : decode cX1_strays 23 = .ok (.baload, 1) := by decide +kernel
theorem dX1_strays_24 : decode cX1_strays 24 = .ok (.ifCond .eq 6, 3) := by decide +kernel
theorem dX1_strays_27 : decode cX1_strays 27 = .ok (.iinc 1 1, 3) := by decide +kernel
theorem dX1_strays_30 : decode cX1_strays 30 = .ok (.iinc 2 1, 3) := by decide +kernel
theorem dX1_strays_33 : decode cX1_strays 33 = .ok (.goto (-21), 3) := by decide +kernel
theorem dX1_strays_36 : decode cX1_strays 36 = .ok (.iload_n 1, 1) := by decide +kernel
theorem dX1_strays_37 : decode cX1_strays 37 = .ok (.ireturn, 1) := by decide +kernel
theorem dX1_forward_0 : decode cX1_forward 0 = .ok (.aload_n 0, 1) := by decide +kernel
theorem dX1_forward_1 : decode cX1_forward 1 = .ok (.iload_n 1, 1) := by decide +kernel
theorem dX1_forward_2 : decode cX1_forward 2 = .ok (.invokevirtual 42, 3) := by decide +kernel
theorem dX1_forward_5 : decode cX1_forward 5 = .ok (.ifCond .eq 5, 3) := by decide +kernel
theorem dX1_forward_8 : decode cX1_forward 8 = .ok (.iconst (-1), 1) := by decide +kernel
theorem dX1_forward_9 : decode cX1_forward 9 = .ok (.ireturn, 1) := by decide +kernel
theorem dX1_forward_10 : decode cX1_forward 10 = .ok (.aload_n 0, 1) := by decide +kernel
theorem dX1_forward_11 : decode cX1_forward 11 = .ok (.aload_n 0, 1) := by decide +kernel
theorem dX1_forward_12 : decode cX1_forward 12 = .ok (.getfield 38, 3) := by decide +kernel
theorem dX1_forward_15 : decode cX1_forward 15 = .ok (.invokevirtual 56, 3) := by decide +kernel
theorem dX1_forward_18 : decode cX1_forward 18 = .ok (.iload_n 1, 1) := by decide +kernel
theorem dX1_forward_19 : decode cX1_forward 19 = .ok (.istore_n 2, 1) := by decide +kernel
theorem dX1_forward_20 : decode cX1_forward 20 = .ok (.iload_n 2, 1) := by decide +kernel
theorem dX1_forward_21 : decode cX1_forward 21 = .ok (.aload_n 0, 1) := by decide +kernel
theorem dX1_forward_22 : decode cX1_forward 22 = .ok (.getfield 38, 3) := by decide +kernel
theorem dX1_forward_25 : decode cX1_forward 25 = .ok (.if_icmp .ge 41, 3) := by decide +kernel
theorem dX1_forward_28 : decode cX1_forward 28 = .ok (.iload_n 2, 1) := by decide +kernel
theorem dX1_forward_29 : decode cX1_forward 29 = .ok (.bipush 64, 2) := by decide +kernel
theorem dX1_forward_31 : decode cX1_forward 31 = .ok (.if_icmp .ge 35, 3) := by decide +kernel
theorem dX1_forward_34 : decode cX1_forward 34 = .ok (.aload_n 0, 1) := by decide +kernel
theorem dX1_forward_35 : decode cX1_forward 35 = .ok (.getfield 29, 3) := by decide +kernel
theorem dX1_forward_38 : decode cX1_forward 38 = .ok (.iload_n 2, 1) := by decide +kernel
theorem dX1_forward_39 : decode cX1_forward 39 = .ok (.baload, 1) := by decide +kernel
theorem dX1_forward_40 : decode cX1_forward 40 = .ok (.ifCond .eq 6, 3) := by decide +kernel
theorem dX1_forward_43 : decode cX1_forward 43 = .ok (.bipush (-3), 2) := by decide +kernel
theorem dX1_forward_45 : decode cX1_forward 45 = .ok (.ireturn, 1) := by decide +kernel
theorem dX1_forward_46 : decode cX1_forward 46 = .ok (.aload_n 0, 1) := by decide +kernel
theorem dX1_forward_47 : decode cX1_forward 47 = .ok (.iload_n 2, 1) := by decide +kernel
theorem dX1_forward_48 : decode cX1_forward 48 = .ok (.invokevirtual 69, 3) := by decide +kernel
theorem dX1_forward_51 : decode cX1_forward 51 = .ok (.istore_n 3, 1) := by decide +kernel
theorem dX1_forward_52 : decode cX1_forward 52 = .ok (.iload_n 3, 1) := by decide +kernel
theorem dX1_forward_53 : decode cX1_forward 53 = .ok (.ifCond .lt 7, 3) := by decide +kernel
theorem dX1_forward_56 : decode cX1_forward 56 = .ok (.iload_n 3, 1) := by decide +kernel
theorem dX1_forward_57 : decode cX1_forward 57 = .ok (.iconst 1, 1) := by decide +kernel
theorem dX1_forward_58 : decode cX1_forward 58 = .ok (.iadd, 1) := by decide +kernel
theorem dX1_forward_59 : decode cX1_forward 59 = .ok (.ireturn, 1) := by decide +kernel
theorem dX1_forward_60 : decode cX1_forward 60 = .ok (.iinc 2 1, 3) := by decide +kernel
theorem dX1_forward_63 : decode cX1_forward 63 = .ok (.goto (-43), 3) := by decide +kernel
theorem dX1_forward_66 : decode cX1_forward 66 = .ok (.bipush (-2), 2) := by decide +kernel
theorem dX1_forward_68 : decode cX1_forward 68 = .ok (.ireturn, 1) := by decide +kernel
theorem dX1_unitEnd_0 : decode cX1_unitEnd 0 = .ok (.aload_n 0, 1) := by decide +kernel
theorem dX1_unitEnd_1 : decode cX1_unitEnd 1 = .ok (.getfield 26, 3) := by decide +kernel
theorem dX1_unitEnd_4 : decode cX1_unitEnd 4 = .ok (.iload_n 1, 1) := by decide +kernel
theorem dX1_unitEnd_5 : decode cX1_unitEnd 5 = .ok (.baload, 1) := by decide +kernel
theorem dX1_unitEnd_6 : decode cX1_unitEnd 6 = .ok (.ifCond .eq 10, 3) := by decide +kernel
theorem dX1_unitEnd_9 : decode cX1_unitEnd 9 = .ok (.aload_n 0, 1) := by decide +kernel
theorem dX1_unitEnd_10 : decode cX1_unitEnd 10 = .ok (.getfield 23, 3) := by decide +kernel
theorem dX1_unitEnd_13 : decode cX1_unitEnd 13 = .ok (.iload_n 1, 1) := by decide +kernel
theorem dX1_unitEnd_14 : decode cX1_unitEnd 14 = .ok (.iaload, 1) := by decide +kernel
theorem dX1_unitEnd_15 : decode cX1_unitEnd 15 = .ok (.ireturn, 1) := by decide +kernel
theorem dX1_unitEnd_16 : decode cX1_unitEnd 16 = .ok (.aload_n 0, 1) := by decide +kernel
theorem dX1_unitEnd_17 : decode cX1_unitEnd 17 = .ok (.iload_n 1, 1) := by decide +kernel
theorem dX1_unitEnd_18 : decode cX1_unitEnd 18 = .ok (.invokevirtual 63, 3) := by decide +kernel
theorem dX1_unitEnd_21 : decode cX1_unitEnd 21 = .ok (.istore_n 2, 1) := by decide +kernel
theorem dX1_unitEnd_22 : decode cX1_unitEnd 22 = .ok (.iload_n 2, 1) := by decide +kernel
theorem dX1_unitEnd_23 : decode cX1_unitEnd 23 = .ok (.ifCond .lt 7, 3) := by decide +kernel
theorem dX1_unitEnd_26 : decode cX1_unitEnd 26 = .ok (.iload_n 2, 1) := by decide +kernel
theorem dX1_unitEnd_27 : decode cX1_unitEnd 27 = .ok (.goto 8, 3) := by decide +kernel
theorem dX1_unitEnd_30 : decode cX1_unitEnd 30 = .ok (.aload_n 0, 1) := by decide +kernel
end
section
set_option maxRecDepth 100000
theorem dX1_unitEnd_31 : decode cX1_unitEnd 31 = .ok (.iload_n 1, 1) := by decide +kernel
theorem dX1_unitEnd_32 : decode cX1_unitEnd 32 = .ok (.invokevirtual 66, 3) := by decide +kernel
theorem dX1_unitEnd_35 : decode cX1_unitEnd 35 = .ok (.ireturn, 1) := by decide +kernel
theorem dX1_wordEnd_0 : decode cX1_wordEnd 0 = .ok (.aload_n 0, 1) := by decide +kernel
theorem dX1_wordEnd_1 : decode cX1_wordEnd 1 = .ok (.iload_n 1, 1) := by decide +kernel
theorem dX1_wordEnd_2 : decode cX1_wordEnd 2 = .ok (.invokevirtual 60, 3) := by decide +kernel
theorem dX1_wordEnd_5 : decode cX1_wordEnd 5 = .ok (.ifCond .eq 22, 3) := by decide +kernel
theorem dX1_wordEnd_8 : decode cX1_wordEnd 8 = .ok (.aload_n 0, 1) := by decide +kernel
theorem dX1_wordEnd_9 : decode cX1_wordEnd 9 = .ok (.iload_n 1, 1) := by decide +kernel
theorem dX1_wordEnd_10 : decode cX1_wordEnd 10 = .ok (.iconst 1, 1) := by decide +kernel
theorem dX1_wordEnd_11 : decode cX1_wordEnd 11 = .ok (.isub, 1) := by decide +kernel
theorem dX1_wordEnd_12 : decode cX1_wordEnd 12 = .ok (.invokevirtual 60, 3) := by decide +kernel
theorem dX1_wordEnd_15 : decode cX1_wordEnd 15 = .ok (.ifCond .ne 12, 3) := by decide +kernel
theorem dX1_wordEnd_18 : decode cX1_wordEnd 18 = .ok (.aload_n 0, 1) := by decide +kernel
theorem dX1_wordEnd_19 : decode cX1_wordEnd 19 = .ok (.getfield 16, 3) := by decide +kernel
theorem dX1_wordEnd_22 : decode cX1_wordEnd 22 = .ok (.iload_n 1, 1) := by decide +kernel
theorem dX1_wordEnd_23 : decode cX1_wordEnd 23 = .ok (.baload, 1) := by decide +kernel
theorem dX1_wordEnd_24 : decode cX1_wordEnd 24 = .ok (.ifCond .eq 5, 3) := by decide +kernel
theorem dX1_wordEnd_27 : decode cX1_wordEnd 27 = .ok (.iconst (-1), 1) := by decide +kernel
theorem dX1_wordEnd_28 : decode cX1_wordEnd 28 = .ok (.ireturn, 1) := by decide +kernel
theorem dX1_wordEnd_29 : decode cX1_wordEnd 29 = .ok (.iload_n 1, 1) := by decide +kernel
theorem dX1_wordEnd_30 : decode cX1_wordEnd 30 = .ok (.istore_n 2, 1) := by decide +kernel
theorem dX1_wordEnd_31 : decode cX1_wordEnd 31 = .ok (.iload_n 2, 1) := by decide +kernel
theorem dX1_wordEnd_32 : decode cX1_wordEnd 32 = .ok (.bipush 63, 2) := by decide +kernel
theorem dX1_wordEnd_34 : decode cX1_wordEnd 34 = .ok (.if_icmp .ge 19, 3) := by decide +kernel
theorem dX1_wordEnd_37 : decode cX1_wordEnd 37 = .ok (.aload_n 0, 1) := by decide +kernel
theorem dX1_wordEnd_38 : decode cX1_wordEnd 38 = .ok (.iload_n 2, 1) := by decide +kernel
theorem dX1_wordEnd_39 : decode cX1_wordEnd 39 = .ok (.iconst 1, 1) := by decide +kernel
theorem dX1_wordEnd_40 : decode cX1_wordEnd 40 = .ok (.iadd, 1) := by decide +kernel
theorem dX1_wordEnd_41 : decode cX1_wordEnd 41 = .ok (.invokevirtual 60, 3) := by decide +kernel
theorem dX1_wordEnd_44 : decode cX1_wordEnd 44 = .ok (.ifCond .eq 9, 3) := by decide +kernel
theorem dX1_wordEnd_47 : decode cX1_wordEnd 47 = .ok (.iinc 2 1, 3) := by decide +kernel
theorem dX1_wordEnd_50 : decode cX1_wordEnd 50 = .ok (.goto (-19), 3) := by decide +kernel
theorem dX1_wordEnd_53 : decode cX1_wordEnd 53 = .ok (.aload_n 0, 1) := by decide +kernel
theorem dX1_wordEnd_54 : decode cX1_wordEnd 54 = .ok (.getfield 16, 3) := by decide +kernel
theorem dX1_wordEnd_57 : decode cX1_wordEnd 57 = .ok (.iload_n 2, 1) := by decide +kernel
theorem dX1_wordEnd_58 : decode cX1_wordEnd 58 = .ok (.iconst 1, 1) := by decide +kernel
theorem dX1_wordEnd_59 : decode cX1_wordEnd 59 = .ok (.iadd, 1) := by decide +kernel
theorem dX1_wordEnd_60 : decode cX1_wordEnd 60 = .ok (.baload, 1) := by decide +kernel
theorem dX1_wordEnd_61 : decode cX1_wordEnd 61 = .ok (.ifCond .eq 7, 3) := by decide +kernel
theorem dX1_wordEnd_64 : decode cX1_wordEnd 64 = .ok (.iconst (-1), 1) := by decide +kernel
theorem dX1_wordEnd_65 : decode cX1_wordEnd 65 = .ok (.goto 4, 3) := by decide +kernel
theorem dX1_wordEnd_68 : decode cX1_wordEnd 68 = .ok (.iload_n 2, 1) := by decide +kernel
theorem dX1_wordEnd_69 : decode cX1_wordEnd 69 = .ok (.ireturn, 1) := by decide +kernel
theorem dX1_wordy_0 : decode cX1_wordy 0 = .ok (.iload_n 1, 1) := by decide +kernel
theorem dX1_wordy_1 : decode cX1_wordy 1 = .ok (.ifCond .lt 17, 3) := by decide +kernel
theorem dX1_wordy_4 : decode cX1_wordy 4 = .ok (.iload_n 1, 1) := by decide +kernel
theorem dX1_wordy_5 : decode cX1_wordy 5 = .ok (.aload_n 0, 1) := by decide +kernel
theorem dX1_wordy_6 : decode cX1_wordy 6 = .ok (.getfield 38, 3) := by decide +kernel
theorem dX1_wordy_9 : decode cX1_wordy 9 = .ok (.if_icmp .ge 9, 3) := by decide +kernel
theorem dX1_wordy_12 : decode cX1_wordy 12 = .ok (.iload_n 1, 1) := by decide +kernel
theorem dX1_wordy_13 : decode cX1_wordy 13 = .ok (.bipush 64, 2) := by decide +kernel
theorem dX1_wordy_15 : decode cX1_wordy 15 = .ok (.if_icmp .lt 5, 3) := by decide +kernel
theorem dX1_wordy_18 : decode cX1_wordy 18 = .ok (.iconst 0, 1) := by decide +kernel
theorem dX1_wordy_19 : decode cX1_wordy 19 = .ok (.ireturn, 1) := by decide +kernel
theorem dX1_wordy_20 : decode cX1_wordy 20 = .ok (.aload_n 0, 1) := by decide +kernel
theorem dX1_wordy_21 : decode cX1_wordy 21 = .ok (.getfield 13, 3) := by decide +kernel
theorem dX1_wordy_24 : decode cX1_wordy 24 = .ok (.iload_n 1, 1) := by decide +kernel
theorem dX1_wordy_25 : decode cX1_wordy 25 = .ok (.iaload, 1) := by decide +kernel
theorem dX1_wordy_26 : decode cX1_wordy 26 = .ok (.ifCond .ne 35, 3) := by decide +kernel
theorem dX1_wordy_29 : decode cX1_wordy 29 = .ok (.aload_n 0, 1) := by decide +kernel
theorem dX1_wordy_30 : decode cX1_wordy 30 = .ok (.getfield 7, 3) := by decide +kernel
theorem dX1_wordy_33 : decode cX1_wordy 33 = .ok (.iload_n 1, 1) := by decide +kernel
theorem dX1_wordy_34 : decode cX1_wordy 34 = .ok (.iaload, 1) := by decide +kernel
theorem dX1_wordy_35 : decode cX1_wordy 35 = .ok (.ifCond .eq 22, 3) := by decide +kernel
theorem dX1_wordy_38 : decode cX1_wordy 38 = .ok (.aload_n 0, 1) := by decide +kernel
theorem dX1_wordy_39 : decode cX1_wordy 39 = .ok (.getfield 7, 3) := by decide +kernel
theorem dX1_wordy_42 : decode cX1_wordy 42 = .ok (.iload_n 1, 1) := by decide +kernel
theorem dX1_wordy_43 : decode cX1_wordy 43 = .ok (.iaload, 1) := by decide +kernel
theorem dX1_wordy_44 : decode cX1_wordy 44 = .ok (.iconst 5, 1) := by decide +kernel
theorem dX1_wordy_45 : decode cX1_wordy 45 = .ok (.if_icmp .eq 12, 3) := by decide +kernel
theorem dX1_wordy_48 : decode cX1_wordy 48 = .ok (.aload_n 0, 1) := by decide +kernel
theorem dX1_wordy_49 : decode cX1_wordy 49 = .ok (.getfield 16, 3) := by decide +kernel
theorem dX1_wordy_52 : decode cX1_wordy 52 = .ok (.iload_n 1, 1) := by decide +kernel
theorem dX1_wordy_53 : decode cX1_wordy 53 = .ok (.baload, 1) := by decide +kernel
theorem dX1_wordy_54 : decode cX1_wordy 54 = .ok (.ifCond .eq 7, 3) := by decide +kernel
theorem dX1_wordy_57 : decode cX1_wordy 57 = .ok (.iconst 1, 1) := by decide +kernel
theorem dX1_wordy_58 : decode cX1_wordy 58 = .ok (.goto 4, 3) := by decide +kernel
theorem dX1_wordy_61 : decode cX1_wordy 61 = .ok (.iconst 0, 1) := by decide +kernel
theorem dX1_wordy_62 : decode cX1_wordy 62 = .ok (.ireturn, 1) := by decide +kernel
theorem dX1_stringEnd_0 : decode cX1_stringEnd 0 = .ok (.aload_n 0, 1) := by decide +kernel
theorem dX1_stringEnd_1 : decode cX1_stringEnd 1 = .ok (.getfield 7, 3) := by decide +kernel
theorem dX1_stringEnd_4 : decode cX1_stringEnd 4 = .ok (.iload_n 1, 1) := by decide +kernel
theorem dX1_stringEnd_5 : decode cX1_stringEnd 5 = .ok (.iaload, 1) := by decide +kernel
theorem dX1_stringEnd_6 : decode cX1_stringEnd 6 = .ok (.iconst 4, 1) := by decide +kernel
theorem dX1_stringEnd_7 : decode cX1_stringEnd 7 = .ok (.if_icmp .ne 21, 3) := by decide +kernel
theorem dX1_stringEnd_10 : decode cX1_stringEnd 10 = .ok (.aload_n 0, 1) := by decide +kernel
theorem dX1_stringEnd_11 : decode cX1_stringEnd 11 = .ok (.getfield 13, 3) := by decide +kernel
theorem dX1_stringEnd_14 : decode cX1_stringEnd 14 = .ok (.iload_n 1, 1) := by decide +kernel
theorem dX1_stringEnd_15 : decode cX1_stringEnd 15 = .ok (.iaload, 1) := by decide +kernel
theorem dX1_stringEnd_16 : decode cX1_stringEnd 16 = .ok (.ifCond .ne 12, 3) := by decide +kernel
theorem dX1_stringEnd_19 : decode cX1_stringEnd 19 = .ok (.aload_n 0, 1) := by decide +kernel
theorem dX1_stringEnd_20 : decode cX1_stringEnd 20 = .ok (.getfield 16, 3) := by decide +kernel
theorem dX1_stringEnd_23 : decode cX1_stringEnd 23 = .ok (.iload_n 1, 1) := by decide +kernel
theorem dX1_stringEnd_24 : decode cX1_stringEnd 24 = .ok (.baload, 1) := by decide +kernel
theorem dX1_stringEnd_25 : decode cX1_stringEnd 25 = .ok (.ifCond .eq 5, 3) := by decide +kernel
theorem dX1_stringEnd_28 : decode cX1_stringEnd 28 = .ok (.iconst (-1), 1) := by decide +kernel
theorem dX1_stringEnd_29 : decode cX1_stringEnd 29 = .ok (.ireturn, 1) := by decide +kernel
theorem dX1_stringEnd_30 : decode cX1_stringEnd 30 = .ok (.iload_n 1, 1) := by decide +kernel
theorem dX1_stringEnd_31 : decode cX1_stringEnd 31 = .ok (.iconst 1, 1) := by decide +kernel
theorem dX1_stringEnd_32 : decode cX1_stringEnd 32 = .ok (.iadd, 1) := by decide +kernel
theorem dX1_stringEnd_33 : decode cX1_stringEnd 33 = .ok (.istore_n 2, 1) := by decide +kernel
theorem dX1_stringEnd_34 : decode cX1_stringEnd 34 = .ok (.iload_n 2, 1) := by decide +kernel
theorem dX1_stringEnd_35 : decode cX1_stringEnd 35 = .ok (.aload_n 0, 1) := by decide +kernel
theorem dX1_stringEnd_36 : decode cX1_stringEnd 36 = .ok (.getfield 38, 3) := by decide +kernel
theorem dX1_stringEnd_39 : decode cX1_stringEnd 39 = .ok (.if_icmp .ge 46, 3) := by decide +kernel
theorem dX1_stringEnd_42 : decode cX1_stringEnd 42 = .ok (.iload_n 2, 1) := by decide +kernel
theorem dX1_stringEnd_43 : decode cX1_stringEnd 43 = .ok (.bipush 64, 2) := by decide +kernel
theorem dX1_stringEnd_45 : decode cX1_stringEnd 45 = .ok (.if_icmp .ge 40, 3) := by decide +kernel
theorem dX1_stringEnd_48 : decode cX1_stringEnd 48 = .ok (.aload_n 0, 1) := by decide +kernel
theorem dX1_stringEnd_49 : decode cX1_stringEnd 49 = .ok (.getfield 7, 3) := by decide +kernel
theorem dX1_stringEnd_52 : decode cX1_stringEnd 52 = .ok (.iload_n 2, 1) := by decide +kernel
theorem dX1_stringEnd_53 : decode cX1_stringEnd 53 = .ok (.iaload, 1) := by decide +kernel
theorem dX1_stringEnd_54 : decode cX1_stringEnd 54 = .ok (.iconst 4, 1) := by decide +kernel
theorem dX1_stringEnd_55 : decode cX1_stringEnd 55 = .ok (.if_icmp .ne 24, 3) := by decide +kernel
theorem dX1_stringEnd_58 : decode cX1_stringEnd 58 = .ok (.aload_n 0, 1) := by decide +kernel
theorem dX1_stringEnd_59 : decode cX1_stringEnd 59 = .ok (.getfield 13, 3) := by decide +kernel
theorem dX1_stringEnd_62 : decode cX1_stringEnd 62 = .ok (.iload_n 2, 1) := by decide +kernel
theorem dX1_stringEnd_63 : decode cX1_stringEnd 63 = .ok (.iaload, 1) := by decide +kernel
theorem dX1_stringEnd_64 : decode cX1_stringEnd 64 = .ok (.iconst 1, 1) := by decide +kernel
theorem dX1_stringEnd_65 : decode cX1_stringEnd 65 = .ok (.if_icmp .ne 14, 3) := by decide +kernel
theorem dX1_stringEnd_68 : decode cX1_stringEnd 68 = .ok (.aload_n 0, 1) := by decide +kernel
theorem dX1_stringEnd_69 : decode cX1_stringEnd 69 = .ok (.getfield 16, 3) := by decide +kernel
theorem dX1_stringEnd_72 : decode cX1_stringEnd 72 = .ok (.iload_n 2, 1) := by decide +kernel
theorem dX1_stringEnd_73 : decode cX1_stringEnd 73 = .ok (.baload, 1) := by decide +kernel
theorem dX1_stringEnd_74 : decode cX1_stringEnd 74 = .ok (.ifCond .ne 5, 3) := by decide +kernel
theorem dX1_stringEnd_77 : decode cX1_stringEnd 77 = .ok (.iload_n 2, 1) := by decide +kernel
theorem dX1_stringEnd_78 : decode cX1_stringEnd 78 = .ok (.ireturn, 1) := by decide +kernel
theorem dX1_stringEnd_79 : decode cX1_stringEnd 79 = .ok (.iinc 2 1, 3) := by decide +kernel
theorem dX1_stringEnd_82 : decode cX1_stringEnd 82 = .ok (.goto (-48), 3) := by decide +kernel
theorem dX1_stringEnd_85 : decode cX1_stringEnd 85 = .ok (.iconst (-1), 1) := by decide +kernel
theorem dX1_stringEnd_86 : decode cX1_stringEnd 86 = .ok (.ireturn, 1) := by decide +kernel
theorem dX1_backward_0 : decode cX1_backward 0 = .ok (.aload_n 0, 1) := by decide +kernel
theorem dX1_backward_1 : decode cX1_backward 1 = .ok (.iload_n 1, 1) := by decide +kernel
theorem dX1_backward_2 : decode cX1_backward 2 = .ok (.invokevirtual 42, 3) := by decide +kernel
theorem dX1_backward_5 : decode cX1_backward 5 = .ok (.ifCond .eq 5, 3) := by decide +kernel
theorem dX1_backward_8 : decode cX1_backward 8 = .ok (.iconst (-1), 1) := by decide +kernel
theorem dX1_backward_9 : decode cX1_backward 9 = .ok (.ireturn, 1) := by decide +kernel
theorem dX1_backward_10 : decode cX1_backward 10 = .ok (.aload_n 0, 1) := by decide +kernel
theorem dX1_backward_11 : decode cX1_backward 11 = .ok (.aload_n 0, 1) := by decide +kernel
theorem dX1_backward_12 : decode cX1_backward 12 = .ok (.getfield 38, 3) := by decide +kernel
theorem dX1_backward_15 : decode cX1_backward 15 = .ok (.invokevirtual 56, 3) := by decide +kernel
theorem dX1_backward_18 : decode cX1_backward 18 = .ok (.iload_n 1, 1) := by decide +kernel
theorem dX1_backward_19 : decode cX1_backward 19 = .ok (.iconst 1, 1) := by decide +kernel
theorem dX1_backward_20 : decode cX1_backward 20 = .ok (.isub, 1) := by decide +kernel
theorem dX1_backward_21 : decode cX1_backward 21 = .ok (.istore_n 2, 1) := by decide +kernel
theorem dX1_backward_22 : decode cX1_backward 22 = .ok (.iload_n 2, 1) := by decide +kernel
theorem dX1_backward_23 : decode cX1_backward 23 = .ok (.ifCond .lt 52, 3) := by decide +kernel
theorem dX1_backward_26 : decode cX1_backward 26 = .ok (.aload_n 0, 1) := by decide +kernel
theorem dX1_backward_27 : decode cX1_backward 27 = .ok (.getfield 26, 3) := by decide +kernel
theorem dX1_backward_30 : decode cX1_backward 30 = .ok (.iload_n 2, 1) := by decide +kernel
theorem dX1_backward_31 : decode cX1_backward 31 = .ok (.baload, 1) := by decide +kernel
theorem dX1_backward_32 : decode cX1_backward 32 = .ok (.ifCond .eq 25, 3) := by decide +kernel
theorem dX1_backward_35 : decode cX1_backward 35 = .ok (.aload_n 0, 1) := by decide +kernel
theorem dX1_backward_36 : decode cX1_backward 36 = .ok (.getfield 23, 3) := by decide +kernel
theorem dX1_backward_39 : decode cX1_backward 39 = .ok (.iload_n 2, 1) := by decide +kernel
theorem dX1_backward_40 : decode cX1_backward 40 = .ok (.iaload, 1) := by decide +kernel
theorem dX1_backward_41 : decode cX1_backward 41 = .ok (.ifCond .lt 13, 3) := by decide +kernel
theorem dX1_backward_44 : decode cX1_backward 44 = .ok (.aload_n 0, 1) := by decide +kernel
theorem dX1_backward_45 : decode cX1_backward 45 = .ok (.getfield 23, 3) := by decide +kernel
theorem dX1_backward_48 : decode cX1_backward 48 = .ok (.iload_n 2, 1) := by decide +kernel
theorem dX1_backward_49 : decode cX1_backward 49 = .ok (.iaload, 1) := by decide +kernel
theorem dX1_backward_50 : decode cX1_backward 50 = .ok (.iload_n 1, 1) := by decide +kernel
theorem dX1_backward_51 : decode cX1_backward 51 = .ok (.if_icmp .lt 6, 3) := by decide +kernel
theorem dX1_backward_54 : decode cX1_backward 54 = .ok (.bipush (-3), 2) := by decide +kernel
theorem dX1_backward_56 : decode cX1_backward 56 = .ok (.ireturn, 1) := by decide +kernel
theorem dX1_backward_57 : decode cX1_backward 57 = .ok (.aload_n 0, 1) := by decide +kernel
theorem dX1_backward_58 : decode cX1_backward 58 = .ok (.iload_n 2, 1) := by decide +kernel
theorem dX1_backward_59 : decode cX1_backward 59 = .ok (.invokevirtual 72, 3) := by decide +kernel
theorem dX1_backward_62 : decode cX1_backward 62 = .ok (.istore_n 3, 1) := by decide +kernel
theorem dX1_backward_63 : decode cX1_backward 63 = .ok (.iload_n 3, 1) := by decide +kernel
theorem dX1_backward_64 : decode cX1_backward 64 = .ok (.ifCond .lt 5, 3) := by decide +kernel
theorem dX1_backward_67 : decode cX1_backward 67 = .ok (.iload_n 3, 1) := by decide +kernel
theorem dX1_backward_68 : decode cX1_backward 68 = .ok (.ireturn, 1) := by decide +kernel
theorem dX1_backward_69 : decode cX1_backward 69 = .ok (.iinc 2 (-1), 3) := by decide +kernel
theorem dX1_backward_72 : decode cX1_backward 72 = .ok (.goto (-50), 3) := by decide +kernel
theorem dX1_backward_75 : decode cX1_backward 75 = .ok (.bipush (-2), 2) := by decide +kernel
theorem dX1_backward_77 : decode cX1_backward 77 = .ok (.ireturn, 1) := by decide +kernel
theorem dX1_unitStart_0 : decode cX1_unitStart 0 = .ok (.iconst 0, 1) := by decide +kernel
theorem dX1_unitStart_1 : decode cX1_unitStart 1 = .ok (.istore_n 2, 1) := by decide +kernel
theorem dX1_unitStart_2 : decode cX1_unitStart 2 = .ok (.iload_n 2, 1) := by decide +kernel
theorem dX1_unitStart_3 : decode cX1_unitStart 3 = .ok (.iload_n 1, 1) := by decide +kernel
theorem dX1_unitStart_4 : decode cX1_unitStart 4 = .ok (.if_icmp .gt 20, 3) := by decide +kernel
theorem dX1_unitStart_7 : decode cX1_unitStart 7 = .ok (.aload_n 0, 1) := by decide +kernel
theorem dX1_unitStart_8 : decode cX1_unitStart 8 = .ok (.iload_n 2, 1) := by decide +kernel
theorem dX1_unitStart_9 : decode cX1_unitStart 9 = .ok (.invokevirtual 69, 3) := by decide +kernel
theorem dX1_unitStart_12 : decode cX1_unitStart 12 = .ok (.iload_n 1, 1) := by decide +kernel
theorem dX1_unitStart_13 : decode cX1_unitStart 13 = .ok (.if_icmp .ne 5, 3) := by decide +kernel
theorem dX1_unitStart_16 : decode cX1_unitStart 16 = .ok (.iload_n 2, 1) := by decide +kernel
theorem dX1_unitStart_17 : decode cX1_unitStart 17 = .ok (.ireturn, 1) := by decide +kernel
theorem dX1_unitStart_18 : decode cX1_unitStart 18 = .ok (.iinc 2 1, 3) := by decide +kernel
theorem dX1_unitStart_21 : decode cX1_unitStart 21 = .ok (.goto (-19), 3) := by decide +kernel
theorem dX1_unitStart_24 : decode cX1_unitStart 24 = .ok (.iconst (-1), 1) := by decide +kernel
theorem dX1_unitStart_25 : decode cX1_unitStart 25 = .ok (.ireturn, 1) := by decide +kernel
theorem dX1_up_0 : decode cX1_up 0 = .ok (.aload_n 0, 1) := by decide +kernel
theorem dX1_up_1 : decode cX1_up 1 = .ok (.iload_n 1, 1) := by decide +kernel
theorem dX1_up_2 : decode cX1_up 2 = .ok (.invokevirtual 42, 3) := by decide +kernel
theorem dX1_up_5 : decode cX1_up 5 = .ok (.ifCond .eq 5, 3) := by decide +kernel
theorem dX1_up_8 : decode cX1_up 8 = .ok (.iconst (-1), 1) := by decide +kernel
theorem dX1_up_9 : decode cX1_up 9 = .ok (.ireturn, 1) := by decide +kernel
theorem dX1_up_10 : decode cX1_up 10 = .ok (.aload_n 0, 1) := by decide +kernel
theorem dX1_up_11 : decode cX1_up 11 = .ok (.iload_n 1, 1) := by decide +kernel
theorem dX1_up_12 : decode cX1_up 12 = .ok (.invokevirtual 56, 3) := by decide +kernel
theorem dX1_up_15 : decode cX1_up 15 = .ok (.aload_n 0, 1) := by decide +kernel
theorem dX1_up_16 : decode cX1_up 16 = .ok (.getfield 49, 3) := by decide +kernel
theorem dX1_up_19 : decode cX1_up 19 = .ok (.ifCond .ne 8, 3) := by decide +kernel
theorem dX1_up_22 : decode cX1_up 22 = .ok (.bipush (-2), 2) := by decide +kernel
theorem dX1_up_24 : decode cX1_up 24 = .ok (.goto 14, 3) := by decide +kernel
theorem dX1_up_27 : decode cX1_up 27 = .ok (.aload_n 0, 1) := by decide +kernel
theorem dX1_up_28 : decode cX1_up 28 = .ok (.getfield 35, 3) := by decide +kernel
theorem dX1_up_31 : decode cX1_up 31 = .ok (.aload_n 0, 1) := by decide +kernel
theorem dX1_up_32 : decode cX1_up 32 = .ok (.getfield 49, 3) := by decide +kernel
theorem dX1_up_35 : decode cX1_up 35 = .ok (.iconst 1, 1) := by decide +kernel
theorem dX1_up_36 : decode cX1_up 36 = .ok (.isub, 1) := by decide +kernel
theorem dX1_up_37 : decode cX1_up 37 = .ok (.iaload, 1) := by decide +kernel
theorem dX1_up_38 : decode cX1_up 38 = .ok (.ireturn, 1) := by decide +kernel
theorem dX1_down_0 : decode cX1_down 0 = .ok (.aload_n 0, 1) := by decide +kernel
theorem dX1_down_1 : decode cX1_down 1 = .ok (.iload_n 1, 1) := by decide +kernel
theorem dX1_down_2 : decode cX1_down 2 = .ok (.invokevirtual 42, 3) := by decide +kernel
theorem dX1_down_5 : decode cX1_down 5 = .ok (.ifCond .eq 5, 3) := by decide +kernel
theorem dX1_down_8 : decode cX1_down 8 = .ok (.iconst (-1), 1) := by decide +kernel
theorem dX1_down_9 : decode cX1_down 9 = .ok (.ireturn, 1) := by decide +kernel
theorem dX1_down_10 : decode cX1_down 10 = .ok (.aload_n 0, 1) := by decide +kernel
theorem dX1_down_11 : decode cX1_down 11 = .ok (.aload_n 0, 1) := by decide +kernel
theorem dX1_down_12 : decode cX1_down 12 = .ok (.getfield 38, 3) := by decide +kernel
theorem dX1_down_15 : decode cX1_down 15 = .ok (.invokevirtual 56, 3) := by decide +kernel
theorem dX1_down_18 : decode cX1_down 18 = .ok (.iconst 0, 1) := by decide +kernel
theorem dX1_down_19 : decode cX1_down 19 = .ok (.istore_n 2, 1) := by decide +kernel
theorem dX1_down_20 : decode cX1_down 20 = .ok (.iload_n 1, 1) := by decide +kernel
theorem dX1_down_21 : decode cX1_down 21 = .ok (.istore_n 3, 1) := by decide +kernel
theorem dX1_down_22 : decode cX1_down 22 = .ok (.iload_n 3, 1) := by decide +kernel
theorem dX1_down_23 : decode cX1_down 23 = .ok (.aload_n 0, 1) := by decide +kernel
theorem dX1_down_24 : decode cX1_down 24 = .ok (.getfield 38, 3) := by decide +kernel
theorem dX1_down_27 : decode cX1_down 27 = .ok (.if_icmp .ge 48, 3) := by decide +kernel
theorem dX1_down_30 : decode cX1_down 30 = .ok (.iload_n 3, 1) := by decide +kernel
theorem dX1_down_31 : decode cX1_down 31 = .ok (.bipush 64, 2) := by decide +kernel
theorem dX1_down_33 : decode cX1_down 33 = .ok (.if_icmp .ge 42, 3) := by decide +kernel
theorem dX1_down_36 : decode cX1_down 36 = .ok (.aload_n 0, 1) := by decide +kernel
theorem dX1_down_37 : decode cX1_down 37 = .ok (.getfield 26, 3) := by decide +kernel
theorem dX1_down_40 : decode cX1_down 40 = .ok (.iload_n 3, 1) := by decide +kernel
theorem dX1_down_41 : decode cX1_down 41 = .ok (.baload, 1) := by decide +kernel
theorem dX1_down_42 : decode cX1_down 42 = .ok (.ifCond .eq 16, 3) := by decide +kernel
theorem dX1_down_45 : decode cX1_down 45 = .ok (.iload_n 2, 1) := by decide +kernel
theorem dX1_down_46 : decode cX1_down 46 = .ok (.ifCond .eq 8, 3) := by decide +kernel
theorem dX1_down_49 : decode cX1_down 49 = .ok (.bipush (-3), 2) := by decide +kernel
theorem dX1_down_51 : decode cX1_down 51 = .ok (.goto 6, 3) := by decide +kernel
theorem dX1_down_54 : decode cX1_down 54 = .ok (.iload_n 3, 1) := by decide +kernel
theorem dX1_down_55 : decode cX1_down 55 = .ok (.iconst 1, 1) := by decide +kernel
theorem dX1_down_56 : decode cX1_down 56 = .ok (.iadd, 1) := by decide +kernel
theorem dX1_down_57 : decode cX1_down 57 = .ok (.ireturn, 1) := by decide +kernel
theorem dX1_down_58 : decode cX1_down 58 = .ok (.aload_n 0, 1) := by decide +kernel
theorem dX1_down_59 : decode cX1_down 59 = .ok (.getfield 29, 3) := by decide +kernel
theorem dX1_down_62 : decode cX1_down 62 = .ok (.iload_n 3, 1) := by decide +kernel
theorem dX1_down_63 : decode cX1_down 63 = .ok (.baload, 1) := by decide +kernel
theorem dX1_down_64 : decode cX1_down 64 = .ok (.ifCond .eq 5, 3) := by decide +kernel
theorem dX1_down_67 : decode cX1_down 67 = .ok (.iconst 1, 1) := by decide +kernel
theorem dX1_down_68 : decode cX1_down 68 = .ok (.istore_n 2, 1) := by decide +kernel
theorem dX1_down_69 : decode cX1_down 69 = .ok (.iinc 3 1, 3) := by decide +kernel
theorem dX1_down_72 : decode cX1_down 72 = .ok (.goto (-50), 3) := by decide +kernel
theorem dX1_down_75 : decode cX1_down 75 = .ok (.bipush (-2), 2) := by decide +kernel
theorem dX1_down_77 : decode cX1_down 77 = .ok (.ireturn, 1) := by decide +kernel
theorem dX1_units_0 : decode cX1_units 0 = .ok (.aload_n 0, 1) := by decide +kernel
theorem dX1_units_1 : decode cX1_units 1 = .ok (.aload_n 0, 1) := by decide +kernel
theorem dX1_units_2 : decode cX1_units 2 = .ok (.getfield 38, 3) := by decide +kernel
theorem dX1_units_5 : decode cX1_units 5 = .ok (.invokevirtual 56, 3) := by decide +kernel
theorem dX1_units_8 : decode cX1_units 8 = .ok (.iconst 0, 1) := by decide +kernel
theorem dX1_units_9 : decode cX1_units 9 = .ok (.istore_n 1, 1) := by decide +kernel
theorem dX1_units_10 : decode cX1_units 10 = .ok (.iconst 0, 1) := by decide +kernel
theorem dX1_units_11 : decode cX1_units 11 = .ok (.istore_n 2, 1) := by decide +kernel
theorem dX1_units_12 : decode cX1_units 12 = .ok (.iload_n 2, 1) := by decide +kernel
theorem dX1_units_13 : decode cX1_units 13 = .ok (.aload_n 0, 1) := by decide +kernel
theorem dX1_units_14 : decode cX1_units 14 = .ok (.getfield 38, 3) := by decide +kernel
theorem dX1_units_17 : decode cX1_units 17 = .ok (.if_icmp .ge 28, 3) := by decide +kernel
theorem dX1_units_20 : decode cX1_units 20 = .ok (.iload_n 2, 1) := by decide +kernel
theorem dX1_units_21 : decode cX1_units 21 = .ok (.bipush 64, 2) := by decide +kernel
theorem dX1_units_23 : decode cX1_units 23 = .ok (.if_icmp .ge 22, 3) := by decide +kernel
theorem dX1_units_26 : decode cX1_units 26 = .ok (.aload_n 0, 1) := by decide +kernel
theorem dX1_units_27 : decode cX1_units 27 = .ok (.iload_n 2, 1) := by decide +kernel
theorem dX1_units_28 : decode cX1_units 28 = .ok (.invokevirtual 69, 3) := by decide +kernel
theorem dX1_units_31 : decode cX1_units 31 = .ok (.istore_n 3, 1) := by decide +kernel
theorem dX1_units_32 : decode cX1_units 32 = .ok (.iload_n 3, 1) := by decide +kernel
theorem dX1_units_33 : decode cX1_units 33 = .ok (.ifCond .lt 6, 3) := by decide +kernel
theorem dX1_units_36 : decode cX1_units 36 = .ok (.iinc 1 1, 3) := by decide +kernel
theorem dX1_units_39 : decode cX1_units 39 = .ok (.iinc 2 1, 3) := by decide +kernel
theorem dX1_units_42 : decode cX1_units 42 = .ok (.goto (-30), 3) := by decide +kernel
theorem dX1_units_45 : decode cX1_units 45 = .ok (.iload_n 1, 1) := by decide +kernel
theorem dX1_units_46 : decode cX1_units 46 = .ok (.ireturn, 1) := by decide +kernel
end
section
set_option maxRecDepth 100000
theorem dJ0_init_0 : decode cJ0_init 0 = .ok (.return_, 1) := by decide +kernel
theorem dL_law_0 : decode cL_law 0 = .ok (.new 7, 3) := by decide +kernel
theorem dL_law_3 : decode cL_law 3 = .ok (.dup, 1) := by decide +kernel
theorem dL_law_4 : decode cL_law 4 = .ok (.invokespecial 9, 3) := by decide +kernel
theorem dL_law_7 : decode cL_law 7 = .ok (.astore_n 1, 1) := by decide +kernel
theorem dL_law_8 : decode cL_law 8 = .ok (.new 10, 3) := by decide +kernel
theorem dL_law_11 : decode cL_law 11 = .ok (.dup, 1) := by decide +kernel
theorem dL_law_12 : decode cL_law 12 = .ok (.invokespecial 12, 3) := by decide +kernel
theorem dL_law_15 : decode cL_law 15 = .ok (.astore_n 2, 1) := by decide +kernel
theorem dL_law_16 : decode cL_law 16 = .ok (.iconst 0, 1) := by decide +kernel
theorem dL_law_17 : decode cL_law 17 = .ok (.istore_n 3, 1) := by decide +kernel
theorem dL_law_18 : decode cL_law 18 = .ok (.iload_n 3, 1) := by decide +kernel
theorem dL_law_19 : decode cL_law 19 = .ok (.aload_n 0, 1) := by decide +kernel
theorem dL_law_20 : decode cL_law 20 = .ok (.arraylength, 1) := by decide +kernel
theorem dL_law_21 : decode cL_law 21 = .ok (.iconst 3, 1) := by decide +kernel
theorem dL_law_22 : decode cL_law 22 = .ok (.isub, 1) := by decide +kernel
theorem dL_law_23 : decode cL_law 23 = .ok (.if_icmp .gt 473, 3) := by decide +kernel
theorem dL_law_26 : decode cL_law 26 = .ok (.aload_n 0, 1) := by decide +kernel
theorem dL_law_27 : decode cL_law 27 = .ok (.iload_n 3, 1) := by decide +kernel
theorem dL_law_28 : decode cL_law 28 = .ok (.iaload, 1) := by decide +kernel
theorem dL_law_29 : decode cL_law 29 = .ok (.bipush 15, 2) := by decide +kernel
theorem dL_law_31 : decode cL_law 31 = .ok (.iand, 1) := by decide +kernel
theorem dL_law_32 : decode cL_law 32 = .ok (.tableswitch 458 0 15 #[80, 113, 146, 179, 192, 215, 238, 261, 284, 317, 340, 353, 376, 399, 422, 445], 80) := by decide +kernel
theorem dL_law_112 : decode cL_law 112 = .ok (.aload_n 1, 1) := by decide +kernel
theorem dL_law_113 : decode cL_law 113 = .ok (.aload_n 0, 1) := by decide +kernel
theorem dL_law_114 : decode cL_law 114 = .ok (.iload_n 3, 1) := by decide +kernel
theorem dL_law_115 : decode cL_law 115 = .ok (.iconst 1, 1) := by decide +kernel
theorem dL_law_116 : decode cL_law 116 = .ok (.iadd, 1) := by decide +kernel
theorem dL_law_117 : decode cL_law 117 = .ok (.iaload, 1) := by decide +kernel
theorem dL_law_118 : decode cL_law 118 = .ok (.aload_n 0, 1) := by decide +kernel
theorem dL_law_119 : decode cL_law 119 = .ok (.iload_n 3, 1) := by decide +kernel
theorem dL_law_120 : decode cL_law 120 = .ok (.iconst 2, 1) := by decide +kernel
theorem dL_law_121 : decode cL_law 121 = .ok (.iadd, 1) := by decide +kernel
theorem dL_law_122 : decode cL_law 122 = .ok (.iaload, 1) := by decide +kernel
theorem dL_law_123 : decode cL_law 123 = .ok (.invokevirtual 13, 3) := by decide +kernel
theorem dL_law_126 : decode cL_law 126 = .ok (.aload_n 2, 1) := by decide +kernel
theorem dL_law_127 : decode cL_law 127 = .ok (.aload_n 0, 1) := by decide +kernel
theorem dL_law_128 : decode cL_law 128 = .ok (.iload_n 3, 1) := by decide +kernel
theorem dL_law_129 : decode cL_law 129 = .ok (.iconst 1, 1) := by decide +kernel
theorem dL_law_130 : decode cL_law 130 = .ok (.iadd, 1) := by decide +kernel
theorem dL_law_131 : decode cL_law 131 = .ok (.iaload, 1) := by decide +kernel
theorem dL_law_132 : decode cL_law 132 = .ok (.aload_n 0, 1) := by decide +kernel
theorem dL_law_133 : decode cL_law 133 = .ok (.iload_n 3, 1) := by decide +kernel
theorem dL_law_134 : decode cL_law 134 = .ok (.iconst 2, 1) := by decide +kernel
theorem dL_law_135 : decode cL_law 135 = .ok (.iadd, 1) := by decide +kernel
theorem dL_law_136 : decode cL_law 136 = .ok (.iaload, 1) := by decide +kernel
theorem dL_law_137 : decode cL_law 137 = .ok (.invokevirtual 17, 3) := by decide +kernel
theorem dL_law_140 : decode cL_law 140 = .ok (.if_icmp .eq 350, 3) := by decide +kernel
theorem dL_law_143 : decode cL_law 143 = .ok (.iconst 0, 1) := by decide +kernel
theorem dL_law_144 : decode cL_law 144 = .ok (.ireturn, 1) := by decide +kernel
theorem dL_law_145 : decode cL_law 145 = .ok (.aload_n 1, 1) := by decide +kernel
theorem dL_law_146 : decode cL_law 146 = .ok (.aload_n 0, 1) := by decide +kernel
theorem dL_law_147 : decode cL_law 147 = .ok (.iload_n 3, 1) := by decide +kernel
theorem dL_law_148 : decode cL_law 148 = .ok (.iconst 1, 1) := by decide +kernel
theorem dL_law_149 : decode cL_law 149 = .ok (.iadd, 1) := by decide +kernel
theorem dL_law_150 : decode cL_law 150 = .ok (.iaload, 1) := by decide +kernel
theorem dL_law_151 : decode cL_law 151 = .ok (.aload_n 0, 1) := by decide +kernel
theorem dL_law_152 : decode cL_law 152 = .ok (.iload_n 3, 1) := by decide +kernel
theorem dL_law_153 : decode cL_law 153 = .ok (.iconst 2, 1) := by decide +kernel
theorem dL_law_154 : decode cL_law 154 = .ok (.iadd, 1) := by decide +kernel
theorem dL_law_155 : decode cL_law 155 = .ok (.iaload, 1) := by decide +kernel
theorem dL_law_156 : decode cL_law 156 = .ok (.invokevirtual 18, 3) := by decide +kernel
theorem dL_law_159 : decode cL_law 159 = .ok (.aload_n 2, 1) := by decide +kernel
theorem dL_law_160 : decode cL_law 160 = .ok (.aload_n 0, 1) := by decide +kernel
theorem dL_law_161 : decode cL_law 161 = .ok (.iload_n 3, 1) := by decide +kernel
theorem dL_law_162 : decode cL_law 162 = .ok (.iconst 1, 1) := by decide +kernel
theorem dL_law_163 : decode cL_law 163 = .ok (.iadd, 1) := by decide +kernel
theorem dL_law_164 : decode cL_law 164 = .ok (.iaload, 1) := by decide +kernel
theorem dL_law_165 : decode cL_law 165 = .ok (.aload_n 0, 1) := by decide +kernel
theorem dL_law_166 : decode cL_law 166 = .ok (.iload_n 3, 1) := by decide +kernel
theorem dL_law_167 : decode cL_law 167 = .ok (.iconst 2, 1) := by decide +kernel
theorem dL_law_168 : decode cL_law 168 = .ok (.iadd, 1) := by decide +kernel
theorem dL_law_169 : decode cL_law 169 = .ok (.iaload, 1) := by decide +kernel
theorem dL_law_170 : decode cL_law 170 = .ok (.invokevirtual 21, 3) := by decide +kernel
theorem dL_law_173 : decode cL_law 173 = .ok (.if_icmp .eq 317, 3) := by decide +kernel
theorem dL_law_176 : decode cL_law 176 = .ok (.iconst 0, 1) := by decide +kernel
theorem dL_law_177 : decode cL_law 177 = .ok (.ireturn, 1) := by decide +kernel
theorem dL_law_178 : decode cL_law 178 = .ok (.aload_n 1, 1) := by decide +kernel
theorem dL_law_179 : decode cL_law 179 = .ok (.aload_n 0, 1) := by decide +kernel
theorem dL_law_180 : decode cL_law 180 = .ok (.iload_n 3, 1) := by decide +kernel
theorem dL_law_181 : decode cL_law 181 = .ok (.iconst 1, 1) := by decide +kernel
theorem dL_law_182 : decode cL_law 182 = .ok (.iadd, 1) := by decide +kernel
theorem dL_law_183 : decode cL_law 183 = .ok (.iaload, 1) := by decide +kernel
theorem dL_law_184 : decode cL_law 184 = .ok (.aload_n 0, 1) := by decide +kernel
theorem dL_law_185 : decode cL_law 185 = .ok (.iload_n 3, 1) := by decide +kernel
theorem dL_law_186 : decode cL_law 186 = .ok (.iconst 2, 1) := by decide +kernel
theorem dL_law_187 : decode cL_law 187 = .ok (.iadd, 1) := by decide +kernel
theorem dL_law_188 : decode cL_law 188 = .ok (.iaload, 1) := by decide +kernel
theorem dL_law_189 : decode cL_law 189 = .ok (.invokevirtual 22, 3) := by decide +kernel
theorem dL_law_192 : decode cL_law 192 = .ok (.aload_n 2, 1) := by decide +kernel
theorem dL_law_193 : decode cL_law 193 = .ok (.aload_n 0, 1) := by decide +kernel
theorem dL_law_194 : decode cL_law 194 = .ok (.iload_n 3, 1) := by decide +kernel
theorem dL_law_195 : decode cL_law 195 = .ok (.iconst 1, 1) := by decide +kernel
theorem dL_law_196 : decode cL_law 196 = .ok (.iadd, 1) := by decide +kernel
theorem dL_law_197 : decode cL_law 197 = .ok (.iaload, 1) := by decide +kernel
theorem dL_law_198 : decode cL_law 198 = .ok (.aload_n 0, 1) := by decide +kernel
theorem dL_law_199 : decode cL_law 199 = .ok (.iload_n 3, 1) := by decide +kernel
theorem dL_law_200 : decode cL_law 200 = .ok (.iconst 2, 1) := by decide +kernel
theorem dL_law_201 : decode cL_law 201 = .ok (.iadd, 1) := by decide +kernel
theorem dL_law_202 : decode cL_law 202 = .ok (.iaload, 1) := by decide +kernel
theorem dL_law_203 : decode cL_law 203 = .ok (.invokevirtual 25, 3) := by decide +kernel
theorem dL_law_206 : decode cL_law 206 = .ok (.if_icmp .eq 284, 3) := by decide +kernel
theorem dL_law_209 : decode cL_law 209 = .ok (.iconst 0, 1) := by decide +kernel
theorem dL_law_210 : decode cL_law 210 = .ok (.ireturn, 1) := by decide +kernel
theorem dL_law_211 : decode cL_law 211 = .ok (.aload_n 1, 1) := by decide +kernel
theorem dL_law_212 : decode cL_law 212 = .ok (.invokevirtual 26, 3) := by decide +kernel
theorem dL_law_215 : decode cL_law 215 = .ok (.aload_n 2, 1) := by decide +kernel
theorem dL_law_216 : decode cL_law 216 = .ok (.invokevirtual 30, 3) := by decide +kernel
theorem dL_law_219 : decode cL_law 219 = .ok (.if_icmp .eq 271, 3) := by decide +kernel
theorem dL_law_222 : decode cL_law 222 = .ok (.iconst 0, 1) := by decide +kernel
theorem dL_law_223 : decode cL_law 223 = .ok (.ireturn, 1) := by decide +kernel
theorem dL_law_224 : decode cL_law 224 = .ok (.aload_n 1, 1) := by decide +kernel
theorem dL_law_225 : decode cL_law 225 = .ok (.aload_n 0, 1) := by decide +kernel
theorem dL_law_226 : decode cL_law 226 = .ok (.iload_n 3, 1) := by decide +kernel
theorem dL_law_227 : decode cL_law 227 = .ok (.iconst 1, 1) := by decide +kernel
theorem dL_law_228 : decode cL_law 228 = .ok (.iadd, 1) := by decide +kernel
theorem dL_law_229 : decode cL_law 229 = .ok (.iaload, 1) := by decide +kernel
theorem dL_law_230 : decode cL_law 230 = .ok (.invokevirtual 31, 3) := by decide +kernel
theorem dL_law_233 : decode cL_law 233 = .ok (.aload_n 2, 1) := by decide +kernel
theorem dL_law_234 : decode cL_law 234 = .ok (.aload_n 0, 1) := by decide +kernel
theorem dL_law_235 : decode cL_law 235 = .ok (.iload_n 3, 1) := by decide +kernel
theorem dL_law_236 : decode cL_law 236 = .ok (.iconst 1, 1) := by decide +kernel
theorem dL_law_237 : decode cL_law 237 = .ok (.iadd, 1) := by decide +kernel
theorem dL_law_238 : decode cL_law 238 = .ok (.iaload, 1) := by decide +kernel
theorem dL_law_239 : decode cL_law 239 = .ok (.invokevirtual 35, 3) := by decide +kernel
theorem dL_law_242 : decode cL_law 242 = .ok (.if_icmp .eq 248, 3) := by decide +kernel
theorem dL_law_245 : decode cL_law 245 = .ok (.iconst 0, 1) := by decide +kernel
theorem dL_law_246 : decode cL_law 246 = .ok (.ireturn, 1) := by decide +kernel
theorem dL_law_247 : decode cL_law 247 = .ok (.aload_n 1, 1) := by decide +kernel
theorem dL_law_248 : decode cL_law 248 = .ok (.aload_n 0, 1) := by decide +kernel
theorem dL_law_249 : decode cL_law 249 = .ok (.iload_n 3, 1) := by decide +kernel
theorem dL_law_250 : decode cL_law 250 = .ok (.iconst 1, 1) := by decide +kernel
theorem dL_law_251 : decode cL_law 251 = .ok (.iadd, 1) := by decide +kernel
theorem dL_law_252 : decode cL_law 252 = .ok (.iaload, 1) := by decide +kernel
theorem dL_law_253 : decode cL_law 253 = .ok (.invokevirtual 36, 3) := by decide +kernel
theorem dL_law_256 : decode cL_law 256 = .ok (.aload_n 2, 1) := by decide +kernel
theorem dL_law_257 : decode cL_law 257 = .ok (.aload_n 0, 1) := by decide +kernel
theorem dL_law_258 : decode cL_law 258 = .ok (.iload_n 3, 1) := by decide +kernel
theorem dL_law_259 : decode cL_law 259 = .ok (.iconst 1, 1) := by decide +kernel
theorem dL_law_260 : decode cL_law 260 = .ok (.iadd, 1) := by decide +kernel
theorem dL_law_261 : decode cL_law 261 = .ok (.iaload, 1) := by decide +kernel
theorem dL_law_262 : decode cL_law 262 = .ok (.invokevirtual 39, 3) := by decide +kernel
theorem dL_law_265 : decode cL_law 265 = .ok (.if_icmp .eq 225, 3) := by decide +kernel
theorem dL_law_268 : decode cL_law 268 = .ok (.iconst 0, 1) := by decide +kernel
theorem dL_law_269 : decode cL_law 269 = .ok (.ireturn, 1) := by decide +kernel
theorem dL_law_270 : decode cL_law 270 = .ok (.aload_n 1, 1) := by decide +kernel
theorem dL_law_271 : decode cL_law 271 = .ok (.aload_n 0, 1) := by decide +kernel
theorem dL_law_272 : decode cL_law 272 = .ok (.iload_n 3, 1) := by decide +kernel
theorem dL_law_273 : decode cL_law 273 = .ok (.iconst 1, 1) := by decide +kernel
theorem dL_law_274 : decode cL_law 274 = .ok (.iadd, 1) := by decide +kernel
theorem dL_law_275 : decode cL_law 275 = .ok (.iaload, 1) := by decide +kernel
theorem dL_law_276 : decode cL_law 276 = .ok (.invokevirtual 40, 3) := by decide +kernel
theorem dL_law_279 : decode cL_law 279 = .ok (.aload_n 2, 1) := by decide +kernel
theorem dL_law_280 : decode cL_law 280 = .ok (.aload_n 0, 1) := by decide +kernel
theorem dL_law_281 : decode cL_law 281 = .ok (.iload_n 3, 1) := by decide +kernel
theorem dL_law_282 : decode cL_law 282 = .ok (.iconst 1, 1) := by decide +kernel
theorem dL_law_283 : decode cL_law 283 = .ok (.iadd, 1) := by decide +kernel
theorem dL_law_284 : decode cL_law 284 = .ok (.iaload, 1) := by decide +kernel
theorem dL_law_285 : decode cL_law 285 = .ok (.invokevirtual 43, 3) := by decide +kernel
theorem dL_law_288 : decode cL_law 288 = .ok (.if_icmp .eq 202, 3) := by decide +kernel
theorem dL_law_291 : decode cL_law 291 = .ok (.iconst 0, 1) := by decide +kernel
theorem dL_law_292 : decode cL_law 292 = .ok (.ireturn, 1) := by decide +kernel
theorem dL_law_293 : decode cL_law 293 = .ok (.aload_n 1, 1) := by decide +kernel
theorem dL_law_294 : decode cL_law 294 = .ok (.aload_n 0, 1) := by decide +kernel
theorem dL_law_295 : decode cL_law 295 = .ok (.iload_n 3, 1) := by decide +kernel
theorem dL_law_296 : decode cL_law 296 = .ok (.iconst 1, 1) := by decide +kernel
theorem dL_law_297 : decode cL_law 297 = .ok (.iadd, 1) := by decide +kernel
theorem dL_law_298 : decode cL_law 298 = .ok (.iaload, 1) := by decide +kernel
theorem dL_law_299 : decode cL_law 299 = .ok (.invokevirtual 44, 3) := by decide +kernel
theorem dL_law_302 : decode cL_law 302 = .ok (.aload_n 2, 1) := by decide +kernel
theorem dL_law_303 : decode cL_law 303 = .ok (.aload_n 0, 1) := by decide +kernel
theorem dL_law_304 : decode cL_law 304 = .ok (.iload_n 3, 1) := by decide +kernel
theorem dL_law_305 : decode cL_law 305 = .ok (.iconst 1, 1) := by decide +kernel
theorem dL_law_306 : decode cL_law 306 = .ok (.iadd, 1) := by decide +kernel
theorem dL_law_307 : decode cL_law 307 = .ok (.iaload, 1) := by decide +kernel
theorem dL_law_308 : decode cL_law 308 = .ok (.invokevirtual 47, 3) := by decide +kernel
theorem dL_law_311 : decode cL_law 311 = .ok (.if_icmp .eq 179, 3) := by decide +kernel
theorem dL_law_314 : decode cL_law 314 = .ok (.iconst 0, 1) := by decide +kernel
theorem dL_law_315 : decode cL_law 315 = .ok (.ireturn, 1) := by decide +kernel
theorem dL_law_316 : decode cL_law 316 = .ok (.aload_n 1, 1) := by decide +kernel
theorem dL_law_317 : decode cL_law 317 = .ok (.aload_n 0, 1) := by decide +kernel
theorem dL_law_318 : decode cL_law 318 = .ok (.iload_n 3, 1) := by decide +kernel
theorem dL_law_319 : decode cL_law 319 = .ok (.iconst 1, 1) := by decide +kernel
theorem dL_law_320 : decode cL_law 320 = .ok (.iadd, 1) := by decide +kernel
theorem dL_law_321 : decode cL_law 321 = .ok (.iaload, 1) := by decide +kernel
theorem dL_law_322 : decode cL_law 322 = .ok (.aload_n 0, 1) := by decide +kernel
theorem dL_law_323 : decode cL_law 323 = .ok (.iload_n 3, 1) := by decide +kernel
theorem dL_law_324 : decode cL_law 324 = .ok (.iconst 2, 1) := by decide +kernel
theorem dL_law_325 : decode cL_law 325 = .ok (.iadd, 1) := by decide +kernel
theorem dL_law_326 : decode cL_law 326 = .ok (.iaload, 1) := by decide +kernel
theorem dL_law_327 : decode cL_law 327 = .ok (.invokevirtual 48, 3) := by decide +kernel
theorem dL_law_330 : decode cL_law 330 = .ok (.aload_n 2, 1) := by decide +kernel
theorem dL_law_331 : decode cL_law 331 = .ok (.aload_n 0, 1) := by decide +kernel
theorem dL_law_332 : decode cL_law 332 = .ok (.iload_n 3, 1) := by decide +kernel
theorem dL_law_333 : decode cL_law 333 = .ok (.iconst 1, 1) := by decide +kernel
theorem dL_law_334 : decode cL_law 334 = .ok (.iadd, 1) := by decide +kernel
theorem dL_law_335 : decode cL_law 335 = .ok (.iaload, 1) := by decide +kernel
theorem dL_law_336 : decode cL_law 336 = .ok (.aload_n 0, 1) := by decide +kernel
theorem dL_law_337 : decode cL_law 337 = .ok (.iload_n 3, 1) := by decide +kernel
theorem dL_law_338 : decode cL_law 338 = .ok (.iconst 2, 1) := by decide +kernel
theorem dL_law_339 : decode cL_law 339 = .ok (.iadd, 1) := by decide +kernel
theorem dL_law_340 : decode cL_law 340 = .ok (.iaload, 1) := by decide +kernel
theorem dL_law_341 : decode cL_law 341 = .ok (.invokevirtual 51, 3) := by decide +kernel
theorem dL_law_344 : decode cL_law 344 = .ok (.if_icmp .eq 146, 3) := by decide +kernel
theorem dL_law_347 : decode cL_law 347 = .ok (.iconst 0, 1) := by decide +kernel
theorem dL_law_348 : decode cL_law 348 = .ok (.ireturn, 1) := by decide +kernel
theorem dL_law_349 : decode cL_law 349 = .ok (.aload_n 1, 1) := by decide +kernel
theorem dL_law_350 : decode cL_law 350 = .ok (.aload_n 0, 1) := by decide +kernel
theorem dL_law_351 : decode cL_law 351 = .ok (.iload_n 3, 1) := by decide +kernel
theorem dL_law_352 : decode cL_law 352 = .ok (.iconst 1, 1) := by decide +kernel
theorem dL_law_353 : decode cL_law 353 = .ok (.iadd, 1) := by decide +kernel
theorem dL_law_354 : decode cL_law 354 = .ok (.iaload, 1) := by decide +kernel
theorem dL_law_355 : decode cL_law 355 = .ok (.invokevirtual 52, 3) := by decide +kernel
theorem dL_law_358 : decode cL_law 358 = .ok (.aload_n 2, 1) := by decide +kernel
theorem dL_law_359 : decode cL_law 359 = .ok (.aload_n 0, 1) := by decide +kernel
theorem dL_law_360 : decode cL_law 360 = .ok (.iload_n 3, 1) := by decide +kernel
theorem dL_law_361 : decode cL_law 361 = .ok (.iconst 1, 1) := by decide +kernel
theorem dL_law_362 : decode cL_law 362 = .ok (.iadd, 1) := by decide +kernel
theorem dL_law_363 : decode cL_law 363 = .ok (.iaload, 1) := by decide +kernel
theorem dL_law_364 : decode cL_law 364 = .ok (.invokevirtual 55, 3) := by decide +kernel
theorem dL_law_367 : decode cL_law 367 = .ok (.if_icmp .eq 123, 3) := by decide +kernel
theorem dL_law_370 : decode cL_law 370 = .ok (.iconst 0, 1) := by decide +kernel
theorem dL_law_371 : decode cL_law 371 = .ok (.ireturn, 1) := by decide +kernel
theorem dL_law_372 : decode cL_law 372 = .ok (.aload_n 1, 1) := by decide +kernel
theorem dL_law_373 : decode cL_law 373 = .ok (.invokevirtual 56, 3) := by decide +kernel
theorem dL_law_376 : decode cL_law 376 = .ok (.aload_n 2, 1) := by decide +kernel
theorem dL_law_377 : decode cL_law 377 = .ok (.invokevirtual 59, 3) := by decide +kernel
theorem dL_law_380 : decode cL_law 380 = .ok (.if_icmp .eq 110, 3) := by decide +kernel
theorem dL_law_383 : decode cL_law 383 = .ok (.iconst 0, 1) := by decide +kernel
theorem dL_law_384 : decode cL_law 384 = .ok (.ireturn, 1) := by decide +kernel
theorem dL_law_385 : decode cL_law 385 = .ok (.aload_n 1, 1) := by decide +kernel
theorem dL_law_386 : decode cL_law 386 = .ok (.aload_n 0, 1) := by decide +kernel
theorem dL_law_387 : decode cL_law 387 = .ok (.iload_n 3, 1) := by decide +kernel
theorem dL_law_388 : decode cL_law 388 = .ok (.iconst 1, 1) := by decide +kernel
theorem dL_law_389 : decode cL_law 389 = .ok (.iadd, 1) := by decide +kernel
theorem dL_law_390 : decode cL_law 390 = .ok (.iaload, 1) := by decide +kernel
theorem dL_law_391 : decode cL_law 391 = .ok (.invokevirtual 60, 3) := by decide +kernel
theorem dL_law_394 : decode cL_law 394 = .ok (.aload_n 2, 1) := by decide +kernel
theorem dL_law_395 : decode cL_law 395 = .ok (.aload_n 0, 1) := by decide +kernel
theorem dL_law_396 : decode cL_law 396 = .ok (.iload_n 3, 1) := by decide +kernel
theorem dL_law_397 : decode cL_law 397 = .ok (.iconst 1, 1) := by decide +kernel
theorem dL_law_398 : decode cL_law 398 = .ok (.iadd, 1) := by decide +kernel
theorem dL_law_399 : decode cL_law 399 = .ok (.iaload, 1) := by decide +kernel
theorem dL_law_400 : decode cL_law 400 = .ok (.invokevirtual 63, 3) := by decide +kernel
theorem dL_law_403 : decode cL_law 403 = .ok (.if_icmp .eq 87, 3) := by decide +kernel
theorem dL_law_406 : decode cL_law 406 = .ok (.iconst 0, 1) := by decide +kernel
theorem dL_law_407 : decode cL_law 407 = .ok (.ireturn, 1) := by decide +kernel
theorem dL_law_408 : decode cL_law 408 = .ok (.aload_n 1, 1) := by decide +kernel
theorem dL_law_409 : decode cL_law 409 = .ok (.aload_n 0, 1) := by decide +kernel
theorem dL_law_410 : decode cL_law 410 = .ok (.iload_n 3, 1) := by decide +kernel
theorem dL_law_411 : decode cL_law 411 = .ok (.iconst 1, 1) := by decide +kernel
theorem dL_law_412 : decode cL_law 412 = .ok (.iadd, 1) := by decide +kernel
theorem dL_law_413 : decode cL_law 413 = .ok (.iaload, 1) := by decide +kernel
theorem dL_law_414 : decode cL_law 414 = .ok (.invokevirtual 64, 3) := by decide +kernel
theorem dL_law_417 : decode cL_law 417 = .ok (.aload_n 2, 1) := by decide +kernel
theorem dL_law_418 : decode cL_law 418 = .ok (.aload_n 0, 1) := by decide +kernel
theorem dL_law_419 : decode cL_law 419 = .ok (.iload_n 3, 1) := by decide +kernel
theorem dL_law_420 : decode cL_law 420 = .ok (.iconst 1, 1) := by decide +kernel
theorem dL_law_421 : decode cL_law 421 = .ok (.iadd, 1) := by decide +kernel
theorem dL_law_422 : decode cL_law 422 = .ok (.iaload, 1) := by decide +kernel
theorem dL_law_423 : decode cL_law 423 = .ok (.invokevirtual 67, 3) := by decide +kernel
theorem dL_law_426 : decode cL_law 426 = .ok (.if_icmp .eq 64, 3) := by decide +kernel
theorem dL_law_429 : decode cL_law 429 = .ok (.iconst 0, 1) := by decide +kernel
theorem dL_law_430 : decode cL_law 430 = .ok (.ireturn, 1) := by decide +kernel
theorem dL_law_431 : decode cL_law 431 = .ok (.aload_n 1, 1) := by decide +kernel
theorem dL_law_432 : decode cL_law 432 = .ok (.aload_n 0, 1) := by decide +kernel
theorem dL_law_433 : decode cL_law 433 = .ok (.iload_n 3, 1) := by decide +kernel
theorem dL_law_434 : decode cL_law 434 = .ok (.iconst 1, 1) := by decide +kernel
theorem dL_law_435 : decode cL_law 435 = .ok (.iadd, 1) := by decide +kernel
theorem dL_law_436 : decode cL_law 436 = .ok (.iaload, 1) := by decide +kernel
theorem dL_law_437 : decode cL_law 437 = .ok (.invokevirtual 68, 3) := by decide +kernel
theorem dL_law_440 : decode cL_law 440 = .ok (.aload_n 2, 1) := by decide +kernel
theorem dL_law_441 : decode cL_law 441 = .ok (.aload_n 0, 1) := by decide +kernel
theorem dL_law_442 : decode cL_law 442 = .ok (.iload_n 3, 1) := by decide +kernel
theorem dL_law_443 : decode cL_law 443 = .ok (.iconst 1, 1) := by decide +kernel
theorem dL_law_444 : decode cL_law 444 = .ok (.iadd, 1) := by decide +kernel
theorem dL_law_445 : decode cL_law 445 = .ok (.iaload, 1) := by decide +kernel
theorem dL_law_446 : decode cL_law 446 = .ok (.invokevirtual 71, 3) := by decide +kernel
theorem dL_law_449 : decode cL_law 449 = .ok (.if_icmp .eq 41, 3) := by decide +kernel
theorem dL_law_452 : decode cL_law 452 = .ok (.iconst 0, 1) := by decide +kernel
theorem dL_law_453 : decode cL_law 453 = .ok (.ireturn, 1) := by decide +kernel
theorem dL_law_454 : decode cL_law 454 = .ok (.aload_n 1, 1) := by decide +kernel
theorem dL_law_455 : decode cL_law 455 = .ok (.aload_n 0, 1) := by decide +kernel
theorem dL_law_456 : decode cL_law 456 = .ok (.iload_n 3, 1) := by decide +kernel
theorem dL_law_457 : decode cL_law 457 = .ok (.iconst 1, 1) := by decide +kernel
theorem dL_law_458 : decode cL_law 458 = .ok (.iadd, 1) := by decide +kernel
theorem dL_law_459 : decode cL_law 459 = .ok (.iaload, 1) := by decide +kernel
theorem dL_law_460 : decode cL_law 460 = .ok (.invokevirtual 72, 3) := by decide +kernel
theorem dL_law_463 : decode cL_law 463 = .ok (.aload_n 2, 1) := by decide +kernel
theorem dL_law_464 : decode cL_law 464 = .ok (.aload_n 0, 1) := by decide +kernel
theorem dL_law_465 : decode cL_law 465 = .ok (.iload_n 3, 1) := by decide +kernel
theorem dL_law_466 : decode cL_law 466 = .ok (.iconst 1, 1) := by decide +kernel
theorem dL_law_467 : decode cL_law 467 = .ok (.iadd, 1) := by decide +kernel
theorem dL_law_468 : decode cL_law 468 = .ok (.iaload, 1) := by decide +kernel
theorem dL_law_469 : decode cL_law 469 = .ok (.invokevirtual 75, 3) := by decide +kernel
theorem dL_law_472 : decode cL_law 472 = .ok (.if_icmp .eq 18, 3) := by decide +kernel
theorem dL_law_475 : decode cL_law 475 = .ok (.iconst 0, 1) := by decide +kernel
theorem dL_law_476 : decode cL_law 476 = .ok (.ireturn, 1) := by decide +kernel
theorem dL_law_477 : decode cL_law 477 = .ok (.aload_n 1, 1) := by decide +kernel
theorem dL_law_478 : decode cL_law 478 = .ok (.invokevirtual 76, 3) := by decide +kernel
theorem dL_law_481 : decode cL_law 481 = .ok (.aload_n 2, 1) := by decide +kernel
theorem dL_law_482 : decode cL_law 482 = .ok (.invokevirtual 79, 3) := by decide +kernel
theorem dL_law_485 : decode cL_law 485 = .ok (.if_icmp .eq 5, 3) := by decide +kernel
theorem dL_law_488 : decode cL_law 488 = .ok (.iconst 0, 1) := by decide +kernel
theorem dL_law_489 : decode cL_law 489 = .ok (.ireturn, 1) := by decide +kernel
theorem dL_law_490 : decode cL_law 490 = .ok (.iinc 3 3, 3) := by decide +kernel
theorem dL_law_493 : decode cL_law 493 = .ok (.goto (-475), 3) := by decide +kernel
theorem dL_law_496 : decode cL_law 496 = .ok (.iconst 1, 1) := by decide +kernel
theorem dL_law_497 : decode cL_law 497 = .ok (.ireturn, 1) := by decide +kernel
end
section
/-! THE LAYER: JJ .. ws pc vs st: whatever heap holds the world ws, the machine at pc with locals vs and stack st comes to the method's end -/
abbrev vwCl : List vw_C := [(RX0, TX0, 12), (RX1, TX1, 11)]
def rmk (k : Nat) : Room := { frames := k, cells := 0, slots := 0, locals := 26 * k }
abbrev jT : Type := Int32 ⊕ Nat
def jV (v : jT) : Value := match v with
  | .inl x => .int x
  | .inr a => .ref a
theorem jV_cat (v : jT) : (jV v).category = 1 := by cases v <;> rfl
def jL : Nat → List (Option jT) → List (Nat × Value)
  | _, [] => []
  | k, none :: r => jL (k + 1) r
  | k, some v :: r => (k, jV v) :: jL (k + 1) r
theorem jL_mem : ∀ (vs : List (Option jT)) (k : Nat) (q : Nat × Value), q ∈ jL k vs ↔ ∃ (i : Nat) (v : jT), vs[i]? = some (some v) ∧ q = (k + i, jV v) := by
  intro vs
  induction vs with
  | nil => intro k q; simp [jL]
  | cons a r ih =>
    intro k q
    cases a with
    | none =>
      rw [jL, ih]
      constructor
      · rintro ⟨i, v, h1, h2⟩
        exact ⟨i + 1, v, by simpa using h1, by rw [h2]; congr 1; omega⟩
      · rintro ⟨i, v, h1, h2⟩
        cases i with
        | zero => simp at h1
        | succ i => exact ⟨i, v, by simpa using h1, by rw [h2]; congr 1; omega⟩
    | some u =>
      rw [jL, List.mem_cons, ih]
      constructor
      · rintro (h | ⟨i, v, h1, h2⟩)
        · exact ⟨0, u, by simp, by rw [h]; simp⟩
        · exact ⟨i + 1, v, by simpa using h1, by rw [h2]; congr 1; omega⟩
      · rintro ⟨i, v, h1, h2⟩
        cases i with
        | zero =>
          simp at h1
          subst h1
          exact Or.inl (by simpa using h2)
        | succ i => exact Or.inr ⟨i, v, by simpa using h1, by rw [h2]; congr 1; omega⟩
theorem jL_at {ls : Array Slot} {n : Nat} {vs : List (Option jT)} (h : lv_has ls n (jL 0 vs)) (i : Nat) {v : jT} (hi : vs[i]? = some (some v)) : ls[i]? = some (.val (jV v)) := h.2.2 (i, jV v) ((jL_mem vs 0 (i, jV v)).mpr ⟨i, v, hi, by simp⟩)
theorem jL_set {ls : Array Slot} {n : Nat} {vs : List (Option jT)} {i : Nat} {v : jT} (h : lv_has ls n ((i, jV v) :: (jL 0 vs).filter (fun q => !(q.1 == i) && !(q.1 + 1 == i && q.2.category == 2)))) : lv_has ls n (jL 0 (vs.set i (some v))) := by
  refine ⟨h.1, h.2.1, fun q hq => h.2.2 q ?_⟩
  obtain ⟨j, w, h1, h2⟩ := (jL_mem _ 0 q).mp hq
  rw [List.getElem?_set] at h1
  by_cases e : i = j
  · subst e
    rw [if_pos rfl] at h1
    split at h1
    · simp at h1
      subst h1
      rw [h2]
      simp
    · cases h1
  · rw [if_neg e] at h1
    refine List.mem_cons_of_mem _ (List.mem_filter.mpr ⟨(jL_mem vs 0 q).mpr ⟨j, w, h1, h2⟩, ?_⟩)
    rw [h2]
    simp [jV_cat]
    omega
/-- fewer known locals -/
theorem jL_less {ls : Array Slot} {n : Nat} {vs vs' : List (Option jT)} (h : lv_has ls n (jL 0 vs)) (hs : ∀ (i : Nat) (v : jT), vs'[i]? = some (some v) → vs[i]? = some (some v)) : lv_has ls n (jL 0 vs') := by
  refine ⟨h.1, h.2.1, fun q hq => ?_⟩
  obtain ⟨j, w, h1, h2⟩ := (jL_mem _ 0 q).mp hq
  rw [h2]
  simpa using jL_at h j (hs j w h1)
def CC (p : Program) (s : State) (m : MethodId) (args : Array Value) (meth : Method) (c : Code) (D : va_G) (A : Nat → Prop) (cI cZ : ClassId) (own : String) (cc : ByteArray) (nL : Nat) (ret : Option FieldType) : Prop :=
  p.tables.exec = Jvm.exec ∧ c.code = cc ∧ c.maxLocals = nL ∧ s.vm.findClass own = some m.cls ∧ (∀ w ∈ lw_all, w.before args s = true) ∧ va_K D vwCl [(cI, .int), (cZ, .boolean)] s ∧ (∀ q : Nat, s.heap.size ≤ q → A q) ∧ meth.locks = false ∧ meth.sig.returnType = ret
def JJ (p : Program) (l : Launch) (e : Env) (s : State) (m : MethodId) (args : Array Value) (below : List Frame) (meth : Method) (c : Code) (D : va_G) (A : Nat → Prop) (lev : Nat) (Qc : Array Value → State → Outcome → State → Prop) (ws : va_W) (pc : Nat) (vs : List (Option jT)) (st : List Value) : Prop :=
  ∀ (H : Heap) (locs : List Loc) (ls : Array Slot), va_P D vwCl ws H → va_D A ws → va_S A s.heap H locs → lv_has ls vs.length (jL 0 vs) → W p l e (rmk lev) s m args below meth c H locs 0 0 (MQ below Qc args s 0 0 A) (F0 m pc ls st)
section JL
variable {p : Program} {l : Launch} {e : Env} {s : State} {m : MethodId} {args : Array Value} {below : List Frame} {meth : Method} {c : Code} {D : va_G} {A : Nat → Prop} {lev : Nat} {Qc : Array Value → State → Outcome → State → Prop} {ws : va_W} {pc : Nat} {vs : List (Option jT)} {st : List Value}
variable {cI cZ : ClassId} {own : String} {cc : ByteArray} {nL : Nat} {ret : Option FieldType}
theorem j_iconst (C : CC p s m args meth c D A cI cZ own cc nL ret) {n : Int} (v : Int32) (hd : decode cc pc = .ok (.iconst n, 1)) (hv : Int32.ofInt n = v) (k : JJ p l e s m args below meth c D A lev Qc ws (pc + 1) vs (.int v :: st)) : JJ p l e s m args below meth c D A lev Qc ws pc vs st := by
  intro H locs ls hP hD hS hl
  exact lv_iconst C.1 C.2.1 hd hv (k H locs ls hP hD hS hl)
theorem j_bipush (C : CC p s m args meth c D A cI cZ own cc nL ret) {n : Int} (v : Int32) (hd : decode cc pc = .ok (.bipush n, 2)) (hv : (Int8.ofInt n).toInt32 = v) (k : JJ p l e s m args below meth c D A lev Qc ws (pc + 2) vs (.int v :: st)) : JJ p l e s m args below meth c D A lev Qc ws pc vs st := by
  intro H locs ls hP hD hS hl
  exact lv_bipush C.1 C.2.1 hd hv (k H locs ls hP hD hS hl)
theorem j_iload0 {x : Int32} {vr : List (Option jT)} (C : CC p s m args meth c D A cI cZ own cc nL ret) (hd : decode cc pc = .ok (.iload_n 0, 1)) (k : JJ p l e s m args below meth c D A lev Qc ws (pc + 1) (some (.inl x) :: vr) (.int x :: st)) : JJ p l e s m args below meth c D A lev Qc ws pc (some (.inl x) :: vr) st := by
  intro H locs ls hP hD hS hl
  exact lv_iload_n C.1 C.2.1 hd rfl (jL_at hl 0 rfl) (k H locs ls hP hD hS hl)
theorem j_aload0 {x : Nat} {vr : List (Option jT)} (C : CC p s m args meth c D A cI cZ own cc nL ret) (hd : decode cc pc = .ok (.aload_n 0, 1)) (k : JJ p l e s m args below meth c D A lev Qc ws (pc + 1) (some (.inr x) :: vr) (.ref x :: st)) : JJ p l e s m args below meth c D A lev Qc ws pc (some (.inr x) :: vr) st := by
  intro H locs ls hP hD hS hl
  exact lv_aload_n C.1 C.2.1 hd rfl (jL_at hl 0 rfl) (k H locs ls hP hD hS hl)
theorem j_istore0 {x : Int32} {w : Option jT} {vr : List (Option jT)} (C : CC p s m args meth c D A cI cZ own cc nL ret) (hd : decode cc pc = .ok (.istore_n 0, 1)) (k : JJ p l e s m args below meth c D A lev Qc ws (pc + 1) (some (.inl x) :: vr) st) : JJ p l e s m args below meth c D A lev Qc ws pc (w :: vr) (.int x :: st) := by
  intro H locs ls hP hD hS hl
  exact lv_istore_n C.1 C.2.1 hd rfl hl (by simp; try omega) rfl (fun ls1 h1 => (k H locs ls1 hP hD hS (by simpa using jL_set (vs := (w :: vr)) (i := 0) (v := .inl x) h1)))
theorem j_iinc0 {x : Int32} {vr : List (Option jT)} (C : CC p s m args meth c D A cI cZ own cc nL ret) {n : Int} (z : Int32) (hd : decode cc pc = .ok (.iinc 0 n, 3)) (hv : x + Int32.ofInt n = z) (k : JJ p l e s m args below meth c D A lev Qc ws (pc + 3) (some (.inl z) :: vr) st) : JJ p l e s m args below meth c D A lev Qc ws pc (some (.inl x) :: vr) st := by
  intro H locs ls hP hD hS hl
  obtain ⟨kk, hkk⟩ := List.getElem?_of_mem ((jL_mem (some (.inl x) :: vr) 0 (0, .int x)).mpr ⟨0, .inl x, rfl, rfl⟩)
  exact lv_iinc C.1 C.2.1 hd hl hkk hv (by simp; try omega) rfl (fun ls1 h1 => (k H locs ls1 hP hD hS (by simpa using jL_set (vs := (some (.inl x) :: vr)) (i := 0) (v := .inl z) h1)))
theorem j_iload1 {x : Int32} {vr : List (Option jT)} {v0 : Option jT} (C : CC p s m args meth c D A cI cZ own cc nL ret) (hd : decode cc pc = .ok (.iload_n 1, 1)) (k : JJ p l e s m args below meth c D A lev Qc ws (pc + 1) (v0 :: some (.inl x) :: vr) (.int x :: st)) : JJ p l e s m args below meth c D A lev Qc ws pc (v0 :: some (.inl x) :: vr) st := by
  intro H locs ls hP hD hS hl
  exact lv_iload_n C.1 C.2.1 hd rfl (jL_at hl 1 rfl) (k H locs ls hP hD hS hl)
theorem j_aload1 {x : Nat} {vr : List (Option jT)} {v0 : Option jT} (C : CC p s m args meth c D A cI cZ own cc nL ret) (hd : decode cc pc = .ok (.aload_n 1, 1)) (k : JJ p l e s m args below meth c D A lev Qc ws (pc + 1) (v0 :: some (.inr x) :: vr) (.ref x :: st)) : JJ p l e s m args below meth c D A lev Qc ws pc (v0 :: some (.inr x) :: vr) st := by
  intro H locs ls hP hD hS hl
  exact lv_aload_n C.1 C.2.1 hd rfl (jL_at hl 1 rfl) (k H locs ls hP hD hS hl)
theorem j_istore1 {x : Int32} {w : Option jT} {vr : List (Option jT)} {v0 : Option jT} (C : CC p s m args meth c D A cI cZ own cc nL ret) (hd : decode cc pc = .ok (.istore_n 1, 1)) (k : JJ p l e s m args below meth c D A lev Qc ws (pc + 1) (v0 :: some (.inl x) :: vr) st) : JJ p l e s m args below meth c D A lev Qc ws pc (v0 :: w :: vr) (.int x :: st) := by
  intro H locs ls hP hD hS hl
  exact lv_istore_n C.1 C.2.1 hd rfl hl (by simp; try omega) rfl (fun ls1 h1 => (k H locs ls1 hP hD hS (by simpa using jL_set (vs := (v0 :: w :: vr)) (i := 1) (v := .inl x) h1)))
theorem j_iinc1 {x : Int32} {vr : List (Option jT)} {v0 : Option jT} (C : CC p s m args meth c D A cI cZ own cc nL ret) {n : Int} (z : Int32) (hd : decode cc pc = .ok (.iinc 1 n, 3)) (hv : x + Int32.ofInt n = z) (k : JJ p l e s m args below meth c D A lev Qc ws (pc + 3) (v0 :: some (.inl z) :: vr) st) : JJ p l e s m args below meth c D A lev Qc ws pc (v0 :: some (.inl x) :: vr) st := by
  intro H locs ls hP hD hS hl
  obtain ⟨kk, hkk⟩ := List.getElem?_of_mem ((jL_mem (v0 :: some (.inl x) :: vr) 0 (1, .int x)).mpr ⟨1, .inl x, rfl, rfl⟩)
  exact lv_iinc C.1 C.2.1 hd hl hkk hv (by simp; try omega) rfl (fun ls1 h1 => (k H locs ls1 hP hD hS (by simpa using jL_set (vs := (v0 :: some (.inl x) :: vr)) (i := 1) (v := .inl z) h1)))
theorem j_iload2 {x : Int32} {vr : List (Option jT)} {v0 v1 : Option jT} (C : CC p s m args meth c D A cI cZ own cc nL ret) (hd : decode cc pc = .ok (.iload_n 2, 1)) (k : JJ p l e s m args below meth c D A lev Qc ws (pc + 1) (v0 :: v1 :: some (.inl x) :: vr) (.int x :: st)) : JJ p l e s m args below meth c D A lev Qc ws pc (v0 :: v1 :: some (.inl x) :: vr) st := by
  intro H locs ls hP hD hS hl
  exact lv_iload_n C.1 C.2.1 hd rfl (jL_at hl 2 rfl) (k H locs ls hP hD hS hl)
theorem j_aload2 {x : Nat} {vr : List (Option jT)} {v0 v1 : Option jT} (C : CC p s m args meth c D A cI cZ own cc nL ret) (hd : decode cc pc = .ok (.aload_n 2, 1)) (k : JJ p l e s m args below meth c D A lev Qc ws (pc + 1) (v0 :: v1 :: some (.inr x) :: vr) (.ref x :: st)) : JJ p l e s m args below meth c D A lev Qc ws pc (v0 :: v1 :: some (.inr x) :: vr) st := by
  intro H locs ls hP hD hS hl
  exact lv_aload_n C.1 C.2.1 hd rfl (jL_at hl 2 rfl) (k H locs ls hP hD hS hl)
theorem j_istore2 {x : Int32} {w : Option jT} {vr : List (Option jT)} {v0 v1 : Option jT} (C : CC p s m args meth c D A cI cZ own cc nL ret) (hd : decode cc pc = .ok (.istore_n 2, 1)) (k : JJ p l e s m args below meth c D A lev Qc ws (pc + 1) (v0 :: v1 :: some (.inl x) :: vr) st) : JJ p l e s m args below meth c D A lev Qc ws pc (v0 :: v1 :: w :: vr) (.int x :: st) := by
  intro H locs ls hP hD hS hl
  exact lv_istore_n C.1 C.2.1 hd rfl hl (by simp; try omega) rfl (fun ls1 h1 => (k H locs ls1 hP hD hS (by simpa using jL_set (vs := (v0 :: v1 :: w :: vr)) (i := 2) (v := .inl x) h1)))
theorem j_iinc2 {x : Int32} {vr : List (Option jT)} {v0 v1 : Option jT} (C : CC p s m args meth c D A cI cZ own cc nL ret) {n : Int} (z : Int32) (hd : decode cc pc = .ok (.iinc 2 n, 3)) (hv : x + Int32.ofInt n = z) (k : JJ p l e s m args below meth c D A lev Qc ws (pc + 3) (v0 :: v1 :: some (.inl z) :: vr) st) : JJ p l e s m args below meth c D A lev Qc ws pc (v0 :: v1 :: some (.inl x) :: vr) st := by
  intro H locs ls hP hD hS hl
  obtain ⟨kk, hkk⟩ := List.getElem?_of_mem ((jL_mem (v0 :: v1 :: some (.inl x) :: vr) 0 (2, .int x)).mpr ⟨2, .inl x, rfl, rfl⟩)
  exact lv_iinc C.1 C.2.1 hd hl hkk hv (by simp; try omega) rfl (fun ls1 h1 => (k H locs ls1 hP hD hS (by simpa using jL_set (vs := (v0 :: v1 :: some (.inl x) :: vr)) (i := 2) (v := .inl z) h1)))
theorem j_iload3 {x : Int32} {vr : List (Option jT)} {v0 v1 v2 : Option jT} (C : CC p s m args meth c D A cI cZ own cc nL ret) (hd : decode cc pc = .ok (.iload_n 3, 1)) (k : JJ p l e s m args below meth c D A lev Qc ws (pc + 1) (v0 :: v1 :: v2 :: some (.inl x) :: vr) (.int x :: st)) : JJ p l e s m args below meth c D A lev Qc ws pc (v0 :: v1 :: v2 :: some (.inl x) :: vr) st := by
  intro H locs ls hP hD hS hl
  exact lv_iload_n C.1 C.2.1 hd rfl (jL_at hl 3 rfl) (k H locs ls hP hD hS hl)
theorem j_aload3 {x : Nat} {vr : List (Option jT)} {v0 v1 v2 : Option jT} (C : CC p s m args meth c D A cI cZ own cc nL ret) (hd : decode cc pc = .ok (.aload_n 3, 1)) (k : JJ p l e s m args below meth c D A lev Qc ws (pc + 1) (v0 :: v1 :: v2 :: some (.inr x) :: vr) (.ref x :: st)) : JJ p l e s m args below meth c D A lev Qc ws pc (v0 :: v1 :: v2 :: some (.inr x) :: vr) st := by
  intro H locs ls hP hD hS hl
  exact lv_aload_n C.1 C.2.1 hd rfl (jL_at hl 3 rfl) (k H locs ls hP hD hS hl)
theorem j_istore3 {x : Int32} {w : Option jT} {vr : List (Option jT)} {v0 v1 v2 : Option jT} (C : CC p s m args meth c D A cI cZ own cc nL ret) (hd : decode cc pc = .ok (.istore_n 3, 1)) (k : JJ p l e s m args below meth c D A lev Qc ws (pc + 1) (v0 :: v1 :: v2 :: some (.inl x) :: vr) st) : JJ p l e s m args below meth c D A lev Qc ws pc (v0 :: v1 :: v2 :: w :: vr) (.int x :: st) := by
  intro H locs ls hP hD hS hl
  exact lv_istore_n C.1 C.2.1 hd rfl hl (by simp; try omega) rfl (fun ls1 h1 => (k H locs ls1 hP hD hS (by simpa using jL_set (vs := (v0 :: v1 :: v2 :: w :: vr)) (i := 3) (v := .inl x) h1)))
theorem j_iinc3 {x : Int32} {vr : List (Option jT)} {v0 v1 v2 : Option jT} (C : CC p s m args meth c D A cI cZ own cc nL ret) {n : Int} (z : Int32) (hd : decode cc pc = .ok (.iinc 3 n, 3)) (hv : x + Int32.ofInt n = z) (k : JJ p l e s m args below meth c D A lev Qc ws (pc + 3) (v0 :: v1 :: v2 :: some (.inl z) :: vr) st) : JJ p l e s m args below meth c D A lev Qc ws pc (v0 :: v1 :: v2 :: some (.inl x) :: vr) st := by
  intro H locs ls hP hD hS hl
  obtain ⟨kk, hkk⟩ := List.getElem?_of_mem ((jL_mem (v0 :: v1 :: v2 :: some (.inl x) :: vr) 0 (3, .int x)).mpr ⟨3, .inl x, rfl, rfl⟩)
  exact lv_iinc C.1 C.2.1 hd hl hkk hv (by simp; try omega) rfl (fun ls1 h1 => (k H locs ls1 hP hD hS (by simpa using jL_set (vs := (v0 :: v1 :: v2 :: some (.inl x) :: vr)) (i := 3) (v := .inl z) h1)))
theorem j_iload4 {x : Int32} {vr : List (Option jT)} {v0 v1 v2 v3 : Option jT} (C : CC p s m args meth c D A cI cZ own cc nL ret) (hd : decode cc pc = .ok (.iload 4, 2)) (k : JJ p l e s m args below meth c D A lev Qc ws (pc + 2) (v0 :: v1 :: v2 :: v3 :: some (.inl x) :: vr) (.int x :: st)) : JJ p l e s m args below meth c D A lev Qc ws pc (v0 :: v1 :: v2 :: v3 :: some (.inl x) :: vr) st := by
  intro H locs ls hP hD hS hl
  exact lv_iload C.1 C.2.1 hd (jL_at hl 4 rfl) (k H locs ls hP hD hS hl)
theorem j_istore4 {x : Int32} {w : Option jT} {vr : List (Option jT)} {v0 v1 v2 v3 : Option jT} (C : CC p s m args meth c D A cI cZ own cc nL ret) (hd : decode cc pc = .ok (.istore 4, 2)) (k : JJ p l e s m args below meth c D A lev Qc ws (pc + 2) (v0 :: v1 :: v2 :: v3 :: some (.inl x) :: vr) st) : JJ p l e s m args below meth c D A lev Qc ws pc (v0 :: v1 :: v2 :: v3 :: w :: vr) (.int x :: st) := by
  intro H locs ls hP hD hS hl
  exact lv_istore C.1 C.2.1 hd hl (by simp; try omega) rfl (fun ls1 h1 => (k H locs ls1 hP hD hS (by simpa using jL_set (vs := (v0 :: v1 :: v2 :: v3 :: w :: vr)) (i := 4) (v := .inl x) h1)))
theorem j_iinc4 {x : Int32} {vr : List (Option jT)} {v0 v1 v2 v3 : Option jT} (C : CC p s m args meth c D A cI cZ own cc nL ret) {n : Int} (z : Int32) (hd : decode cc pc = .ok (.iinc 4 n, 3)) (hv : x + Int32.ofInt n = z) (k : JJ p l e s m args below meth c D A lev Qc ws (pc + 3) (v0 :: v1 :: v2 :: v3 :: some (.inl z) :: vr) st) : JJ p l e s m args below meth c D A lev Qc ws pc (v0 :: v1 :: v2 :: v3 :: some (.inl x) :: vr) st := by
  intro H locs ls hP hD hS hl
  obtain ⟨kk, hkk⟩ := List.getElem?_of_mem ((jL_mem (v0 :: v1 :: v2 :: v3 :: some (.inl x) :: vr) 0 (4, .int x)).mpr ⟨4, .inl x, rfl, rfl⟩)
  exact lv_iinc C.1 C.2.1 hd hl hkk hv (by simp; try omega) rfl (fun ls1 h1 => (k H locs ls1 hP hD hS (by simpa using jL_set (vs := (v0 :: v1 :: v2 :: v3 :: some (.inl x) :: vr)) (i := 4) (v := .inl z) h1)))
theorem j_iload5 {x : Int32} {vr : List (Option jT)} {v0 v1 v2 v3 v4 : Option jT} (C : CC p s m args meth c D A cI cZ own cc nL ret) (hd : decode cc pc = .ok (.iload 5, 2)) (k : JJ p l e s m args below meth c D A lev Qc ws (pc + 2) (v0 :: v1 :: v2 :: v3 :: v4 :: some (.inl x) :: vr) (.int x :: st)) : JJ p l e s m args below meth c D A lev Qc ws pc (v0 :: v1 :: v2 :: v3 :: v4 :: some (.inl x) :: vr) st := by
  intro H locs ls hP hD hS hl
  exact lv_iload C.1 C.2.1 hd (jL_at hl 5 rfl) (k H locs ls hP hD hS hl)
theorem j_istore5 {x : Int32} {w : Option jT} {vr : List (Option jT)} {v0 v1 v2 v3 v4 : Option jT} (C : CC p s m args meth c D A cI cZ own cc nL ret) (hd : decode cc pc = .ok (.istore 5, 2)) (k : JJ p l e s m args below meth c D A lev Qc ws (pc + 2) (v0 :: v1 :: v2 :: v3 :: v4 :: some (.inl x) :: vr) st) : JJ p l e s m args below meth c D A lev Qc ws pc (v0 :: v1 :: v2 :: v3 :: v4 :: w :: vr) (.int x :: st) := by
  intro H locs ls hP hD hS hl
  exact lv_istore C.1 C.2.1 hd hl (by simp; try omega) rfl (fun ls1 h1 => (k H locs ls1 hP hD hS (by simpa using jL_set (vs := (v0 :: v1 :: v2 :: v3 :: v4 :: w :: vr)) (i := 5) (v := .inl x) h1)))
theorem j_iinc5 {x : Int32} {vr : List (Option jT)} {v0 v1 v2 v3 v4 : Option jT} (C : CC p s m args meth c D A cI cZ own cc nL ret) {n : Int} (z : Int32) (hd : decode cc pc = .ok (.iinc 5 n, 3)) (hv : x + Int32.ofInt n = z) (k : JJ p l e s m args below meth c D A lev Qc ws (pc + 3) (v0 :: v1 :: v2 :: v3 :: v4 :: some (.inl z) :: vr) st) : JJ p l e s m args below meth c D A lev Qc ws pc (v0 :: v1 :: v2 :: v3 :: v4 :: some (.inl x) :: vr) st := by
  intro H locs ls hP hD hS hl
  obtain ⟨kk, hkk⟩ := List.getElem?_of_mem ((jL_mem (v0 :: v1 :: v2 :: v3 :: v4 :: some (.inl x) :: vr) 0 (5, .int x)).mpr ⟨5, .inl x, rfl, rfl⟩)
  exact lv_iinc C.1 C.2.1 hd hl hkk hv (by simp; try omega) rfl (fun ls1 h1 => (k H locs ls1 hP hD hS (by simpa using jL_set (vs := (v0 :: v1 :: v2 :: v3 :: v4 :: some (.inl x) :: vr)) (i := 5) (v := .inl z) h1)))
theorem j_iload6 {x : Int32} {vr : List (Option jT)} {v0 v1 v2 v3 v4 v5 : Option jT} (C : CC p s m args meth c D A cI cZ own cc nL ret) (hd : decode cc pc = .ok (.iload 6, 2)) (k : JJ p l e s m args below meth c D A lev Qc ws (pc + 2) (v0 :: v1 :: v2 :: v3 :: v4 :: v5 :: some (.inl x) :: vr) (.int x :: st)) : JJ p l e s m args below meth c D A lev Qc ws pc (v0 :: v1 :: v2 :: v3 :: v4 :: v5 :: some (.inl x) :: vr) st := by
  intro H locs ls hP hD hS hl
  exact lv_iload C.1 C.2.1 hd (jL_at hl 6 rfl) (k H locs ls hP hD hS hl)
theorem j_istore6 {x : Int32} {w : Option jT} {vr : List (Option jT)} {v0 v1 v2 v3 v4 v5 : Option jT} (C : CC p s m args meth c D A cI cZ own cc nL ret) (hd : decode cc pc = .ok (.istore 6, 2)) (k : JJ p l e s m args below meth c D A lev Qc ws (pc + 2) (v0 :: v1 :: v2 :: v3 :: v4 :: v5 :: some (.inl x) :: vr) st) : JJ p l e s m args below meth c D A lev Qc ws pc (v0 :: v1 :: v2 :: v3 :: v4 :: v5 :: w :: vr) (.int x :: st) := by
  intro H locs ls hP hD hS hl
  exact lv_istore C.1 C.2.1 hd hl (by simp; try omega) rfl (fun ls1 h1 => (k H locs ls1 hP hD hS (by simpa using jL_set (vs := (v0 :: v1 :: v2 :: v3 :: v4 :: v5 :: w :: vr)) (i := 6) (v := .inl x) h1)))
theorem j_iinc6 {x : Int32} {vr : List (Option jT)} {v0 v1 v2 v3 v4 v5 : Option jT} (C : CC p s m args meth c D A cI cZ own cc nL ret) {n : Int} (z : Int32) (hd : decode cc pc = .ok (.iinc 6 n, 3)) (hv : x + Int32.ofInt n = z) (k : JJ p l e s m args below meth c D A lev Qc ws (pc + 3) (v0 :: v1 :: v2 :: v3 :: v4 :: v5 :: some (.inl z) :: vr) st) : JJ p l e s m args below meth c D A lev Qc ws pc (v0 :: v1 :: v2 :: v3 :: v4 :: v5 :: some (.inl x) :: vr) st := by
  intro H locs ls hP hD hS hl
  obtain ⟨kk, hkk⟩ := List.getElem?_of_mem ((jL_mem (v0 :: v1 :: v2 :: v3 :: v4 :: v5 :: some (.inl x) :: vr) 0 (6, .int x)).mpr ⟨6, .inl x, rfl, rfl⟩)
  exact lv_iinc C.1 C.2.1 hd hl hkk hv (by simp; try omega) rfl (fun ls1 h1 => (k H locs ls1 hP hD hS (by simpa using jL_set (vs := (v0 :: v1 :: v2 :: v3 :: v4 :: v5 :: some (.inl x) :: vr)) (i := 6) (v := .inl z) h1)))
theorem j_iadd {x y : Int32} (C : CC p s m args meth c D A cI cZ own cc nL ret) (hd : decode cc pc = .ok (.iadd, 1)) (k : JJ p l e s m args below meth c D A lev Qc ws (pc + 1) vs (.int (x + y) :: st)) : JJ p l e s m args below meth c D A lev Qc ws pc vs (.int y :: .int x :: st) := by
  intro H locs ls hP hD hS hl
  exact lv_iadd C.1 C.2.1 hd (k H locs ls hP hD hS hl)
theorem j_isub {x y : Int32} (C : CC p s m args meth c D A cI cZ own cc nL ret) (hd : decode cc pc = .ok (.isub, 1)) (k : JJ p l e s m args below meth c D A lev Qc ws (pc + 1) vs (.int (x - y) :: st)) : JJ p l e s m args below meth c D A lev Qc ws pc vs (.int y :: .int x :: st) := by
  intro H locs ls hP hD hS hl
  exact lv_isub C.1 C.2.1 hd (k H locs ls hP hD hS hl)
theorem j_iand {x y : Int32} (C : CC p s m args meth c D A cI cZ own cc nL ret) (hd : decode cc pc = .ok (.iand, 1)) (k : JJ p l e s m args below meth c D A lev Qc ws (pc + 1) vs (.int (x &&& y) :: st)) : JJ p l e s m args below meth c D A lev Qc ws pc vs (.int y :: .int x :: st) := by
  intro H locs ls hP hD hS hl
  exact lv_iand C.1 C.2.1 hd (k H locs ls hP hD hS hl)
theorem j_ishr {x y : Int32} (C : CC p s m args meth c D A cI cZ own cc nL ret) (hd : decode cc pc = .ok (.ishr, 1)) (k : JJ p l e s m args below meth c D A lev Qc ws (pc + 1) vs (.int (x >>> (y &&& 31)) :: st)) : JJ p l e s m args below meth c D A lev Qc ws pc vs (.int y :: .int x :: st) := by
  intro H locs ls hP hD hS hl
  exact lv_ishr C.1 C.2.1 hd (k H locs ls hP hD hS hl)
theorem j_dupr {x : Nat} (C : CC p s m args meth c D A cI cZ own cc nL ret) (hd : decode cc pc = .ok (.dup, 1)) (k : JJ p l e s m args below meth c D A lev Qc ws (pc + 1) vs (.ref x :: .ref x :: st)) : JJ p l e s m args below meth c D A lev Qc ws pc vs (.ref x :: st) := by
  intro H locs ls hP hD hS hl
  exact lv_dup C.1 C.2.1 hd rfl (k H locs ls hP hD hS hl)
theorem j_dupi {x : Int32} (C : CC p s m args meth c D A cI cZ own cc nL ret) (hd : decode cc pc = .ok (.dup, 1)) (k : JJ p l e s m args below meth c D A lev Qc ws (pc + 1) vs (.int x :: .int x :: st)) : JJ p l e s m args below meth c D A lev Qc ws pc vs (.int x :: st) := by
  intro H locs ls hP hD hS hl
  exact lv_dup C.1 C.2.1 hd rfl (k H locs ls hP hD hS hl)
theorem j_goto (C : CC p s m args meth c D A cI cZ own cc nL ret) {off : Int} {tgt : Nat} (hd : decode cc pc = .ok (.goto off, 3)) (ht : (pc : Int) + off = (tgt : Int)) (k : JJ p l e s m args below meth c D A lev Qc ws tgt vs st) : JJ p l e s m args below meth c D A lev Qc ws pc vs st := by
  intro H locs ls hP hD hS hl
  exact lv_goto C.1 C.2.1 hd ht (k H locs ls hP hD hS hl)
theorem j_icmp_eq {x y : Int32} (C : CC p s m args meth c D A cI cZ own cc nL ret) {off : Int} {tgt : Nat} (hd : decode cc pc = .ok (.if_icmp .eq off, 3)) (ht : (pc : Int) + off = (tgt : Int)) (kt : x = y → JJ p l e s m args below meth c D A lev Qc ws tgt vs st) (kf : ¬ x = y → JJ p l e s m args below meth c D A lev Qc ws (pc + 3) vs st) : JJ p l e s m args below meth c D A lev Qc ws pc vs (.int y :: .int x :: st) := by
  intro H locs ls hP hD hS hl
  exact lv_icmp_eq C.1 C.2.1 hd ht (fun h => kt h H locs ls hP hD hS hl) (fun h => kf h H locs ls hP hD hS hl)
theorem j_if_eq {x : Int32} (C : CC p s m args meth c D A cI cZ own cc nL ret) {off : Int} {tgt : Nat} (hd : decode cc pc = .ok (.ifCond .eq off, 3)) (ht : (pc : Int) + off = (tgt : Int)) (kt : x = 0 → JJ p l e s m args below meth c D A lev Qc ws tgt vs st) (kf : ¬ x = 0 → JJ p l e s m args below meth c D A lev Qc ws (pc + 3) vs st) : JJ p l e s m args below meth c D A lev Qc ws pc vs (.int x :: st) := by
  intro H locs ls hP hD hS hl
  exact lv_if_eq C.1 C.2.1 hd ht (fun h => kt h H locs ls hP hD hS hl) (fun h => kf h H locs ls hP hD hS hl)
theorem j_icmpN_eq {a b : Nat} (C : CC p s m args meth c D A cI cZ own cc nL ret) {off : Int} {tgt : Nat} (hd : decode cc pc = .ok (.if_icmp .eq off, 3)) (ht : (pc : Int) + off = (tgt : Int)) (ha : a < 2 ^ 31) (hb : b < 2 ^ 31) (kt : a = b → JJ p l e s m args below meth c D A lev Qc ws tgt vs st) (kf : ¬ a = b → JJ p l e s m args below meth c D A lev Qc ws (pc + 3) vs st) : JJ p l e s m args below meth c D A lev Qc ws pc vs (.int (nI b) :: .int (nI a) :: st) := by
  refine j_icmp_eq C hd ht (fun h => kt ?_) (fun h => kf ?_)
  · first | exact (nI_eq ha hb).mp h | exact (nI_ltI ha hb).mp h | exact (nI_leI ha hb).mp h | exact (nI_ltI hb ha).mp h | exact (nI_leI hb ha).mp h | exact (fun q => h ((nI_eq ha hb).mpr q)) | exact Nat.not_lt.mp (fun q => h ((nI_ltI ha hb).mpr q)) | exact Nat.not_lt.mp (fun q => h ((nI_ltI hb ha).mpr q)) | exact Nat.not_le.mp (fun q => h ((nI_leI ha hb).mpr q)) | exact Nat.not_le.mp (fun q => h ((nI_leI hb ha).mpr q))
  · first | exact (nI_eq ha hb).mp h | exact (nI_ltI ha hb).mp h | exact (nI_leI ha hb).mp h | exact (nI_ltI hb ha).mp h | exact (nI_leI hb ha).mp h | exact (fun q => h ((nI_eq ha hb).mpr q)) | exact Nat.not_lt.mp (fun q => h ((nI_ltI ha hb).mpr q)) | exact Nat.not_lt.mp (fun q => h ((nI_ltI hb ha).mpr q)) | exact Nat.not_le.mp (fun q => h ((nI_leI ha hb).mpr q)) | exact Nat.not_le.mp (fun q => h ((nI_leI hb ha).mpr q))
theorem j_ifN_eq {a : Nat} (C : CC p s m args meth c D A cI cZ own cc nL ret) {off : Int} {tgt : Nat} (hd : decode cc pc = .ok (.ifCond .eq off, 3)) (ht : (pc : Int) + off = (tgt : Int)) (ha : a < 2 ^ 31) (kt : a = 0 → JJ p l e s m args below meth c D A lev Qc ws tgt vs st) (kf : ¬ a = 0 → JJ p l e s m args below meth c D A lev Qc ws (pc + 3) vs st) : JJ p l e s m args below meth c D A lev Qc ws pc vs (.int (nI a) :: st) := by
  have hb : 0 < 2 ^ 31 := by decide
  refine j_if_eq C hd ht (fun h => kt ?_) (fun h => kf ?_)
  · rw [← nI_0] at h
    first | exact (nI_eq ha hb).mp h | exact (nI_ltI ha hb).mp h | exact (nI_leI ha hb).mp h | exact (nI_ltI hb ha).mp h | exact (nI_leI hb ha).mp h | exact (fun q => h ((nI_eq ha hb).mpr q)) | exact Nat.not_lt.mp (fun q => h ((nI_ltI ha hb).mpr q)) | exact Nat.not_lt.mp (fun q => h ((nI_ltI hb ha).mpr q)) | exact Nat.not_le.mp (fun q => h ((nI_leI ha hb).mpr q)) | exact Nat.not_le.mp (fun q => h ((nI_leI hb ha).mpr q))
  · rw [← nI_0] at h
    first | exact (nI_eq ha hb).mp h | exact (nI_ltI ha hb).mp h | exact (nI_leI ha hb).mp h | exact (nI_ltI hb ha).mp h | exact (nI_leI hb ha).mp h | exact (fun q => h ((nI_eq ha hb).mpr q)) | exact Nat.not_lt.mp (fun q => h ((nI_ltI ha hb).mpr q)) | exact Nat.not_lt.mp (fun q => h ((nI_ltI hb ha).mpr q)) | exact Nat.not_le.mp (fun q => h ((nI_leI ha hb).mpr q)) | exact Nat.not_le.mp (fun q => h ((nI_leI hb ha).mpr q))
theorem j_icmp_ne {x y : Int32} (C : CC p s m args meth c D A cI cZ own cc nL ret) {off : Int} {tgt : Nat} (hd : decode cc pc = .ok (.if_icmp .ne off, 3)) (ht : (pc : Int) + off = (tgt : Int)) (kt : ¬ x = y → JJ p l e s m args below meth c D A lev Qc ws tgt vs st) (kf : x = y → JJ p l e s m args below meth c D A lev Qc ws (pc + 3) vs st) : JJ p l e s m args below meth c D A lev Qc ws pc vs (.int y :: .int x :: st) := by
  intro H locs ls hP hD hS hl
  exact lv_icmp_ne C.1 C.2.1 hd ht (fun h => kt h H locs ls hP hD hS hl) (fun h => kf h H locs ls hP hD hS hl)
theorem j_if_ne {x : Int32} (C : CC p s m args meth c D A cI cZ own cc nL ret) {off : Int} {tgt : Nat} (hd : decode cc pc = .ok (.ifCond .ne off, 3)) (ht : (pc : Int) + off = (tgt : Int)) (kt : ¬ x = 0 → JJ p l e s m args below meth c D A lev Qc ws tgt vs st) (kf : x = 0 → JJ p l e s m args below meth c D A lev Qc ws (pc + 3) vs st) : JJ p l e s m args below meth c D A lev Qc ws pc vs (.int x :: st) := by
  intro H locs ls hP hD hS hl
  exact lv_if_ne C.1 C.2.1 hd ht (fun h => kt h H locs ls hP hD hS hl) (fun h => kf h H locs ls hP hD hS hl)
theorem j_icmpN_ne {a b : Nat} (C : CC p s m args meth c D A cI cZ own cc nL ret) {off : Int} {tgt : Nat} (hd : decode cc pc = .ok (.if_icmp .ne off, 3)) (ht : (pc : Int) + off = (tgt : Int)) (ha : a < 2 ^ 31) (hb : b < 2 ^ 31) (kt : ¬ a = b → JJ p l e s m args below meth c D A lev Qc ws tgt vs st) (kf : a = b → JJ p l e s m args below meth c D A lev Qc ws (pc + 3) vs st) : JJ p l e s m args below meth c D A lev Qc ws pc vs (.int (nI b) :: .int (nI a) :: st) := by
  refine j_icmp_ne C hd ht (fun h => kt ?_) (fun h => kf ?_)
  · first | exact (nI_eq ha hb).mp h | exact (nI_ltI ha hb).mp h | exact (nI_leI ha hb).mp h | exact (nI_ltI hb ha).mp h | exact (nI_leI hb ha).mp h | exact (fun q => h ((nI_eq ha hb).mpr q)) | exact Nat.not_lt.mp (fun q => h ((nI_ltI ha hb).mpr q)) | exact Nat.not_lt.mp (fun q => h ((nI_ltI hb ha).mpr q)) | exact Nat.not_le.mp (fun q => h ((nI_leI ha hb).mpr q)) | exact Nat.not_le.mp (fun q => h ((nI_leI hb ha).mpr q))
  · first | exact (nI_eq ha hb).mp h | exact (nI_ltI ha hb).mp h | exact (nI_leI ha hb).mp h | exact (nI_ltI hb ha).mp h | exact (nI_leI hb ha).mp h | exact (fun q => h ((nI_eq ha hb).mpr q)) | exact Nat.not_lt.mp (fun q => h ((nI_ltI ha hb).mpr q)) | exact Nat.not_lt.mp (fun q => h ((nI_ltI hb ha).mpr q)) | exact Nat.not_le.mp (fun q => h ((nI_leI ha hb).mpr q)) | exact Nat.not_le.mp (fun q => h ((nI_leI hb ha).mpr q))
theorem j_ifN_ne {a : Nat} (C : CC p s m args meth c D A cI cZ own cc nL ret) {off : Int} {tgt : Nat} (hd : decode cc pc = .ok (.ifCond .ne off, 3)) (ht : (pc : Int) + off = (tgt : Int)) (ha : a < 2 ^ 31) (kt : ¬ a = 0 → JJ p l e s m args below meth c D A lev Qc ws tgt vs st) (kf : a = 0 → JJ p l e s m args below meth c D A lev Qc ws (pc + 3) vs st) : JJ p l e s m args below meth c D A lev Qc ws pc vs (.int (nI a) :: st) := by
  have hb : 0 < 2 ^ 31 := by decide
  refine j_if_ne C hd ht (fun h => kt ?_) (fun h => kf ?_)
  · rw [← nI_0] at h
    first | exact (nI_eq ha hb).mp h | exact (nI_ltI ha hb).mp h | exact (nI_leI ha hb).mp h | exact (nI_ltI hb ha).mp h | exact (nI_leI hb ha).mp h | exact (fun q => h ((nI_eq ha hb).mpr q)) | exact Nat.not_lt.mp (fun q => h ((nI_ltI ha hb).mpr q)) | exact Nat.not_lt.mp (fun q => h ((nI_ltI hb ha).mpr q)) | exact Nat.not_le.mp (fun q => h ((nI_leI ha hb).mpr q)) | exact Nat.not_le.mp (fun q => h ((nI_leI hb ha).mpr q))
  · rw [← nI_0] at h
    first | exact (nI_eq ha hb).mp h | exact (nI_ltI ha hb).mp h | exact (nI_leI ha hb).mp h | exact (nI_ltI hb ha).mp h | exact (nI_leI hb ha).mp h | exact (fun q => h ((nI_eq ha hb).mpr q)) | exact Nat.not_lt.mp (fun q => h ((nI_ltI ha hb).mpr q)) | exact Nat.not_lt.mp (fun q => h ((nI_ltI hb ha).mpr q)) | exact Nat.not_le.mp (fun q => h ((nI_leI ha hb).mpr q)) | exact Nat.not_le.mp (fun q => h ((nI_leI hb ha).mpr q))
theorem j_icmp_lt {x y : Int32} (C : CC p s m args meth c D A cI cZ own cc nL ret) {off : Int} {tgt : Nat} (hd : decode cc pc = .ok (.if_icmp .lt off, 3)) (ht : (pc : Int) + off = (tgt : Int)) (kt : x < y → JJ p l e s m args below meth c D A lev Qc ws tgt vs st) (kf : ¬ x < y → JJ p l e s m args below meth c D A lev Qc ws (pc + 3) vs st) : JJ p l e s m args below meth c D A lev Qc ws pc vs (.int y :: .int x :: st) := by
  intro H locs ls hP hD hS hl
  exact lv_icmp_lt C.1 C.2.1 hd ht (fun h => kt h H locs ls hP hD hS hl) (fun h => kf h H locs ls hP hD hS hl)
theorem j_if_lt {x : Int32} (C : CC p s m args meth c D A cI cZ own cc nL ret) {off : Int} {tgt : Nat} (hd : decode cc pc = .ok (.ifCond .lt off, 3)) (ht : (pc : Int) + off = (tgt : Int)) (kt : x < 0 → JJ p l e s m args below meth c D A lev Qc ws tgt vs st) (kf : ¬ x < 0 → JJ p l e s m args below meth c D A lev Qc ws (pc + 3) vs st) : JJ p l e s m args below meth c D A lev Qc ws pc vs (.int x :: st) := by
  intro H locs ls hP hD hS hl
  exact lv_if_lt C.1 C.2.1 hd ht (fun h => kt h H locs ls hP hD hS hl) (fun h => kf h H locs ls hP hD hS hl)
theorem j_icmpN_lt {a b : Nat} (C : CC p s m args meth c D A cI cZ own cc nL ret) {off : Int} {tgt : Nat} (hd : decode cc pc = .ok (.if_icmp .lt off, 3)) (ht : (pc : Int) + off = (tgt : Int)) (ha : a < 2 ^ 31) (hb : b < 2 ^ 31) (kt : a < b → JJ p l e s m args below meth c D A lev Qc ws tgt vs st) (kf : b ≤ a → JJ p l e s m args below meth c D A lev Qc ws (pc + 3) vs st) : JJ p l e s m args below meth c D A lev Qc ws pc vs (.int (nI b) :: .int (nI a) :: st) := by
  refine j_icmp_lt C hd ht (fun h => kt ?_) (fun h => kf ?_)
  · first | exact (nI_eq ha hb).mp h | exact (nI_ltI ha hb).mp h | exact (nI_leI ha hb).mp h | exact (nI_ltI hb ha).mp h | exact (nI_leI hb ha).mp h | exact (fun q => h ((nI_eq ha hb).mpr q)) | exact Nat.not_lt.mp (fun q => h ((nI_ltI ha hb).mpr q)) | exact Nat.not_lt.mp (fun q => h ((nI_ltI hb ha).mpr q)) | exact Nat.not_le.mp (fun q => h ((nI_leI ha hb).mpr q)) | exact Nat.not_le.mp (fun q => h ((nI_leI hb ha).mpr q))
  · first | exact (nI_eq ha hb).mp h | exact (nI_ltI ha hb).mp h | exact (nI_leI ha hb).mp h | exact (nI_ltI hb ha).mp h | exact (nI_leI hb ha).mp h | exact (fun q => h ((nI_eq ha hb).mpr q)) | exact Nat.not_lt.mp (fun q => h ((nI_ltI ha hb).mpr q)) | exact Nat.not_lt.mp (fun q => h ((nI_ltI hb ha).mpr q)) | exact Nat.not_le.mp (fun q => h ((nI_leI ha hb).mpr q)) | exact Nat.not_le.mp (fun q => h ((nI_leI hb ha).mpr q))
theorem j_ifN_lt {a : Nat} (C : CC p s m args meth c D A cI cZ own cc nL ret) {off : Int} {tgt : Nat} (hd : decode cc pc = .ok (.ifCond .lt off, 3)) (ht : (pc : Int) + off = (tgt : Int)) (ha : a < 2 ^ 31) (kt : a < 0 → JJ p l e s m args below meth c D A lev Qc ws tgt vs st) (kf : 0 ≤ a → JJ p l e s m args below meth c D A lev Qc ws (pc + 3) vs st) : JJ p l e s m args below meth c D A lev Qc ws pc vs (.int (nI a) :: st) := by
  have hb : 0 < 2 ^ 31 := by decide
  refine j_if_lt C hd ht (fun h => kt ?_) (fun h => kf ?_)
  · rw [← nI_0] at h
    first | exact (nI_eq ha hb).mp h | exact (nI_ltI ha hb).mp h | exact (nI_leI ha hb).mp h | exact (nI_ltI hb ha).mp h | exact (nI_leI hb ha).mp h | exact (fun q => h ((nI_eq ha hb).mpr q)) | exact Nat.not_lt.mp (fun q => h ((nI_ltI ha hb).mpr q)) | exact Nat.not_lt.mp (fun q => h ((nI_ltI hb ha).mpr q)) | exact Nat.not_le.mp (fun q => h ((nI_leI ha hb).mpr q)) | exact Nat.not_le.mp (fun q => h ((nI_leI hb ha).mpr q))
  · rw [← nI_0] at h
    first | exact (nI_eq ha hb).mp h | exact (nI_ltI ha hb).mp h | exact (nI_leI ha hb).mp h | exact (nI_ltI hb ha).mp h | exact (nI_leI hb ha).mp h | exact (fun q => h ((nI_eq ha hb).mpr q)) | exact Nat.not_lt.mp (fun q => h ((nI_ltI ha hb).mpr q)) | exact Nat.not_lt.mp (fun q => h ((nI_ltI hb ha).mpr q)) | exact Nat.not_le.mp (fun q => h ((nI_leI ha hb).mpr q)) | exact Nat.not_le.mp (fun q => h ((nI_leI hb ha).mpr q))
theorem j_icmp_ge {x y : Int32} (C : CC p s m args meth c D A cI cZ own cc nL ret) {off : Int} {tgt : Nat} (hd : decode cc pc = .ok (.if_icmp .ge off, 3)) (ht : (pc : Int) + off = (tgt : Int)) (kt : y ≤ x → JJ p l e s m args below meth c D A lev Qc ws tgt vs st) (kf : ¬ y ≤ x → JJ p l e s m args below meth c D A lev Qc ws (pc + 3) vs st) : JJ p l e s m args below meth c D A lev Qc ws pc vs (.int y :: .int x :: st) := by
  intro H locs ls hP hD hS hl
  exact lv_icmp_ge C.1 C.2.1 hd ht (fun h => kt h H locs ls hP hD hS hl) (fun h => kf h H locs ls hP hD hS hl)
theorem j_if_ge {x : Int32} (C : CC p s m args meth c D A cI cZ own cc nL ret) {off : Int} {tgt : Nat} (hd : decode cc pc = .ok (.ifCond .ge off, 3)) (ht : (pc : Int) + off = (tgt : Int)) (kt : 0 ≤ x → JJ p l e s m args below meth c D A lev Qc ws tgt vs st) (kf : ¬ 0 ≤ x → JJ p l e s m args below meth c D A lev Qc ws (pc + 3) vs st) : JJ p l e s m args below meth c D A lev Qc ws pc vs (.int x :: st) := by
  intro H locs ls hP hD hS hl
  exact lv_if_ge C.1 C.2.1 hd ht (fun h => kt h H locs ls hP hD hS hl) (fun h => kf h H locs ls hP hD hS hl)
theorem j_icmpN_ge {a b : Nat} (C : CC p s m args meth c D A cI cZ own cc nL ret) {off : Int} {tgt : Nat} (hd : decode cc pc = .ok (.if_icmp .ge off, 3)) (ht : (pc : Int) + off = (tgt : Int)) (ha : a < 2 ^ 31) (hb : b < 2 ^ 31) (kt : b ≤ a → JJ p l e s m args below meth c D A lev Qc ws tgt vs st) (kf : a < b → JJ p l e s m args below meth c D A lev Qc ws (pc + 3) vs st) : JJ p l e s m args below meth c D A lev Qc ws pc vs (.int (nI b) :: .int (nI a) :: st) := by
  refine j_icmp_ge C hd ht (fun h => kt ?_) (fun h => kf ?_)
  · first | exact (nI_eq ha hb).mp h | exact (nI_ltI ha hb).mp h | exact (nI_leI ha hb).mp h | exact (nI_ltI hb ha).mp h | exact (nI_leI hb ha).mp h | exact (fun q => h ((nI_eq ha hb).mpr q)) | exact Nat.not_lt.mp (fun q => h ((nI_ltI ha hb).mpr q)) | exact Nat.not_lt.mp (fun q => h ((nI_ltI hb ha).mpr q)) | exact Nat.not_le.mp (fun q => h ((nI_leI ha hb).mpr q)) | exact Nat.not_le.mp (fun q => h ((nI_leI hb ha).mpr q))
  · first | exact (nI_eq ha hb).mp h | exact (nI_ltI ha hb).mp h | exact (nI_leI ha hb).mp h | exact (nI_ltI hb ha).mp h | exact (nI_leI hb ha).mp h | exact (fun q => h ((nI_eq ha hb).mpr q)) | exact Nat.not_lt.mp (fun q => h ((nI_ltI ha hb).mpr q)) | exact Nat.not_lt.mp (fun q => h ((nI_ltI hb ha).mpr q)) | exact Nat.not_le.mp (fun q => h ((nI_leI ha hb).mpr q)) | exact Nat.not_le.mp (fun q => h ((nI_leI hb ha).mpr q))
theorem j_ifN_ge {a : Nat} (C : CC p s m args meth c D A cI cZ own cc nL ret) {off : Int} {tgt : Nat} (hd : decode cc pc = .ok (.ifCond .ge off, 3)) (ht : (pc : Int) + off = (tgt : Int)) (ha : a < 2 ^ 31) (kt : 0 ≤ a → JJ p l e s m args below meth c D A lev Qc ws tgt vs st) (kf : a < 0 → JJ p l e s m args below meth c D A lev Qc ws (pc + 3) vs st) : JJ p l e s m args below meth c D A lev Qc ws pc vs (.int (nI a) :: st) := by
  have hb : 0 < 2 ^ 31 := by decide
  refine j_if_ge C hd ht (fun h => kt ?_) (fun h => kf ?_)
  · rw [← nI_0] at h
    first | exact (nI_eq ha hb).mp h | exact (nI_ltI ha hb).mp h | exact (nI_leI ha hb).mp h | exact (nI_ltI hb ha).mp h | exact (nI_leI hb ha).mp h | exact (fun q => h ((nI_eq ha hb).mpr q)) | exact Nat.not_lt.mp (fun q => h ((nI_ltI ha hb).mpr q)) | exact Nat.not_lt.mp (fun q => h ((nI_ltI hb ha).mpr q)) | exact Nat.not_le.mp (fun q => h ((nI_leI ha hb).mpr q)) | exact Nat.not_le.mp (fun q => h ((nI_leI hb ha).mpr q))
  · rw [← nI_0] at h
    first | exact (nI_eq ha hb).mp h | exact (nI_ltI ha hb).mp h | exact (nI_leI ha hb).mp h | exact (nI_ltI hb ha).mp h | exact (nI_leI hb ha).mp h | exact (fun q => h ((nI_eq ha hb).mpr q)) | exact Nat.not_lt.mp (fun q => h ((nI_ltI ha hb).mpr q)) | exact Nat.not_lt.mp (fun q => h ((nI_ltI hb ha).mpr q)) | exact Nat.not_le.mp (fun q => h ((nI_leI ha hb).mpr q)) | exact Nat.not_le.mp (fun q => h ((nI_leI hb ha).mpr q))
theorem j_icmp_gt {x y : Int32} (C : CC p s m args meth c D A cI cZ own cc nL ret) {off : Int} {tgt : Nat} (hd : decode cc pc = .ok (.if_icmp .gt off, 3)) (ht : (pc : Int) + off = (tgt : Int)) (kt : y < x → JJ p l e s m args below meth c D A lev Qc ws tgt vs st) (kf : ¬ y < x → JJ p l e s m args below meth c D A lev Qc ws (pc + 3) vs st) : JJ p l e s m args below meth c D A lev Qc ws pc vs (.int y :: .int x :: st) := by
  intro H locs ls hP hD hS hl
  exact lv_icmp_gt C.1 C.2.1 hd ht (fun h => kt h H locs ls hP hD hS hl) (fun h => kf h H locs ls hP hD hS hl)
theorem j_if_gt {x : Int32} (C : CC p s m args meth c D A cI cZ own cc nL ret) {off : Int} {tgt : Nat} (hd : decode cc pc = .ok (.ifCond .gt off, 3)) (ht : (pc : Int) + off = (tgt : Int)) (kt : 0 < x → JJ p l e s m args below meth c D A lev Qc ws tgt vs st) (kf : ¬ 0 < x → JJ p l e s m args below meth c D A lev Qc ws (pc + 3) vs st) : JJ p l e s m args below meth c D A lev Qc ws pc vs (.int x :: st) := by
  intro H locs ls hP hD hS hl
  exact lv_if_gt C.1 C.2.1 hd ht (fun h => kt h H locs ls hP hD hS hl) (fun h => kf h H locs ls hP hD hS hl)
theorem j_icmpN_gt {a b : Nat} (C : CC p s m args meth c D A cI cZ own cc nL ret) {off : Int} {tgt : Nat} (hd : decode cc pc = .ok (.if_icmp .gt off, 3)) (ht : (pc : Int) + off = (tgt : Int)) (ha : a < 2 ^ 31) (hb : b < 2 ^ 31) (kt : b < a → JJ p l e s m args below meth c D A lev Qc ws tgt vs st) (kf : a ≤ b → JJ p l e s m args below meth c D A lev Qc ws (pc + 3) vs st) : JJ p l e s m args below meth c D A lev Qc ws pc vs (.int (nI b) :: .int (nI a) :: st) := by
  refine j_icmp_gt C hd ht (fun h => kt ?_) (fun h => kf ?_)
  · first | exact (nI_eq ha hb).mp h | exact (nI_ltI ha hb).mp h | exact (nI_leI ha hb).mp h | exact (nI_ltI hb ha).mp h | exact (nI_leI hb ha).mp h | exact (fun q => h ((nI_eq ha hb).mpr q)) | exact Nat.not_lt.mp (fun q => h ((nI_ltI ha hb).mpr q)) | exact Nat.not_lt.mp (fun q => h ((nI_ltI hb ha).mpr q)) | exact Nat.not_le.mp (fun q => h ((nI_leI ha hb).mpr q)) | exact Nat.not_le.mp (fun q => h ((nI_leI hb ha).mpr q))
  · first | exact (nI_eq ha hb).mp h | exact (nI_ltI ha hb).mp h | exact (nI_leI ha hb).mp h | exact (nI_ltI hb ha).mp h | exact (nI_leI hb ha).mp h | exact (fun q => h ((nI_eq ha hb).mpr q)) | exact Nat.not_lt.mp (fun q => h ((nI_ltI ha hb).mpr q)) | exact Nat.not_lt.mp (fun q => h ((nI_ltI hb ha).mpr q)) | exact Nat.not_le.mp (fun q => h ((nI_leI ha hb).mpr q)) | exact Nat.not_le.mp (fun q => h ((nI_leI hb ha).mpr q))
theorem j_ifN_gt {a : Nat} (C : CC p s m args meth c D A cI cZ own cc nL ret) {off : Int} {tgt : Nat} (hd : decode cc pc = .ok (.ifCond .gt off, 3)) (ht : (pc : Int) + off = (tgt : Int)) (ha : a < 2 ^ 31) (kt : 0 < a → JJ p l e s m args below meth c D A lev Qc ws tgt vs st) (kf : a ≤ 0 → JJ p l e s m args below meth c D A lev Qc ws (pc + 3) vs st) : JJ p l e s m args below meth c D A lev Qc ws pc vs (.int (nI a) :: st) := by
  have hb : 0 < 2 ^ 31 := by decide
  refine j_if_gt C hd ht (fun h => kt ?_) (fun h => kf ?_)
  · rw [← nI_0] at h
    first | exact (nI_eq ha hb).mp h | exact (nI_ltI ha hb).mp h | exact (nI_leI ha hb).mp h | exact (nI_ltI hb ha).mp h | exact (nI_leI hb ha).mp h | exact (fun q => h ((nI_eq ha hb).mpr q)) | exact Nat.not_lt.mp (fun q => h ((nI_ltI ha hb).mpr q)) | exact Nat.not_lt.mp (fun q => h ((nI_ltI hb ha).mpr q)) | exact Nat.not_le.mp (fun q => h ((nI_leI ha hb).mpr q)) | exact Nat.not_le.mp (fun q => h ((nI_leI hb ha).mpr q))
  · rw [← nI_0] at h
    first | exact (nI_eq ha hb).mp h | exact (nI_ltI ha hb).mp h | exact (nI_leI ha hb).mp h | exact (nI_ltI hb ha).mp h | exact (nI_leI hb ha).mp h | exact (fun q => h ((nI_eq ha hb).mpr q)) | exact Nat.not_lt.mp (fun q => h ((nI_ltI ha hb).mpr q)) | exact Nat.not_lt.mp (fun q => h ((nI_ltI hb ha).mpr q)) | exact Nat.not_le.mp (fun q => h ((nI_leI ha hb).mpr q)) | exact Nat.not_le.mp (fun q => h ((nI_leI hb ha).mpr q))
theorem j_icmp_le {x y : Int32} (C : CC p s m args meth c D A cI cZ own cc nL ret) {off : Int} {tgt : Nat} (hd : decode cc pc = .ok (.if_icmp .le off, 3)) (ht : (pc : Int) + off = (tgt : Int)) (kt : x ≤ y → JJ p l e s m args below meth c D A lev Qc ws tgt vs st) (kf : ¬ x ≤ y → JJ p l e s m args below meth c D A lev Qc ws (pc + 3) vs st) : JJ p l e s m args below meth c D A lev Qc ws pc vs (.int y :: .int x :: st) := by
  intro H locs ls hP hD hS hl
  exact lv_icmp_le C.1 C.2.1 hd ht (fun h => kt h H locs ls hP hD hS hl) (fun h => kf h H locs ls hP hD hS hl)
theorem j_if_le {x : Int32} (C : CC p s m args meth c D A cI cZ own cc nL ret) {off : Int} {tgt : Nat} (hd : decode cc pc = .ok (.ifCond .le off, 3)) (ht : (pc : Int) + off = (tgt : Int)) (kt : x ≤ 0 → JJ p l e s m args below meth c D A lev Qc ws tgt vs st) (kf : ¬ x ≤ 0 → JJ p l e s m args below meth c D A lev Qc ws (pc + 3) vs st) : JJ p l e s m args below meth c D A lev Qc ws pc vs (.int x :: st) := by
  intro H locs ls hP hD hS hl
  exact lv_if_le C.1 C.2.1 hd ht (fun h => kt h H locs ls hP hD hS hl) (fun h => kf h H locs ls hP hD hS hl)
theorem j_icmpN_le {a b : Nat} (C : CC p s m args meth c D A cI cZ own cc nL ret) {off : Int} {tgt : Nat} (hd : decode cc pc = .ok (.if_icmp .le off, 3)) (ht : (pc : Int) + off = (tgt : Int)) (ha : a < 2 ^ 31) (hb : b < 2 ^ 31) (kt : a ≤ b → JJ p l e s m args below meth c D A lev Qc ws tgt vs st) (kf : b < a → JJ p l e s m args below meth c D A lev Qc ws (pc + 3) vs st) : JJ p l e s m args below meth c D A lev Qc ws pc vs (.int (nI b) :: .int (nI a) :: st) := by
  refine j_icmp_le C hd ht (fun h => kt ?_) (fun h => kf ?_)
  · first | exact (nI_eq ha hb).mp h | exact (nI_ltI ha hb).mp h | exact (nI_leI ha hb).mp h | exact (nI_ltI hb ha).mp h | exact (nI_leI hb ha).mp h | exact (fun q => h ((nI_eq ha hb).mpr q)) | exact Nat.not_lt.mp (fun q => h ((nI_ltI ha hb).mpr q)) | exact Nat.not_lt.mp (fun q => h ((nI_ltI hb ha).mpr q)) | exact Nat.not_le.mp (fun q => h ((nI_leI ha hb).mpr q)) | exact Nat.not_le.mp (fun q => h ((nI_leI hb ha).mpr q))
  · first | exact (nI_eq ha hb).mp h | exact (nI_ltI ha hb).mp h | exact (nI_leI ha hb).mp h | exact (nI_ltI hb ha).mp h | exact (nI_leI hb ha).mp h | exact (fun q => h ((nI_eq ha hb).mpr q)) | exact Nat.not_lt.mp (fun q => h ((nI_ltI ha hb).mpr q)) | exact Nat.not_lt.mp (fun q => h ((nI_ltI hb ha).mpr q)) | exact Nat.not_le.mp (fun q => h ((nI_leI ha hb).mpr q)) | exact Nat.not_le.mp (fun q => h ((nI_leI hb ha).mpr q))
theorem j_ifN_le {a : Nat} (C : CC p s m args meth c D A cI cZ own cc nL ret) {off : Int} {tgt : Nat} (hd : decode cc pc = .ok (.ifCond .le off, 3)) (ht : (pc : Int) + off = (tgt : Int)) (ha : a < 2 ^ 31) (kt : a ≤ 0 → JJ p l e s m args below meth c D A lev Qc ws tgt vs st) (kf : 0 < a → JJ p l e s m args below meth c D A lev Qc ws (pc + 3) vs st) : JJ p l e s m args below meth c D A lev Qc ws pc vs (.int (nI a) :: st) := by
  have hb : 0 < 2 ^ 31 := by decide
  refine j_if_le C hd ht (fun h => kt ?_) (fun h => kf ?_)
  · rw [← nI_0] at h
    first | exact (nI_eq ha hb).mp h | exact (nI_ltI ha hb).mp h | exact (nI_leI ha hb).mp h | exact (nI_ltI hb ha).mp h | exact (nI_leI hb ha).mp h | exact (fun q => h ((nI_eq ha hb).mpr q)) | exact Nat.not_lt.mp (fun q => h ((nI_ltI ha hb).mpr q)) | exact Nat.not_lt.mp (fun q => h ((nI_ltI hb ha).mpr q)) | exact Nat.not_le.mp (fun q => h ((nI_leI ha hb).mpr q)) | exact Nat.not_le.mp (fun q => h ((nI_leI hb ha).mpr q))
  · rw [← nI_0] at h
    first | exact (nI_eq ha hb).mp h | exact (nI_ltI ha hb).mp h | exact (nI_leI ha hb).mp h | exact (nI_ltI hb ha).mp h | exact (nI_leI hb ha).mp h | exact (fun q => h ((nI_eq ha hb).mpr q)) | exact Nat.not_lt.mp (fun q => h ((nI_ltI ha hb).mpr q)) | exact Nat.not_lt.mp (fun q => h ((nI_ltI hb ha).mpr q)) | exact Nat.not_le.mp (fun q => h ((nI_leI ha hb).mpr q)) | exact Nat.not_le.mp (fun q => h ((nI_leI hb ha).mpr q))
/-- the top of the stack under another name -/
theorem j_top {x : Int32} (y : Int32) (h : x = y) (k : JJ p l e s m args below meth c D A lev Qc ws pc vs (.int y :: st)) : JJ p l e s m args below meth c D A lev Qc ws pc vs (.int x :: st) := h ▸ k
/-- fewer locals known -/
theorem j_less (vs' : List (Option jT)) (hn : vs'.length = vs.length) (hs : ∀ (i : Nat) (v : jT), vs'[i]? = some (some v) → vs[i]? = some (some v)) (k : JJ p l e s m args below meth c D A lev Qc ws pc vs' st) : JJ p l e s m args below meth c D A lev Qc ws pc vs st := by
  intro H locs ls hP hD hS hl
  exact k H locs ls hP hD hS (by rw [hn]; exact jL_less hl hs)
def b2i (b : Bool) : Int32 := if b then 1 else 0
theorem b2i_t : b2i true = 1 := rfl
theorem b2i_f : b2i false = 0 := rfl
theorem b2i_0 {b : Bool} : b2i b = 0 ↔ b = false := by cases b <;> simp [b2i]
theorem b2i_nar (b : Bool) : narrow .boolean (.int (b2i b)) = .int (b2i b) := by cases b <;> rfl
theorem b2i_vp (b : Bool) : vp_nar .boolean (b2i b) = b2i b := by cases b <;> rfl
theorem b2i_fit (b : Bool) : fits .boolean (.int (b2i b)) = true := by cases b <;> rfl
theorem j_ifB_eq {b : Bool} (C : CC p s m args meth c D A cI cZ own cc nL ret) {off : Int} {tgt : Nat} (hd : decode cc pc = .ok (.ifCond .eq off, 3)) (ht : (pc : Int) + off = (tgt : Int)) (kt : b = false → JJ p l e s m args below meth c D A lev Qc ws tgt vs st) (kf : b = true → JJ p l e s m args below meth c D A lev Qc ws (pc + 3) vs st) : JJ p l e s m args below meth c D A lev Qc ws pc vs (.int (b2i b) :: st) :=
  j_if_eq C hd ht (fun h => kt (b2i_0.mp h)) (fun h => kf (by cases b with | true => rfl | false => exact absurd rfl h))
theorem j_ifB_ne {b : Bool} (C : CC p s m args meth c D A cI cZ own cc nL ret) {off : Int} {tgt : Nat} (hd : decode cc pc = .ok (.ifCond .ne off, 3)) (ht : (pc : Int) + off = (tgt : Int)) (kt : b = true → JJ p l e s m args below meth c D A lev Qc ws tgt vs st) (kf : b = false → JJ p l e s m args below meth c D A lev Qc ws (pc + 3) vs st) : JJ p l e s m args below meth c D A lev Qc ws pc vs (.int (b2i b) :: st) :=
  j_if_ne C hd ht (fun h => kt (by cases b with | true => rfl | false => exact absurd rfl h)) (fun h => kf (b2i_0.mp h))
theorem j_iaddN {a b : Nat} (C : CC p s m args meth c D A cI cZ own cc nL ret) (hd : decode cc pc = .ok (.iadd, 1)) (k : JJ p l e s m args below meth c D A lev Qc ws (pc + 1) vs (.int (nI (a + b)) :: st)) : JJ p l e s m args below meth c D A lev Qc ws pc vs (.int (nI b) :: .int (nI a) :: st) := j_iadd C hd (j_top _ (nI_add a b) k)
theorem j_isubN {a b : Nat} (C : CC p s m args meth c D A cI cZ own cc nL ret) (hd : decode cc pc = .ok (.isub, 1)) (hab : b ≤ a) (k : JJ p l e s m args below meth c D A lev Qc ws (pc + 1) vs (.int (nI (a - b)) :: st)) : JJ p l e s m args below meth c D A lev Qc ws pc vs (.int (nI b) :: .int (nI a) :: st) := j_isub C hd (j_top _ (pk_sub hab) k)
end JL
/-! contracts over a world; ends -/
def QI {S : Type} (post : Int32 → S → Prop) (WS : S → va_W) (D : va_G) (cI cZ : ClassId) (A : Nat → Prop) : Array Value → State → Outcome → State → Prop := va_Qi post (fun u t => va_P D vwCl (WS u) t.heap ∧ va_K D vwCl [(cI, .int), (cZ, .boolean)] t ∧ va_D A (WS u)) A
def QV {S : Type} (post : S → Prop) (WS : S → va_W) (D : va_G) (cI cZ : ClassId) (A : Nat → Prop) : Array Value → State → Outcome → State → Prop := va_Qv post (fun u t => va_P D vwCl (WS u) t.heap ∧ va_K D vwCl [(cI, .int), (cZ, .boolean)] t ∧ va_D A (WS u)) A
def PW (As : List Value) (w0 : va_W) (D : va_G) (cI cZ : ClassId) (sz : Nat) : Array Value → State → Prop := va_Pc As (fun U => U.heap.size = sz ∧ va_P D vwCl w0 U.heap ∧ va_K D vwCl [(cI, .int), (cZ, .boolean)] U ∧ va_D (fun _ => True) w0)
def MetI {S : Type} (l : Launch) (y : MethodName) (cc : ByteArray) (nL : Nat) (ret : Option FieldType) (k : Nat) (D : va_G) (cI cZ : ClassId) (As : List Value) (WS : S → va_W) (w0 : va_W) (post : Int32 → S → Prop) : Prop :=
  ∀ sz : Nat, Met l y (ws_ y cc nL ret) (rmk k) (PW As w0 D cI cZ sz) (QI post WS D cI cZ (va_A w0 sz)) 0 0 (va_A w0 sz)
def MetV {S : Type} (l : Launch) (y : MethodName) (cc : ByteArray) (nL : Nat) (k : Nat) (D : va_G) (cI cZ : ClassId) (As : List Value) (WS : S → va_W) (w0 : va_W) (post : S → Prop) : Prop :=
  ∀ sz : Nat, Met l y (ws_ y cc nL none) (rmk k) (PW As w0 D cI cZ sz) (QV post WS D cI cZ (va_A w0 sz)) 0 0 (va_A w0 sz)
theorem j_start {l : Launch} {y : MethodName} {cc : ByteArray} {ret : Option FieldType} {k : Nat} {D : va_G} {cI cZ : ClassId} {As : List Value} {w0 : va_W} {Qc : (Nat → Prop) → Array Value → State → Outcome → State → Prop} (vs : List (Option jT)) (hy : plainName y.cls = true) (hle : (lg_sl As).length ≤ vs.length) (hvs : lv_args 0 As = jL 0 vs)
    (body : ∀ (p : Program) (e : Env) (s : State) (m : MethodId) (args : Array Value) (below : List Frame) (meth : Method) (c : Code) (A : Nat → Prop), CC p s m args meth c D A cI cZ y.cls cc vs.length ret → JJ p l e s m args below meth c D A k (Qc A) w0 0 vs []) (sz : Nat) : Met l y (ws_ y cc vs.length ret) (rmk k) (PW As w0 D cI cZ sz) (Qc (va_A w0 sz)) 0 0 (va_A w0 sz) := by
  refine Met.ofW (cc := cc) (maxL := vs.length) (ret := ret) hy rfl ?_
  intro p e s m args below meth c s₁ B hml hv
  obtain ⟨rfl, hsz, hP, hK, hD0⟩ := hv
  have hts := atoms_spec (ws := ws_ y cc vs.length ret) B.pre
  have hts : ∀ w ∈ lw_all, w.before _ s = true := fun w h => hts w (List.mem_cons_of_mem _ h)
  subst hsz
  have hl := lv_entry As (n := vs.length) hle
  rw [lg_entry_eq]
  rw [hvs] at hl
  exact body p e s m _ below meth c (va_A w0 s.heap.size) ⟨B.exec, B.bytes, hml, findClass_of_methodNamed B.named, hts, hK, fun q h => Or.inr h, B.notSynchronized, B.returns⟩ s.heap [] _ hP hD0.self va_S.rf hl
theorem va_nd_of : ∀ (l : List Nat), l.Nodup → va_nd l = true
  | [], _ => rfl
  | a :: l, h => by
    rw [List.nodup_cons] at h
    simp only [va_nd, Bool.and_eq_true, decide_eq_true_eq]
    exact ⟨h.1, va_nd_of l h.2⟩
theorem va_nd_range (n : Nat) : va_nd (List.range n) = true := va_nd_of _ List.nodup_range
section JR
variable {p : Program} {l : Launch} {e : Env} {s : State} {m : MethodId} {args : Array Value} {below : List Frame} {meth : Method} {c : Code} {D : va_G} {A : Nat → Prop} {lev : Nat} {Qc : Array Value → State → Outcome → State → Prop} {pc : Nat} {vs : List (Option jT)} {st : List Value}
variable {cI cZ : ClassId} {own : String} {cc : ByteArray} {nL : Nat}
theorem j_iret {S : Type} {post : Int32 → S → Prop} {WS : S → va_W} {v : Int32} (u : S) (C : CC p s m args meth c D A cI cZ own cc nL (some .int)) (hd : decode cc pc = .ok (.ireturn, 1)) (hp : post v u) : JJ p l e s m args below meth c D A lev (QI post WS D cI cZ A) (WS u) pc vs [.int v] := by
  intro H locs ls hP hD hS hl
  exact W.iret (v := v) C.1 C.2.1 C.2.2.2.2.2.2.2.2 (fun t ht hW => ⟨⟨v, u, rfl, hp, by rw [ht]; exact hP, va_K.moved hW.alike C.2.2.2.2.2.1, hD⟩, hS.F ht⟩) hS.2.2 hd C.2.2.2.2.2.2.2.1
theorem j_zret {S : Type} {post : Int32 → S → Prop} {WS : S → va_W} {v : Bool} (u : S) (C : CC p s m args meth c D A cI cZ own cc nL (some .boolean)) (hd : decode cc pc = .ok (.ireturn, 1)) (hp : post (b2i v) u) : JJ p l e s m args below meth c D A lev (QI post WS D cI cZ A) (WS u) pc vs [.int (b2i v)] := by
  intro H locs ls hP hD hS hl
  exact W.zret (v := b2i v) C.1 C.2.1 C.2.2.2.2.2.2.2.2 (b2i_nar v) (fun t ht hW => ⟨⟨b2i v, u, rfl, hp, by rw [ht]; exact hP, va_K.moved hW.alike C.2.2.2.2.2.1, hD⟩, hS.F ht⟩) hS.2.2 hd C.2.2.2.2.2.2.2.1
theorem j_vret {S : Type} {post : S → Prop} {WS : S → va_W} (u : S) (C : CC p s m args meth c D A cI cZ own cc nL none) (hd : decode cc pc = .ok (.return_, 1)) (hp : post u) : JJ p l e s m args below meth c D A lev (QV post WS D cI cZ A) (WS u) pc vs [] := by
  intro H locs ls hP hD hS hl
  exact W.vret C.1 C.2.1 C.2.2.2.2.2.2.2.2 (fun t ht hW => ⟨⟨u, rfl, hp, by rw [ht]; exact hP, va_K.moved hW.alike C.2.2.2.2.2.1, hD⟩, hS.F ht⟩) hS.2.2 hd C.2.2.2.2.2.2.2.1
theorem PW_blind {As : List Value} {w0 : va_W} {sz : Nat} : FrameBlind (PW As w0 D cI cZ sz) := fun a U g mk q => by
  obtain ⟨q0, q1, qP, qK, qD⟩ := q
  exact ⟨q0, q1, qP, va_K.moved (u := U) (U := U.calling g mk a) (Vm.Alike.refl U.vm) qK, qD⟩
/-- a call of a method of the object at b, with its whole world -/
theorem j_callI {S : Type} {post : Int32 → S → Prop} {WS : S → va_W} {w0 : va_W} {y : MethodName} {bytes : ByteArray} {maxL k index n : Nat} {ret r2 : Option FieldType} {As : List Value} {b ci : Nat} {fs : List Value} {q : vw_C} {Cn : String}
    (C : CC p s m args meth c D A cI cZ own cc nL r2) (hM : MetI l y bytes maxL ret k D cI cZ (.ref b :: As) WS w0 post) (hG : GoodIn lw_all (wsV own index Cn y (ws_ y bytes maxL ret)))
    (hy : y.cls = Cn ∧ y.cls ≠ "java/lang/invoke/MethodHandle" ∧ y.cls ≠ "java/lang/invoke/VarHandle" ∧ (parseMethodDescriptor y.desc).map (fun d => d.parameters.length) = some n) (hn : As.length = n) (hk : k + 1 ≤ lev) (hL : maxL ≤ 7) (hv : vs.length = nL)
    (hc : vwCl[ci]? = some q) (hq : q.1 = Cn) (he : w0[0]? = some (b, .inr (ci, fs))) (hst : (st.map fun v => v.category).sum ≤ 8) (hd : decode cc pc = .ok (.invokevirtual index, 3))
    (kk : ∀ (r : Int32) (u : S), post r u → JJ p l e s m args below meth c D A lev Qc (WS u) (pc + 3) vs (.int r :: st)) : JJ p l e s m args below meth c D A lev Qc w0 pc vs (As.reverse ++ .ref b :: st) := by
  intro H locs ls hP hD hS hl
  have hF := va_free (wc := w0) hD hS C.2.2.2.2.2.2.1 (List.range w0.length) (by
    apply List.ext_getElem?
    intro i
    simp only [List.getElem?_map, List.getElem?_range']
    by_cases h : i < w0.length
    · simp [List.getElem?_range, h]
    · simp [List.getElem?_range, h])
  subst hq
  refine va_calli (va_runV (As := As) (rest := st) ⟨C.1, C.2.1, C.2.2.1, C.2.2.2.1, C.2.2.2.2.1⟩ (hM H.size) (cwV n C.2.2.2.2.1 hG rfl rfl rfl hy ⟨hk, by show 8 + (maxL + 11) + 26 * k ≤ 26 * lev; omega⟩) ⟨PW_blind, va_recv C.2.2.2.2.2.1 hP hc he, fun U hU hW => ⟨rfl, by rw [hU], by rw [hU]; exact hP, va_K.moved hW.alike C.2.2.2.2.2.1, hD.weaken (fun _ _ _ _ => trivial)⟩⟩ rfl hn (by rw [← hv]; exact hl.1) rfl (lv_room hst) hd ⟨Nat.le_refl 0, Nat.le_refl 0⟩) hS (fun q _ h => hF q h) hF (fun r u t H1 locs1 ht hvm hw1 hB hz1 hk1 hS1 => ?_)
  obtain ⟨hP1, hK1, hD1⟩ := hB
  rw [ht] at hP1
  exact kk r u hw1 H1 locs1 ls hP1 (hD1.weaken (fun k q _ h => hF q.1 h)) hS1 hl
theorem j_callV {S : Type} {post : S → Prop} {WS : S → va_W} {w0 : va_W} {y : MethodName} {bytes : ByteArray} {maxL k index n : Nat} {r2 : Option FieldType} {As : List Value} {b ci : Nat} {fs : List Value} {q : vw_C} {Cn : String}
    (C : CC p s m args meth c D A cI cZ own cc nL r2) (hM : MetV l y bytes maxL k D cI cZ (.ref b :: As) WS w0 post) (hG : GoodIn lw_all (wsV own index Cn y (ws_ y bytes maxL none)))
    (hy : y.cls = Cn ∧ y.cls ≠ "java/lang/invoke/MethodHandle" ∧ y.cls ≠ "java/lang/invoke/VarHandle" ∧ (parseMethodDescriptor y.desc).map (fun d => d.parameters.length) = some n) (hn : As.length = n) (hk : k + 1 ≤ lev) (hL : maxL ≤ 7) (hv : vs.length = nL)
    (hc : vwCl[ci]? = some q) (hq : q.1 = Cn) (he : w0[0]? = some (b, .inr (ci, fs))) (hst : (st.map fun v => v.category).sum ≤ 8) (hd : decode cc pc = .ok (.invokevirtual index, 3))
    (kk : ∀ (u : S), post u → JJ p l e s m args below meth c D A lev Qc (WS u) (pc + 3) vs st) : JJ p l e s m args below meth c D A lev Qc w0 pc vs (As.reverse ++ .ref b :: st) := by
  intro H locs ls hP hD hS hl
  have hF := va_free (wc := w0) hD hS C.2.2.2.2.2.2.1 (List.range w0.length) (by
    apply List.ext_getElem?
    intro i
    simp only [List.getElem?_map, List.getElem?_range']
    by_cases h : i < w0.length
    · simp [List.getElem?_range, h]
    · simp [List.getElem?_range, h])
  subst hq
  refine va_callv (va_runV (As := As) (rest := st) ⟨C.1, C.2.1, C.2.2.1, C.2.2.2.1, C.2.2.2.2.1⟩ (hM H.size) (cwV n C.2.2.2.2.1 hG rfl rfl rfl hy ⟨hk, by show 8 + (maxL + 11) + 26 * k ≤ 26 * lev; omega⟩) ⟨PW_blind, va_recv C.2.2.2.2.2.1 hP hc he, fun U hU hW => ⟨rfl, by rw [hU], by rw [hU]; exact hP, va_K.moved hW.alike C.2.2.2.2.2.1, hD.weaken (fun _ _ _ _ => trivial)⟩⟩ rfl hn (by rw [← hv]; exact hl.1) rfl (lv_room hst) hd ⟨Nat.le_refl 0, Nat.le_refl 0⟩) hS (fun q _ h => hF q h) hF (fun u t H1 locs1 ht hvm hw1 hB hz1 hk1 hS1 => ?_)
  obtain ⟨hP1, hK1, hD1⟩ := hB
  rw [ht] at hP1
  exact kk u hw1 H1 locs1 ls hP1 (hD1.weaken (fun k q _ h => hF q.1 h)) hS1 hl
/-- a static call that asks for no world -/
theorem j_callS {post : Int32 → Unit → Prop} {w0 : va_W} {y : MethodName} {bytes : ByteArray} {maxL k index n : Nat} {ret r2 : Option FieldType} {As : List Value}
    (C : CC p s m args meth c D A cI cZ own cc nL r2) (hM : MetI l y bytes maxL ret k D cI cZ As (fun _ : Unit => []) [] post) (hG : GoodIn lw_all (va_wsS own index y (ws_ y bytes maxL ret)))
    (hy : y.cls ≠ "java/lang/invoke/MethodHandle" ∧ y.cls ≠ "java/lang/invoke/VarHandle" ∧ (parseMethodDescriptor y.desc).map (fun d => d.parameters.length) = some n) (hn : As.length = n) (hk : k + 1 ≤ lev) (hL : maxL ≤ 7) (hv : vs.length = nL)
    (hst : (st.map fun v => v.category).sum ≤ 8) (hd : decode cc pc = .ok (.invokestatic index, 3))
    (kk : ∀ (r : Int32), post r () → JJ p l e s m args below meth c D A lev Qc w0 (pc + 3) vs (.int r :: st)) : JJ p l e s m args below meth c D A lev Qc w0 pc vs (As.reverse ++ st) := by
  intro H locs ls hP hD hS hl
  have hP0 : va_P D vwCl [] H := fun k q h => by simp at h
  have hD0 : va_D A [] := ⟨fun i j p q h => by simp at h, fun k q h => by simp at h⟩
  have hF := va_free (wc := []) hD0 hS C.2.2.2.2.2.2.1 [] rfl
  refine va_calli (va_runS (As := As) (rest := st) ⟨C.1, C.2.1, C.2.2.1, C.2.2.2.1, C.2.2.2.2.1⟩ (hM H.size) (va_cwS n C.2.2.2.2.1 hG rfl rfl rfl hy ⟨hk, by show 8 + (maxL + 11) + 26 * k ≤ 26 * lev; omega⟩) ⟨PW_blind, fun U hU hW => ⟨rfl, by rw [hU], by rw [hU]; exact hP0, va_K.moved hW.alike C.2.2.2.2.2.1, hD0.weaken (fun _ _ _ _ => trivial)⟩⟩ rfl hn (by rw [← hv]; exact hl.1) rfl (lv_room hst) hd ⟨Nat.le_refl 0, Nat.le_refl 0⟩) hS (fun q _ h => hF q h) hF (fun r u t H1 locs1 ht hvm hw1 hB hz1 hk1 hS1 => ?_)
  obtain ⟨hP1, hD1⟩ := va_join (wr := w0) (w1 := []) (wc := []) hP hD [] (List.range w0.length) rfl (by
    apply List.ext_getElem?
    intro i
    simp only [List.getElem?_map, List.getElem?_range']
    by_cases h : i < w0.length
    · simp [List.getElem?_range, h]
    · simp [List.getElem?_range, h]) (va_nd_range w0.length) (fun i _ h => by simp at h) hk1 hF (fun k q h => by simp at h) ⟨fun i j p q h => by simp at h, fun k q h => by simp at h⟩
  rw [List.append_nil] at hP1 hD1
  exact kk r hw1 H1 locs1 ls hP1 hD1 hS1 hl
end JR
end
section
/-! PURE: the reading of a text; no program here -/
abbrev rS : Type := Nat × Bool × List Nat
def stp (c : Int32) (i : Nat) (q : rS) : rS :=
  if q.2.1 = true then (q.1, false, q.2.2)
  else if q.1 = 0 then (if c = nI 4 then 1 else if c = nI 6 then 2 else 0, decide (c = nI 5), if c = nI 2 then i :: q.2.2 else if c = nI 3 then q.2.2.tail else q.2.2)
  else if q.1 = 1 then (if c = nI 4 then 0 else 1, decide (c = nI 5), q.2.2)
  else (if c = nI 7 then 0 else q.1, false, q.2.2)
def rd (t : Nat → Int32) : Nat → rS
  | 0 => (0, false, [])
  | n + 1 => stp (t n) n (rd t n)
def md (t : Nat → Int32) (g : Nat) : Nat := (rd t g).1
def es (t : Nat → Int32) (g : Nat) : Bool := (rd t g).2.1
def sk (t : Nat → Int32) (g : Nat) : List Nat := (rd t g).2.2
def oI (d : Int32) (o : Option Nat) : Int32 := match o with
  | none => d
  | some k => nI k
def rl (t : Nat → Int32) (i : Nat) : Nat :=
  if md t i = 0 then (if es t i = true ∨ t i = nI 0 ∨ t i = nI 5 then 6 else if t i = nI 2 then 1 else if t i = nI 3 then (if sk t i = [] then 3 else 2) else if t i = nI 4 then 4 else 0)
  else if md t i = 1 ∧ es t i = false ∧ t i = nI 4 then 5 else 0
def pn (t : Nat → Int32) : Nat → Nat → Option Nat
  | 0, _ => none
  | n + 1, j => if rl t n = 2 then (if j = n then (sk t n).head? else if (sk t n).head? = some j then some n else pn t n j) else pn t n j
theorem rd_e (t : Nat → Int32) (g : Nat) : rd t g = (md t g, es t g, sk t g) := rfl
theorem md_0 (t : Nat → Int32) : md t 0 = 0 := rfl
theorem es_0 (t : Nat → Int32) : es t 0 = false := rfl
theorem sk_0 (t : Nat → Int32) : sk t 0 = [] := rfl
theorem rd_s (t : Nat → Int32) (g : Nat) : (md t (g + 1), es t (g + 1), sk t (g + 1)) = stp (t g) g (md t g, es t g, sk t g) := rfl
/-- the four ways of a step -/
theorem st_esc {t : Nat → Int32} {g : Nat} (h : es t g = true) : md t (g + 1) = md t g ∧ es t (g + 1) = false ∧ sk t (g + 1) = sk t g := by
  have := rd_s t g
  simp only [stp, h, if_true, Prod.mk.injEq] at this
  exact this
theorem st_plain {t : Nat → Int32} {g : Nat} (h : es t g = false) (h0 : md t g = 0) : md t (g + 1) = (if t g = nI 4 then 1 else if t g = nI 6 then 2 else 0) ∧ es t (g + 1) = decide (t g = nI 5) ∧ sk t (g + 1) = (if t g = nI 2 then g :: sk t g else if t g = nI 3 then (sk t g).tail else sk t g) := by
  have := rd_s t g
  simp only [stp, h, h0, if_true, Bool.false_eq_true, if_false, Prod.mk.injEq] at this
  exact this
theorem st_str {t : Nat → Int32} {g : Nat} (h : es t g = false) (h0 : md t g = 1) : md t (g + 1) = (if t g = nI 4 then 0 else 1) ∧ es t (g + 1) = decide (t g = nI 5) ∧ sk t (g + 1) = sk t g := by
  have := rd_s t g
  simp only [stp, h, h0, if_true, Bool.false_eq_true, if_false, Prod.mk.injEq, Nat.one_ne_zero] at this
  exact this
theorem st_rem {t : Nat → Int32} {g : Nat} (h : es t g = false) (h0 : md t g ≠ 0) (h1 : md t g ≠ 1) : md t (g + 1) = (if t g = nI 7 then 0 else md t g) ∧ es t (g + 1) = false ∧ sk t (g + 1) = sk t g := by
  have := rd_s t g
  simp only [stp, h, h0, h1, Bool.false_eq_true, if_false, Prod.mk.injEq] at this
  exact this
theorem md_le (t : Nat → Int32) (g : Nat) : md t g ≤ 2 := by
  induction g with
  | zero => exact Nat.zero_le _
  | succ g ih =>
    cases h : es t g with
    | true => rw [(st_esc h).1]; exact ih
    | false =>
      by_cases h0 : md t g = 0
      · rw [(st_plain h h0).1]; split
        · omega
        · split <;> omega
      · by_cases h1 : md t g = 1
        · rw [(st_str h h1).1]; split <;> omega
        · rw [(st_rem h h0 h1).1]; split <;> omega
theorem rl_lt (t : Nat → Int32) (i : Nat) : rl t i < 7 := by
  unfold rl
  split
  · split
    · omega
    · split
      · omega
      · split
        · split <;> omega
        · split <;> omega
  · split <;> omega
theorem c_ne {a b : Nat} (ha : a < 8) (hb : b < 8) (h : a ≠ b) : nI a ≠ nI b := fun q => h ((nI_eq (by omega) (by omega)).mp q)
/-- what the stack does at a step, by the role -/
theorem sk_step (t : Nat → Int32) (g : Nat) : (rl t g = 1 ∧ sk t (g + 1) = g :: sk t g) ∨ (rl t g = 2 ∧ sk t g ≠ [] ∧ sk t (g + 1) = (sk t g).tail) ∨ (rl t g ≠ 1 ∧ rl t g ≠ 2 ∧ sk t (g + 1) = sk t g) := by
  cases h : es t g with
  | true =>
    refine Or.inr (Or.inr ⟨?_, ?_, (st_esc h).2.2⟩) <;>
    · unfold rl
      simp only [h, true_or, if_true, Bool.true_eq_false, false_and, and_false, if_false]
      split <;> omega
  | false =>
    by_cases h0 : md t g = 0
    · rw [(st_plain h h0).2.2]
      unfold rl
      simp only [h, h0, if_true, Bool.false_eq_true, false_or]
      by_cases c2 : t g = nI 2
      · left
        simp only [c2, c_ne (a := 2) (b := 0) (by omega) (by omega) (by omega), c_ne (a := 2) (b := 5) (by omega) (by omega) (by omega), false_or, or_false, if_false, if_true, and_self]
      · by_cases c3 : t g = nI 3
        · simp only [c3, c_ne (a := 3) (b := 0) (by omega) (by omega) (by omega), c_ne (a := 3) (b := 5) (by omega) (by omega) (by omega), c_ne (a := 3) (b := 2) (by omega) (by omega) (by omega), false_or, or_false, if_false, if_true]
          by_cases e : sk t g = []
          · right; right
            simp [e]
          · right; left
            simp [e]
        · right; right
          simp only [c2, c3, if_false, and_true]
          split
          · omega
          · split <;> omega
    · refine Or.inr (Or.inr ⟨?_, ?_, ?_⟩)
      · unfold rl
        simp only [h0, if_false]
        split <;> omega
      · unfold rl
        simp only [h0, if_false]
        split <;> omega
      · by_cases h1 : md t g = 1
        · exact (st_str h h1).2.2
        · exact (st_rem h h0 h1).2.2
/-- the top of the stack: an OPEN that joins; what lies below it is the stack that it was read with -/
theorem sk_top {t : Nat → Int32} : ∀ (g p : Nat) (r : List Nat), sk t g = p :: r → p < g ∧ rl t p = 1 ∧ sk t p = r := by
  intro g
  induction g using Nat.strongRecOn with
  | _ g ih =>
    intro p r h
    cases g with
    | zero => simp [sk_0] at h
    | succ g =>
      rcases sk_step t g with ⟨h1, h2⟩ | ⟨h1, h2, h3⟩ | ⟨-, -, h3⟩
      · rw [h2] at h
        cases h
        exact ⟨by omega, h1, rfl⟩
      · rw [h3] at h
        cases e : sk t g with
        | nil => exact absurd e h2
        | cons a b =>
          rw [e, List.tail_cons] at h
          subst h
          obtain ⟨i1, i2, i3⟩ := ih g (by omega) a _ e
          obtain ⟨j1, j2, j3⟩ := ih a (by omega) p r i3
          exact ⟨by omega, j2, j3⟩
      · rw [h3] at h
        obtain ⟨i1, i2, i3⟩ := ih g (by omega) p r h
        exact ⟨by omega, i2, i3⟩
theorem sk_drop {t : Nat → Int32} : ∀ (j g p : Nat) (r : List Nat), (sk t g).drop j = p :: r → p < g ∧ rl t p = 1 ∧ sk t p = r := by
  intro j
  induction j with
  | zero => intro g p r h; exact sk_top g p r h
  | succ j ih =>
    intro g p r h
    cases e : sk t g with
    | nil => rw [e] at h; simp at h
    | cons a b =>
      rw [e, List.drop_succ_cons] at h
      obtain ⟨i1, i2, i3⟩ := sk_top g a b e
      rw [← i3] at h
      obtain ⟨j1, j2, j3⟩ := ih a p r h
      exact ⟨by omega, j2, j3⟩
theorem sk_mem {t : Nat → Int32} {g p : Nat} (h : p ∈ sk t g) : p < g ∧ rl t p = 1 := by
  obtain ⟨j, hj⟩ := List.getElem?_of_mem h
  obtain ⟨i1, i2, i3⟩ := sk_drop j g p ((sk t g).drop (j + 1)) (by
    obtain ⟨hl, he⟩ := List.getElem?_eq_some_iff.mp hj
    rw [List.drop_eq_getElem_cons hl, he])
  exact ⟨i1, i2⟩
theorem sk_len (t : Nat → Int32) (g : Nat) : (sk t g).length ≤ g := by
  induction g with
  | zero => simp [sk_0]
  | succ g ih =>
    rcases sk_step t g with ⟨-, h⟩ | ⟨-, -, h⟩ | ⟨-, -, h⟩ <;> rw [h] <;> (try simp only [List.length_cons, List.length_tail]) <;> omega
theorem sk_lt {t : Nat → Int32} {g p : Nat} {r : List Nat} (h : sk t g = p :: r) : p < g := (sk_top g p r h).1
/-- the stack has no double -/
theorem sk_nd {t : Nat → Int32} : ∀ (g p : Nat) (r : List Nat), sk t g = p :: r → p ∉ r := by
  intro g p r h hm
  obtain ⟨-, -, h3⟩ := sk_top g p r h
  rw [← h3] at hm
  have := (sk_mem hm).1
  omega
theorem rd_ext {t t' : Nat → Int32} {g : Nat} (h : ∀ j, j < g → t j = t' j) : rd t g = rd t' g := by
  induction g with
  | zero => rfl
  | succ g ih =>
    show stp (t g) g (rd t g) = stp (t' g) g (rd t' g)
    rw [ih (fun j hj => h j (by omega)), h g (by omega)]
theorem md_ext {t t' : Nat → Int32} {g : Nat} (h : ∀ j, j < g → t j = t' j) : md t g = md t' g := by unfold md; rw [rd_ext h]
theorem es_ext {t t' : Nat → Int32} {g : Nat} (h : ∀ j, j < g → t j = t' j) : es t g = es t' g := by unfold es; rw [rd_ext h]
theorem sk_ext {t t' : Nat → Int32} {g : Nat} (h : ∀ j, j < g → t j = t' j) : sk t g = sk t' g := by unfold sk; rw [rd_ext h]
theorem rl_ext {t t' : Nat → Int32} {i g : Nat} (h : ∀ j, j < g → t j = t' j) (hi : i < g) : rl t i = rl t' i := by
  have h' : ∀ j, j < i → t j = t' j := fun j hj => h j (by omega)
  unfold rl
  rw [md_ext h', es_ext h', sk_ext h', h i hi]
theorem pn_ext {t t' : Nat → Int32} : ∀ {n : Nat}, (∀ j, j < n → t j = t' j) → ∀ j, pn t n j = pn t' n j := by
  intro n
  induction n with
  | zero => intro _ j; rfl
  | succ n ih =>
    intro h j
    have h' : ∀ j, j < n → t j = t' j := fun j hj => h j (by omega)
    rw [pn, pn, rl_ext h (by omega), sk_ext h', ih h' j]
/-! partners -/
theorem rl2_sk {t : Nat → Int32} {i : Nat} (h : rl t i = 2) : ∃ p r, sk t i = p :: r := by
  rcases sk_step t i with ⟨h1, -⟩ | ⟨-, h2, -⟩ | ⟨-, h2, -⟩
  · omega
  · cases e : sk t i with
    | nil => exact absurd e h2
    | cons a b => exact ⟨a, b, rfl⟩
  · omega
theorem pn_ge {t : Nat → Int32} : ∀ (n j : Nat), n ≤ j → pn t n j = none := by
  intro n
  induction n with
  | zero => intro j _; rfl
  | succ n ih =>
    intro j hj
    rw [pn]
    split
    · rename_i h
      obtain ⟨p, r, e⟩ := rl2_sk h
      have := sk_lt e
      rw [if_neg (by omega), if_neg (by rw [e]; simp; omega)]
      exact ih j (by omega)
    · exact ih j (by omega)
theorem pn_open {t : Nat → Int32} : ∀ (n p : Nat), p ∈ sk t n → pn t n p = none := by
  intro n
  induction n with
  | zero => intro p h; rfl
  | succ n ih =>
    intro p h
    rw [pn]
    rcases sk_step t n with ⟨h1, h2⟩ | ⟨h1, h2, h3⟩ | ⟨h1, h2, h3⟩
    · rw [if_neg (by omega)]
      rw [h2] at h
      rcases List.mem_cons.mp h with e | e
      · exact pn_ge n p (by omega)
      · exact ih p e
    · rw [if_pos h1]
      obtain ⟨a, r, e⟩ := rl2_sk h1
      rw [h3, e, List.tail_cons] at h
      have ha := sk_nd n a r e
      have hp : p ∈ sk t n := by rw [e]; exact List.mem_cons_of_mem _ h
      have := (sk_mem hp).1
      rw [if_neg (by omega), if_neg (by rw [e]; simp; intro q; subst q; exact ha h)]
      exact ih p hp
    · rw [if_neg h2]
      rw [h3] at h
      exact ih p h
/-- a pair, once made, stays -/
theorem pn_pair {t : Nat → Int32} {i p : Nat} {r : List Nat} (h : rl t i = 2) (e : sk t i = p :: r) : ∀ n, i < n → pn t n i = some p ∧ pn t n p = some i ∧ p ∉ sk t n := by
  intro n
  induction n with
  | zero => intro q; omega
  | succ n ih =>
    intro q
    have hp := sk_lt e
    by_cases hn : i = n
    · subst hn
      refine ⟨?_, ?_, ?_⟩
      · rw [pn, if_pos h, if_pos rfl, e]; rfl
      · rw [pn, if_pos h, if_neg (by omega), if_pos (by rw [e]; rfl)]
      · rcases sk_step t i with ⟨h1, -⟩ | ⟨-, -, h3⟩ | ⟨-, h2, -⟩
        · omega
        · rw [h3, e]; exact sk_nd i p r e
        · omega
    · obtain ⟨h1, h2, h3⟩ := ih (by omega)
      have hns : p ∉ sk t (n + 1) := by
        rcases sk_step t n with ⟨-, e2⟩ | ⟨-, -, e2⟩ | ⟨-, -, e2⟩ <;> rw [e2]
        · intro q2
          rcases List.mem_cons.mp q2 with q3 | q3
          · omega
          · exact h3 q3
        · intro q2
          exact h3 (List.mem_of_mem_tail q2)
        · exact h3
      by_cases e2 : rl t n = 2
      · obtain ⟨a, b, e3⟩ := rl2_sk e2
        have ha : a ∈ sk t n := by rw [e3]; exact List.mem_cons_self
        have hai : rl t a = 1 := (sk_mem ha).2
        have z1 : pn t (n + 1) i = some p := by
          rw [pn, if_pos e2, if_neg hn, if_neg (by rw [e3]; simp; intro q2; subst q2; omega)]
          exact h1
        have z2 : pn t (n + 1) p = some i := by
          rw [pn, if_pos e2, if_neg (by omega), if_neg (by rw [e3]; simp; intro q2; subst q2; exact h3 ha)]
          exact h2
        exact ⟨z1, z2, hns⟩
      · exact ⟨by rw [pn, if_neg e2]; exact h1, by rw [pn, if_neg e2]; exact h2, hns⟩
theorem pn_some {t : Nat → Int32} : ∀ (n j c : Nat), pn t n j = some c → c < n ∧ j < n ∧ ((rl t j = 1 ∧ rl t c = 2 ∧ (sk t c).head? = some j) ∨ (rl t j = 2 ∧ (sk t j).head? = some c)) := by
  intro n
  induction n with
  | zero => intro j c h; cases h
  | succ n ih =>
    intro j c h
    rw [pn] at h
    split at h
    · rename_i h2
      obtain ⟨p, r, e⟩ := rl2_sk h2
      have hp := sk_top n p r e
      split at h
      · rename_i ej
        subst ej
        rw [e] at h
        cases h
        exact ⟨by omega, by omega, Or.inr ⟨h2, by rw [e]; rfl⟩⟩
      · split at h
        · rename_i e2
          cases h
          rw [e] at e2
          cases e2
          exact ⟨by omega, by omega, Or.inl ⟨hp.2.1, h2, by rw [e]; rfl⟩⟩
        · obtain ⟨a, b, d⟩ := ih j c h
          exact ⟨by omega, by omega, d⟩
    · obtain ⟨a, b, d⟩ := ih j c h
      exact ⟨by omega, by omega, d⟩
theorem sk_head_lt {t : Nat → Int32} {g p : Nat} (h : (sk t g).head? = some p) : p < g := by
  cases e : sk t g with
  | nil => rw [e] at h; cases h
  | cons a b => rw [e] at h; cases h; exact sk_lt e
/-- fewer characters read -/
theorem pn_less {t : Nat → Int32} {k : Nat} : ∀ (n j : Nat), k ≤ n → j < k → pn t k j = (match pn t n j with | some c => if c < k then some c else none | none => none) := by
  intro n
  induction n with
  | zero =>
    intro j h1 h2
    omega
  | succ n ih =>
    intro j h1 h2
    by_cases hk : k = n + 1
    · subst hk
      cases e : pn t (n + 1) j with
      | none => rfl
      | some c => simp [(pn_some _ _ _ e).1]
    · have hi := ih j (by omega) h2
      by_cases e2 : rl t n = 2
      · obtain ⟨p, r, e⟩ := rl2_sk e2
        have e4 : pn t (n + 1) j = if (sk t n).head? = some j then some n else pn t n j := by rw [pn, if_pos e2, if_neg (by omega)]
        rw [e4]
        by_cases e3 : (sk t n).head? = some j
        · rw [if_pos e3]
          rw [e] at e3
          cases e3
          have h3 : pn t n j = none := pn_open n j (by rw [e]; exact List.mem_cons_self)
          rw [hi, h3]
          simp
          omega
        · rw [if_neg e3]
          exact hi
      · have e4 : pn t (n + 1) j = pn t n j := by rw [pn, if_neg e2]
        rw [e4]
        exact hi
theorem pn_none {t : Nat → Int32} {n j : Nat} (h1 : rl t j ≠ 1) (h2 : rl t j ≠ 2) : pn t n j = none := by
  cases e : pn t n j with
  | none => rfl
  | some c =>
    rcases (pn_some n j c e).2.2 with h | h <;> omega
/-! units, and the answers -/
def wE (t : Nat → Int32) (n : Nat) : Nat → Nat → Nat
  | 0, e => e
  | f + 1, e => if e + 1 < n ∧ rl t (e + 1) = 6 then wE t n f (e + 1) else e
def sE (t : Nat → Int32) (n : Nat) : Nat → Nat → Option Nat
  | 0, _ => none
  | f + 1, e => if e < n then (if rl t e = 5 then some e else sE t n f (e + 1)) else none
def uE (t : Nat → Int32) (n i : Nat) : Option Nat :=
  if rl t i = 1 then pn t n i else if rl t i = 4 then sE t n n (i + 1) else if rl t i = 6 ∧ ¬ (0 < i ∧ rl t (i - 1) = 6) then (if es t (wE t n n i + 1) = true then none else some (wE t n n i)) else none
def sS (t : Nat → Int32) : Nat → Nat
  | 0 => 0
  | i + 1 => if rl t (i + 1) = 4 then i + 1 else sS t i
def wS (t : Nat → Int32) : Nat → Nat
  | 0 => 0
  | i + 1 => if rl t i = 6 then wS t i else i + 1
def uS (t : Nat → Int32) (n e : Nat) : Option Nat :=
  if rl t e = 2 then pn t n e else if rl t e = 5 then some (sS t e) else if rl t e = 6 ∧ ¬ (e + 1 < n ∧ rl t (e + 1) = 6) then (if es t (e + 1) = true then none else some (wS t e)) else none
def fS (t : Nat → Int32) (n a : Nat) : Nat → Nat → Option Nat
  | 0, _ => none
  | f + 1, i => if i ≤ a then (if uE t n i = some a then some i else fS t n a f (i + 1)) else none
def fwd (t : Nat → Int32) (n : Nat) : Nat → Nat → Int32
  | 0, _ => -2
  | f + 1, i => if i < n then (if rl t i = 2 ∨ rl t i = 3 then -3 else match uE t n i with | some e => nI (e + 1) | none => fwd t n f (i + 1)) else -2
def bwd (t : Nat → Int32) (n g : Nat) : Nat → Int32
  | 0 => -2
  | e + 1 => if rl t e = 1 ∧ (pn t n e = none ∨ ∃ c, pn t n e = some c ∧ g ≤ c) then -3 else match uS t n e with | some i => nI i | none => bwd t n g e
def dwn (t : Nat → Int32) (n : Nat) : Nat → Nat → Bool → Int32
  | 0, _, _ => -2
  | f + 1, i, c => if i < n then (if rl t i = 1 then (if c = true then -3 else nI (i + 1)) else dwn t n f (i + 1) (c || decide (rl t i = 2 ∨ rl t i = 3))) else -2
def cS (t : Nat → Int32) (n : Nat) : Nat → Nat
  | 0 => 0
  | i + 1 => cS t n i + if i < n ∧ rl t i = 3 then 1 else 0
def cU (t : Nat → Int32) (n : Nat) : Nat → Nat
  | 0 => 0
  | i + 1 => cU t n i + if uE t n i = none then 0 else 1
theorem cS_le (t : Nat → Int32) (n i : Nat) : cS t n i ≤ i := by
  induction i with
  | zero => exact Nat.le_refl _
  | succ i ih => rw [cS]; split <;> omega
theorem cU_le (t : Nat → Int32) (n i : Nat) : cU t n i ≤ i := by
  induction i with
  | zero => exact Nat.le_refl _
  | succ i ih => rw [cU]; split <;> omega
theorem cS_end (t : Nat → Int32) (n : Nat) : ∀ d, cS t n (n + d) = cS t n n := by
  intro d
  induction d with
  | zero => rfl
  | succ d ih => rw [← Nat.add_assoc, cS, ih, if_neg (by omega)]; rfl
/-- where a string is read: its beginning -/
theorem md1_begin {t : Nat → Int32} : ∀ g, md t g = 1 → ∃ i, i < g ∧ rl t i = 4 ∧ ∀ e, i < e → e < g → rl t e ≠ 5 ∧ rl t e ≠ 4 := by
  intro g
  induction g with
  | zero => intro h; simp [md_0] at h
  | succ g ih =>
    intro h
    have keep : md t g = 1 → rl t g ≠ 5 → ∃ i, i < g + 1 ∧ rl t i = 4 ∧ ∀ e, i < e → e < g + 1 → rl t e ≠ 5 ∧ rl t e ≠ 4 := by
      intro h1 h2
      obtain ⟨i, a, b, d⟩ := ih h1
      refine ⟨i, by omega, b, fun e q1 q2 => ?_⟩
      by_cases hg : e = g
      · subst hg
        refine ⟨h2, ?_⟩
        unfold rl
        simp only [h1, Nat.one_ne_zero, if_false]
        split <;> omega
      · exact d e q1 (by omega)
    cases he : es t g with
    | true =>
      rw [(st_esc he).1] at h
      refine keep h ?_
      unfold rl
      simp [h, he]
    | false =>
      by_cases h0 : md t g = 0
      · rw [(st_plain he h0).1] at h
        split at h
        · rename_i c4
          refine ⟨g, by omega, ?_, fun e q1 q2 => by omega⟩
          unfold rl
          simp [h0, he, c4, c_ne (a := 4) (b := 0) (by omega) (by omega) (by omega), c_ne (a := 4) (b := 5) (by omega) (by omega) (by omega), c_ne (a := 4) (b := 2) (by omega) (by omega) (by omega), c_ne (a := 4) (b := 3) (by omega) (by omega) (by omega)]
        · split at h <;> omega
      · by_cases h1 : md t g = 1
        · rw [(st_str he h1).1] at h
          split at h
          · omega
          · rename_i c4
            refine keep h1 ?_
            unfold rl
            simp [h1, c4]
        · rw [(st_rem he h0 h1).1] at h
          split at h <;> omega
/-- a string goes on until its end -/
theorem md1_go {t : Nat → Int32} {i : Nat} (h : rl t i = 4) : ∀ g, i < g → (∀ e, i < e → e < g → rl t e ≠ 5) → md t g = 1 := by
  have h0 : md t i = 0 ∧ es t i = false ∧ t i = nI 4 := by
    unfold rl at h
    split at h
    · rename_i h0
      split at h
      · omega
      · rename_i h1
        split at h
        · omega
        · split at h
          · split at h <;> omega
          · split at h
            · rename_i h4
              refine ⟨h0, ?_, h4⟩
              cases e : es t i with
              | false => rfl
              | true => exact absurd (Or.inl e) h1
            · omega
    · split at h <;> omega
  intro g
  induction g with
  | zero => intro q; omega
  | succ g ih =>
    intro q1 q2
    by_cases hg : i = g
    · subst hg
      rw [(st_plain h0.2.1 h0.1).1, if_pos h0.2.2]
    · have h1 := ih (by omega) (fun e a b => q2 e a (by omega))
      have h5 := q2 g (by omega) (by omega)
      cases he : es t g with
      | true => rw [(st_esc he).1]; exact h1
      | false =>
        rw [(st_str he h1).1]
        split
        · rename_i c4
          exfalso
          apply h5
          unfold rl
          simp [h1, he, c4]
        · rfl
theorem md1_rl {t : Nat → Int32} {g : Nat} (h : md t g = 1) : rl t g ≠ 4 := by
  unfold rl
  simp only [h, Nat.one_ne_zero, if_false]
  split <;> omega
theorem rl5_md {t : Nat → Int32} {g : Nat} (h : rl t g = 5) : md t g = 1 := by
  unfold rl at h
  split at h
  · split at h
    · omega
    · split at h
      · omega
      · split at h
        · split at h <;> omega
        · split at h <;> omega
  · split at h
    · rename_i q; exact q.1
    · omega
theorem sE_some {t : Nat → Int32} {n : Nat} : ∀ (f e a : Nat), sE t n f e = some a → e ≤ a ∧ a < n ∧ rl t a = 5 ∧ ∀ j, e ≤ j → j < a → rl t j ≠ 5 := by
  intro f
  induction f with
  | zero => intro e a h; cases h
  | succ f ih =>
    intro e a h
    rw [sE] at h
    split at h
    · split at h
      · cases h
        exact ⟨Nat.le_refl _, by assumption, by assumption, fun j _ _ => by omega⟩
      · rename_i h5
        obtain ⟨b1, b2, b3, b4⟩ := ih (e + 1) a h
        refine ⟨by omega, b2, b3, fun j q1 q2 => ?_⟩
        by_cases hj : j = e
        · subst hj; exact h5
        · exact b4 j (by omega) q2
    · cases h
theorem sE_of {t : Nat → Int32} {n a : Nat} (h5 : rl t a = 5) (ha : a < n) : ∀ (f e : Nat), n ≤ e + f → e ≤ a → (∀ j, e ≤ j → j < a → rl t j ≠ 5) → sE t n f e = some a := by
  intro f
  induction f with
  | zero => intro e h1 h2; omega
  | succ f ih =>
    intro e h1 h2 h3
    rw [sE, if_pos (by omega)]
    by_cases he : e = a
    · subst he; rw [if_pos h5]
    · rw [if_neg (h3 e (Nat.le_refl _) (by omega))]
      exact ih (e + 1) (by omega) (by omega) (fun j q1 q2 => h3 j (by omega) q2)
theorem sS_eq {t : Nat → Int32} {i : Nat} (h4 : rl t i = 4) : ∀ a, i ≤ a → (∀ e, i < e → e ≤ a → rl t e ≠ 4) → sS t a = i := by
  intro a
  induction a with
  | zero => intro h _; rw [sS]; omega
  | succ a ih =>
    intro h1 h2
    rw [sS]
    by_cases e : i = a + 1
    · subst e; rw [if_pos h4]
    · rw [if_neg (h2 (a + 1) (by omega) (Nat.le_refl _))]
      exact ih (by omega) (fun e q1 q2 => h2 e q1 (by omega))
theorem wE_spec {t : Nat → Int32} {n : Nat} : ∀ (f e : Nat), n ≤ e + f → e ≤ wE t n f e ∧ (∀ j, e < j → j ≤ wE t n f e → rl t j = 6 ∧ j < n) ∧ ¬ (wE t n f e + 1 < n ∧ rl t (wE t n f e + 1) = 6) := by
  intro f
  induction f with
  | zero => intro e h; refine ⟨Nat.le_refl _, fun j q1 q2 => ?_, fun q => ?_⟩ <;> simp only [wE] at * <;> omega
  | succ f ih =>
    intro e h
    rw [wE]
    by_cases c : e + 1 < n ∧ rl t (e + 1) = 6
    · rw [if_pos c]
      obtain ⟨b1, b2, b3⟩ := ih (e + 1) (by omega)
      refine ⟨by omega, fun j q1 q2 => ?_, b3⟩
      by_cases hj : j = e + 1
      · subst hj; exact ⟨c.2, c.1⟩
      · exact b2 j (by omega) q2
    · rw [if_neg c]
      exact ⟨Nat.le_refl _, fun j q1 q2 => by omega, c⟩
theorem wE_of {t : Nat → Int32} {n a : Nat} (ha : a < n) (hs : ¬ (a + 1 < n ∧ rl t (a + 1) = 6)) : ∀ (f e : Nat), n ≤ e + f → e ≤ a → (∀ j, e < j → j ≤ a → rl t j = 6) → wE t n f e = a := by
  intro f
  induction f with
  | zero => intro e h1 h2; omega
  | succ f ih =>
    intro e h1 h2 h3
    rw [wE]
    by_cases he : e = a
    · subst he; rw [if_neg hs]
    · rw [if_pos ⟨by omega, h3 (e + 1) (by omega) (by omega)⟩]
      exact ih (e + 1) (by omega) (by omega) (fun j q1 q2 => h3 j (by omega) q2)
theorem wS_spec {t : Nat → Int32} : ∀ a, wS t a ≤ a ∧ (∀ j, wS t a ≤ j → j < a → rl t j = 6) ∧ ¬ (0 < wS t a ∧ rl t (wS t a - 1) = 6) := by
  intro a
  induction a with
  | zero => exact ⟨Nat.le_refl _, fun j q1 q2 => by omega, fun q => by have := q.1; simp [wS] at this⟩
  | succ a ih =>
    rw [wS]
    by_cases c : rl t a = 6
    · rw [if_pos c]
      obtain ⟨b1, b2, b3⟩ := ih
      refine ⟨by omega, fun j q1 q2 => ?_, b3⟩
      by_cases hj : j = a
      · subst hj; exact c
      · exact b2 j q1 (by omega)
    · rw [if_neg c]
      exact ⟨Nat.le_refl _, fun j q1 q2 => by omega, fun q => c q.2⟩
theorem wS_of {t : Nat → Int32} {i : Nat} (hs : ¬ (0 < i ∧ rl t (i - 1) = 6)) : ∀ a, i ≤ a → (∀ j, i ≤ j → j < a → rl t j = 6) → wS t a = i := by
  intro a
  induction a with
  | zero => intro h _; rw [wS]; omega
  | succ a ih =>
    intro h1 h2
    rw [wS]
    by_cases e : i = a + 1
    · subst e
      have hs2 : ¬ rl t a = 6 := fun q => hs ⟨by omega, q⟩
      rw [if_neg hs2]
    · rw [if_pos (h2 a (by omega) (by omega))]
      exact ih (by omega) (fun j q1 q2 => h2 j q1 (by omega))
/-- a unit's end tells its start -/
theorem uE_uS {t : Nat → Int32} {n i a : Nat} (hi : i < n) (h : uE t n i = some a) : i ≤ a ∧ a < n ∧ uS t n a = some i := by
  unfold uE at h
  split at h
  · rename_i h1
    obtain ⟨q1, q2, q3⟩ := pn_some n i a h
    rcases q3 with ⟨-, b2, b3⟩ | ⟨b1, -⟩
    · have hia := sk_head_lt b3
      refine ⟨by omega, q1, ?_⟩
      unfold uS
      rw [if_pos b2]
      cases e : sk t a with
      | nil => rw [e] at b3; cases b3
      | cons x y =>
        rw [e] at b3
        cases b3
        exact (pn_pair b2 e n q1).1
    · omega
  · split at h
    · rename_i h4
      obtain ⟨b1, b2, b3, b4⟩ := sE_some _ _ _ h
      refine ⟨by omega, b2, ?_⟩
      unfold uS
      rw [if_neg (by omega), if_pos b3]
      congr 1
      refine sS_eq h4 a (by omega) (fun e q1 q2 => ?_)
      by_cases ea : e = a
      · subst ea; omega
      · exact md1_rl (md1_go h4 e q1 (fun j r1 r2 => b4 j (by omega) (by omega)))
    · split at h
      · rename_i h6
        obtain ⟨b1, b2, b3⟩ := wE_spec (t := t) (n := n) n i (by omega)
        split at h
        · cases h
        · rename_i hes
          cases h
          have h66 : rl t (wE t n n i) = 6 := by
            by_cases q : i = wE t n n i
            · rw [← q]; exact h6.1
            · exact (b2 _ (by omega) (Nat.le_refl _)).1
          have hlt : wE t n n i < n := by
            by_cases q : i = wE t n n i
            · omega
            · exact (b2 _ (by omega) (Nat.le_refl _)).2
          refine ⟨b1, hlt, ?_⟩
          unfold uS
          rw [if_neg (by omega), if_neg (by omega), if_pos ⟨h66, b3⟩, if_neg hes]
          congr 1
          refine wS_of h6.2 _ b1 (fun j q1 q2 => ?_)
          by_cases q : i = j
          · subst q; exact h6.1
          · exact (b2 j (by omega) (by omega)).1
      · cases h
theorem uS_uE {t : Nat → Int32} {n i a : Nat} (ha : a < n) (h : uS t n a = some i) : i ≤ a ∧ uE t n i = some a := by
  unfold uS at h
  split at h
  · rename_i h2
    obtain ⟨p, r, e⟩ := rl2_sk h2
    obtain ⟨b1, b2, -⟩ := pn_pair h2 e n ha
    rw [b1] at h
    obtain rfl : p = i := Option.some.inj h
    obtain ⟨c1, c2, -⟩ := sk_top a p r e
    refine ⟨by omega, ?_⟩
    unfold uE
    rw [if_pos c2]
    exact b2
  · split at h
    · rename_i h5
      cases h
      obtain ⟨i, c1, c2, c3⟩ := md1_begin a (rl5_md h5)
      have e : sS t a = i := sS_eq c2 a (by omega) (fun e q1 q2 => by
        by_cases ea : e = a
        · subst ea; omega
        · exact (c3 e q1 (by omega)).2)
      rw [e]
      refine ⟨by omega, ?_⟩
      unfold uE
      rw [if_neg (by omega), if_pos c2]
      exact sE_of h5 ha n (i + 1) (by omega) (by omega) (fun j q1 q2 => (c3 j (by omega) q2).1)
    · split at h
      · rename_i h6
        split at h
        · cases h
        · rename_i hes
          cases h
          obtain ⟨c1, c2, c3⟩ := wS_spec (t := t) a
          refine ⟨c1, ?_⟩
          have h66 : rl t (wS t a) = 6 := by
            by_cases q : wS t a = a
            · rw [q]; exact h6.1
            · exact c2 _ (Nat.le_refl _) (by omega)
          have ew : wE t n n (wS t a) = a := wE_of ha h6.2 n (wS t a) (by omega) c1 (fun j q1 q2 => by
            by_cases q : j = a
            · subst q; exact h6.1
            · exact c2 j (by omega) (by omega))
          unfold uE
          rw [if_neg (by omega), if_neg (by omega), if_pos ⟨h66, c3⟩, ew, if_neg hes]
      · cases h
theorem fS_eq {t : Nat → Int32} {n a : Nat} (ha : a < n) : ∀ (f i : Nat), a < i + f → (∀ j, j < i → uE t n j ≠ some a) → fS t n a f i = uS t n a := by
  intro f
  induction f with
  | zero =>
    intro i h1 h2
    rw [fS]
    cases e : uS t n a with
    | none => rfl
    | some k =>
      obtain ⟨b1, b2⟩ := uS_uE ha e
      exact absurd b2 (h2 k (by omega))
  | succ f ih =>
    intro i h1 h2
    rw [fS]
    by_cases hi : i ≤ a
    · rw [if_pos hi]
      by_cases hu : uE t n i = some a
      · rw [if_pos hu]
        exact (uE_uS (by omega) hu).2.2.symm
      · rw [if_neg hu]
        refine ih (i + 1) (by omega) (fun j q => ?_)
        by_cases e : j = i
        · subst e; exact hu
        · exact h2 j (by omega)
    · rw [if_neg hi]
      cases e : uS t n a with
      | none => rfl
      | some k =>
        obtain ⟨b1, b2⟩ := uS_uE ha e
        exact absurd b2 (h2 k (by omega))
theorem es_word {t : Nat → Int32} {i : Nat} (h0 : md t i = 0) (h : es t i = true) : 0 < i ∧ rl t (i - 1) = 6 := by
  cases i with
  | zero => simp [es_0] at h
  | succ k =>
    refine ⟨by omega, ?_⟩
    show rl t k = 6
    cases he : es t k with
    | true => rw [(st_esc he).2.1] at h; cases h
    | false =>
      by_cases m0 : md t k = 0
      · rw [(st_plain he m0).2.1] at h
        have h5 := of_decide_eq_true h
        unfold rl
        rw [if_pos m0, if_pos (Or.inr (Or.inr h5))]
      · by_cases m1 : md t k = 1
        · rw [(st_str he m1).2.1] at h
          have h5 := of_decide_eq_true h
          rw [(st_str he m1).1, h5, if_neg (c_ne (by omega) (by omega) (by omega))] at h0
          omega
        · rw [(st_rem he m0 m1).2.1] at h; cases h
end
section
/-- the world of an object of RX0: its fields, its arrays -/
def XW (ad : Nat → Nat) (cI cZ : ClassId) (kind role par aro kM kE kI : Nat → Int32) (len kno mo esc inn : Int32) : va_W :=
  [(ad 0, .inr (0, [.ref (ad 1), .ref (ad 2), .ref (ad 3), .ref (ad 4), .ref (ad 5), .ref (ad 6), .ref (ad 7), .int len, .int kno, .int mo, .int esc, .int inn])), (ad 1, .inl (cI, 64, .inl kind)), (ad 2, .inl (cI, 64, .inl role)), (ad 3, .inl (cI, 64, .inl par)), (ad 4, .inl (cI, 64, .inl aro)), (ad 5, .inl (cI, 5, .inl kM)), (ad 6, .inl (cZ, 5, .inl kE)), (ad 7, .inl (cI, 5, .inl kI))]
section XR
variable {p : Program} {l : Launch} {e : Env} {s : State} {m : MethodId} {args : Array Value} {below : List Frame} {meth : Method} {c : Code} {D : va_G} {A : Nat → Prop} {lev : Nat} {Qc : Array Value → State → Outcome → State → Prop} {pc : Nat} {vs vr : List (Option jT)} {st : List Value}
variable {cI cZ : ClassId} {cc : ByteArray} {nL : Nat} {ret : Option FieldType} {ad : Nat → Nat}
variable {kind role par aro kM kE kI : Nat → Int32} {len kno mo esc inn : Int32}
theorem x_get_kind (C : CC p s m args meth c D A cI cZ RX0 cc nL ret) (hd : decode cc pc = .ok (.getfield 7, 3)) (k : JJ p l e s m args below meth c D A lev Qc (XW ad cI cZ kind role par aro kM kE kI len kno mo esc inn) (pc + 3) vs (.ref (ad 1) :: st)) : JJ p l e s m args below meth c D A lev Qc (XW ad cI cZ kind role par aro kM kE kI len kno mo esc inn) pc vs (.ref (ad 0) :: st) := by
  intro H locs ls hP hD hS hl
  exact va_get (D := D) (ci := 0) (v := .ref (ad 1)) (C := RX0) (T := TX0) (N := 12) C.1 C.2.1 C.2.2.2.2.1 in_X0 C.2.2.2.1 C.2.2.2.2.2.1 hP 0 rfl rfl 0 (by decide) (C.2.2.2.2.1 _ q32) (fun _ h9 => h9) rfl hd (k H locs ls hP hD hS hl)
theorem x_ag_kind (C : CC p s m args meth c D A cI cZ RX0 cc nL ret) (h1 : decode cc pc = .ok (.aload_n 0, 1)) (h2 : decode cc (pc + 1) = .ok (.getfield 7, 3)) (k : JJ p l e s m args below meth c D A lev Qc (XW ad cI cZ kind role par aro kM kE kI len kno mo esc inn) (pc + 4) (some (.inr (ad 0)) :: vr) (.ref (ad 1) :: st)) : JJ p l e s m args below meth c D A lev Qc (XW ad cI cZ kind role par aro kM kE kI len kno mo esc inn) pc (some (.inr (ad 0)) :: vr) st := j_aload0 C h1 (x_get_kind C h2 k)
theorem x_ald_kind {i : Nat} (C : CC p s m args meth c D A cI cZ RX0 cc nL ret) (hd : decode cc pc = .ok (.iaload, 1)) (hi : i < 64) (k : JJ p l e s m args below meth c D A lev Qc (XW ad cI cZ kind role par aro kM kE kI len kno mo esc inn) (pc + 1) vs (.int (kind i) :: st)) : JJ p l e s m args below meth c D A lev Qc (XW ad cI cZ kind role par aro kM kE kI len kno mo esc inn) pc vs (.int (nI i) :: .ref (ad 1) :: st) := by
  intro H locs ls hP hD hS hl
  refine va_iald C.1 C.2.1 C.2.2.2.2.2.1 hP 1 0 rfl rfl (vp_in_nI hi (by decide)) hd ?_
  rw [nI_clamp (by omega)]
  exact k H locs ls hP hD hS hl
theorem x_ast_kind {i : Nat} {x : Int32} (C : CC p s m args meth c D A cI cZ RX0 cc nL ret) (hd : decode cc pc = .ok (.iastore, 1)) (hi : i < 64) (k : JJ p l e s m args below meth c D A lev Qc (XW ad cI cZ (upd kind i x) role par aro kM kE kI len kno mo esc inn) (pc + 1) vs st) : JJ p l e s m args below meth c D A lev Qc (XW ad cI cZ kind role par aro kM kE kI len kno mo esc inn) pc vs (.int x :: .int (nI i) :: .ref (ad 1) :: st) := by
  intro H locs ls hP hD hS hl
  refine va_iast C.1 C.2.1 C.2.2.2.2.2.1 hP hD hS 1 0 rfl rfl (vp_in_nI hi (by decide)) hd (fun H1 locs1 hP1 hD1 hS1 => ?_)
  rw [nI_clamp (by omega)] at hP1 hD1
  skip
  exact k H1 locs1 ls hP1 hD1 hS1 hl
theorem x_get_role (C : CC p s m args meth c D A cI cZ RX0 cc nL ret) (hd : decode cc pc = .ok (.getfield 13, 3)) (k : JJ p l e s m args below meth c D A lev Qc (XW ad cI cZ kind role par aro kM kE kI len kno mo esc inn) (pc + 3) vs (.ref (ad 2) :: st)) : JJ p l e s m args below meth c D A lev Qc (XW ad cI cZ kind role par aro kM kE kI len kno mo esc inn) pc vs (.ref (ad 0) :: st) := by
  intro H locs ls hP hD hS hl
  exact va_get (D := D) (ci := 0) (v := .ref (ad 2)) (C := RX0) (T := TX0) (N := 12) C.1 C.2.1 C.2.2.2.2.1 in_X0 C.2.2.2.1 C.2.2.2.2.2.1 hP 0 rfl rfl 1 (by decide) (C.2.2.2.2.1 _ q33) (fun _ h9 => h9) rfl hd (k H locs ls hP hD hS hl)
theorem x_ag_role (C : CC p s m args meth c D A cI cZ RX0 cc nL ret) (h1 : decode cc pc = .ok (.aload_n 0, 1)) (h2 : decode cc (pc + 1) = .ok (.getfield 13, 3)) (k : JJ p l e s m args below meth c D A lev Qc (XW ad cI cZ kind role par aro kM kE kI len kno mo esc inn) (pc + 4) (some (.inr (ad 0)) :: vr) (.ref (ad 2) :: st)) : JJ p l e s m args below meth c D A lev Qc (XW ad cI cZ kind role par aro kM kE kI len kno mo esc inn) pc (some (.inr (ad 0)) :: vr) st := j_aload0 C h1 (x_get_role C h2 k)
theorem x_ald_role {i : Nat} (C : CC p s m args meth c D A cI cZ RX0 cc nL ret) (hd : decode cc pc = .ok (.iaload, 1)) (hi : i < 64) (k : JJ p l e s m args below meth c D A lev Qc (XW ad cI cZ kind role par aro kM kE kI len kno mo esc inn) (pc + 1) vs (.int (role i) :: st)) : JJ p l e s m args below meth c D A lev Qc (XW ad cI cZ kind role par aro kM kE kI len kno mo esc inn) pc vs (.int (nI i) :: .ref (ad 2) :: st) := by
  intro H locs ls hP hD hS hl
  refine va_iald C.1 C.2.1 C.2.2.2.2.2.1 hP 2 0 rfl rfl (vp_in_nI hi (by decide)) hd ?_
  rw [nI_clamp (by omega)]
  exact k H locs ls hP hD hS hl
theorem x_ast_role {i : Nat} {x : Int32} (C : CC p s m args meth c D A cI cZ RX0 cc nL ret) (hd : decode cc pc = .ok (.iastore, 1)) (hi : i < 64) (k : JJ p l e s m args below meth c D A lev Qc (XW ad cI cZ kind (upd role i x) par aro kM kE kI len kno mo esc inn) (pc + 1) vs st) : JJ p l e s m args below meth c D A lev Qc (XW ad cI cZ kind role par aro kM kE kI len kno mo esc inn) pc vs (.int x :: .int (nI i) :: .ref (ad 2) :: st) := by
  intro H locs ls hP hD hS hl
  refine va_iast C.1 C.2.1 C.2.2.2.2.2.1 hP hD hS 2 0 rfl rfl (vp_in_nI hi (by decide)) hd (fun H1 locs1 hP1 hD1 hS1 => ?_)
  rw [nI_clamp (by omega)] at hP1 hD1
  skip
  exact k H1 locs1 ls hP1 hD1 hS1 hl
theorem x_get_par (C : CC p s m args meth c D A cI cZ RX0 cc nL ret) (hd : decode cc pc = .ok (.getfield 16, 3)) (k : JJ p l e s m args below meth c D A lev Qc (XW ad cI cZ kind role par aro kM kE kI len kno mo esc inn) (pc + 3) vs (.ref (ad 3) :: st)) : JJ p l e s m args below meth c D A lev Qc (XW ad cI cZ kind role par aro kM kE kI len kno mo esc inn) pc vs (.ref (ad 0) :: st) := by
  intro H locs ls hP hD hS hl
  exact va_get (D := D) (ci := 0) (v := .ref (ad 3)) (C := RX0) (T := TX0) (N := 12) C.1 C.2.1 C.2.2.2.2.1 in_X0 C.2.2.2.1 C.2.2.2.2.2.1 hP 0 rfl rfl 2 (by decide) (C.2.2.2.2.1 _ q34) (fun _ h9 => h9) rfl hd (k H locs ls hP hD hS hl)
theorem x_ag_par (C : CC p s m args meth c D A cI cZ RX0 cc nL ret) (h1 : decode cc pc = .ok (.aload_n 0, 1)) (h2 : decode cc (pc + 1) = .ok (.getfield 16, 3)) (k : JJ p l e s m args below meth c D A lev Qc (XW ad cI cZ kind role par aro kM kE kI len kno mo esc inn) (pc + 4) (some (.inr (ad 0)) :: vr) (.ref (ad 3) :: st)) : JJ p l e s m args below meth c D A lev Qc (XW ad cI cZ kind role par aro kM kE kI len kno mo esc inn) pc (some (.inr (ad 0)) :: vr) st := j_aload0 C h1 (x_get_par C h2 k)
theorem x_ald_par {i : Nat} (C : CC p s m args meth c D A cI cZ RX0 cc nL ret) (hd : decode cc pc = .ok (.iaload, 1)) (hi : i < 64) (k : JJ p l e s m args below meth c D A lev Qc (XW ad cI cZ kind role par aro kM kE kI len kno mo esc inn) (pc + 1) vs (.int (par i) :: st)) : JJ p l e s m args below meth c D A lev Qc (XW ad cI cZ kind role par aro kM kE kI len kno mo esc inn) pc vs (.int (nI i) :: .ref (ad 3) :: st) := by
  intro H locs ls hP hD hS hl
  refine va_iald C.1 C.2.1 C.2.2.2.2.2.1 hP 3 0 rfl rfl (vp_in_nI hi (by decide)) hd ?_
  rw [nI_clamp (by omega)]
  exact k H locs ls hP hD hS hl
theorem x_ast_par {i : Nat} {x : Int32} (C : CC p s m args meth c D A cI cZ RX0 cc nL ret) (hd : decode cc pc = .ok (.iastore, 1)) (hi : i < 64) (k : JJ p l e s m args below meth c D A lev Qc (XW ad cI cZ kind role (upd par i x) aro kM kE kI len kno mo esc inn) (pc + 1) vs st) : JJ p l e s m args below meth c D A lev Qc (XW ad cI cZ kind role par aro kM kE kI len kno mo esc inn) pc vs (.int x :: .int (nI i) :: .ref (ad 3) :: st) := by
  intro H locs ls hP hD hS hl
  refine va_iast C.1 C.2.1 C.2.2.2.2.2.1 hP hD hS 3 0 rfl rfl (vp_in_nI hi (by decide)) hd (fun H1 locs1 hP1 hD1 hS1 => ?_)
  rw [nI_clamp (by omega)] at hP1 hD1
  skip
  exact k H1 locs1 ls hP1 hD1 hS1 hl
theorem x_get_aro (C : CC p s m args meth c D A cI cZ RX0 cc nL ret) (hd : decode cc pc = .ok (.getfield 19, 3)) (k : JJ p l e s m args below meth c D A lev Qc (XW ad cI cZ kind role par aro kM kE kI len kno mo esc inn) (pc + 3) vs (.ref (ad 4) :: st)) : JJ p l e s m args below meth c D A lev Qc (XW ad cI cZ kind role par aro kM kE kI len kno mo esc inn) pc vs (.ref (ad 0) :: st) := by
  intro H locs ls hP hD hS hl
  exact va_get (D := D) (ci := 0) (v := .ref (ad 4)) (C := RX0) (T := TX0) (N := 12) C.1 C.2.1 C.2.2.2.2.1 in_X0 C.2.2.2.1 C.2.2.2.2.2.1 hP 0 rfl rfl 3 (by decide) (C.2.2.2.2.1 _ q35) (fun _ h9 => h9) rfl hd (k H locs ls hP hD hS hl)
theorem x_ag_aro (C : CC p s m args meth c D A cI cZ RX0 cc nL ret) (h1 : decode cc pc = .ok (.aload_n 0, 1)) (h2 : decode cc (pc + 1) = .ok (.getfield 19, 3)) (k : JJ p l e s m args below meth c D A lev Qc (XW ad cI cZ kind role par aro kM kE kI len kno mo esc inn) (pc + 4) (some (.inr (ad 0)) :: vr) (.ref (ad 4) :: st)) : JJ p l e s m args below meth c D A lev Qc (XW ad cI cZ kind role par aro kM kE kI len kno mo esc inn) pc (some (.inr (ad 0)) :: vr) st := j_aload0 C h1 (x_get_aro C h2 k)
theorem x_ald_aro {i : Nat} (C : CC p s m args meth c D A cI cZ RX0 cc nL ret) (hd : decode cc pc = .ok (.iaload, 1)) (hi : i < 64) (k : JJ p l e s m args below meth c D A lev Qc (XW ad cI cZ kind role par aro kM kE kI len kno mo esc inn) (pc + 1) vs (.int (aro i) :: st)) : JJ p l e s m args below meth c D A lev Qc (XW ad cI cZ kind role par aro kM kE kI len kno mo esc inn) pc vs (.int (nI i) :: .ref (ad 4) :: st) := by
  intro H locs ls hP hD hS hl
  refine va_iald C.1 C.2.1 C.2.2.2.2.2.1 hP 4 0 rfl rfl (vp_in_nI hi (by decide)) hd ?_
  rw [nI_clamp (by omega)]
  exact k H locs ls hP hD hS hl
theorem x_ast_aro {i : Nat} {x : Int32} (C : CC p s m args meth c D A cI cZ RX0 cc nL ret) (hd : decode cc pc = .ok (.iastore, 1)) (hi : i < 64) (k : JJ p l e s m args below meth c D A lev Qc (XW ad cI cZ kind role par (upd aro i x) kM kE kI len kno mo esc inn) (pc + 1) vs st) : JJ p l e s m args below meth c D A lev Qc (XW ad cI cZ kind role par aro kM kE kI len kno mo esc inn) pc vs (.int x :: .int (nI i) :: .ref (ad 4) :: st) := by
  intro H locs ls hP hD hS hl
  refine va_iast C.1 C.2.1 C.2.2.2.2.2.1 hP hD hS 4 0 rfl rfl (vp_in_nI hi (by decide)) hd (fun H1 locs1 hP1 hD1 hS1 => ?_)
  rw [nI_clamp (by omega)] at hP1 hD1
  skip
  exact k H1 locs1 ls hP1 hD1 hS1 hl
theorem x_get_kM (C : CC p s m args meth c D A cI cZ RX0 cc nL ret) (hd : decode cc pc = .ok (.getfield 22, 3)) (k : JJ p l e s m args below meth c D A lev Qc (XW ad cI cZ kind role par aro kM kE kI len kno mo esc inn) (pc + 3) vs (.ref (ad 5) :: st)) : JJ p l e s m args below meth c D A lev Qc (XW ad cI cZ kind role par aro kM kE kI len kno mo esc inn) pc vs (.ref (ad 0) :: st) := by
  intro H locs ls hP hD hS hl
  exact va_get (D := D) (ci := 0) (v := .ref (ad 5)) (C := RX0) (T := TX0) (N := 12) C.1 C.2.1 C.2.2.2.2.1 in_X0 C.2.2.2.1 C.2.2.2.2.2.1 hP 0 rfl rfl 4 (by decide) (C.2.2.2.2.1 _ q36) (fun _ h9 => h9) rfl hd (k H locs ls hP hD hS hl)
theorem x_ag_kM (C : CC p s m args meth c D A cI cZ RX0 cc nL ret) (h1 : decode cc pc = .ok (.aload_n 0, 1)) (h2 : decode cc (pc + 1) = .ok (.getfield 22, 3)) (k : JJ p l e s m args below meth c D A lev Qc (XW ad cI cZ kind role par aro kM kE kI len kno mo esc inn) (pc + 4) (some (.inr (ad 0)) :: vr) (.ref (ad 5) :: st)) : JJ p l e s m args below meth c D A lev Qc (XW ad cI cZ kind role par aro kM kE kI len kno mo esc inn) pc (some (.inr (ad 0)) :: vr) st := j_aload0 C h1 (x_get_kM C h2 k)
theorem x_ald_kM {i : Nat} (C : CC p s m args meth c D A cI cZ RX0 cc nL ret) (hd : decode cc pc = .ok (.iaload, 1)) (hi : i < 5) (k : JJ p l e s m args below meth c D A lev Qc (XW ad cI cZ kind role par aro kM kE kI len kno mo esc inn) (pc + 1) vs (.int (kM i) :: st)) : JJ p l e s m args below meth c D A lev Qc (XW ad cI cZ kind role par aro kM kE kI len kno mo esc inn) pc vs (.int (nI i) :: .ref (ad 5) :: st) := by
  intro H locs ls hP hD hS hl
  refine va_iald C.1 C.2.1 C.2.2.2.2.2.1 hP 5 0 rfl rfl (vp_in_nI hi (by decide)) hd ?_
  rw [nI_clamp (by omega)]
  exact k H locs ls hP hD hS hl
theorem x_ast_kM {i : Nat} {x : Int32} (C : CC p s m args meth c D A cI cZ RX0 cc nL ret) (hd : decode cc pc = .ok (.iastore, 1)) (hi : i < 5) (k : JJ p l e s m args below meth c D A lev Qc (XW ad cI cZ kind role par aro (upd kM i x) kE kI len kno mo esc inn) (pc + 1) vs st) : JJ p l e s m args below meth c D A lev Qc (XW ad cI cZ kind role par aro kM kE kI len kno mo esc inn) pc vs (.int x :: .int (nI i) :: .ref (ad 5) :: st) := by
  intro H locs ls hP hD hS hl
  refine va_iast C.1 C.2.1 C.2.2.2.2.2.1 hP hD hS 5 0 rfl rfl (vp_in_nI hi (by decide)) hd (fun H1 locs1 hP1 hD1 hS1 => ?_)
  rw [nI_clamp (by omega)] at hP1 hD1
  skip
  exact k H1 locs1 ls hP1 hD1 hS1 hl
theorem x_get_kE (C : CC p s m args meth c D A cI cZ RX0 cc nL ret) (hd : decode cc pc = .ok (.getfield 25, 3)) (k : JJ p l e s m args below meth c D A lev Qc (XW ad cI cZ kind role par aro kM kE kI len kno mo esc inn) (pc + 3) vs (.ref (ad 6) :: st)) : JJ p l e s m args below meth c D A lev Qc (XW ad cI cZ kind role par aro kM kE kI len kno mo esc inn) pc vs (.ref (ad 0) :: st) := by
  intro H locs ls hP hD hS hl
  exact va_get (D := D) (ci := 0) (v := .ref (ad 6)) (C := RX0) (T := TX0) (N := 12) C.1 C.2.1 C.2.2.2.2.1 in_X0 C.2.2.2.1 C.2.2.2.2.2.1 hP 0 rfl rfl 5 (by decide) (C.2.2.2.2.1 _ q37) (fun _ h9 => h9) rfl hd (k H locs ls hP hD hS hl)
theorem x_ag_kE (C : CC p s m args meth c D A cI cZ RX0 cc nL ret) (h1 : decode cc pc = .ok (.aload_n 0, 1)) (h2 : decode cc (pc + 1) = .ok (.getfield 25, 3)) (k : JJ p l e s m args below meth c D A lev Qc (XW ad cI cZ kind role par aro kM kE kI len kno mo esc inn) (pc + 4) (some (.inr (ad 0)) :: vr) (.ref (ad 6) :: st)) : JJ p l e s m args below meth c D A lev Qc (XW ad cI cZ kind role par aro kM kE kI len kno mo esc inn) pc (some (.inr (ad 0)) :: vr) st := j_aload0 C h1 (x_get_kE C h2 k)
theorem x_ald_kE {i : Nat} (C : CC p s m args meth c D A cI cZ RX0 cc nL ret) (hd : decode cc pc = .ok (.baload, 1)) (hi : i < 5) (k : JJ p l e s m args below meth c D A lev Qc (XW ad cI cZ kind role par aro kM kE kI len kno mo esc inn) (pc + 1) vs (.int (kE i) :: st)) : JJ p l e s m args below meth c D A lev Qc (XW ad cI cZ kind role par aro kM kE kI len kno mo esc inn) pc vs (.int (nI i) :: .ref (ad 6) :: st) := by
  intro H locs ls hP hD hS hl
  refine va_zald C.1 C.2.1 C.2.2.2.2.2.1 hP 6 1 rfl rfl (vp_in_nI hi (by decide)) hd ?_
  rw [nI_clamp (by omega)]
  exact k H locs ls hP hD hS hl
theorem x_ast_kE {i : Nat} {b : Bool} (C : CC p s m args meth c D A cI cZ RX0 cc nL ret) (hd : decode cc pc = .ok (.bastore, 1)) (hi : i < 5) (k : JJ p l e s m args below meth c D A lev Qc (XW ad cI cZ kind role par aro kM (upd kE i (b2i b)) kI len kno mo esc inn) (pc + 1) vs st) : JJ p l e s m args below meth c D A lev Qc (XW ad cI cZ kind role par aro kM kE kI len kno mo esc inn) pc vs (.int (b2i b) :: .int (nI i) :: .ref (ad 6) :: st) := by
  intro H locs ls hP hD hS hl
  refine va_zast C.1 C.2.1 C.2.2.2.2.2.1 hP hD hS 6 1 rfl rfl (vp_in_nI hi (by decide)) hd (fun H1 locs1 hP1 hD1 hS1 => ?_)
  rw [nI_clamp (by omega)] at hP1 hD1
  rw [b2i_vp] at hP1 hD1
  exact k H1 locs1 ls hP1 hD1 hS1 hl
theorem x_get_kI (C : CC p s m args meth c D A cI cZ RX0 cc nL ret) (hd : decode cc pc = .ok (.getfield 29, 3)) (k : JJ p l e s m args below meth c D A lev Qc (XW ad cI cZ kind role par aro kM kE kI len kno mo esc inn) (pc + 3) vs (.ref (ad 7) :: st)) : JJ p l e s m args below meth c D A lev Qc (XW ad cI cZ kind role par aro kM kE kI len kno mo esc inn) pc vs (.ref (ad 0) :: st) := by
  intro H locs ls hP hD hS hl
  exact va_get (D := D) (ci := 0) (v := .ref (ad 7)) (C := RX0) (T := TX0) (N := 12) C.1 C.2.1 C.2.2.2.2.1 in_X0 C.2.2.2.1 C.2.2.2.2.2.1 hP 0 rfl rfl 6 (by decide) (C.2.2.2.2.1 _ q38) (fun _ h9 => h9) rfl hd (k H locs ls hP hD hS hl)
theorem x_ag_kI (C : CC p s m args meth c D A cI cZ RX0 cc nL ret) (h1 : decode cc pc = .ok (.aload_n 0, 1)) (h2 : decode cc (pc + 1) = .ok (.getfield 29, 3)) (k : JJ p l e s m args below meth c D A lev Qc (XW ad cI cZ kind role par aro kM kE kI len kno mo esc inn) (pc + 4) (some (.inr (ad 0)) :: vr) (.ref (ad 7) :: st)) : JJ p l e s m args below meth c D A lev Qc (XW ad cI cZ kind role par aro kM kE kI len kno mo esc inn) pc (some (.inr (ad 0)) :: vr) st := j_aload0 C h1 (x_get_kI C h2 k)
theorem x_ald_kI {i : Nat} (C : CC p s m args meth c D A cI cZ RX0 cc nL ret) (hd : decode cc pc = .ok (.iaload, 1)) (hi : i < 5) (k : JJ p l e s m args below meth c D A lev Qc (XW ad cI cZ kind role par aro kM kE kI len kno mo esc inn) (pc + 1) vs (.int (kI i) :: st)) : JJ p l e s m args below meth c D A lev Qc (XW ad cI cZ kind role par aro kM kE kI len kno mo esc inn) pc vs (.int (nI i) :: .ref (ad 7) :: st) := by
  intro H locs ls hP hD hS hl
  refine va_iald C.1 C.2.1 C.2.2.2.2.2.1 hP 7 0 rfl rfl (vp_in_nI hi (by decide)) hd ?_
  rw [nI_clamp (by omega)]
  exact k H locs ls hP hD hS hl
theorem x_ast_kI {i : Nat} {x : Int32} (C : CC p s m args meth c D A cI cZ RX0 cc nL ret) (hd : decode cc pc = .ok (.iastore, 1)) (hi : i < 5) (k : JJ p l e s m args below meth c D A lev Qc (XW ad cI cZ kind role par aro kM kE (upd kI i x) len kno mo esc inn) (pc + 1) vs st) : JJ p l e s m args below meth c D A lev Qc (XW ad cI cZ kind role par aro kM kE kI len kno mo esc inn) pc vs (.int x :: .int (nI i) :: .ref (ad 7) :: st) := by
  intro H locs ls hP hD hS hl
  refine va_iast C.1 C.2.1 C.2.2.2.2.2.1 hP hD hS 7 0 rfl rfl (vp_in_nI hi (by decide)) hd (fun H1 locs1 hP1 hD1 hS1 => ?_)
  rw [nI_clamp (by omega)] at hP1 hD1
  skip
  exact k H1 locs1 ls hP1 hD1 hS1 hl
theorem x_get_len (C : CC p s m args meth c D A cI cZ RX0 cc nL ret) (hd : decode cc pc = .ok (.getfield 39, 3)) (k : JJ p l e s m args below meth c D A lev Qc (XW ad cI cZ kind role par aro kM kE kI len kno mo esc inn) (pc + 3) vs (.int len :: st)) : JJ p l e s m args below meth c D A lev Qc (XW ad cI cZ kind role par aro kM kE kI len kno mo esc inn) pc vs (.ref (ad 0) :: st) := by
  intro H locs ls hP hD hS hl
  exact va_get (D := D) (ci := 0) (v := .int len) (C := RX0) (T := TX0) (N := 12) C.1 C.2.1 C.2.2.2.2.1 in_X0 C.2.2.2.1 C.2.2.2.2.2.1 hP 0 rfl rfl 7 (by decide) (C.2.2.2.2.1 _ q39) (fun _ h9 => h9) rfl hd (k H locs ls hP hD hS hl)
theorem x_ag_len (C : CC p s m args meth c D A cI cZ RX0 cc nL ret) (h1 : decode cc pc = .ok (.aload_n 0, 1)) (h2 : decode cc (pc + 1) = .ok (.getfield 39, 3)) (k : JJ p l e s m args below meth c D A lev Qc (XW ad cI cZ kind role par aro kM kE kI len kno mo esc inn) (pc + 4) (some (.inr (ad 0)) :: vr) (.int len :: st)) : JJ p l e s m args below meth c D A lev Qc (XW ad cI cZ kind role par aro kM kE kI len kno mo esc inn) pc (some (.inr (ad 0)) :: vr) st := j_aload0 C h1 (x_get_len C h2 k)
theorem x_put_len {v : Int32} (C : CC p s m args meth c D A cI cZ RX0 cc nL ret) (hd : decode cc pc = .ok (.putfield 39, 3)) (k : JJ p l e s m args below meth c D A lev Qc (XW ad cI cZ kind role par aro kM kE kI v kno mo esc inn) (pc + 3) vs st) : JJ p l e s m args below meth c D A lev Qc (XW ad cI cZ kind role par aro kM kE kI len kno mo esc inn) pc vs (.int v :: .ref (ad 0) :: st) := by
  intro H locs ls hP hD hS hl
  exact va_put (D := D) (ci := 0) (v := .int v) (ty := .int) (C := RX0) (T := TX0) (N := 12) C.1 C.2.1 C.2.2.2.2.1 in_X0 tyX0 tyX0_ok nmX0 C.2.2.2.1 C.2.2.2.2.2.1 hP hD hS 0 rfl rfl 7 (by decide) (C.2.2.2.2.1 _ q39) (fun _ h9 => h9) rfl (by decide +kernel) rfl rfl (Nat.le_of_ble_eq_true rfl) hd (fun H1 locs1 hP1 hD1 hS1 => k H1 locs1 ls hP1 hD1 hS1 hl)
theorem x_get_kno (C : CC p s m args meth c D A cI cZ RX0 cc nL ret) (hd : decode cc pc = .ok (.getfield 76, 3)) (k : JJ p l e s m args below meth c D A lev Qc (XW ad cI cZ kind role par aro kM kE kI len kno mo esc inn) (pc + 3) vs (.int kno :: st)) : JJ p l e s m args below meth c D A lev Qc (XW ad cI cZ kind role par aro kM kE kI len kno mo esc inn) pc vs (.ref (ad 0) :: st) := by
  intro H locs ls hP hD hS hl
  exact va_get (D := D) (ci := 0) (v := .int kno) (C := RX0) (T := TX0) (N := 12) C.1 C.2.1 C.2.2.2.2.1 in_X0 C.2.2.2.1 C.2.2.2.2.2.1 hP 0 rfl rfl 8 (by decide) (C.2.2.2.2.1 _ q40) (fun _ h9 => h9) rfl hd (k H locs ls hP hD hS hl)
theorem x_ag_kno (C : CC p s m args meth c D A cI cZ RX0 cc nL ret) (h1 : decode cc pc = .ok (.aload_n 0, 1)) (h2 : decode cc (pc + 1) = .ok (.getfield 76, 3)) (k : JJ p l e s m args below meth c D A lev Qc (XW ad cI cZ kind role par aro kM kE kI len kno mo esc inn) (pc + 4) (some (.inr (ad 0)) :: vr) (.int kno :: st)) : JJ p l e s m args below meth c D A lev Qc (XW ad cI cZ kind role par aro kM kE kI len kno mo esc inn) pc (some (.inr (ad 0)) :: vr) st := j_aload0 C h1 (x_get_kno C h2 k)
theorem x_put_kno {v : Int32} (C : CC p s m args meth c D A cI cZ RX0 cc nL ret) (hd : decode cc pc = .ok (.putfield 76, 3)) (k : JJ p l e s m args below meth c D A lev Qc (XW ad cI cZ kind role par aro kM kE kI len v mo esc inn) (pc + 3) vs st) : JJ p l e s m args below meth c D A lev Qc (XW ad cI cZ kind role par aro kM kE kI len kno mo esc inn) pc vs (.int v :: .ref (ad 0) :: st) := by
  intro H locs ls hP hD hS hl
  exact va_put (D := D) (ci := 0) (v := .int v) (ty := .int) (C := RX0) (T := TX0) (N := 12) C.1 C.2.1 C.2.2.2.2.1 in_X0 tyX0 tyX0_ok nmX0 C.2.2.2.1 C.2.2.2.2.2.1 hP hD hS 0 rfl rfl 8 (by decide) (C.2.2.2.2.1 _ q40) (fun _ h9 => h9) rfl (by decide +kernel) rfl rfl (Nat.le_of_ble_eq_true rfl) hd (fun H1 locs1 hP1 hD1 hS1 => k H1 locs1 ls hP1 hD1 hS1 hl)
theorem x_get_mo (C : CC p s m args meth c D A cI cZ RX0 cc nL ret) (hd : decode cc pc = .ok (.getfield 53, 3)) (k : JJ p l e s m args below meth c D A lev Qc (XW ad cI cZ kind role par aro kM kE kI len kno mo esc inn) (pc + 3) vs (.int mo :: st)) : JJ p l e s m args below meth c D A lev Qc (XW ad cI cZ kind role par aro kM kE kI len kno mo esc inn) pc vs (.ref (ad 0) :: st) := by
  intro H locs ls hP hD hS hl
  exact va_get (D := D) (ci := 0) (v := .int mo) (C := RX0) (T := TX0) (N := 12) C.1 C.2.1 C.2.2.2.2.1 in_X0 C.2.2.2.1 C.2.2.2.2.2.1 hP 0 rfl rfl 9 (by decide) (C.2.2.2.2.1 _ q41) (fun _ h9 => h9) rfl hd (k H locs ls hP hD hS hl)
theorem x_ag_mo (C : CC p s m args meth c D A cI cZ RX0 cc nL ret) (h1 : decode cc pc = .ok (.aload_n 0, 1)) (h2 : decode cc (pc + 1) = .ok (.getfield 53, 3)) (k : JJ p l e s m args below meth c D A lev Qc (XW ad cI cZ kind role par aro kM kE kI len kno mo esc inn) (pc + 4) (some (.inr (ad 0)) :: vr) (.int mo :: st)) : JJ p l e s m args below meth c D A lev Qc (XW ad cI cZ kind role par aro kM kE kI len kno mo esc inn) pc (some (.inr (ad 0)) :: vr) st := j_aload0 C h1 (x_get_mo C h2 k)
theorem x_put_mo {v : Int32} (C : CC p s m args meth c D A cI cZ RX0 cc nL ret) (hd : decode cc pc = .ok (.putfield 53, 3)) (k : JJ p l e s m args below meth c D A lev Qc (XW ad cI cZ kind role par aro kM kE kI len kno v esc inn) (pc + 3) vs st) : JJ p l e s m args below meth c D A lev Qc (XW ad cI cZ kind role par aro kM kE kI len kno mo esc inn) pc vs (.int v :: .ref (ad 0) :: st) := by
  intro H locs ls hP hD hS hl
  exact va_put (D := D) (ci := 0) (v := .int v) (ty := .int) (C := RX0) (T := TX0) (N := 12) C.1 C.2.1 C.2.2.2.2.1 in_X0 tyX0 tyX0_ok nmX0 C.2.2.2.1 C.2.2.2.2.2.1 hP hD hS 0 rfl rfl 9 (by decide) (C.2.2.2.2.1 _ q41) (fun _ h9 => h9) rfl (by decide +kernel) rfl rfl (Nat.le_of_ble_eq_true rfl) hd (fun H1 locs1 hP1 hD1 hS1 => k H1 locs1 ls hP1 hD1 hS1 hl)
theorem x_get_esc (C : CC p s m args meth c D A cI cZ RX0 cc nL ret) (hd : decode cc pc = .ok (.getfield 56, 3)) (k : JJ p l e s m args below meth c D A lev Qc (XW ad cI cZ kind role par aro kM kE kI len kno mo esc inn) (pc + 3) vs (.int esc :: st)) : JJ p l e s m args below meth c D A lev Qc (XW ad cI cZ kind role par aro kM kE kI len kno mo esc inn) pc vs (.ref (ad 0) :: st) := by
  intro H locs ls hP hD hS hl
  exact va_get (D := D) (ci := 0) (v := .int esc) (C := RX0) (T := TX0) (N := 12) C.1 C.2.1 C.2.2.2.2.1 in_X0 C.2.2.2.1 C.2.2.2.2.2.1 hP 0 rfl rfl 10 (by decide) (C.2.2.2.2.1 _ q42) (fun _ h9 => h9) rfl hd (k H locs ls hP hD hS hl)
theorem x_ag_esc (C : CC p s m args meth c D A cI cZ RX0 cc nL ret) (h1 : decode cc pc = .ok (.aload_n 0, 1)) (h2 : decode cc (pc + 1) = .ok (.getfield 56, 3)) (k : JJ p l e s m args below meth c D A lev Qc (XW ad cI cZ kind role par aro kM kE kI len kno mo esc inn) (pc + 4) (some (.inr (ad 0)) :: vr) (.int esc :: st)) : JJ p l e s m args below meth c D A lev Qc (XW ad cI cZ kind role par aro kM kE kI len kno mo esc inn) pc (some (.inr (ad 0)) :: vr) st := j_aload0 C h1 (x_get_esc C h2 k)
theorem x_put_esc {b : Bool} (C : CC p s m args meth c D A cI cZ RX0 cc nL ret) (hd : decode cc pc = .ok (.putfield 56, 3)) (k : JJ p l e s m args below meth c D A lev Qc (XW ad cI cZ kind role par aro kM kE kI len kno mo (b2i b) inn) (pc + 3) vs st) : JJ p l e s m args below meth c D A lev Qc (XW ad cI cZ kind role par aro kM kE kI len kno mo esc inn) pc vs (.int (b2i b) :: .ref (ad 0) :: st) := by
  intro H locs ls hP hD hS hl
  exact va_put (D := D) (ci := 0) (v := .int (b2i b)) (ty := .boolean) (C := RX0) (T := TX0) (N := 12) C.1 C.2.1 C.2.2.2.2.1 in_X0 tyX0 tyX0_ok nmX0 C.2.2.2.1 C.2.2.2.2.2.1 hP hD hS 0 rfl rfl 10 (by decide) (C.2.2.2.2.1 _ q42) (fun _ h9 => h9) rfl (by decide +kernel) (b2i_nar b) (b2i_fit b) (Nat.le_of_ble_eq_true rfl) hd (fun H1 locs1 hP1 hD1 hS1 => k H1 locs1 ls hP1 hD1 hS1 hl)
theorem x_get_inn (C : CC p s m args meth c D A cI cZ RX0 cc nL ret) (hd : decode cc pc = .ok (.getfield 60, 3)) (k : JJ p l e s m args below meth c D A lev Qc (XW ad cI cZ kind role par aro kM kE kI len kno mo esc inn) (pc + 3) vs (.int inn :: st)) : JJ p l e s m args below meth c D A lev Qc (XW ad cI cZ kind role par aro kM kE kI len kno mo esc inn) pc vs (.ref (ad 0) :: st) := by
  intro H locs ls hP hD hS hl
  exact va_get (D := D) (ci := 0) (v := .int inn) (C := RX0) (T := TX0) (N := 12) C.1 C.2.1 C.2.2.2.2.1 in_X0 C.2.2.2.1 C.2.2.2.2.2.1 hP 0 rfl rfl 11 (by decide) (C.2.2.2.2.1 _ q43) (fun _ h9 => h9) rfl hd (k H locs ls hP hD hS hl)
theorem x_ag_inn (C : CC p s m args meth c D A cI cZ RX0 cc nL ret) (h1 : decode cc pc = .ok (.aload_n 0, 1)) (h2 : decode cc (pc + 1) = .ok (.getfield 60, 3)) (k : JJ p l e s m args below meth c D A lev Qc (XW ad cI cZ kind role par aro kM kE kI len kno mo esc inn) (pc + 4) (some (.inr (ad 0)) :: vr) (.int inn :: st)) : JJ p l e s m args below meth c D A lev Qc (XW ad cI cZ kind role par aro kM kE kI len kno mo esc inn) pc (some (.inr (ad 0)) :: vr) st := j_aload0 C h1 (x_get_inn C h2 k)
theorem x_put_inn {v : Int32} (C : CC p s m args meth c D A cI cZ RX0 cc nL ret) (hd : decode cc pc = .ok (.putfield 60, 3)) (k : JJ p l e s m args below meth c D A lev Qc (XW ad cI cZ kind role par aro kM kE kI len kno mo esc v) (pc + 3) vs st) : JJ p l e s m args below meth c D A lev Qc (XW ad cI cZ kind role par aro kM kE kI len kno mo esc inn) pc vs (.int v :: .ref (ad 0) :: st) := by
  intro H locs ls hP hD hS hl
  exact va_put (D := D) (ci := 0) (v := .int v) (ty := .int) (C := RX0) (T := TX0) (N := 12) C.1 C.2.1 C.2.2.2.2.1 in_X0 tyX0 tyX0_ok nmX0 C.2.2.2.1 C.2.2.2.2.2.1 hP hD hS 0 rfl rfl 11 (by decide) (C.2.2.2.2.1 _ q43) (fun _ h9 => h9) rfl (by decide +kernel) rfl rfl (Nat.le_of_ble_eq_true rfl) hd (fun H1 locs1 hP1 hD1 hS1 => k H1 locs1 ls hP1 hD1 hS1 hl)
end XR
/-- the world of an object of RX1: its fields, its arrays -/
def YW (ad : Nat → Nat) (cI cZ : ClassId) (txt mds ess dps prs jns cls sty stk : Nat → Int32) (len top : Int32) : va_W :=
  [(ad 0, .inr (1, [.int len, .ref (ad 1), .ref (ad 2), .ref (ad 3), .ref (ad 4), .ref (ad 5), .ref (ad 6), .ref (ad 7), .ref (ad 8), .ref (ad 9), .int top])), (ad 1, .inl (cI, 64, .inl txt)), (ad 2, .inl (cI, 65, .inl mds)), (ad 3, .inl (cZ, 65, .inl ess)), (ad 4, .inl (cI, 65, .inl dps)), (ad 5, .inl (cI, 64, .inl prs)), (ad 6, .inl (cZ, 64, .inl jns)), (ad 7, .inl (cZ, 64, .inl cls)), (ad 8, .inl (cZ, 64, .inl sty)), (ad 9, .inl (cI, 64, .inl stk))]
section YR
variable {p : Program} {l : Launch} {e : Env} {s : State} {m : MethodId} {args : Array Value} {below : List Frame} {meth : Method} {c : Code} {D : va_G} {A : Nat → Prop} {lev : Nat} {Qc : Array Value → State → Outcome → State → Prop} {pc : Nat} {vs vr : List (Option jT)} {st : List Value}
variable {cI cZ : ClassId} {cc : ByteArray} {nL : Nat} {ret : Option FieldType} {ad : Nat → Nat}
variable {txt mds ess dps prs jns cls sty stk : Nat → Int32} {len top : Int32}
theorem y_get_len (C : CC p s m args meth c D A cI cZ RX1 cc nL ret) (hd : decode cc pc = .ok (.getfield 38, 3)) (k : JJ p l e s m args below meth c D A lev Qc (YW ad cI cZ txt mds ess dps prs jns cls sty stk len top) (pc + 3) vs (.int len :: st)) : JJ p l e s m args below meth c D A lev Qc (YW ad cI cZ txt mds ess dps prs jns cls sty stk len top) pc vs (.ref (ad 0) :: st) := by
  intro H locs ls hP hD hS hl
  exact va_get (D := D) (ci := 1) (v := .int len) (C := RX1) (T := TX1) (N := 11) C.1 C.2.1 C.2.2.2.2.1 in_X1 C.2.2.2.1 C.2.2.2.2.2.1 hP 0 rfl rfl 0 (by decide) (C.2.2.2.2.1 _ q192) (fun _ h9 => h9) rfl hd (k H locs ls hP hD hS hl)
theorem y_ag_len (C : CC p s m args meth c D A cI cZ RX1 cc nL ret) (h1 : decode cc pc = .ok (.aload_n 0, 1)) (h2 : decode cc (pc + 1) = .ok (.getfield 38, 3)) (k : JJ p l e s m args below meth c D A lev Qc (YW ad cI cZ txt mds ess dps prs jns cls sty stk len top) (pc + 4) (some (.inr (ad 0)) :: vr) (.int len :: st)) : JJ p l e s m args below meth c D A lev Qc (YW ad cI cZ txt mds ess dps prs jns cls sty stk len top) pc (some (.inr (ad 0)) :: vr) st := j_aload0 C h1 (y_get_len C h2 k)
theorem y_put_len {v : Int32} (C : CC p s m args meth c D A cI cZ RX1 cc nL ret) (hd : decode cc pc = .ok (.putfield 38, 3)) (k : JJ p l e s m args below meth c D A lev Qc (YW ad cI cZ txt mds ess dps prs jns cls sty stk v top) (pc + 3) vs st) : JJ p l e s m args below meth c D A lev Qc (YW ad cI cZ txt mds ess dps prs jns cls sty stk len top) pc vs (.int v :: .ref (ad 0) :: st) := by
  intro H locs ls hP hD hS hl
  exact va_put (D := D) (ci := 1) (v := .int v) (ty := .int) (C := RX1) (T := TX1) (N := 11) C.1 C.2.1 C.2.2.2.2.1 in_X1 tyX1 tyX1_ok nmX1 C.2.2.2.1 C.2.2.2.2.2.1 hP hD hS 0 rfl rfl 0 (by decide) (C.2.2.2.2.1 _ q192) (fun _ h9 => h9) rfl (by decide +kernel) rfl rfl (Nat.le_of_ble_eq_true rfl) hd (fun H1 locs1 hP1 hD1 hS1 => k H1 locs1 ls hP1 hD1 hS1 hl)
theorem y_get_txt (C : CC p s m args meth c D A cI cZ RX1 cc nL ret) (hd : decode cc pc = .ok (.getfield 7, 3)) (k : JJ p l e s m args below meth c D A lev Qc (YW ad cI cZ txt mds ess dps prs jns cls sty stk len top) (pc + 3) vs (.ref (ad 1) :: st)) : JJ p l e s m args below meth c D A lev Qc (YW ad cI cZ txt mds ess dps prs jns cls sty stk len top) pc vs (.ref (ad 0) :: st) := by
  intro H locs ls hP hD hS hl
  exact va_get (D := D) (ci := 1) (v := .ref (ad 1)) (C := RX1) (T := TX1) (N := 11) C.1 C.2.1 C.2.2.2.2.1 in_X1 C.2.2.2.1 C.2.2.2.2.2.1 hP 0 rfl rfl 1 (by decide) (C.2.2.2.2.1 _ q193) (fun _ h9 => h9) rfl hd (k H locs ls hP hD hS hl)
theorem y_ag_txt (C : CC p s m args meth c D A cI cZ RX1 cc nL ret) (h1 : decode cc pc = .ok (.aload_n 0, 1)) (h2 : decode cc (pc + 1) = .ok (.getfield 7, 3)) (k : JJ p l e s m args below meth c D A lev Qc (YW ad cI cZ txt mds ess dps prs jns cls sty stk len top) (pc + 4) (some (.inr (ad 0)) :: vr) (.ref (ad 1) :: st)) : JJ p l e s m args below meth c D A lev Qc (YW ad cI cZ txt mds ess dps prs jns cls sty stk len top) pc (some (.inr (ad 0)) :: vr) st := j_aload0 C h1 (y_get_txt C h2 k)
theorem y_ald_txt {i : Nat} (C : CC p s m args meth c D A cI cZ RX1 cc nL ret) (hd : decode cc pc = .ok (.iaload, 1)) (hi : i < 64) (k : JJ p l e s m args below meth c D A lev Qc (YW ad cI cZ txt mds ess dps prs jns cls sty stk len top) (pc + 1) vs (.int (txt i) :: st)) : JJ p l e s m args below meth c D A lev Qc (YW ad cI cZ txt mds ess dps prs jns cls sty stk len top) pc vs (.int (nI i) :: .ref (ad 1) :: st) := by
  intro H locs ls hP hD hS hl
  refine va_iald C.1 C.2.1 C.2.2.2.2.2.1 hP 1 0 rfl rfl (vp_in_nI hi (by decide)) hd ?_
  rw [nI_clamp (by omega)]
  exact k H locs ls hP hD hS hl
theorem y_ast_txt {i : Nat} {x : Int32} (C : CC p s m args meth c D A cI cZ RX1 cc nL ret) (hd : decode cc pc = .ok (.iastore, 1)) (hi : i < 64) (k : JJ p l e s m args below meth c D A lev Qc (YW ad cI cZ (upd txt i x) mds ess dps prs jns cls sty stk len top) (pc + 1) vs st) : JJ p l e s m args below meth c D A lev Qc (YW ad cI cZ txt mds ess dps prs jns cls sty stk len top) pc vs (.int x :: .int (nI i) :: .ref (ad 1) :: st) := by
  intro H locs ls hP hD hS hl
  refine va_iast C.1 C.2.1 C.2.2.2.2.2.1 hP hD hS 1 0 rfl rfl (vp_in_nI hi (by decide)) hd (fun H1 locs1 hP1 hD1 hS1 => ?_)
  rw [nI_clamp (by omega)] at hP1 hD1
  skip
  exact k H1 locs1 ls hP1 hD1 hS1 hl
theorem y_get_mds (C : CC p s m args meth c D A cI cZ RX1 cc nL ret) (hd : decode cc pc = .ok (.getfield 13, 3)) (k : JJ p l e s m args below meth c D A lev Qc (YW ad cI cZ txt mds ess dps prs jns cls sty stk len top) (pc + 3) vs (.ref (ad 2) :: st)) : JJ p l e s m args below meth c D A lev Qc (YW ad cI cZ txt mds ess dps prs jns cls sty stk len top) pc vs (.ref (ad 0) :: st) := by
  intro H locs ls hP hD hS hl
  exact va_get (D := D) (ci := 1) (v := .ref (ad 2)) (C := RX1) (T := TX1) (N := 11) C.1 C.2.1 C.2.2.2.2.1 in_X1 C.2.2.2.1 C.2.2.2.2.2.1 hP 0 rfl rfl 2 (by decide) (C.2.2.2.2.1 _ q194) (fun _ h9 => h9) rfl hd (k H locs ls hP hD hS hl)
theorem y_ag_mds (C : CC p s m args meth c D A cI cZ RX1 cc nL ret) (h1 : decode cc pc = .ok (.aload_n 0, 1)) (h2 : decode cc (pc + 1) = .ok (.getfield 13, 3)) (k : JJ p l e s m args below meth c D A lev Qc (YW ad cI cZ txt mds ess dps prs jns cls sty stk len top) (pc + 4) (some (.inr (ad 0)) :: vr) (.ref (ad 2) :: st)) : JJ p l e s m args below meth c D A lev Qc (YW ad cI cZ txt mds ess dps prs jns cls sty stk len top) pc (some (.inr (ad 0)) :: vr) st := j_aload0 C h1 (y_get_mds C h2 k)
theorem y_ald_mds {i : Nat} (C : CC p s m args meth c D A cI cZ RX1 cc nL ret) (hd : decode cc pc = .ok (.iaload, 1)) (hi : i < 65) (k : JJ p l e s m args below meth c D A lev Qc (YW ad cI cZ txt mds ess dps prs jns cls sty stk len top) (pc + 1) vs (.int (mds i) :: st)) : JJ p l e s m args below meth c D A lev Qc (YW ad cI cZ txt mds ess dps prs jns cls sty stk len top) pc vs (.int (nI i) :: .ref (ad 2) :: st) := by
  intro H locs ls hP hD hS hl
  refine va_iald C.1 C.2.1 C.2.2.2.2.2.1 hP 2 0 rfl rfl (vp_in_nI hi (by decide)) hd ?_
  rw [nI_clamp (by omega)]
  exact k H locs ls hP hD hS hl
theorem y_ast_mds {i : Nat} {x : Int32} (C : CC p s m args meth c D A cI cZ RX1 cc nL ret) (hd : decode cc pc = .ok (.iastore, 1)) (hi : i < 65) (k : JJ p l e s m args below meth c D A lev Qc (YW ad cI cZ txt (upd mds i x) ess dps prs jns cls sty stk len top) (pc + 1) vs st) : JJ p l e s m args below meth c D A lev Qc (YW ad cI cZ txt mds ess dps prs jns cls sty stk len top) pc vs (.int x :: .int (nI i) :: .ref (ad 2) :: st) := by
  intro H locs ls hP hD hS hl
  refine va_iast C.1 C.2.1 C.2.2.2.2.2.1 hP hD hS 2 0 rfl rfl (vp_in_nI hi (by decide)) hd (fun H1 locs1 hP1 hD1 hS1 => ?_)
  rw [nI_clamp (by omega)] at hP1 hD1
  skip
  exact k H1 locs1 ls hP1 hD1 hS1 hl
theorem y_get_ess (C : CC p s m args meth c D A cI cZ RX1 cc nL ret) (hd : decode cc pc = .ok (.getfield 16, 3)) (k : JJ p l e s m args below meth c D A lev Qc (YW ad cI cZ txt mds ess dps prs jns cls sty stk len top) (pc + 3) vs (.ref (ad 3) :: st)) : JJ p l e s m args below meth c D A lev Qc (YW ad cI cZ txt mds ess dps prs jns cls sty stk len top) pc vs (.ref (ad 0) :: st) := by
  intro H locs ls hP hD hS hl
  exact va_get (D := D) (ci := 1) (v := .ref (ad 3)) (C := RX1) (T := TX1) (N := 11) C.1 C.2.1 C.2.2.2.2.1 in_X1 C.2.2.2.1 C.2.2.2.2.2.1 hP 0 rfl rfl 3 (by decide) (C.2.2.2.2.1 _ q195) (fun _ h9 => h9) rfl hd (k H locs ls hP hD hS hl)
theorem y_ag_ess (C : CC p s m args meth c D A cI cZ RX1 cc nL ret) (h1 : decode cc pc = .ok (.aload_n 0, 1)) (h2 : decode cc (pc + 1) = .ok (.getfield 16, 3)) (k : JJ p l e s m args below meth c D A lev Qc (YW ad cI cZ txt mds ess dps prs jns cls sty stk len top) (pc + 4) (some (.inr (ad 0)) :: vr) (.ref (ad 3) :: st)) : JJ p l e s m args below meth c D A lev Qc (YW ad cI cZ txt mds ess dps prs jns cls sty stk len top) pc (some (.inr (ad 0)) :: vr) st := j_aload0 C h1 (y_get_ess C h2 k)
theorem y_ald_ess {i : Nat} (C : CC p s m args meth c D A cI cZ RX1 cc nL ret) (hd : decode cc pc = .ok (.baload, 1)) (hi : i < 65) (k : JJ p l e s m args below meth c D A lev Qc (YW ad cI cZ txt mds ess dps prs jns cls sty stk len top) (pc + 1) vs (.int (ess i) :: st)) : JJ p l e s m args below meth c D A lev Qc (YW ad cI cZ txt mds ess dps prs jns cls sty stk len top) pc vs (.int (nI i) :: .ref (ad 3) :: st) := by
  intro H locs ls hP hD hS hl
  refine va_zald C.1 C.2.1 C.2.2.2.2.2.1 hP 3 1 rfl rfl (vp_in_nI hi (by decide)) hd ?_
  rw [nI_clamp (by omega)]
  exact k H locs ls hP hD hS hl
theorem y_ast_ess {i : Nat} {b : Bool} (C : CC p s m args meth c D A cI cZ RX1 cc nL ret) (hd : decode cc pc = .ok (.bastore, 1)) (hi : i < 65) (k : JJ p l e s m args below meth c D A lev Qc (YW ad cI cZ txt mds (upd ess i (b2i b)) dps prs jns cls sty stk len top) (pc + 1) vs st) : JJ p l e s m args below meth c D A lev Qc (YW ad cI cZ txt mds ess dps prs jns cls sty stk len top) pc vs (.int (b2i b) :: .int (nI i) :: .ref (ad 3) :: st) := by
  intro H locs ls hP hD hS hl
  refine va_zast C.1 C.2.1 C.2.2.2.2.2.1 hP hD hS 3 1 rfl rfl (vp_in_nI hi (by decide)) hd (fun H1 locs1 hP1 hD1 hS1 => ?_)
  rw [nI_clamp (by omega)] at hP1 hD1
  rw [b2i_vp] at hP1 hD1
  exact k H1 locs1 ls hP1 hD1 hS1 hl
theorem y_get_dps (C : CC p s m args meth c D A cI cZ RX1 cc nL ret) (hd : decode cc pc = .ok (.getfield 20, 3)) (k : JJ p l e s m args below meth c D A lev Qc (YW ad cI cZ txt mds ess dps prs jns cls sty stk len top) (pc + 3) vs (.ref (ad 4) :: st)) : JJ p l e s m args below meth c D A lev Qc (YW ad cI cZ txt mds ess dps prs jns cls sty stk len top) pc vs (.ref (ad 0) :: st) := by
  intro H locs ls hP hD hS hl
  exact va_get (D := D) (ci := 1) (v := .ref (ad 4)) (C := RX1) (T := TX1) (N := 11) C.1 C.2.1 C.2.2.2.2.1 in_X1 C.2.2.2.1 C.2.2.2.2.2.1 hP 0 rfl rfl 4 (by decide) (C.2.2.2.2.1 _ q196) (fun _ h9 => h9) rfl hd (k H locs ls hP hD hS hl)
theorem y_ag_dps (C : CC p s m args meth c D A cI cZ RX1 cc nL ret) (h1 : decode cc pc = .ok (.aload_n 0, 1)) (h2 : decode cc (pc + 1) = .ok (.getfield 20, 3)) (k : JJ p l e s m args below meth c D A lev Qc (YW ad cI cZ txt mds ess dps prs jns cls sty stk len top) (pc + 4) (some (.inr (ad 0)) :: vr) (.ref (ad 4) :: st)) : JJ p l e s m args below meth c D A lev Qc (YW ad cI cZ txt mds ess dps prs jns cls sty stk len top) pc (some (.inr (ad 0)) :: vr) st := j_aload0 C h1 (y_get_dps C h2 k)
theorem y_ald_dps {i : Nat} (C : CC p s m args meth c D A cI cZ RX1 cc nL ret) (hd : decode cc pc = .ok (.iaload, 1)) (hi : i < 65) (k : JJ p l e s m args below meth c D A lev Qc (YW ad cI cZ txt mds ess dps prs jns cls sty stk len top) (pc + 1) vs (.int (dps i) :: st)) : JJ p l e s m args below meth c D A lev Qc (YW ad cI cZ txt mds ess dps prs jns cls sty stk len top) pc vs (.int (nI i) :: .ref (ad 4) :: st) := by
  intro H locs ls hP hD hS hl
  refine va_iald C.1 C.2.1 C.2.2.2.2.2.1 hP 4 0 rfl rfl (vp_in_nI hi (by decide)) hd ?_
  rw [nI_clamp (by omega)]
  exact k H locs ls hP hD hS hl
theorem y_ast_dps {i : Nat} {x : Int32} (C : CC p s m args meth c D A cI cZ RX1 cc nL ret) (hd : decode cc pc = .ok (.iastore, 1)) (hi : i < 65) (k : JJ p l e s m args below meth c D A lev Qc (YW ad cI cZ txt mds ess (upd dps i x) prs jns cls sty stk len top) (pc + 1) vs st) : JJ p l e s m args below meth c D A lev Qc (YW ad cI cZ txt mds ess dps prs jns cls sty stk len top) pc vs (.int x :: .int (nI i) :: .ref (ad 4) :: st) := by
  intro H locs ls hP hD hS hl
  refine va_iast C.1 C.2.1 C.2.2.2.2.2.1 hP hD hS 4 0 rfl rfl (vp_in_nI hi (by decide)) hd (fun H1 locs1 hP1 hD1 hS1 => ?_)
  rw [nI_clamp (by omega)] at hP1 hD1
  skip
  exact k H1 locs1 ls hP1 hD1 hS1 hl
theorem y_get_prs (C : CC p s m args meth c D A cI cZ RX1 cc nL ret) (hd : decode cc pc = .ok (.getfield 23, 3)) (k : JJ p l e s m args below meth c D A lev Qc (YW ad cI cZ txt mds ess dps prs jns cls sty stk len top) (pc + 3) vs (.ref (ad 5) :: st)) : JJ p l e s m args below meth c D A lev Qc (YW ad cI cZ txt mds ess dps prs jns cls sty stk len top) pc vs (.ref (ad 0) :: st) := by
  intro H locs ls hP hD hS hl
  exact va_get (D := D) (ci := 1) (v := .ref (ad 5)) (C := RX1) (T := TX1) (N := 11) C.1 C.2.1 C.2.2.2.2.1 in_X1 C.2.2.2.1 C.2.2.2.2.2.1 hP 0 rfl rfl 5 (by decide) (C.2.2.2.2.1 _ q197) (fun _ h9 => h9) rfl hd (k H locs ls hP hD hS hl)
theorem y_ag_prs (C : CC p s m args meth c D A cI cZ RX1 cc nL ret) (h1 : decode cc pc = .ok (.aload_n 0, 1)) (h2 : decode cc (pc + 1) = .ok (.getfield 23, 3)) (k : JJ p l e s m args below meth c D A lev Qc (YW ad cI cZ txt mds ess dps prs jns cls sty stk len top) (pc + 4) (some (.inr (ad 0)) :: vr) (.ref (ad 5) :: st)) : JJ p l e s m args below meth c D A lev Qc (YW ad cI cZ txt mds ess dps prs jns cls sty stk len top) pc (some (.inr (ad 0)) :: vr) st := j_aload0 C h1 (y_get_prs C h2 k)
theorem y_ald_prs {i : Nat} (C : CC p s m args meth c D A cI cZ RX1 cc nL ret) (hd : decode cc pc = .ok (.iaload, 1)) (hi : i < 64) (k : JJ p l e s m args below meth c D A lev Qc (YW ad cI cZ txt mds ess dps prs jns cls sty stk len top) (pc + 1) vs (.int (prs i) :: st)) : JJ p l e s m args below meth c D A lev Qc (YW ad cI cZ txt mds ess dps prs jns cls sty stk len top) pc vs (.int (nI i) :: .ref (ad 5) :: st) := by
  intro H locs ls hP hD hS hl
  refine va_iald C.1 C.2.1 C.2.2.2.2.2.1 hP 5 0 rfl rfl (vp_in_nI hi (by decide)) hd ?_
  rw [nI_clamp (by omega)]
  exact k H locs ls hP hD hS hl
theorem y_ast_prs {i : Nat} {x : Int32} (C : CC p s m args meth c D A cI cZ RX1 cc nL ret) (hd : decode cc pc = .ok (.iastore, 1)) (hi : i < 64) (k : JJ p l e s m args below meth c D A lev Qc (YW ad cI cZ txt mds ess dps (upd prs i x) jns cls sty stk len top) (pc + 1) vs st) : JJ p l e s m args below meth c D A lev Qc (YW ad cI cZ txt mds ess dps prs jns cls sty stk len top) pc vs (.int x :: .int (nI i) :: .ref (ad 5) :: st) := by
  intro H locs ls hP hD hS hl
  refine va_iast C.1 C.2.1 C.2.2.2.2.2.1 hP hD hS 5 0 rfl rfl (vp_in_nI hi (by decide)) hd (fun H1 locs1 hP1 hD1 hS1 => ?_)
  rw [nI_clamp (by omega)] at hP1 hD1
  skip
  exact k H1 locs1 ls hP1 hD1 hS1 hl
theorem y_get_jns (C : CC p s m args meth c D A cI cZ RX1 cc nL ret) (hd : decode cc pc = .ok (.getfield 26, 3)) (k : JJ p l e s m args below meth c D A lev Qc (YW ad cI cZ txt mds ess dps prs jns cls sty stk len top) (pc + 3) vs (.ref (ad 6) :: st)) : JJ p l e s m args below meth c D A lev Qc (YW ad cI cZ txt mds ess dps prs jns cls sty stk len top) pc vs (.ref (ad 0) :: st) := by
  intro H locs ls hP hD hS hl
  exact va_get (D := D) (ci := 1) (v := .ref (ad 6)) (C := RX1) (T := TX1) (N := 11) C.1 C.2.1 C.2.2.2.2.1 in_X1 C.2.2.2.1 C.2.2.2.2.2.1 hP 0 rfl rfl 6 (by decide) (C.2.2.2.2.1 _ q198) (fun _ h9 => h9) rfl hd (k H locs ls hP hD hS hl)
theorem y_ag_jns (C : CC p s m args meth c D A cI cZ RX1 cc nL ret) (h1 : decode cc pc = .ok (.aload_n 0, 1)) (h2 : decode cc (pc + 1) = .ok (.getfield 26, 3)) (k : JJ p l e s m args below meth c D A lev Qc (YW ad cI cZ txt mds ess dps prs jns cls sty stk len top) (pc + 4) (some (.inr (ad 0)) :: vr) (.ref (ad 6) :: st)) : JJ p l e s m args below meth c D A lev Qc (YW ad cI cZ txt mds ess dps prs jns cls sty stk len top) pc (some (.inr (ad 0)) :: vr) st := j_aload0 C h1 (y_get_jns C h2 k)
theorem y_ald_jns {i : Nat} (C : CC p s m args meth c D A cI cZ RX1 cc nL ret) (hd : decode cc pc = .ok (.baload, 1)) (hi : i < 64) (k : JJ p l e s m args below meth c D A lev Qc (YW ad cI cZ txt mds ess dps prs jns cls sty stk len top) (pc + 1) vs (.int (jns i) :: st)) : JJ p l e s m args below meth c D A lev Qc (YW ad cI cZ txt mds ess dps prs jns cls sty stk len top) pc vs (.int (nI i) :: .ref (ad 6) :: st) := by
  intro H locs ls hP hD hS hl
  refine va_zald C.1 C.2.1 C.2.2.2.2.2.1 hP 6 1 rfl rfl (vp_in_nI hi (by decide)) hd ?_
  rw [nI_clamp (by omega)]
  exact k H locs ls hP hD hS hl
theorem y_ast_jns {i : Nat} {b : Bool} (C : CC p s m args meth c D A cI cZ RX1 cc nL ret) (hd : decode cc pc = .ok (.bastore, 1)) (hi : i < 64) (k : JJ p l e s m args below meth c D A lev Qc (YW ad cI cZ txt mds ess dps prs (upd jns i (b2i b)) cls sty stk len top) (pc + 1) vs st) : JJ p l e s m args below meth c D A lev Qc (YW ad cI cZ txt mds ess dps prs jns cls sty stk len top) pc vs (.int (b2i b) :: .int (nI i) :: .ref (ad 6) :: st) := by
  intro H locs ls hP hD hS hl
  refine va_zast C.1 C.2.1 C.2.2.2.2.2.1 hP hD hS 6 1 rfl rfl (vp_in_nI hi (by decide)) hd (fun H1 locs1 hP1 hD1 hS1 => ?_)
  rw [nI_clamp (by omega)] at hP1 hD1
  rw [b2i_vp] at hP1 hD1
  exact k H1 locs1 ls hP1 hD1 hS1 hl
theorem y_get_cls (C : CC p s m args meth c D A cI cZ RX1 cc nL ret) (hd : decode cc pc = .ok (.getfield 29, 3)) (k : JJ p l e s m args below meth c D A lev Qc (YW ad cI cZ txt mds ess dps prs jns cls sty stk len top) (pc + 3) vs (.ref (ad 7) :: st)) : JJ p l e s m args below meth c D A lev Qc (YW ad cI cZ txt mds ess dps prs jns cls sty stk len top) pc vs (.ref (ad 0) :: st) := by
  intro H locs ls hP hD hS hl
  exact va_get (D := D) (ci := 1) (v := .ref (ad 7)) (C := RX1) (T := TX1) (N := 11) C.1 C.2.1 C.2.2.2.2.1 in_X1 C.2.2.2.1 C.2.2.2.2.2.1 hP 0 rfl rfl 7 (by decide) (C.2.2.2.2.1 _ q199) (fun _ h9 => h9) rfl hd (k H locs ls hP hD hS hl)
theorem y_ag_cls (C : CC p s m args meth c D A cI cZ RX1 cc nL ret) (h1 : decode cc pc = .ok (.aload_n 0, 1)) (h2 : decode cc (pc + 1) = .ok (.getfield 29, 3)) (k : JJ p l e s m args below meth c D A lev Qc (YW ad cI cZ txt mds ess dps prs jns cls sty stk len top) (pc + 4) (some (.inr (ad 0)) :: vr) (.ref (ad 7) :: st)) : JJ p l e s m args below meth c D A lev Qc (YW ad cI cZ txt mds ess dps prs jns cls sty stk len top) pc (some (.inr (ad 0)) :: vr) st := j_aload0 C h1 (y_get_cls C h2 k)
theorem y_ald_cls {i : Nat} (C : CC p s m args meth c D A cI cZ RX1 cc nL ret) (hd : decode cc pc = .ok (.baload, 1)) (hi : i < 64) (k : JJ p l e s m args below meth c D A lev Qc (YW ad cI cZ txt mds ess dps prs jns cls sty stk len top) (pc + 1) vs (.int (cls i) :: st)) : JJ p l e s m args below meth c D A lev Qc (YW ad cI cZ txt mds ess dps prs jns cls sty stk len top) pc vs (.int (nI i) :: .ref (ad 7) :: st) := by
  intro H locs ls hP hD hS hl
  refine va_zald C.1 C.2.1 C.2.2.2.2.2.1 hP 7 1 rfl rfl (vp_in_nI hi (by decide)) hd ?_
  rw [nI_clamp (by omega)]
  exact k H locs ls hP hD hS hl
theorem y_ast_cls {i : Nat} {b : Bool} (C : CC p s m args meth c D A cI cZ RX1 cc nL ret) (hd : decode cc pc = .ok (.bastore, 1)) (hi : i < 64) (k : JJ p l e s m args below meth c D A lev Qc (YW ad cI cZ txt mds ess dps prs jns (upd cls i (b2i b)) sty stk len top) (pc + 1) vs st) : JJ p l e s m args below meth c D A lev Qc (YW ad cI cZ txt mds ess dps prs jns cls sty stk len top) pc vs (.int (b2i b) :: .int (nI i) :: .ref (ad 7) :: st) := by
  intro H locs ls hP hD hS hl
  refine va_zast C.1 C.2.1 C.2.2.2.2.2.1 hP hD hS 7 1 rfl rfl (vp_in_nI hi (by decide)) hd (fun H1 locs1 hP1 hD1 hS1 => ?_)
  rw [nI_clamp (by omega)] at hP1 hD1
  rw [b2i_vp] at hP1 hD1
  exact k H1 locs1 ls hP1 hD1 hS1 hl
theorem y_get_sty (C : CC p s m args meth c D A cI cZ RX1 cc nL ret) (hd : decode cc pc = .ok (.getfield 32, 3)) (k : JJ p l e s m args below meth c D A lev Qc (YW ad cI cZ txt mds ess dps prs jns cls sty stk len top) (pc + 3) vs (.ref (ad 8) :: st)) : JJ p l e s m args below meth c D A lev Qc (YW ad cI cZ txt mds ess dps prs jns cls sty stk len top) pc vs (.ref (ad 0) :: st) := by
  intro H locs ls hP hD hS hl
  exact va_get (D := D) (ci := 1) (v := .ref (ad 8)) (C := RX1) (T := TX1) (N := 11) C.1 C.2.1 C.2.2.2.2.1 in_X1 C.2.2.2.1 C.2.2.2.2.2.1 hP 0 rfl rfl 8 (by decide) (C.2.2.2.2.1 _ q200) (fun _ h9 => h9) rfl hd (k H locs ls hP hD hS hl)
theorem y_ag_sty (C : CC p s m args meth c D A cI cZ RX1 cc nL ret) (h1 : decode cc pc = .ok (.aload_n 0, 1)) (h2 : decode cc (pc + 1) = .ok (.getfield 32, 3)) (k : JJ p l e s m args below meth c D A lev Qc (YW ad cI cZ txt mds ess dps prs jns cls sty stk len top) (pc + 4) (some (.inr (ad 0)) :: vr) (.ref (ad 8) :: st)) : JJ p l e s m args below meth c D A lev Qc (YW ad cI cZ txt mds ess dps prs jns cls sty stk len top) pc (some (.inr (ad 0)) :: vr) st := j_aload0 C h1 (y_get_sty C h2 k)
theorem y_ald_sty {i : Nat} (C : CC p s m args meth c D A cI cZ RX1 cc nL ret) (hd : decode cc pc = .ok (.baload, 1)) (hi : i < 64) (k : JJ p l e s m args below meth c D A lev Qc (YW ad cI cZ txt mds ess dps prs jns cls sty stk len top) (pc + 1) vs (.int (sty i) :: st)) : JJ p l e s m args below meth c D A lev Qc (YW ad cI cZ txt mds ess dps prs jns cls sty stk len top) pc vs (.int (nI i) :: .ref (ad 8) :: st) := by
  intro H locs ls hP hD hS hl
  refine va_zald C.1 C.2.1 C.2.2.2.2.2.1 hP 8 1 rfl rfl (vp_in_nI hi (by decide)) hd ?_
  rw [nI_clamp (by omega)]
  exact k H locs ls hP hD hS hl
theorem y_ast_sty {i : Nat} {b : Bool} (C : CC p s m args meth c D A cI cZ RX1 cc nL ret) (hd : decode cc pc = .ok (.bastore, 1)) (hi : i < 64) (k : JJ p l e s m args below meth c D A lev Qc (YW ad cI cZ txt mds ess dps prs jns cls (upd sty i (b2i b)) stk len top) (pc + 1) vs st) : JJ p l e s m args below meth c D A lev Qc (YW ad cI cZ txt mds ess dps prs jns cls sty stk len top) pc vs (.int (b2i b) :: .int (nI i) :: .ref (ad 8) :: st) := by
  intro H locs ls hP hD hS hl
  refine va_zast C.1 C.2.1 C.2.2.2.2.2.1 hP hD hS 8 1 rfl rfl (vp_in_nI hi (by decide)) hd (fun H1 locs1 hP1 hD1 hS1 => ?_)
  rw [nI_clamp (by omega)] at hP1 hD1
  rw [b2i_vp] at hP1 hD1
  exact k H1 locs1 ls hP1 hD1 hS1 hl
theorem y_get_stk (C : CC p s m args meth c D A cI cZ RX1 cc nL ret) (hd : decode cc pc = .ok (.getfield 35, 3)) (k : JJ p l e s m args below meth c D A lev Qc (YW ad cI cZ txt mds ess dps prs jns cls sty stk len top) (pc + 3) vs (.ref (ad 9) :: st)) : JJ p l e s m args below meth c D A lev Qc (YW ad cI cZ txt mds ess dps prs jns cls sty stk len top) pc vs (.ref (ad 0) :: st) := by
  intro H locs ls hP hD hS hl
  exact va_get (D := D) (ci := 1) (v := .ref (ad 9)) (C := RX1) (T := TX1) (N := 11) C.1 C.2.1 C.2.2.2.2.1 in_X1 C.2.2.2.1 C.2.2.2.2.2.1 hP 0 rfl rfl 9 (by decide) (C.2.2.2.2.1 _ q201) (fun _ h9 => h9) rfl hd (k H locs ls hP hD hS hl)
theorem y_ag_stk (C : CC p s m args meth c D A cI cZ RX1 cc nL ret) (h1 : decode cc pc = .ok (.aload_n 0, 1)) (h2 : decode cc (pc + 1) = .ok (.getfield 35, 3)) (k : JJ p l e s m args below meth c D A lev Qc (YW ad cI cZ txt mds ess dps prs jns cls sty stk len top) (pc + 4) (some (.inr (ad 0)) :: vr) (.ref (ad 9) :: st)) : JJ p l e s m args below meth c D A lev Qc (YW ad cI cZ txt mds ess dps prs jns cls sty stk len top) pc (some (.inr (ad 0)) :: vr) st := j_aload0 C h1 (y_get_stk C h2 k)
theorem y_ald_stk {i : Nat} (C : CC p s m args meth c D A cI cZ RX1 cc nL ret) (hd : decode cc pc = .ok (.iaload, 1)) (hi : i < 64) (k : JJ p l e s m args below meth c D A lev Qc (YW ad cI cZ txt mds ess dps prs jns cls sty stk len top) (pc + 1) vs (.int (stk i) :: st)) : JJ p l e s m args below meth c D A lev Qc (YW ad cI cZ txt mds ess dps prs jns cls sty stk len top) pc vs (.int (nI i) :: .ref (ad 9) :: st) := by
  intro H locs ls hP hD hS hl
  refine va_iald C.1 C.2.1 C.2.2.2.2.2.1 hP 9 0 rfl rfl (vp_in_nI hi (by decide)) hd ?_
  rw [nI_clamp (by omega)]
  exact k H locs ls hP hD hS hl
theorem y_ast_stk {i : Nat} {x : Int32} (C : CC p s m args meth c D A cI cZ RX1 cc nL ret) (hd : decode cc pc = .ok (.iastore, 1)) (hi : i < 64) (k : JJ p l e s m args below meth c D A lev Qc (YW ad cI cZ txt mds ess dps prs jns cls sty (upd stk i x) len top) (pc + 1) vs st) : JJ p l e s m args below meth c D A lev Qc (YW ad cI cZ txt mds ess dps prs jns cls sty stk len top) pc vs (.int x :: .int (nI i) :: .ref (ad 9) :: st) := by
  intro H locs ls hP hD hS hl
  refine va_iast C.1 C.2.1 C.2.2.2.2.2.1 hP hD hS 9 0 rfl rfl (vp_in_nI hi (by decide)) hd (fun H1 locs1 hP1 hD1 hS1 => ?_)
  rw [nI_clamp (by omega)] at hP1 hD1
  skip
  exact k H1 locs1 ls hP1 hD1 hS1 hl
theorem y_get_top (C : CC p s m args meth c D A cI cZ RX1 cc nL ret) (hd : decode cc pc = .ok (.getfield 49, 3)) (k : JJ p l e s m args below meth c D A lev Qc (YW ad cI cZ txt mds ess dps prs jns cls sty stk len top) (pc + 3) vs (.int top :: st)) : JJ p l e s m args below meth c D A lev Qc (YW ad cI cZ txt mds ess dps prs jns cls sty stk len top) pc vs (.ref (ad 0) :: st) := by
  intro H locs ls hP hD hS hl
  exact va_get (D := D) (ci := 1) (v := .int top) (C := RX1) (T := TX1) (N := 11) C.1 C.2.1 C.2.2.2.2.1 in_X1 C.2.2.2.1 C.2.2.2.2.2.1 hP 0 rfl rfl 10 (by decide) (C.2.2.2.2.1 _ q202) (fun _ h9 => h9) rfl hd (k H locs ls hP hD hS hl)
theorem y_ag_top (C : CC p s m args meth c D A cI cZ RX1 cc nL ret) (h1 : decode cc pc = .ok (.aload_n 0, 1)) (h2 : decode cc (pc + 1) = .ok (.getfield 49, 3)) (k : JJ p l e s m args below meth c D A lev Qc (YW ad cI cZ txt mds ess dps prs jns cls sty stk len top) (pc + 4) (some (.inr (ad 0)) :: vr) (.int top :: st)) : JJ p l e s m args below meth c D A lev Qc (YW ad cI cZ txt mds ess dps prs jns cls sty stk len top) pc (some (.inr (ad 0)) :: vr) st := j_aload0 C h1 (y_get_top C h2 k)
theorem y_put_top {v : Int32} (C : CC p s m args meth c D A cI cZ RX1 cc nL ret) (hd : decode cc pc = .ok (.putfield 49, 3)) (k : JJ p l e s m args below meth c D A lev Qc (YW ad cI cZ txt mds ess dps prs jns cls sty stk len v) (pc + 3) vs st) : JJ p l e s m args below meth c D A lev Qc (YW ad cI cZ txt mds ess dps prs jns cls sty stk len top) pc vs (.int v :: .ref (ad 0) :: st) := by
  intro H locs ls hP hD hS hl
  exact va_put (D := D) (ci := 1) (v := .int v) (ty := .int) (C := RX1) (T := TX1) (N := 11) C.1 C.2.1 C.2.2.2.2.1 in_X1 tyX1 tyX1_ok nmX1 C.2.2.2.1 C.2.2.2.2.2.1 hP hD hS 0 rfl rfl 10 (by decide) (C.2.2.2.2.1 _ q202) (fun _ h9 => h9) rfl (by decide +kernel) rfl rfl (Nat.le_of_ble_eq_true rfl) hd (fun H1 locs1 hP1 hD1 hS1 => k H1 locs1 ls hP1 hD1 hS1 hl)
end YR
section JN
variable {p : Program} {l : Launch} {e : Env} {s : State} {m : MethodId} {args : Array Value} {below : List Frame} {meth : Method} {c : Code} {D : va_G} {A : Nat → Prop} {lev : Nat} {Qc : Array Value → State → Outcome → State → Prop} {pc : Nat} {vs vr : List (Option jT)} {st : List Value}
variable {cI cZ : ClassId} {cc : ByteArray} {nL : Nat} {ret : Option FieldType} {ad : Nat → Nat}
variable {own : String} {ws : va_W}
theorem j_inc1 {a : Nat} {v0 : Option jT} (C : CC p s m args meth c D A cI cZ own cc nL ret) (hd : decode cc pc = .ok (.iinc 1 1, 3)) (k : JJ p l e s m args below meth c D A lev Qc ws (pc + 3) (v0 :: some (.inl (nI (a + 1))) :: vr) st) : JJ p l e s m args below meth c D A lev Qc ws pc (v0 :: some (.inl (nI a)) :: vr) st := j_iinc1 C (nI (a + 1)) hd (nI_1 a) k
theorem j_dec1 {a : Nat} {v0 : Option jT} (C : CC p s m args meth c D A cI cZ own cc nL ret) (hd : decode cc pc = .ok (.iinc 1 (-1), 3)) (h : 0 < a) (k : JJ p l e s m args below meth c D A lev Qc ws (pc + 3) (v0 :: some (.inl (nI (a - 1))) :: vr) st) : JJ p l e s m args below meth c D A lev Qc ws pc (v0 :: some (.inl (nI a)) :: vr) st := j_iinc1 C (nI (a - 1)) hd (sb_m1 h) k
theorem j_inc2 {a : Nat} {v0 v1 : Option jT} (C : CC p s m args meth c D A cI cZ own cc nL ret) (hd : decode cc pc = .ok (.iinc 2 1, 3)) (k : JJ p l e s m args below meth c D A lev Qc ws (pc + 3) (v0 :: v1 :: some (.inl (nI (a + 1))) :: vr) st) : JJ p l e s m args below meth c D A lev Qc ws pc (v0 :: v1 :: some (.inl (nI a)) :: vr) st := j_iinc2 C (nI (a + 1)) hd (nI_1 a) k
theorem j_dec2 {a : Nat} {v0 v1 : Option jT} (C : CC p s m args meth c D A cI cZ own cc nL ret) (hd : decode cc pc = .ok (.iinc 2 (-1), 3)) (h : 0 < a) (k : JJ p l e s m args below meth c D A lev Qc ws (pc + 3) (v0 :: v1 :: some (.inl (nI (a - 1))) :: vr) st) : JJ p l e s m args below meth c D A lev Qc ws pc (v0 :: v1 :: some (.inl (nI a)) :: vr) st := j_iinc2 C (nI (a - 1)) hd (sb_m1 h) k
theorem j_inc3 {a : Nat} {v0 v1 v2 : Option jT} (C : CC p s m args meth c D A cI cZ own cc nL ret) (hd : decode cc pc = .ok (.iinc 3 1, 3)) (k : JJ p l e s m args below meth c D A lev Qc ws (pc + 3) (v0 :: v1 :: v2 :: some (.inl (nI (a + 1))) :: vr) st) : JJ p l e s m args below meth c D A lev Qc ws pc (v0 :: v1 :: v2 :: some (.inl (nI a)) :: vr) st := j_iinc3 C (nI (a + 1)) hd (nI_1 a) k
theorem j_dec3 {a : Nat} {v0 v1 v2 : Option jT} (C : CC p s m args meth c D A cI cZ own cc nL ret) (hd : decode cc pc = .ok (.iinc 3 (-1), 3)) (h : 0 < a) (k : JJ p l e s m args below meth c D A lev Qc ws (pc + 3) (v0 :: v1 :: v2 :: some (.inl (nI (a - 1))) :: vr) st) : JJ p l e s m args below meth c D A lev Qc ws pc (v0 :: v1 :: v2 :: some (.inl (nI a)) :: vr) st := j_iinc3 C (nI (a - 1)) hd (sb_m1 h) k
theorem j_inc4 {a : Nat} {v0 v1 v2 v3 : Option jT} (C : CC p s m args meth c D A cI cZ own cc nL ret) (hd : decode cc pc = .ok (.iinc 4 1, 3)) (k : JJ p l e s m args below meth c D A lev Qc ws (pc + 3) (v0 :: v1 :: v2 :: v3 :: some (.inl (nI (a + 1))) :: vr) st) : JJ p l e s m args below meth c D A lev Qc ws pc (v0 :: v1 :: v2 :: v3 :: some (.inl (nI a)) :: vr) st := j_iinc4 C (nI (a + 1)) hd (nI_1 a) k
theorem j_dec4 {a : Nat} {v0 v1 v2 v3 : Option jT} (C : CC p s m args meth c D A cI cZ own cc nL ret) (hd : decode cc pc = .ok (.iinc 4 (-1), 3)) (h : 0 < a) (k : JJ p l e s m args below meth c D A lev Qc ws (pc + 3) (v0 :: v1 :: v2 :: v3 :: some (.inl (nI (a - 1))) :: vr) st) : JJ p l e s m args below meth c D A lev Qc ws pc (v0 :: v1 :: v2 :: v3 :: some (.inl (nI a)) :: vr) st := j_iinc4 C (nI (a - 1)) hd (sb_m1 h) k
theorem j_inc5 {a : Nat} {v0 v1 v2 v3 v4 : Option jT} (C : CC p s m args meth c D A cI cZ own cc nL ret) (hd : decode cc pc = .ok (.iinc 5 1, 3)) (k : JJ p l e s m args below meth c D A lev Qc ws (pc + 3) (v0 :: v1 :: v2 :: v3 :: v4 :: some (.inl (nI (a + 1))) :: vr) st) : JJ p l e s m args below meth c D A lev Qc ws pc (v0 :: v1 :: v2 :: v3 :: v4 :: some (.inl (nI a)) :: vr) st := j_iinc5 C (nI (a + 1)) hd (nI_1 a) k
theorem j_dec5 {a : Nat} {v0 v1 v2 v3 v4 : Option jT} (C : CC p s m args meth c D A cI cZ own cc nL ret) (hd : decode cc pc = .ok (.iinc 5 (-1), 3)) (h : 0 < a) (k : JJ p l e s m args below meth c D A lev Qc ws (pc + 3) (v0 :: v1 :: v2 :: v3 :: v4 :: some (.inl (nI (a - 1))) :: vr) st) : JJ p l e s m args below meth c D A lev Qc ws pc (v0 :: v1 :: v2 :: v3 :: v4 :: some (.inl (nI a)) :: vr) st := j_iinc5 C (nI (a - 1)) hd (sb_m1 h) k
theorem j_inc6 {a : Nat} {v0 v1 v2 v3 v4 v5 : Option jT} (C : CC p s m args meth c D A cI cZ own cc nL ret) (hd : decode cc pc = .ok (.iinc 6 1, 3)) (k : JJ p l e s m args below meth c D A lev Qc ws (pc + 3) (v0 :: v1 :: v2 :: v3 :: v4 :: v5 :: some (.inl (nI (a + 1))) :: vr) st) : JJ p l e s m args below meth c D A lev Qc ws pc (v0 :: v1 :: v2 :: v3 :: v4 :: v5 :: some (.inl (nI a)) :: vr) st := j_iinc6 C (nI (a + 1)) hd (nI_1 a) k
theorem j_dec6 {a : Nat} {v0 v1 v2 v3 v4 v5 : Option jT} (C : CC p s m args meth c D A cI cZ own cc nL ret) (hd : decode cc pc = .ok (.iinc 6 (-1), 3)) (h : 0 < a) (k : JJ p l e s m args below meth c D A lev Qc ws (pc + 3) (v0 :: v1 :: v2 :: v3 :: v4 :: v5 :: some (.inl (nI (a - 1))) :: vr) st) : JJ p l e s m args below meth c D A lev Qc ws pc (v0 :: v1 :: v2 :: v3 :: v4 :: v5 :: some (.inl (nI a)) :: vr) st := j_iinc6 C (nI (a - 1)) hd (sb_m1 h) k
end JN
end
section
section Cx
variable {p : Program} {l : Launch} {e : Env} {s : State} {m : MethodId} {args : Array Value} {below : List Frame} {meth : Method} {c : Code} {D : va_G} {A : Nat → Prop} {lev : Nat} {Qc : Array Value → State → Outcome → State → Prop} {pc : Nat} {vs : List (Option jT)} {st : List Value}
variable {cI cZ : ClassId} {cc : ByteArray} {nL : Nat} {r2 ret : Option FieldType} {ad : Nat → Nat} {y : MethodName} {bytes : ByteArray} {maxL k index : Nat}
variable {kind role par aro kM kE kI : Nat → Int32} {len kno mo esc inn : Int32}
theorem x_callI0 {S : Type} {post : Int32 → S → Prop} {WS : S → va_W} (C : CC p s m args meth c D A cI cZ RX0 cc nL r2) (hM : MetI l y bytes maxL ret k D cI cZ [.ref (ad 0)] WS (XW ad cI cZ kind role par aro kM kE kI len kno mo esc inn) post) (hG : GoodIn lw_all (wsV RX0 index RX0 y (ws_ y bytes maxL ret))) (hy : y.cls = RX0 ∧ y.cls ≠ "java/lang/invoke/MethodHandle" ∧ y.cls ≠ "java/lang/invoke/VarHandle" ∧ (parseMethodDescriptor y.desc).map (fun d => d.parameters.length) = some 0) (hk : k + 1 ≤ lev) (hL : maxL ≤ 7) (hv : vs.length = nL) (hst : (st.map fun v => v.category).sum ≤ 8) (hd : decode cc pc = .ok (.invokevirtual index, 3))
    (kk : ∀ (r : Int32) (u : S), post r u → JJ p l e s m args below meth c D A lev Qc (WS u) (pc + 3) vs (.int r :: st)) : JJ p l e s m args below meth c D A lev Qc (XW ad cI cZ kind role par aro kM kE kI len kno mo esc inn) pc vs (.ref (ad 0) :: st) := j_callI (As := []) C hM hG hy rfl hk hL hv (ci := 0) rfl rfl rfl hst hd kk
theorem x_callV0 {S : Type} {post : S → Prop} {WS : S → va_W} (C : CC p s m args meth c D A cI cZ RX0 cc nL r2) (hM : MetV l y bytes maxL k D cI cZ [.ref (ad 0)] WS (XW ad cI cZ kind role par aro kM kE kI len kno mo esc inn) post) (hG : GoodIn lw_all (wsV RX0 index RX0 y (ws_ y bytes maxL none))) (hy : y.cls = RX0 ∧ y.cls ≠ "java/lang/invoke/MethodHandle" ∧ y.cls ≠ "java/lang/invoke/VarHandle" ∧ (parseMethodDescriptor y.desc).map (fun d => d.parameters.length) = some 0) (hk : k + 1 ≤ lev) (hL : maxL ≤ 7) (hv : vs.length = nL) (hst : (st.map fun v => v.category).sum ≤ 8) (hd : decode cc pc = .ok (.invokevirtual index, 3))
    (kk : ∀ (u : S), post u → JJ p l e s m args below meth c D A lev Qc (WS u) (pc + 3) vs st) : JJ p l e s m args below meth c D A lev Qc (XW ad cI cZ kind role par aro kM kE kI len kno mo esc inn) pc vs (.ref (ad 0) :: st) := j_callV (As := []) C hM hG hy rfl hk hL hv (ci := 0) rfl rfl rfl hst hd kk
theorem x_callI1 {S : Type} {post : Int32 → S → Prop} {WS : S → va_W} {x : Int32} (C : CC p s m args meth c D A cI cZ RX0 cc nL r2) (hM : MetI l y bytes maxL ret k D cI cZ [.ref (ad 0), .int x] WS (XW ad cI cZ kind role par aro kM kE kI len kno mo esc inn) post) (hG : GoodIn lw_all (wsV RX0 index RX0 y (ws_ y bytes maxL ret))) (hy : y.cls = RX0 ∧ y.cls ≠ "java/lang/invoke/MethodHandle" ∧ y.cls ≠ "java/lang/invoke/VarHandle" ∧ (parseMethodDescriptor y.desc).map (fun d => d.parameters.length) = some 1) (hk : k + 1 ≤ lev) (hL : maxL ≤ 7) (hv : vs.length = nL) (hst : (st.map fun v => v.category).sum ≤ 8) (hd : decode cc pc = .ok (.invokevirtual index, 3))
    (kk : ∀ (r : Int32) (u : S), post r u → JJ p l e s m args below meth c D A lev Qc (WS u) (pc + 3) vs (.int r :: st)) : JJ p l e s m args below meth c D A lev Qc (XW ad cI cZ kind role par aro kM kE kI len kno mo esc inn) pc vs (.int x :: .ref (ad 0) :: st) := j_callI (As := [.int x]) C hM hG hy rfl hk hL hv (ci := 0) rfl rfl rfl hst hd kk
theorem x_callV1 {S : Type} {post : S → Prop} {WS : S → va_W} {x : Int32} (C : CC p s m args meth c D A cI cZ RX0 cc nL r2) (hM : MetV l y bytes maxL k D cI cZ [.ref (ad 0), .int x] WS (XW ad cI cZ kind role par aro kM kE kI len kno mo esc inn) post) (hG : GoodIn lw_all (wsV RX0 index RX0 y (ws_ y bytes maxL none))) (hy : y.cls = RX0 ∧ y.cls ≠ "java/lang/invoke/MethodHandle" ∧ y.cls ≠ "java/lang/invoke/VarHandle" ∧ (parseMethodDescriptor y.desc).map (fun d => d.parameters.length) = some 1) (hk : k + 1 ≤ lev) (hL : maxL ≤ 7) (hv : vs.length = nL) (hst : (st.map fun v => v.category).sum ≤ 8) (hd : decode cc pc = .ok (.invokevirtual index, 3))
    (kk : ∀ (u : S), post u → JJ p l e s m args below meth c D A lev Qc (WS u) (pc + 3) vs st) : JJ p l e s m args below meth c D A lev Qc (XW ad cI cZ kind role par aro kM kE kI len kno mo esc inn) pc vs (.int x :: .ref (ad 0) :: st) := j_callV (As := [.int x]) C hM hG hy rfl hk hL hv (ci := 0) rfl rfl rfl hst hd kk
theorem x_callI2 {S : Type} {post : Int32 → S → Prop} {WS : S → va_W} {x z : Int32} (C : CC p s m args meth c D A cI cZ RX0 cc nL r2) (hM : MetI l y bytes maxL ret k D cI cZ [.ref (ad 0), .int x, .int z] WS (XW ad cI cZ kind role par aro kM kE kI len kno mo esc inn) post) (hG : GoodIn lw_all (wsV RX0 index RX0 y (ws_ y bytes maxL ret))) (hy : y.cls = RX0 ∧ y.cls ≠ "java/lang/invoke/MethodHandle" ∧ y.cls ≠ "java/lang/invoke/VarHandle" ∧ (parseMethodDescriptor y.desc).map (fun d => d.parameters.length) = some 2) (hk : k + 1 ≤ lev) (hL : maxL ≤ 7) (hv : vs.length = nL) (hst : (st.map fun v => v.category).sum ≤ 8) (hd : decode cc pc = .ok (.invokevirtual index, 3))
    (kk : ∀ (r : Int32) (u : S), post r u → JJ p l e s m args below meth c D A lev Qc (WS u) (pc + 3) vs (.int r :: st)) : JJ p l e s m args below meth c D A lev Qc (XW ad cI cZ kind role par aro kM kE kI len kno mo esc inn) pc vs (.int z :: .int x :: .ref (ad 0) :: st) := j_callI (As := [.int x, .int z]) C hM hG hy rfl hk hL hv (ci := 0) rfl rfl rfl hst hd kk
theorem x_callV2 {S : Type} {post : S → Prop} {WS : S → va_W} {x z : Int32} (C : CC p s m args meth c D A cI cZ RX0 cc nL r2) (hM : MetV l y bytes maxL k D cI cZ [.ref (ad 0), .int x, .int z] WS (XW ad cI cZ kind role par aro kM kE kI len kno mo esc inn) post) (hG : GoodIn lw_all (wsV RX0 index RX0 y (ws_ y bytes maxL none))) (hy : y.cls = RX0 ∧ y.cls ≠ "java/lang/invoke/MethodHandle" ∧ y.cls ≠ "java/lang/invoke/VarHandle" ∧ (parseMethodDescriptor y.desc).map (fun d => d.parameters.length) = some 2) (hk : k + 1 ≤ lev) (hL : maxL ≤ 7) (hv : vs.length = nL) (hst : (st.map fun v => v.category).sum ≤ 8) (hd : decode cc pc = .ok (.invokevirtual index, 3))
    (kk : ∀ (u : S), post u → JJ p l e s m args below meth c D A lev Qc (WS u) (pc + 3) vs st) : JJ p l e s m args below meth c D A lev Qc (XW ad cI cZ kind role par aro kM kE kI len kno mo esc inn) pc vs (.int z :: .int x :: .ref (ad 0) :: st) := j_callV (As := [.int x, .int z]) C hM hG hy rfl hk hL hv (ci := 0) rfl rfl rfl hst hd kk
end Cx
section Cy
variable {p : Program} {l : Launch} {e : Env} {s : State} {m : MethodId} {args : Array Value} {below : List Frame} {meth : Method} {c : Code} {D : va_G} {A : Nat → Prop} {lev : Nat} {Qc : Array Value → State → Outcome → State → Prop} {pc : Nat} {vs : List (Option jT)} {st : List Value}
variable {cI cZ : ClassId} {cc : ByteArray} {nL : Nat} {r2 ret : Option FieldType} {ad : Nat → Nat} {y : MethodName} {bytes : ByteArray} {maxL k index : Nat}
variable {txt mds ess dps prs jns cls sty stk : Nat → Int32} {len top : Int32}
theorem y_callI0 {S : Type} {post : Int32 → S → Prop} {WS : S → va_W} (C : CC p s m args meth c D A cI cZ RX1 cc nL r2) (hM : MetI l y bytes maxL ret k D cI cZ [.ref (ad 0)] WS (YW ad cI cZ txt mds ess dps prs jns cls sty stk len top) post) (hG : GoodIn lw_all (wsV RX1 index RX1 y (ws_ y bytes maxL ret))) (hy : y.cls = RX1 ∧ y.cls ≠ "java/lang/invoke/MethodHandle" ∧ y.cls ≠ "java/lang/invoke/VarHandle" ∧ (parseMethodDescriptor y.desc).map (fun d => d.parameters.length) = some 0) (hk : k + 1 ≤ lev) (hL : maxL ≤ 7) (hv : vs.length = nL) (hst : (st.map fun v => v.category).sum ≤ 8) (hd : decode cc pc = .ok (.invokevirtual index, 3))
    (kk : ∀ (r : Int32) (u : S), post r u → JJ p l e s m args below meth c D A lev Qc (WS u) (pc + 3) vs (.int r :: st)) : JJ p l e s m args below meth c D A lev Qc (YW ad cI cZ txt mds ess dps prs jns cls sty stk len top) pc vs (.ref (ad 0) :: st) := j_callI (As := []) C hM hG hy rfl hk hL hv (ci := 1) rfl rfl rfl hst hd kk
theorem y_callV0 {S : Type} {post : S → Prop} {WS : S → va_W} (C : CC p s m args meth c D A cI cZ RX1 cc nL r2) (hM : MetV l y bytes maxL k D cI cZ [.ref (ad 0)] WS (YW ad cI cZ txt mds ess dps prs jns cls sty stk len top) post) (hG : GoodIn lw_all (wsV RX1 index RX1 y (ws_ y bytes maxL none))) (hy : y.cls = RX1 ∧ y.cls ≠ "java/lang/invoke/MethodHandle" ∧ y.cls ≠ "java/lang/invoke/VarHandle" ∧ (parseMethodDescriptor y.desc).map (fun d => d.parameters.length) = some 0) (hk : k + 1 ≤ lev) (hL : maxL ≤ 7) (hv : vs.length = nL) (hst : (st.map fun v => v.category).sum ≤ 8) (hd : decode cc pc = .ok (.invokevirtual index, 3))
    (kk : ∀ (u : S), post u → JJ p l e s m args below meth c D A lev Qc (WS u) (pc + 3) vs st) : JJ p l e s m args below meth c D A lev Qc (YW ad cI cZ txt mds ess dps prs jns cls sty stk len top) pc vs (.ref (ad 0) :: st) := j_callV (As := []) C hM hG hy rfl hk hL hv (ci := 1) rfl rfl rfl hst hd kk
theorem y_callI1 {S : Type} {post : Int32 → S → Prop} {WS : S → va_W} {x : Int32} (C : CC p s m args meth c D A cI cZ RX1 cc nL r2) (hM : MetI l y bytes maxL ret k D cI cZ [.ref (ad 0), .int x] WS (YW ad cI cZ txt mds ess dps prs jns cls sty stk len top) post) (hG : GoodIn lw_all (wsV RX1 index RX1 y (ws_ y bytes maxL ret))) (hy : y.cls = RX1 ∧ y.cls ≠ "java/lang/invoke/MethodHandle" ∧ y.cls ≠ "java/lang/invoke/VarHandle" ∧ (parseMethodDescriptor y.desc).map (fun d => d.parameters.length) = some 1) (hk : k + 1 ≤ lev) (hL : maxL ≤ 7) (hv : vs.length = nL) (hst : (st.map fun v => v.category).sum ≤ 8) (hd : decode cc pc = .ok (.invokevirtual index, 3))
    (kk : ∀ (r : Int32) (u : S), post r u → JJ p l e s m args below meth c D A lev Qc (WS u) (pc + 3) vs (.int r :: st)) : JJ p l e s m args below meth c D A lev Qc (YW ad cI cZ txt mds ess dps prs jns cls sty stk len top) pc vs (.int x :: .ref (ad 0) :: st) := j_callI (As := [.int x]) C hM hG hy rfl hk hL hv (ci := 1) rfl rfl rfl hst hd kk
theorem y_callV1 {S : Type} {post : S → Prop} {WS : S → va_W} {x : Int32} (C : CC p s m args meth c D A cI cZ RX1 cc nL r2) (hM : MetV l y bytes maxL k D cI cZ [.ref (ad 0), .int x] WS (YW ad cI cZ txt mds ess dps prs jns cls sty stk len top) post) (hG : GoodIn lw_all (wsV RX1 index RX1 y (ws_ y bytes maxL none))) (hy : y.cls = RX1 ∧ y.cls ≠ "java/lang/invoke/MethodHandle" ∧ y.cls ≠ "java/lang/invoke/VarHandle" ∧ (parseMethodDescriptor y.desc).map (fun d => d.parameters.length) = some 1) (hk : k + 1 ≤ lev) (hL : maxL ≤ 7) (hv : vs.length = nL) (hst : (st.map fun v => v.category).sum ≤ 8) (hd : decode cc pc = .ok (.invokevirtual index, 3))
    (kk : ∀ (u : S), post u → JJ p l e s m args below meth c D A lev Qc (WS u) (pc + 3) vs st) : JJ p l e s m args below meth c D A lev Qc (YW ad cI cZ txt mds ess dps prs jns cls sty stk len top) pc vs (.int x :: .ref (ad 0) :: st) := j_callV (As := [.int x]) C hM hG hy rfl hk hL hv (ci := 1) rfl rfl rfl hst hd kk
theorem y_callI2 {S : Type} {post : Int32 → S → Prop} {WS : S → va_W} {x z : Int32} (C : CC p s m args meth c D A cI cZ RX1 cc nL r2) (hM : MetI l y bytes maxL ret k D cI cZ [.ref (ad 0), .int x, .int z] WS (YW ad cI cZ txt mds ess dps prs jns cls sty stk len top) post) (hG : GoodIn lw_all (wsV RX1 index RX1 y (ws_ y bytes maxL ret))) (hy : y.cls = RX1 ∧ y.cls ≠ "java/lang/invoke/MethodHandle" ∧ y.cls ≠ "java/lang/invoke/VarHandle" ∧ (parseMethodDescriptor y.desc).map (fun d => d.parameters.length) = some 2) (hk : k + 1 ≤ lev) (hL : maxL ≤ 7) (hv : vs.length = nL) (hst : (st.map fun v => v.category).sum ≤ 8) (hd : decode cc pc = .ok (.invokevirtual index, 3))
    (kk : ∀ (r : Int32) (u : S), post r u → JJ p l e s m args below meth c D A lev Qc (WS u) (pc + 3) vs (.int r :: st)) : JJ p l e s m args below meth c D A lev Qc (YW ad cI cZ txt mds ess dps prs jns cls sty stk len top) pc vs (.int z :: .int x :: .ref (ad 0) :: st) := j_callI (As := [.int x, .int z]) C hM hG hy rfl hk hL hv (ci := 1) rfl rfl rfl hst hd kk
theorem y_callV2 {S : Type} {post : S → Prop} {WS : S → va_W} {x z : Int32} (C : CC p s m args meth c D A cI cZ RX1 cc nL r2) (hM : MetV l y bytes maxL k D cI cZ [.ref (ad 0), .int x, .int z] WS (YW ad cI cZ txt mds ess dps prs jns cls sty stk len top) post) (hG : GoodIn lw_all (wsV RX1 index RX1 y (ws_ y bytes maxL none))) (hy : y.cls = RX1 ∧ y.cls ≠ "java/lang/invoke/MethodHandle" ∧ y.cls ≠ "java/lang/invoke/VarHandle" ∧ (parseMethodDescriptor y.desc).map (fun d => d.parameters.length) = some 2) (hk : k + 1 ≤ lev) (hL : maxL ≤ 7) (hv : vs.length = nL) (hst : (st.map fun v => v.category).sum ≤ 8) (hd : decode cc pc = .ok (.invokevirtual index, 3))
    (kk : ∀ (u : S), post u → JJ p l e s m args below meth c D A lev Qc (WS u) (pc + 3) vs st) : JJ p l e s m args below meth c D A lev Qc (YW ad cI cZ txt mds ess dps prs jns cls sty stk len top) pc vs (.int z :: .int x :: .ref (ad 0) :: st) := j_callV (As := [.int x, .int z]) C hM hG hy rfl hk hL hv (ci := 1) rfl rfl rfl hst hd kk
end Cy
section Cs
variable {p : Program} {l : Launch} {e : Env} {s : State} {m : MethodId} {args : Array Value} {below : List Frame} {meth : Method} {c : Code} {D : va_G} {A : Nat → Prop} {lev : Nat} {Qc : Array Value → State → Outcome → State → Prop} {pc : Nat} {vs : List (Option jT)} {st : List Value}
variable {cI cZ : ClassId} {cc : ByteArray} {nL : Nat} {r2 ret : Option FieldType} {ad : Nat → Nat} {y : MethodName} {bytes : ByteArray} {maxL k index : Nat}
variable {w0 : va_W}
theorem x_callS1 {post : Int32 → Unit → Prop} {x : Int32} (C : CC p s m args meth c D A cI cZ RX0 cc nL r2) (hM : MetI l y bytes maxL ret k D cI cZ [.int x] (fun _ : Unit => []) [] post) (hG : GoodIn lw_all (va_wsS RX0 index y (ws_ y bytes maxL ret))) (hy : y.cls ≠ "java/lang/invoke/MethodHandle" ∧ y.cls ≠ "java/lang/invoke/VarHandle" ∧ (parseMethodDescriptor y.desc).map (fun d => d.parameters.length) = some 1) (hk : k + 1 ≤ lev) (hL : maxL ≤ 7) (hv : vs.length = nL) (hst : (st.map fun v => v.category).sum ≤ 8) (hd : decode cc pc = .ok (.invokestatic index, 3))
    (kk : ∀ (r : Int32), post r () → JJ p l e s m args below meth c D A lev Qc w0 (pc + 3) vs (.int r :: st)) : JJ p l e s m args below meth c D A lev Qc w0 pc vs (.int x :: st) := j_callS (As := [.int x]) C hM hG hy rfl hk hL hv hst hd kk
end Cs
theorem nI_m2 {q : Nat} (h : q < 2 ^ 31) : nI q ≠ -2 := fun e => by
  have h1 := nI_pos h
  rw [e] at h1
  exact h1 (by decide)
theorem nI_m1 {q : Nat} (h : q < 2 ^ 31) : nI q ≠ -1 := fun e => by
  have h1 := nI_pos h
  rw [e] at h1
  exact h1 (by decide)
theorem nI_16 : ∀ k, k < 65 → nI k &&& (-16) = nI (16 * (k / 16)) := by decide +kernel
theorem nI_15 : ∀ k, k < 65 → nI k &&& nI 15 = nI (k % 16) := by decide +kernel
theorem nI_s4 : ∀ k, k < 65 → nI k >>> (nI 4 &&& 31) = nI (k / 16) := by decide +kernel
theorem gap_of {x : Int32} {n : Nat} (hn : n ≤ 64) (h : ¬ x < 0 ∧ ¬ nI n < x) : ∃ j : Nat, j ≤ n ∧ x = nI j := by
  obtain ⟨j, h1, h2⟩ := nI_of h.1
  refine ⟨j, ?_, h2⟩
  have h3 := h.2
  rw [h2] at h3
  exact Nat.not_lt.mp (fun q => h3 ((nI_ltI (by omega) h1).mpr q))
theorem place_of {x : Int32} {n : Nat} (hn : n ≤ 64) (h : ¬ x < 0 ∧ ¬ nI n ≤ x) : ∃ j : Nat, j < n ∧ x = nI j := by
  obtain ⟨j, h1, h2⟩ := nI_of h.1
  refine ⟨j, ?_, h2⟩
  have h3 := h.2
  rw [h2] at h3
  exact Nat.not_le.mp (fun q => h3 ((nI_leI (by omega) h1).mpr q))
theorem gap_is {n j : Nat} (hn : n ≤ 64) (h : j ≤ n) : ¬ nI j < 0 ∧ ¬ nI n < nI j := ⟨nI_pos (by omega), nI_nlt h (by omega)⟩
theorem place_is {n j : Nat} (hn : n ≤ 64) (h : j < n) : ¬ nI j < 0 ∧ ¬ nI n ≤ nI j := ⟨nI_pos (by omega), nI_ge h (by omega)⟩
theorem oI_some {d : Int32} {k : Nat} : oI d (some k) = nI k := rfl
theorem oI_none {d : Int32} : oI d none = d := rfl
/-! roles, by cases -/
theorem rl_6 {t : Nat → Int32} {i : Nat} (h0 : md t i = 0) (h : es t i = true ∨ t i = nI 0 ∨ t i = nI 5) : rl t i = 6 := by unfold rl; rw [if_pos h0, if_pos h]
theorem rl_1 {t : Nat → Int32} {i : Nat} (h0 : md t i = 0) (h : ¬ (es t i = true ∨ t i = nI 0 ∨ t i = nI 5)) (h2 : t i = nI 2) : rl t i = 1 := by unfold rl; rw [if_pos h0, if_neg h, if_pos h2]
theorem rl_2 {t : Nat → Int32} {i : Nat} (h0 : md t i = 0) (h : ¬ (es t i = true ∨ t i = nI 0 ∨ t i = nI 5)) (h3 : t i = nI 3) (hs : sk t i ≠ []) : rl t i = 2 := by unfold rl; rw [if_pos h0, if_neg h, if_neg (by rw [h3]; exact c_ne (by omega) (by omega) (by omega)), if_pos h3, if_neg hs]
theorem rl_3 {t : Nat → Int32} {i : Nat} (h0 : md t i = 0) (h : ¬ (es t i = true ∨ t i = nI 0 ∨ t i = nI 5)) (h3 : t i = nI 3) (hs : sk t i = []) : rl t i = 3 := by unfold rl; rw [if_pos h0, if_neg h, if_neg (by rw [h3]; exact c_ne (by omega) (by omega) (by omega)), if_pos h3, if_pos hs]
theorem rl_4 {t : Nat → Int32} {i : Nat} (h0 : md t i = 0) (h : ¬ (es t i = true ∨ t i = nI 0 ∨ t i = nI 5)) (h4 : t i = nI 4) : rl t i = 4 := by unfold rl; rw [if_pos h0, if_neg h, if_neg (by rw [h4]; exact c_ne (by omega) (by omega) (by omega)), if_neg (by rw [h4]; exact c_ne (by omega) (by omega) (by omega)), if_pos h4]
theorem rl_0 {t : Nat → Int32} {i : Nat} (h0 : md t i = 0) (h : ¬ (es t i = true ∨ t i = nI 0 ∨ t i = nI 5)) (h2 : ¬ t i = nI 2) (h3 : ¬ t i = nI 3) (h4 : ¬ t i = nI 4) : rl t i = 0 := by unfold rl; rw [if_pos h0, if_neg h, if_neg h2, if_neg h3, if_neg h4]
theorem rl_5 {t : Nat → Int32} {i : Nat} (h0 : md t i = 1) (h : es t i = false) (h4 : t i = nI 4) : rl t i = 5 := by unfold rl; rw [if_neg (by omega), if_pos ⟨h0, h, h4⟩]
theorem rl_00 {t : Nat → Int32} {i : Nat} (h0 : ¬ md t i = 0) (h : ¬ (md t i = 1 ∧ es t i = false ∧ t i = nI 4)) : rl t i = 0 := by unfold rl; rw [if_neg h0, if_neg h]
theorem upd_s {f : Nat → Int32} {k : Nat} {x : Int32} : upd f k x k = x := by simp [upd]
theorem upd_n {f : Nat → Int32} {k j : Nat} {x : Int32} (h : j ≠ k) : upd f k x j = f j := by simp [upd, h]
/-- what the arrays of a SexpMotion hold when k characters are known -/
def XI (t : Nat → Int32) (k : Nat) (role par aro kM kE kI : Nat → Int32) : Prop :=
  (∀ i, i < k → role i = nI (rl t i)) ∧ (∀ i, i < k → rl t i = 1 → aro i = oI (-2) (sk t i).head?) ∧ (∀ i, i < k → par i = oI (-2) (pn t k i)) ∧ ∀ j, 16 * j ≤ k → kM j = nI (md t (16 * j)) ∧ kE j = b2i (es t (16 * j)) ∧ kI j = oI (-2) (sk t (16 * j)).head?
theorem XI.aro {t : Nat → Int32} {k : Nat} {role par aro kM kE kI : Nat → Int32} (h : XI t k role par aro kM kE kI) {g : Nat} (hg : g ≤ k) {j q : Nat} {r : List Nat} (e : (sk t g).drop j = q :: r) : aro q = oI (-2) r.head? ∧ q < g := by
  obtain ⟨a, b, d⟩ := sk_drop j g q r e
  exact ⟨by rw [h.2.1 q (by omega) b, d], a⟩
end
section
set_option maxHeartbeats 4000000 in
set_option maxRecDepth 100000 in
theorem xm_isGap {l : Launch} {D : va_G} {cI cZ : ClassId} {ad : Nat → Nat} {kind role par aro kM kE kI : Nat → Int32} {len kno mo esc inn : Int32} {x : Int32} : MetI l yX0_isGap cX0_isGap 2 (some .boolean) 0 D cI cZ [.ref (ad 0), .int x] (fun _ : Unit => (XW ad cI cZ kind role par aro kM kE kI len kno mo esc inn)) (XW ad cI cZ kind role par aro kM kE kI len kno mo esc inn) (fun (r : Int32) (_ : Unit) => r = b2i (decide (¬ x < 0 ∧ ¬ len < x))) := by
  refine fun sz => j_start (Qc := fun A => (QI (fun (r : Int32) (_ : Unit) => r = b2i (decide (¬ x < 0 ∧ ¬ len < x))) (fun _ : Unit => (XW ad cI cZ kind role par aro kM kE kI len kno mo esc inn)) D cI cZ A)) [some (.inr (ad 0)), some (.inl x)] (by decide) (Nat.le_of_ble_eq_true rfl) rfl ?_ sz
  intro p e s m args below meth c A C
  have C : CC p s m args meth c D A cI cZ RX0 cX0_isGap 2 (some .boolean) := C
  refine j_iload1 (pc := 0) C dX0_isGap_0 ?_
  refine j_if_lt (tgt := 16) (pc := 1) C dX0_isGap_1 (by decide) (fun c1 => ?_) (fun c1 => ?_)
  · refine j_iconst (pc := 16) C (nI 0) dX0_isGap_16 (by decide) ?_
    refine j_top (b2i false) rfl ?_
    exact j_zret () C dX0_isGap_17 (by rw [decide_eq_false (fun q => q.1 c1)])
  · refine j_iload1 (pc := 4) C dX0_isGap_4 ?_
    refine x_ag_len (pc := 5) C dX0_isGap_5 dX0_isGap_6 ?_
    refine j_icmp_gt (tgt := 16) (pc := 9) C dX0_isGap_9 (by decide) (fun c9 => ?_) (fun c9 => ?_)
    · refine j_iconst (pc := 16) C (nI 0) dX0_isGap_16 (by decide) ?_
      refine j_top (b2i false) rfl ?_
      exact j_zret () C dX0_isGap_17 (by rw [decide_eq_false (fun q => q.2 c9)])
    · refine j_iconst (pc := 12) C (nI 1) dX0_isGap_12 (by decide) ?_
      refine j_goto (tgt := 17) (pc := 13) C dX0_isGap_13 (by decide) ?_
      refine j_top (b2i true) rfl ?_
      exact j_zret () C dX0_isGap_17 (by rw [decide_eq_true ⟨c1, c9⟩])

set_option maxHeartbeats 4000000 in
set_option maxRecDepth 100000 in
theorem xm_isPlace {l : Launch} {D : va_G} {cI cZ : ClassId} {ad : Nat → Nat} {kind role par aro kM kE kI : Nat → Int32} {len kno mo esc inn : Int32} {x : Int32} : MetI l yX0_isPlace cX0_isPlace 2 (some .boolean) 0 D cI cZ [.ref (ad 0), .int x] (fun _ : Unit => (XW ad cI cZ kind role par aro kM kE kI len kno mo esc inn)) (XW ad cI cZ kind role par aro kM kE kI len kno mo esc inn) (fun (r : Int32) (_ : Unit) => r = b2i (decide (¬ x < 0 ∧ ¬ len ≤ x))) := by
  refine fun sz => j_start (Qc := fun A => (QI (fun (r : Int32) (_ : Unit) => r = b2i (decide (¬ x < 0 ∧ ¬ len ≤ x))) (fun _ : Unit => (XW ad cI cZ kind role par aro kM kE kI len kno mo esc inn)) D cI cZ A)) [some (.inr (ad 0)), some (.inl x)] (by decide) (Nat.le_of_ble_eq_true rfl) rfl ?_ sz
  intro p e s m args below meth c A C
  have C : CC p s m args meth c D A cI cZ RX0 cX0_isPlace 2 (some .boolean) := C
  refine j_iload1 (pc := 0) C dX0_isPlace_0 ?_
  refine j_if_lt (tgt := 16) (pc := 1) C dX0_isPlace_1 (by decide) (fun c1 => ?_) (fun c1 => ?_)
  · refine j_iconst (pc := 16) C (nI 0) dX0_isPlace_16 (by decide) ?_
    refine j_top (b2i false) rfl ?_
    exact j_zret () C dX0_isPlace_17 (by rw [decide_eq_false (fun q => q.1 c1)])
  · refine j_iload1 (pc := 4) C dX0_isPlace_4 ?_
    refine x_ag_len (pc := 5) C dX0_isPlace_5 dX0_isPlace_6 ?_
    refine j_icmp_ge (tgt := 16) (pc := 9) C dX0_isPlace_9 (by decide) (fun c9 => ?_) (fun c9 => ?_)
    · refine j_iconst (pc := 16) C (nI 0) dX0_isPlace_16 (by decide) ?_
      refine j_top (b2i false) rfl ?_
      exact j_zret () C dX0_isPlace_17 (by rw [decide_eq_false (fun q => q.2 c9)])
    · refine j_iconst (pc := 12) C (nI 1) dX0_isPlace_12 (by decide) ?_
      refine j_goto (tgt := 17) (pc := 13) C dX0_isPlace_13 (by decide) ?_
      refine j_top (b2i true) rfl ?_
      exact j_zret () C dX0_isPlace_17 (by rw [decide_eq_true ⟨c1, c9⟩])

set_option maxHeartbeats 4000000 in
set_option maxRecDepth 100000 in
theorem xm_isKind {l : Launch} {D : va_G} {cI cZ : ClassId} {x : Int32} : MetI l yX0_isKind cX0_isKind 1 (some .boolean) 0 D cI cZ [.int x] (fun _ : Unit => []) [] (fun (r : Int32) (_ : Unit) => r = b2i (decide (¬ x < 0 ∧ ¬ nI 7 < x))) := by
  refine fun sz => j_start (Qc := fun A => (QI (fun (r : Int32) (_ : Unit) => r = b2i (decide (¬ x < 0 ∧ ¬ nI 7 < x))) (fun _ : Unit => []) D cI cZ A)) [some (.inl x)] (by decide) (Nat.le_of_ble_eq_true rfl) rfl ?_ sz
  intro p e s m args below meth c A C
  have C : CC p s m args meth c D A cI cZ RX0 cX0_isKind 1 (some .boolean) := C
  refine j_iload0 (pc := 0) C dX0_isKind_0 ?_
  refine j_if_lt (tgt := 14) (pc := 1) C dX0_isKind_1 (by decide) (fun c1 => ?_) (fun c1 => ?_)
  · refine j_iconst (pc := 14) C (nI 0) dX0_isKind_14 (by decide) ?_
    refine j_top (b2i false) rfl ?_
    exact j_zret () C dX0_isKind_15 (by rw [decide_eq_false (fun q => q.1 c1)])
  · refine j_iload0 (pc := 4) C dX0_isKind_4 ?_
    refine j_bipush (pc := 5) C (nI 7) dX0_isKind_5 (by decide) ?_
    refine j_icmp_gt (tgt := 14) (pc := 7) C dX0_isKind_7 (by decide) (fun c7 => ?_) (fun c7 => ?_)
    · refine j_iconst (pc := 14) C (nI 0) dX0_isKind_14 (by decide) ?_
      refine j_top (b2i false) rfl ?_
      exact j_zret () C dX0_isKind_15 (by rw [decide_eq_false (fun q => q.2 c7)])
    · refine j_iconst (pc := 10) C (nI 1) dX0_isKind_10 (by decide) ?_
      refine j_goto (tgt := 15) (pc := 11) C dX0_isKind_11 (by decide) ?_
      refine j_top (b2i true) rfl ?_
      exact j_zret () C dX0_isKind_15 (by rw [decide_eq_true ⟨c1, c7⟩])

set_option maxHeartbeats 4000000 in
set_option maxRecDepth 100000 in
theorem xm_load {l : Launch} {D : va_G} {cI cZ : ClassId} {ad : Nat → Nat} {kind role par aro kM kE kI : Nat → Int32} {len kno mo esc inn : Int32} {k : Nat} {b : Bool} (hk : k < 5) (hE : kE k = b2i b) : MetV l yX0_load cX0_load 2 0 D cI cZ [.ref (ad 0), .int (nI k)] (fun _ : Unit => (XW ad cI cZ kind role par aro kM kE kI len kno (kM k) (b2i b) (kI k))) (XW ad cI cZ kind role par aro kM kE kI len kno mo esc inn) (fun _ : Unit => True) := by
  refine fun sz => j_start (Qc := fun A => (QV (fun _ : Unit => True) (fun _ : Unit => (XW ad cI cZ kind role par aro kM kE kI len kno (kM k) (b2i b) (kI k))) D cI cZ A)) [some (.inr (ad 0)), some (.inl (nI k))] (by decide) (Nat.le_of_ble_eq_true rfl) rfl ?_ sz
  intro p e s m args below meth c A C
  have C : CC p s m args meth c D A cI cZ RX0 cX0_load 2 none := C
  refine j_aload0 (pc := 0) C dX0_load_0 ?_
  refine x_ag_kM (pc := 1) C dX0_load_1 dX0_load_2 ?_
  refine j_iload1 (pc := 5) C dX0_load_5 ?_
  refine x_ald_kM (pc := 6) C dX0_load_6 (by omega) ?_
  refine x_put_mo (pc := 7) C dX0_load_7 ?_
  refine j_aload0 (pc := 10) C dX0_load_10 ?_
  refine x_ag_kE (pc := 11) C dX0_load_11 dX0_load_12 ?_
  refine j_iload1 (pc := 15) C dX0_load_15 ?_
  refine x_ald_kE (pc := 16) C dX0_load_16 (by omega) ?_
  refine j_top (b2i b) hE ?_
  refine x_put_esc (pc := 17) C dX0_load_17 ?_
  refine j_aload0 (pc := 20) C dX0_load_20 ?_
  refine x_ag_kI (pc := 21) C dX0_load_21 dX0_load_22 ?_
  refine j_iload1 (pc := 25) C dX0_load_25 ?_
  refine x_ald_kI (pc := 26) C dX0_load_26 (by omega) ?_
  refine x_put_inn (pc := 27) C dX0_load_27 ?_
  exact j_vret () C dX0_load_30 trivial

set_option maxHeartbeats 4000000 in
set_option maxRecDepth 100000 in
theorem xm_keep {l : Launch} {D : va_G} {cI cZ : ClassId} {ad : Nat → Nat} {kind role par aro kM kE kI : Nat → Int32} {len kno mo inn : Int32} {k : Nat} {b : Bool} (hk : k < 5) : MetV l yX0_keep cX0_keep 2 0 D cI cZ [.ref (ad 0), .int (nI k)] (fun _ : Unit => (XW ad cI cZ kind role par aro (upd kM k mo) (upd kE k (b2i b)) (upd kI k inn) len kno mo (b2i b) inn)) (XW ad cI cZ kind role par aro kM kE kI len kno mo (b2i b) inn) (fun _ : Unit => True) := by
  refine fun sz => j_start (Qc := fun A => (QV (fun _ : Unit => True) (fun _ : Unit => (XW ad cI cZ kind role par aro (upd kM k mo) (upd kE k (b2i b)) (upd kI k inn) len kno mo (b2i b) inn)) D cI cZ A)) [some (.inr (ad 0)), some (.inl (nI k))] (by decide) (Nat.le_of_ble_eq_true rfl) rfl ?_ sz
  intro p e s m args below meth c A C
  have C : CC p s m args meth c D A cI cZ RX0 cX0_keep 2 none := C
  refine x_ag_kM (pc := 0) C dX0_keep_0 dX0_keep_1 ?_
  refine j_iload1 (pc := 4) C dX0_keep_4 ?_
  refine x_ag_mo (pc := 5) C dX0_keep_5 dX0_keep_6 ?_
  refine x_ast_kM (pc := 9) C dX0_keep_9 (by omega) ?_
  refine x_ag_kE (pc := 10) C dX0_keep_10 dX0_keep_11 ?_
  refine j_iload1 (pc := 14) C dX0_keep_14 ?_
  refine x_ag_esc (pc := 15) C dX0_keep_15 dX0_keep_16 ?_
  refine x_ast_kE (pc := 19) C dX0_keep_19 (by omega) ?_
  refine x_ag_kI (pc := 20) C dX0_keep_20 dX0_keep_21 ?_
  refine j_iload1 (pc := 24) C dX0_keep_24 ?_
  refine x_ag_inn (pc := 25) C dX0_keep_25 dX0_keep_26 ?_
  refine x_ast_kI (pc := 29) C dX0_keep_29 (by omega) ?_
  exact j_vret () C dX0_keep_30 trivial

set_option maxHeartbeats 4000000 in
set_option maxRecDepth 100000 in
theorem xm_note {l : Launch} {D : va_G} {cI cZ : ClassId} {ad : Nat → Nat} {kind role par aro kM kE kI : Nat → Int32} {len kno : Int32} {i : Nat} (hi : i < 64) : MetV l yX0_note cX0_note 3 0 D cI cZ [.ref (ad 0), .int (nI i)] (fun u : (Nat → Int32) × (Nat → Int32) × (Nat → Int32) => (XW ad cI cZ kind u.1 u.2.1 u.2.2 kM kE kI len kno (nI (md kind i)) (b2i (es kind i)) (oI (-2) (sk kind i).head?))) (XW ad cI cZ kind role par aro kM kE kI len kno (nI (md kind i)) (b2i (es kind i)) (oI (-2) (sk kind i).head?)) (fun u : (Nat → Int32) × (Nat → Int32) × (Nat → Int32) => (∀ j, u.1 j = if j = i then nI (rl kind i) else role j) ∧ (∀ j, u.2.1 j = if rl kind i = 2 then (if j = i then oI (-2) (sk kind i).head? else if (sk kind i).head? = some j then nI i else par j) else if j = i then -2 else par j) ∧ ∀ j, u.2.2 j = if rl kind i = 1 ∧ j = i then oI (-2) (sk kind i).head? else aro j) := by
  refine fun sz => j_start (Qc := fun A => (QV (fun u : (Nat → Int32) × (Nat → Int32) × (Nat → Int32) => (∀ j, u.1 j = if j = i then nI (rl kind i) else role j) ∧ (∀ j, u.2.1 j = if rl kind i = 2 then (if j = i then oI (-2) (sk kind i).head? else if (sk kind i).head? = some j then nI i else par j) else if j = i then -2 else par j) ∧ ∀ j, u.2.2 j = if rl kind i = 1 ∧ j = i then oI (-2) (sk kind i).head? else aro j) (fun u : (Nat → Int32) × (Nat → Int32) × (Nat → Int32) => (XW ad cI cZ kind u.1 u.2.1 u.2.2 kM kE kI len kno (nI (md kind i)) (b2i (es kind i)) (oI (-2) (sk kind i).head?))) D cI cZ A)) [some (.inr (ad 0)), some (.inl (nI i)), none] (by decide) (Nat.le_of_ble_eq_true rfl) rfl ?_ sz
  intro p e s m args below meth c A C
  have C : CC p s m args meth c D A cI cZ RX0 cX0_note 3 none := C
  have hmd := md_le kind i
  refine x_ag_kind (pc := 0) C dX0_note_0 dX0_note_1 ?_
  refine j_iload1 (pc := 4) C dX0_note_4 ?_
  refine x_ald_kind (pc := 5) C dX0_note_5 (by omega) ?_
  refine j_istore2 (pc := 6) C dX0_note_6 ?_
  cases hs : sk kind i with
  | nil =>
    show JJ _ _ _ _ _ _ _ _ _ _ _ _ _ (XW ad cI cZ kind role par aro kM kE kI len kno (nI (md kind i)) (b2i (es kind i)) (-2)) 7 _ _
    refine x_ag_role (pc := 7) C dX0_note_7 dX0_note_8 ?_
    refine j_iload1 (pc := 11) C dX0_note_11 ?_
    refine j_iconst (pc := 12) C (nI 0) dX0_note_12 (by decide) ?_
    refine x_ast_role (pc := 13) C dX0_note_13 (by omega) ?_
    refine x_ag_par (pc := 14) C dX0_note_14 dX0_note_15 ?_
    refine j_iload1 (pc := 18) C dX0_note_18 ?_
    refine j_bipush (pc := 19) C (-2) dX0_note_19 (by decide) ?_
    refine x_ast_par (pc := 21) C dX0_note_21 (by omega) ?_
    refine x_ag_mo (pc := 22) C dX0_note_22 dX0_note_23 ?_
    refine j_ifN_ne (tgt := 153) (pc := 26) C dX0_note_26 (by decide) (by omega) (fun c26 => ?_) (fun c26 => ?_)
    · refine x_ag_mo (pc := 153) C dX0_note_153 dX0_note_154 ?_
      refine j_iconst (pc := 157) C (nI 1) dX0_note_157 (by decide) ?_
      refine j_icmpN_ne (tgt := 180) (pc := 158) C dX0_note_158 (by decide) (by omega) (by omega) (fun c158 => ?_) (fun c158 => ?_)
      · have hr : rl kind i = 0 := rl_00 c26 (fun h => c158 h.1)
        refine j_vret ((upd role i (nI 0)), (upd par i (-2)), aro) C dX0_note_180 ⟨?_, ?_, ?_⟩
        all_goals (intro j; simp only [upd, hr, hs, List.head?_nil, List.head?_cons, oI, Option.some.injEq]; (try simp); (try grind))
      · refine x_ag_esc (pc := 161) C dX0_note_161 dX0_note_162 ?_
        refine j_ifB_ne (tgt := 180) (pc := 165) C dX0_note_165 (by decide) (fun c165 => ?_) (fun c165 => ?_)
        · have hr : rl kind i = 0 := rl_00 c26 (fun h => by rw [c165] at h; cases h.2.1)
          refine j_vret ((upd role i (nI 0)), (upd par i (-2)), aro) C dX0_note_180 ⟨?_, ?_, ?_⟩
          all_goals (intro j; simp only [upd, hr, hs, List.head?_nil, List.head?_cons, oI, Option.some.injEq]; (try simp); (try grind))
        · refine j_iload2 (pc := 168) C dX0_note_168 ?_
          refine j_iconst (pc := 169) C (nI 4) dX0_note_169 (by decide) ?_
          refine j_icmp_ne (tgt := 180) (pc := 170) C dX0_note_170 (by decide) (fun c170 => ?_) (fun c170 => ?_)
          · have hr : rl kind i = 0 := rl_00 c26 (fun h => c170 h.2.2)
            refine j_vret ((upd role i (nI 0)), (upd par i (-2)), aro) C dX0_note_180 ⟨?_, ?_, ?_⟩
            all_goals (intro j; simp only [upd, hr, hs, List.head?_nil, List.head?_cons, oI, Option.some.injEq]; (try simp); (try grind))
          · refine x_ag_role (pc := 173) C dX0_note_173 dX0_note_174 ?_
            refine j_iload1 (pc := 177) C dX0_note_177 ?_
            refine j_iconst (pc := 178) C (nI 5) dX0_note_178 (by decide) ?_
            refine x_ast_role (pc := 179) C dX0_note_179 (by omega) ?_
            have hr : rl kind i = 5 := rl_5 c158 c165 c170
            refine j_vret ((upd (upd role i (nI 0)) i (nI 5)), (upd par i (-2)), aro) C dX0_note_180 ⟨?_, ?_, ?_⟩
            all_goals (intro j; simp only [upd, hr, hs, List.head?_nil, List.head?_cons, oI, Option.some.injEq]; (try simp); (try grind))
    · refine x_ag_esc (pc := 29) C dX0_note_29 dX0_note_30 ?_
      refine j_ifB_ne (tgt := 45) (pc := 33) C dX0_note_33 (by decide) (fun c33 => ?_) (fun c33 => ?_)
      · refine x_ag_role (pc := 45) C dX0_note_45 dX0_note_46 ?_
        refine j_iload1 (pc := 49) C dX0_note_49 ?_
        refine j_bipush (pc := 50) C (nI 6) dX0_note_50 (by decide) ?_
        refine x_ast_role (pc := 52) C dX0_note_52 (by omega) ?_
        refine j_goto (tgt := 180) (pc := 53) C dX0_note_53 (by decide) ?_
        have hr : rl kind i = 6 := rl_6 c26 (Or.inl c33)
        refine j_vret ((upd (upd role i (nI 0)) i (nI 6)), (upd par i (-2)), aro) C dX0_note_180 ⟨?_, ?_, ?_⟩
        all_goals (intro j; simp only [upd, hr, hs, List.head?_nil, List.head?_cons, oI, Option.some.injEq]; (try simp); (try grind))
      · refine j_iload2 (pc := 36) C dX0_note_36 ?_
        refine j_if_eq (tgt := 45) (pc := 37) C dX0_note_37 (by decide) (fun c37 => ?_) (fun c37 => ?_)
        · refine x_ag_role (pc := 45) C dX0_note_45 dX0_note_46 ?_
          refine j_iload1 (pc := 49) C dX0_note_49 ?_
          refine j_bipush (pc := 50) C (nI 6) dX0_note_50 (by decide) ?_
          refine x_ast_role (pc := 52) C dX0_note_52 (by omega) ?_
          refine j_goto (tgt := 180) (pc := 53) C dX0_note_53 (by decide) ?_
          have hr : rl kind i = 6 := rl_6 c26 (Or.inr (Or.inl c37))
          refine j_vret ((upd (upd role i (nI 0)) i (nI 6)), (upd par i (-2)), aro) C dX0_note_180 ⟨?_, ?_, ?_⟩
          all_goals (intro j; simp only [upd, hr, hs, List.head?_nil, List.head?_cons, oI, Option.some.injEq]; (try simp); (try grind))
        · refine j_iload2 (pc := 40) C dX0_note_40 ?_
          refine j_iconst (pc := 41) C (nI 5) dX0_note_41 (by decide) ?_
          refine j_icmp_ne (tgt := 56) (pc := 42) C dX0_note_42 (by decide) (fun c42 => ?_) (fun c42 => ?_)
          · refine j_iload2 (pc := 56) C dX0_note_56 ?_
            refine j_iconst (pc := 57) C (nI 2) dX0_note_57 (by decide) ?_
            refine j_icmp_ne (tgt := 81) (pc := 58) C dX0_note_58 (by decide) (fun c58 => ?_) (fun c58 => ?_)
            · refine j_iload2 (pc := 81) C dX0_note_81 ?_
              refine j_iconst (pc := 82) C (nI 3) dX0_note_82 (by decide) ?_
              refine j_icmp_ne (tgt := 138) (pc := 83) C dX0_note_83 (by decide) (fun c83 => ?_) (fun c83 => ?_)
              · refine j_iload2 (pc := 138) C dX0_note_138 ?_
                refine j_iconst (pc := 139) C (nI 4) dX0_note_139 (by decide) ?_
                refine j_icmp_ne (tgt := 180) (pc := 140) C dX0_note_140 (by decide) (fun c140 => ?_) (fun c140 => ?_)
                · have hr : rl kind i = 0 := rl_0 c26 (fun h => h.elim (fun h => by rw [c33] at h; cases h) (fun h => h.elim c37 c42)) c58 c83 c140
                  refine j_vret ((upd role i (nI 0)), (upd par i (-2)), aro) C dX0_note_180 ⟨?_, ?_, ?_⟩
                  all_goals (intro j; simp only [upd, hr, hs, List.head?_nil, List.head?_cons, oI, Option.some.injEq]; (try simp); (try grind))
                · refine x_ag_role (pc := 143) C dX0_note_143 dX0_note_144 ?_
                  refine j_iload1 (pc := 147) C dX0_note_147 ?_
                  refine j_iconst (pc := 148) C (nI 4) dX0_note_148 (by decide) ?_
                  refine x_ast_role (pc := 149) C dX0_note_149 (by omega) ?_
                  refine j_goto (tgt := 180) (pc := 150) C dX0_note_150 (by decide) ?_
                  have hr : rl kind i = 4 := rl_4 c26 (fun h => h.elim (fun h => by rw [c33] at h; cases h) (fun h => h.elim c37 c42)) c140
                  refine j_vret ((upd (upd role i (nI 0)) i (nI 4)), (upd par i (-2)), aro) C dX0_note_180 ⟨?_, ?_, ?_⟩
                  all_goals (intro j; simp only [upd, hr, hs, List.head?_nil, List.head?_cons, oI, Option.some.injEq]; (try simp); (try grind))
              · refine x_ag_role (pc := 86) C dX0_note_86 dX0_note_87 ?_
                refine j_iload1 (pc := 90) C dX0_note_90 ?_
                refine x_ag_inn (pc := 91) C dX0_note_91 dX0_note_92 ?_
                refine j_bipush (pc := 95) C (-2) dX0_note_95 (by decide) ?_
                refine j_icmp_ne (tgt := 104) (pc := 97) C dX0_note_97 (by decide) (fun c97 => ?_) (fun c97 => ?_)
                · exact absurd rfl c97
                · refine j_iconst (pc := 100) C (nI 3) dX0_note_100 (by decide) ?_
                  refine j_goto (tgt := 105) (pc := 101) C dX0_note_101 (by decide) ?_
                  refine x_ast_role (pc := 105) C dX0_note_105 (by omega) ?_
                  refine x_ag_inn (pc := 106) C dX0_note_106 dX0_note_107 ?_
                  refine j_bipush (pc := 110) C (-2) dX0_note_110 (by decide) ?_
                  refine j_icmp_eq (tgt := 180) (pc := 112) C dX0_note_112 (by decide) (fun c112 => ?_) (fun c112 => ?_)
                  · have hr : rl kind i = 3 := rl_3 c26 (fun h => h.elim (fun h => by rw [c33] at h; cases h) (fun h => h.elim c37 c42)) c83 hs
                    refine j_vret ((upd (upd role i (nI 0)) i (nI 3)), (upd par i (-2)), aro) C dX0_note_180 ⟨?_, ?_, ?_⟩
                    all_goals (intro j; simp only [upd, hr, hs, List.head?_nil, List.head?_cons, oI, Option.some.injEq]; (try simp); (try grind))
                  · exact absurd rfl c112
            · refine x_ag_role (pc := 61) C dX0_note_61 dX0_note_62 ?_
              refine j_iload1 (pc := 65) C dX0_note_65 ?_
              refine j_iconst (pc := 66) C (nI 1) dX0_note_66 (by decide) ?_
              refine x_ast_role (pc := 67) C dX0_note_67 (by omega) ?_
              refine x_ag_aro (pc := 68) C dX0_note_68 dX0_note_69 ?_
              refine j_iload1 (pc := 72) C dX0_note_72 ?_
              refine x_ag_inn (pc := 73) C dX0_note_73 dX0_note_74 ?_
              refine x_ast_aro (pc := 77) C dX0_note_77 (by omega) ?_
              refine j_goto (tgt := 180) (pc := 78) C dX0_note_78 (by decide) ?_
              have hr : rl kind i = 1 := rl_1 c26 (fun h => h.elim (fun h => by rw [c33] at h; cases h) (fun h => h.elim c37 c42)) c58
              refine j_vret ((upd (upd role i (nI 0)) i (nI 1)), (upd par i (-2)), (upd aro i (-2))) C dX0_note_180 ⟨?_, ?_, ?_⟩
              all_goals (intro j; simp only [upd, hr, hs, List.head?_nil, List.head?_cons, oI, Option.some.injEq]; (try simp); (try grind))
          · refine x_ag_role (pc := 45) C dX0_note_45 dX0_note_46 ?_
            refine j_iload1 (pc := 49) C dX0_note_49 ?_
            refine j_bipush (pc := 50) C (nI 6) dX0_note_50 (by decide) ?_
            refine x_ast_role (pc := 52) C dX0_note_52 (by omega) ?_
            refine j_goto (tgt := 180) (pc := 53) C dX0_note_53 (by decide) ?_
            have hr : rl kind i = 6 := rl_6 c26 (Or.inr (Or.inr c42))
            refine j_vret ((upd (upd role i (nI 0)) i (nI 6)), (upd par i (-2)), aro) C dX0_note_180 ⟨?_, ?_, ?_⟩
            all_goals (intro j; simp only [upd, hr, hs, List.head?_nil, List.head?_cons, oI, Option.some.injEq]; (try simp); (try grind))
  | cons q rr =>
    have hq := sk_lt hs
    show JJ _ _ _ _ _ _ _ _ _ _ _ _ _ (XW ad cI cZ kind role par aro kM kE kI len kno (nI (md kind i)) (b2i (es kind i)) (nI q)) 7 _ _
    refine x_ag_role (pc := 7) C dX0_note_7 dX0_note_8 ?_
    refine j_iload1 (pc := 11) C dX0_note_11 ?_
    refine j_iconst (pc := 12) C (nI 0) dX0_note_12 (by decide) ?_
    refine x_ast_role (pc := 13) C dX0_note_13 (by omega) ?_
    refine x_ag_par (pc := 14) C dX0_note_14 dX0_note_15 ?_
    refine j_iload1 (pc := 18) C dX0_note_18 ?_
    refine j_bipush (pc := 19) C (-2) dX0_note_19 (by decide) ?_
    refine x_ast_par (pc := 21) C dX0_note_21 (by omega) ?_
    refine x_ag_mo (pc := 22) C dX0_note_22 dX0_note_23 ?_
    refine j_ifN_ne (tgt := 153) (pc := 26) C dX0_note_26 (by decide) (by omega) (fun c26 => ?_) (fun c26 => ?_)
    · refine x_ag_mo (pc := 153) C dX0_note_153 dX0_note_154 ?_
      refine j_iconst (pc := 157) C (nI 1) dX0_note_157 (by decide) ?_
      refine j_icmpN_ne (tgt := 180) (pc := 158) C dX0_note_158 (by decide) (by omega) (by omega) (fun c158 => ?_) (fun c158 => ?_)
      · have hr : rl kind i = 0 := rl_00 c26 (fun h => c158 h.1)
        refine j_vret ((upd role i (nI 0)), (upd par i (-2)), aro) C dX0_note_180 ⟨?_, ?_, ?_⟩
        all_goals (intro j; simp only [upd, hr, hs, List.head?_nil, List.head?_cons, oI, Option.some.injEq]; (try simp); (try grind))
      · refine x_ag_esc (pc := 161) C dX0_note_161 dX0_note_162 ?_
        refine j_ifB_ne (tgt := 180) (pc := 165) C dX0_note_165 (by decide) (fun c165 => ?_) (fun c165 => ?_)
        · have hr : rl kind i = 0 := rl_00 c26 (fun h => by rw [c165] at h; cases h.2.1)
          refine j_vret ((upd role i (nI 0)), (upd par i (-2)), aro) C dX0_note_180 ⟨?_, ?_, ?_⟩
          all_goals (intro j; simp only [upd, hr, hs, List.head?_nil, List.head?_cons, oI, Option.some.injEq]; (try simp); (try grind))
        · refine j_iload2 (pc := 168) C dX0_note_168 ?_
          refine j_iconst (pc := 169) C (nI 4) dX0_note_169 (by decide) ?_
          refine j_icmp_ne (tgt := 180) (pc := 170) C dX0_note_170 (by decide) (fun c170 => ?_) (fun c170 => ?_)
          · have hr : rl kind i = 0 := rl_00 c26 (fun h => c170 h.2.2)
            refine j_vret ((upd role i (nI 0)), (upd par i (-2)), aro) C dX0_note_180 ⟨?_, ?_, ?_⟩
            all_goals (intro j; simp only [upd, hr, hs, List.head?_nil, List.head?_cons, oI, Option.some.injEq]; (try simp); (try grind))
          · refine x_ag_role (pc := 173) C dX0_note_173 dX0_note_174 ?_
            refine j_iload1 (pc := 177) C dX0_note_177 ?_
            refine j_iconst (pc := 178) C (nI 5) dX0_note_178 (by decide) ?_
            refine x_ast_role (pc := 179) C dX0_note_179 (by omega) ?_
            have hr : rl kind i = 5 := rl_5 c158 c165 c170
            refine j_vret ((upd (upd role i (nI 0)) i (nI 5)), (upd par i (-2)), aro) C dX0_note_180 ⟨?_, ?_, ?_⟩
            all_goals (intro j; simp only [upd, hr, hs, List.head?_nil, List.head?_cons, oI, Option.some.injEq]; (try simp); (try grind))
    · refine x_ag_esc (pc := 29) C dX0_note_29 dX0_note_30 ?_
      refine j_ifB_ne (tgt := 45) (pc := 33) C dX0_note_33 (by decide) (fun c33 => ?_) (fun c33 => ?_)
      · refine x_ag_role (pc := 45) C dX0_note_45 dX0_note_46 ?_
        refine j_iload1 (pc := 49) C dX0_note_49 ?_
        refine j_bipush (pc := 50) C (nI 6) dX0_note_50 (by decide) ?_
        refine x_ast_role (pc := 52) C dX0_note_52 (by omega) ?_
        refine j_goto (tgt := 180) (pc := 53) C dX0_note_53 (by decide) ?_
        have hr : rl kind i = 6 := rl_6 c26 (Or.inl c33)
        refine j_vret ((upd (upd role i (nI 0)) i (nI 6)), (upd par i (-2)), aro) C dX0_note_180 ⟨?_, ?_, ?_⟩
        all_goals (intro j; simp only [upd, hr, hs, List.head?_nil, List.head?_cons, oI, Option.some.injEq]; (try simp); (try grind))
      · refine j_iload2 (pc := 36) C dX0_note_36 ?_
        refine j_if_eq (tgt := 45) (pc := 37) C dX0_note_37 (by decide) (fun c37 => ?_) (fun c37 => ?_)
        · refine x_ag_role (pc := 45) C dX0_note_45 dX0_note_46 ?_
          refine j_iload1 (pc := 49) C dX0_note_49 ?_
          refine j_bipush (pc := 50) C (nI 6) dX0_note_50 (by decide) ?_
          refine x_ast_role (pc := 52) C dX0_note_52 (by omega) ?_
          refine j_goto (tgt := 180) (pc := 53) C dX0_note_53 (by decide) ?_
          have hr : rl kind i = 6 := rl_6 c26 (Or.inr (Or.inl c37))
          refine j_vret ((upd (upd role i (nI 0)) i (nI 6)), (upd par i (-2)), aro) C dX0_note_180 ⟨?_, ?_, ?_⟩
          all_goals (intro j; simp only [upd, hr, hs, List.head?_nil, List.head?_cons, oI, Option.some.injEq]; (try simp); (try grind))
        · refine j_iload2 (pc := 40) C dX0_note_40 ?_
          refine j_iconst (pc := 41) C (nI 5) dX0_note_41 (by decide) ?_
          refine j_icmp_ne (tgt := 56) (pc := 42) C dX0_note_42 (by decide) (fun c42 => ?_) (fun c42 => ?_)
          · refine j_iload2 (pc := 56) C dX0_note_56 ?_
            refine j_iconst (pc := 57) C (nI 2) dX0_note_57 (by decide) ?_
            refine j_icmp_ne (tgt := 81) (pc := 58) C dX0_note_58 (by decide) (fun c58 => ?_) (fun c58 => ?_)
            · refine j_iload2 (pc := 81) C dX0_note_81 ?_
              refine j_iconst (pc := 82) C (nI 3) dX0_note_82 (by decide) ?_
              refine j_icmp_ne (tgt := 138) (pc := 83) C dX0_note_83 (by decide) (fun c83 => ?_) (fun c83 => ?_)
              · refine j_iload2 (pc := 138) C dX0_note_138 ?_
                refine j_iconst (pc := 139) C (nI 4) dX0_note_139 (by decide) ?_
                refine j_icmp_ne (tgt := 180) (pc := 140) C dX0_note_140 (by decide) (fun c140 => ?_) (fun c140 => ?_)
                · have hr : rl kind i = 0 := rl_0 c26 (fun h => h.elim (fun h => by rw [c33] at h; cases h) (fun h => h.elim c37 c42)) c58 c83 c140
                  refine j_vret ((upd role i (nI 0)), (upd par i (-2)), aro) C dX0_note_180 ⟨?_, ?_, ?_⟩
                  all_goals (intro j; simp only [upd, hr, hs, List.head?_nil, List.head?_cons, oI, Option.some.injEq]; (try simp); (try grind))
                · refine x_ag_role (pc := 143) C dX0_note_143 dX0_note_144 ?_
                  refine j_iload1 (pc := 147) C dX0_note_147 ?_
                  refine j_iconst (pc := 148) C (nI 4) dX0_note_148 (by decide) ?_
                  refine x_ast_role (pc := 149) C dX0_note_149 (by omega) ?_
                  refine j_goto (tgt := 180) (pc := 150) C dX0_note_150 (by decide) ?_
                  have hr : rl kind i = 4 := rl_4 c26 (fun h => h.elim (fun h => by rw [c33] at h; cases h) (fun h => h.elim c37 c42)) c140
                  refine j_vret ((upd (upd role i (nI 0)) i (nI 4)), (upd par i (-2)), aro) C dX0_note_180 ⟨?_, ?_, ?_⟩
                  all_goals (intro j; simp only [upd, hr, hs, List.head?_nil, List.head?_cons, oI, Option.some.injEq]; (try simp); (try grind))
              · refine x_ag_role (pc := 86) C dX0_note_86 dX0_note_87 ?_
                refine j_iload1 (pc := 90) C dX0_note_90 ?_
                refine x_ag_inn (pc := 91) C dX0_note_91 dX0_note_92 ?_
                refine j_bipush (pc := 95) C (-2) dX0_note_95 (by decide) ?_
                refine j_icmp_ne (tgt := 104) (pc := 97) C dX0_note_97 (by decide) (fun c97 => ?_) (fun c97 => ?_)
                · refine j_iconst (pc := 104) C (nI 2) dX0_note_104 (by decide) ?_
                  refine x_ast_role (pc := 105) C dX0_note_105 (by omega) ?_
                  refine x_ag_inn (pc := 106) C dX0_note_106 dX0_note_107 ?_
                  refine j_bipush (pc := 110) C (-2) dX0_note_110 (by decide) ?_
                  refine j_icmp_eq (tgt := 180) (pc := 112) C dX0_note_112 (by decide) (fun c112 => ?_) (fun c112 => ?_)
                  · exact absurd c112 (nI_m2 (by omega))
                  · refine x_ag_par (pc := 115) C dX0_note_115 dX0_note_116 ?_
                    refine j_iload1 (pc := 119) C dX0_note_119 ?_
                    refine x_ag_inn (pc := 120) C dX0_note_120 dX0_note_121 ?_
                    refine x_ast_par (pc := 124) C dX0_note_124 (by omega) ?_
                    refine x_ag_par (pc := 125) C dX0_note_125 dX0_note_126 ?_
                    refine x_ag_inn (pc := 129) C dX0_note_129 dX0_note_130 ?_
                    refine j_iload1 (pc := 133) C dX0_note_133 ?_
                    refine x_ast_par (pc := 134) C dX0_note_134 (by omega) ?_
                    refine j_goto (tgt := 180) (pc := 135) C dX0_note_135 (by decide) ?_
                    have hr : rl kind i = 2 := rl_2 c26 (fun h => h.elim (fun h => by rw [c33] at h; cases h) (fun h => h.elim c37 c42)) c83 (by rw [hs]; simp)
                    refine j_vret ((upd (upd role i (nI 0)) i (nI 2)), (upd (upd (upd par i (-2)) i (nI q)) q (nI i)), aro) C dX0_note_180 ⟨?_, ?_, ?_⟩
                    all_goals (intro j; simp only [upd, hr, hs, List.head?_nil, List.head?_cons, oI, Option.some.injEq]; (try simp); (try grind))
                · exact absurd c97 (nI_m2 (by omega))
            · refine x_ag_role (pc := 61) C dX0_note_61 dX0_note_62 ?_
              refine j_iload1 (pc := 65) C dX0_note_65 ?_
              refine j_iconst (pc := 66) C (nI 1) dX0_note_66 (by decide) ?_
              refine x_ast_role (pc := 67) C dX0_note_67 (by omega) ?_
              refine x_ag_aro (pc := 68) C dX0_note_68 dX0_note_69 ?_
              refine j_iload1 (pc := 72) C dX0_note_72 ?_
              refine x_ag_inn (pc := 73) C dX0_note_73 dX0_note_74 ?_
              refine x_ast_aro (pc := 77) C dX0_note_77 (by omega) ?_
              refine j_goto (tgt := 180) (pc := 78) C dX0_note_78 (by decide) ?_
              have hr : rl kind i = 1 := rl_1 c26 (fun h => h.elim (fun h => by rw [c33] at h; cases h) (fun h => h.elim c37 c42)) c58
              refine j_vret ((upd (upd role i (nI 0)) i (nI 1)), (upd par i (-2)), (upd aro i (nI q))) C dX0_note_180 ⟨?_, ?_, ?_⟩
              all_goals (intro j; simp only [upd, hr, hs, List.head?_nil, List.head?_cons, oI, Option.some.injEq]; (try simp); (try grind))
          · refine x_ag_role (pc := 45) C dX0_note_45 dX0_note_46 ?_
            refine j_iload1 (pc := 49) C dX0_note_49 ?_
            refine j_bipush (pc := 50) C (nI 6) dX0_note_50 (by decide) ?_
            refine x_ast_role (pc := 52) C dX0_note_52 (by omega) ?_
            refine j_goto (tgt := 180) (pc := 53) C dX0_note_53 (by decide) ?_
            have hr : rl kind i = 6 := rl_6 c26 (Or.inr (Or.inr c42))
            refine j_vret ((upd (upd role i (nI 0)) i (nI 6)), (upd par i (-2)), aro) C dX0_note_180 ⟨?_, ?_, ?_⟩
            all_goals (intro j; simp only [upd, hr, hs, List.head?_nil, List.head?_cons, oI, Option.some.injEq]; (try simp); (try grind))

theorem z01 : (nI 0 = nI 1) = False := eq_false (c_ne (by omega) (by omega) (by omega))
theorem z02 : (nI 0 = nI 2) = False := eq_false (c_ne (by omega) (by omega) (by omega))
theorem z03 : (nI 0 = nI 3) = False := eq_false (c_ne (by omega) (by omega) (by omega))
theorem z04 : (nI 0 = nI 4) = False := eq_false (c_ne (by omega) (by omega) (by omega))
theorem z05 : (nI 0 = nI 5) = False := eq_false (c_ne (by omega) (by omega) (by omega))
theorem z06 : (nI 0 = nI 6) = False := eq_false (c_ne (by omega) (by omega) (by omega))
theorem z07 : (nI 0 = nI 7) = False := eq_false (c_ne (by omega) (by omega) (by omega))
theorem z10 : (nI 1 = nI 0) = False := eq_false (c_ne (by omega) (by omega) (by omega))
theorem z12 : (nI 1 = nI 2) = False := eq_false (c_ne (by omega) (by omega) (by omega))
theorem z13 : (nI 1 = nI 3) = False := eq_false (c_ne (by omega) (by omega) (by omega))
theorem z14 : (nI 1 = nI 4) = False := eq_false (c_ne (by omega) (by omega) (by omega))
theorem z15 : (nI 1 = nI 5) = False := eq_false (c_ne (by omega) (by omega) (by omega))
theorem z16 : (nI 1 = nI 6) = False := eq_false (c_ne (by omega) (by omega) (by omega))
theorem z17 : (nI 1 = nI 7) = False := eq_false (c_ne (by omega) (by omega) (by omega))
theorem z20 : (nI 2 = nI 0) = False := eq_false (c_ne (by omega) (by omega) (by omega))
theorem z21 : (nI 2 = nI 1) = False := eq_false (c_ne (by omega) (by omega) (by omega))
theorem z23 : (nI 2 = nI 3) = False := eq_false (c_ne (by omega) (by omega) (by omega))
theorem z24 : (nI 2 = nI 4) = False := eq_false (c_ne (by omega) (by omega) (by omega))
theorem z25 : (nI 2 = nI 5) = False := eq_false (c_ne (by omega) (by omega) (by omega))
theorem z26 : (nI 2 = nI 6) = False := eq_false (c_ne (by omega) (by omega) (by omega))
theorem z27 : (nI 2 = nI 7) = False := eq_false (c_ne (by omega) (by omega) (by omega))
theorem z30 : (nI 3 = nI 0) = False := eq_false (c_ne (by omega) (by omega) (by omega))
theorem z31 : (nI 3 = nI 1) = False := eq_false (c_ne (by omega) (by omega) (by omega))
theorem z32 : (nI 3 = nI 2) = False := eq_false (c_ne (by omega) (by omega) (by omega))
theorem z34 : (nI 3 = nI 4) = False := eq_false (c_ne (by omega) (by omega) (by omega))
theorem z35 : (nI 3 = nI 5) = False := eq_false (c_ne (by omega) (by omega) (by omega))
theorem z36 : (nI 3 = nI 6) = False := eq_false (c_ne (by omega) (by omega) (by omega))
theorem z37 : (nI 3 = nI 7) = False := eq_false (c_ne (by omega) (by omega) (by omega))
theorem z40 : (nI 4 = nI 0) = False := eq_false (c_ne (by omega) (by omega) (by omega))
theorem z41 : (nI 4 = nI 1) = False := eq_false (c_ne (by omega) (by omega) (by omega))
theorem z42 : (nI 4 = nI 2) = False := eq_false (c_ne (by omega) (by omega) (by omega))
theorem z43 : (nI 4 = nI 3) = False := eq_false (c_ne (by omega) (by omega) (by omega))
theorem z45 : (nI 4 = nI 5) = False := eq_false (c_ne (by omega) (by omega) (by omega))
theorem z46 : (nI 4 = nI 6) = False := eq_false (c_ne (by omega) (by omega) (by omega))
theorem z47 : (nI 4 = nI 7) = False := eq_false (c_ne (by omega) (by omega) (by omega))
theorem z50 : (nI 5 = nI 0) = False := eq_false (c_ne (by omega) (by omega) (by omega))
theorem z51 : (nI 5 = nI 1) = False := eq_false (c_ne (by omega) (by omega) (by omega))
theorem z52 : (nI 5 = nI 2) = False := eq_false (c_ne (by omega) (by omega) (by omega))
theorem z53 : (nI 5 = nI 3) = False := eq_false (c_ne (by omega) (by omega) (by omega))
theorem z54 : (nI 5 = nI 4) = False := eq_false (c_ne (by omega) (by omega) (by omega))
theorem z56 : (nI 5 = nI 6) = False := eq_false (c_ne (by omega) (by omega) (by omega))
theorem z57 : (nI 5 = nI 7) = False := eq_false (c_ne (by omega) (by omega) (by omega))
theorem z60 : (nI 6 = nI 0) = False := eq_false (c_ne (by omega) (by omega) (by omega))
theorem z61 : (nI 6 = nI 1) = False := eq_false (c_ne (by omega) (by omega) (by omega))
theorem z62 : (nI 6 = nI 2) = False := eq_false (c_ne (by omega) (by omega) (by omega))
theorem z63 : (nI 6 = nI 3) = False := eq_false (c_ne (by omega) (by omega) (by omega))
theorem z64 : (nI 6 = nI 4) = False := eq_false (c_ne (by omega) (by omega) (by omega))
theorem z65 : (nI 6 = nI 5) = False := eq_false (c_ne (by omega) (by omega) (by omega))
theorem z67 : (nI 6 = nI 7) = False := eq_false (c_ne (by omega) (by omega) (by omega))
theorem z70 : (nI 7 = nI 0) = False := eq_false (c_ne (by omega) (by omega) (by omega))
theorem z71 : (nI 7 = nI 1) = False := eq_false (c_ne (by omega) (by omega) (by omega))
theorem z72 : (nI 7 = nI 2) = False := eq_false (c_ne (by omega) (by omega) (by omega))
theorem z73 : (nI 7 = nI 3) = False := eq_false (c_ne (by omega) (by omega) (by omega))
theorem z74 : (nI 7 = nI 4) = False := eq_false (c_ne (by omega) (by omega) (by omega))
theorem z75 : (nI 7 = nI 5) = False := eq_false (c_ne (by omega) (by omega) (by omega))
theorem z76 : (nI 7 = nI 6) = False := eq_false (c_ne (by omega) (by omega) (by omega))

set_option maxHeartbeats 4000000 in
set_option maxRecDepth 100000 in
theorem xm_step {l : Launch} {D : va_G} {cI cZ : ClassId} {ad : Nat → Nat} {kind role par aro kM kE kI : Nat → Int32} {len kno : Int32} {i : Nat} (hi : i < 64) (ha : ∀ q r, sk kind i = q :: r → aro q = oI (-2) r.head? ∧ q < 64) : MetV l yX0_step cX0_step 3 0 D cI cZ [.ref (ad 0), .int (nI i)] (fun u : Int32 × Int32 × Int32 => (XW ad cI cZ kind role par aro kM kE kI len kno u.1 u.2.1 u.2.2)) (XW ad cI cZ kind role par aro kM kE kI len kno (nI (md kind i)) (b2i (es kind i)) (oI (-2) (sk kind i).head?)) (fun u : Int32 × Int32 × Int32 => u.1 = nI (md kind (i + 1)) ∧ u.2.1 = b2i (es kind (i + 1)) ∧ u.2.2 = oI (-2) (sk kind (i + 1)).head?) := by
  refine fun sz => j_start (Qc := fun A => (QV (fun u : Int32 × Int32 × Int32 => u.1 = nI (md kind (i + 1)) ∧ u.2.1 = b2i (es kind (i + 1)) ∧ u.2.2 = oI (-2) (sk kind (i + 1)).head?) (fun u : Int32 × Int32 × Int32 => (XW ad cI cZ kind role par aro kM kE kI len kno u.1 u.2.1 u.2.2)) D cI cZ A)) [some (.inr (ad 0)), some (.inl (nI i)), none] (by decide) (Nat.le_of_ble_eq_true rfl) rfl ?_ sz
  intro p e s m args below meth c A C
  have C : CC p s m args meth c D A cI cZ RX0 cX0_step 3 none := C
  have hmd := md_le kind i
  refine x_ag_kind (pc := 0) C dX0_step_0 dX0_step_1 ?_
  refine j_iload1 (pc := 4) C dX0_step_4 ?_
  refine x_ald_kind (pc := 5) C dX0_step_5 (by omega) ?_
  refine j_istore2 (pc := 6) C dX0_step_6 ?_
  cases hs : sk kind i with
  | nil =>
    show JJ _ _ _ _ _ _ _ _ _ _ _ _ _ (XW ad cI cZ kind role par aro kM kE kI len kno (nI (md kind i)) (b2i (es kind i)) (-2)) 7 _ _
    refine x_ag_esc (pc := 7) C dX0_step_7 dX0_step_8 ?_
    refine j_ifB_eq (tgt := 22) (pc := 11) C dX0_step_11 (by decide) (fun c11 => ?_) (fun c11 => ?_)
    · refine x_ag_mo (pc := 22) C dX0_step_22 dX0_step_23 ?_
      refine j_ifN_ne (tgt := 118) (pc := 26) C dX0_step_26 (by decide) (by omega) (fun c26 => ?_) (fun c26 => ?_)
      · refine x_ag_mo (pc := 118) C dX0_step_118 dX0_step_119 ?_
        refine j_iconst (pc := 122) C (nI 1) dX0_step_122 (by decide) ?_
        refine j_icmpN_ne (tgt := 157) (pc := 123) C dX0_step_123 (by decide) (by omega) (by omega) (fun c123 => ?_) (fun c123 => ?_)
        · refine j_iload2 (pc := 157) C dX0_step_157 ?_
          refine j_bipush (pc := 158) C (nI 7) dX0_step_158 (by decide) ?_
          refine j_icmp_ne (tgt := 168) (pc := 160) C dX0_step_160 (by decide) (fun c160 => ?_) (fun c160 => ?_)
          · obtain ⟨e1, e2, e3⟩ := st_rem c11 c26 c123
            refine j_vret ((nI (md kind i)), (b2i (es kind i)), (-2)) C dX0_step_168 ⟨?_, ?_, ?_⟩
            · show _ = _
              rw [e1]
              (try simp only [c11, c26, c123, c160, if_true, if_false, z42, z43, z62, z63, z53, z52, z54, z56, z75, z24, z26, z34, z36, z64])
            · show _ = _
              rw [e2]
              (try simp only [c11, c26, c123, c160, decide_true, decide_false, z25, z35, z45, z65])
            · show _ = _
              rw [e3]
              (try simp only [c11, c26, c123, c160, hs, if_true, if_false, List.head?_cons, List.tail_cons, List.head?_nil, List.tail_nil, oI, z32, z52, z53, z42, z43, z62, z63])
              (try exact ha.1)
          · refine j_aload0 (pc := 163) C dX0_step_163 ?_
            refine j_iconst (pc := 164) C (nI 0) dX0_step_164 (by decide) ?_
            refine x_put_mo (pc := 165) C dX0_step_165 ?_
            obtain ⟨e1, e2, e3⟩ := st_rem c11 c26 c123
            refine j_vret ((nI 0), (b2i (es kind i)), (-2)) C dX0_step_168 ⟨?_, ?_, ?_⟩
            · show _ = _
              rw [e1]
              (try simp only [c11, c26, c123, c160, if_true, if_false, z42, z43, z62, z63, z53, z52, z54, z56, z75, z24, z26, z34, z36, z64])
            · show _ = _
              rw [e2]
              (try simp only [c11, c26, c123, c160, decide_true, decide_false, z25, z35, z45, z65])
            · show _ = _
              rw [e3]
              (try simp only [c11, c26, c123, c160, hs, if_true, if_false, List.head?_cons, List.tail_cons, List.head?_nil, List.tail_nil, oI, z32, z52, z53, z42, z43, z62, z63])
              (try exact ha.1)
        · refine j_aload0 (pc := 126) C dX0_step_126 ?_
          refine j_iload2 (pc := 127) C dX0_step_127 ?_
          refine j_iconst (pc := 128) C (nI 4) dX0_step_128 (by decide) ?_
          refine j_icmp_ne (tgt := 136) (pc := 129) C dX0_step_129 (by decide) (fun c129 => ?_) (fun c129 => ?_)
          · refine j_iconst (pc := 136) C (nI 1) dX0_step_136 (by decide) ?_
            refine x_put_mo (pc := 137) C dX0_step_137 ?_
            refine j_aload0 (pc := 140) C dX0_step_140 ?_
            refine j_iload2 (pc := 141) C dX0_step_141 ?_
            refine j_iconst (pc := 142) C (nI 5) dX0_step_142 (by decide) ?_
            refine j_icmp_ne (tgt := 150) (pc := 143) C dX0_step_143 (by decide) (fun c143 => ?_) (fun c143 => ?_)
            · refine j_iconst (pc := 150) C (nI 0) dX0_step_150 (by decide) ?_
              refine j_top (b2i false) rfl ?_
              refine x_put_esc (pc := 151) C dX0_step_151 ?_
              refine j_goto (tgt := 168) (pc := 154) C dX0_step_154 (by decide) ?_
              obtain ⟨e1, e2, e3⟩ := st_str c11 c123
              refine j_vret ((nI 1), (b2i false), (-2)) C dX0_step_168 ⟨?_, ?_, ?_⟩
              · show _ = _
                rw [e1]
                (try simp only [c11, c26, c123, c129, c143, if_true, if_false, z42, z43, z62, z63, z53, z52, z54, z56, z75, z24, z26, z34, z36, z64])
              · show _ = _
                rw [e2]
                (try simp only [c11, c26, c123, c129, c143, decide_true, decide_false, z25, z35, z45, z65])
              · show _ = _
                rw [e3]
                (try simp only [c11, c26, c123, c129, c143, hs, if_true, if_false, List.head?_cons, List.tail_cons, List.head?_nil, List.tail_nil, oI, z32, z52, z53, z42, z43, z62, z63])
                (try exact ha.1)
            · refine j_iconst (pc := 146) C (nI 1) dX0_step_146 (by decide) ?_
              refine j_top (b2i true) rfl ?_
              refine j_goto (tgt := 151) (pc := 147) C dX0_step_147 (by decide) ?_
              refine x_put_esc (pc := 151) C dX0_step_151 ?_
              refine j_goto (tgt := 168) (pc := 154) C dX0_step_154 (by decide) ?_
              obtain ⟨e1, e2, e3⟩ := st_str c11 c123
              refine j_vret ((nI 1), (b2i true), (-2)) C dX0_step_168 ⟨?_, ?_, ?_⟩
              · show _ = _
                rw [e1]
                (try simp only [c11, c26, c123, c129, c143, if_true, if_false, z42, z43, z62, z63, z53, z52, z54, z56, z75, z24, z26, z34, z36, z64])
              · show _ = _
                rw [e2]
                (try simp only [c11, c26, c123, c129, c143, decide_true, decide_false, z25, z35, z45, z65])
              · show _ = _
                rw [e3]
                (try simp only [c11, c26, c123, c129, c143, hs, if_true, if_false, List.head?_cons, List.tail_cons, List.head?_nil, List.tail_nil, oI, z32, z52, z53, z42, z43, z62, z63])
                (try exact ha.1)
          · refine j_iconst (pc := 132) C (nI 0) dX0_step_132 (by decide) ?_
            refine j_goto (tgt := 137) (pc := 133) C dX0_step_133 (by decide) ?_
            refine x_put_mo (pc := 137) C dX0_step_137 ?_
            refine j_aload0 (pc := 140) C dX0_step_140 ?_
            refine j_iload2 (pc := 141) C dX0_step_141 ?_
            refine j_iconst (pc := 142) C (nI 5) dX0_step_142 (by decide) ?_
            refine j_icmp_ne (tgt := 150) (pc := 143) C dX0_step_143 (by decide) (fun c143 => ?_) (fun c143 => ?_)
            · refine j_iconst (pc := 150) C (nI 0) dX0_step_150 (by decide) ?_
              refine j_top (b2i false) rfl ?_
              refine x_put_esc (pc := 151) C dX0_step_151 ?_
              refine j_goto (tgt := 168) (pc := 154) C dX0_step_154 (by decide) ?_
              obtain ⟨e1, e2, e3⟩ := st_str c11 c123
              refine j_vret ((nI 0), (b2i false), (-2)) C dX0_step_168 ⟨?_, ?_, ?_⟩
              · show _ = _
                rw [e1]
                (try simp only [c11, c26, c123, c129, c143, if_true, if_false, z42, z43, z62, z63, z53, z52, z54, z56, z75, z24, z26, z34, z36, z64])
              · show _ = _
                rw [e2]
                (try simp only [c11, c26, c123, c129, c143, decide_true, decide_false, z25, z35, z45, z65])
              · show _ = _
                rw [e3]
                (try simp only [c11, c26, c123, c129, c143, hs, if_true, if_false, List.head?_cons, List.tail_cons, List.head?_nil, List.tail_nil, oI, z32, z52, z53, z42, z43, z62, z63])
                (try exact ha.1)
            · refine j_iconst (pc := 146) C (nI 1) dX0_step_146 (by decide) ?_
              refine j_top (b2i true) rfl ?_
              refine j_goto (tgt := 151) (pc := 147) C dX0_step_147 (by decide) ?_
              refine x_put_esc (pc := 151) C dX0_step_151 ?_
              refine j_goto (tgt := 168) (pc := 154) C dX0_step_154 (by decide) ?_
              exact absurd (c129.symm.trans c143) (c_ne (by omega) (by omega) (by omega))
      · refine j_iload2 (pc := 29) C dX0_step_29 ?_
        refine j_iconst (pc := 30) C (nI 2) dX0_step_30 (by decide) ?_
        refine j_icmp_ne (tgt := 42) (pc := 31) C dX0_step_31 (by decide) (fun c31 => ?_) (fun c31 => ?_)
        · refine j_iload2 (pc := 42) C dX0_step_42 ?_
          refine j_iconst (pc := 43) C (nI 3) dX0_step_43 (by decide) ?_
          refine j_icmp_ne (tgt := 77) (pc := 44) C dX0_step_44 (by decide) (fun c44 => ?_) (fun c44 => ?_)
          · refine j_iload2 (pc := 77) C dX0_step_77 ?_
            refine j_iconst (pc := 78) C (nI 4) dX0_step_78 (by decide) ?_
            refine j_icmp_ne (tgt := 90) (pc := 79) C dX0_step_79 (by decide) (fun c79 => ?_) (fun c79 => ?_)
            · refine j_iload2 (pc := 90) C dX0_step_90 ?_
              refine j_bipush (pc := 91) C (nI 6) dX0_step_91 (by decide) ?_
              refine j_icmp_ne (tgt := 101) (pc := 93) C dX0_step_93 (by decide) (fun c93 => ?_) (fun c93 => ?_)
              · refine j_aload0 (pc := 101) C dX0_step_101 ?_
                refine j_iload2 (pc := 102) C dX0_step_102 ?_
                refine j_iconst (pc := 103) C (nI 5) dX0_step_103 (by decide) ?_
                refine j_icmp_ne (tgt := 111) (pc := 104) C dX0_step_104 (by decide) (fun c104 => ?_) (fun c104 => ?_)
                · refine j_iconst (pc := 111) C (nI 0) dX0_step_111 (by decide) ?_
                  refine j_top (b2i false) rfl ?_
                  refine x_put_esc (pc := 112) C dX0_step_112 ?_
                  refine j_goto (tgt := 168) (pc := 115) C dX0_step_115 (by decide) ?_
                  obtain ⟨e1, e2, e3⟩ := st_plain c11 c26
                  refine j_vret ((nI (md kind i)), (b2i false), (-2)) C dX0_step_168 ⟨?_, ?_, ?_⟩
                  · show _ = _
                    rw [e1]
                    (try simp only [c11, c26, c31, c44, c79, c93, c104, if_true, if_false, z42, z43, z62, z63, z53, z52, z54, z56, z75, z24, z26, z34, z36, z64])
                  · show _ = _
                    rw [e2]
                    (try simp only [c11, c26, c31, c44, c79, c93, c104, decide_true, decide_false, z25, z35, z45, z65])
                  · show _ = _
                    rw [e3]
                    (try simp only [c11, c26, c31, c44, c79, c93, c104, hs, if_true, if_false, List.head?_cons, List.tail_cons, List.head?_nil, List.tail_nil, oI, z32, z52, z53, z42, z43, z62, z63])
                    (try exact ha.1)
                · refine j_iconst (pc := 107) C (nI 1) dX0_step_107 (by decide) ?_
                  refine j_top (b2i true) rfl ?_
                  refine j_goto (tgt := 112) (pc := 108) C dX0_step_108 (by decide) ?_
                  refine x_put_esc (pc := 112) C dX0_step_112 ?_
                  refine j_goto (tgt := 168) (pc := 115) C dX0_step_115 (by decide) ?_
                  obtain ⟨e1, e2, e3⟩ := st_plain c11 c26
                  refine j_vret ((nI (md kind i)), (b2i true), (-2)) C dX0_step_168 ⟨?_, ?_, ?_⟩
                  · show _ = _
                    rw [e1]
                    (try simp only [c11, c26, c31, c44, c79, c93, c104, if_true, if_false, z42, z43, z62, z63, z53, z52, z54, z56, z75, z24, z26, z34, z36, z64])
                  · show _ = _
                    rw [e2]
                    (try simp only [c11, c26, c31, c44, c79, c93, c104, decide_true, decide_false, z25, z35, z45, z65])
                  · show _ = _
                    rw [e3]
                    (try simp only [c11, c26, c31, c44, c79, c93, c104, hs, if_true, if_false, List.head?_cons, List.tail_cons, List.head?_nil, List.tail_nil, oI, z32, z52, z53, z42, z43, z62, z63])
                    (try exact ha.1)
              · refine j_aload0 (pc := 96) C dX0_step_96 ?_
                refine j_iconst (pc := 97) C (nI 2) dX0_step_97 (by decide) ?_
                refine x_put_mo (pc := 98) C dX0_step_98 ?_
                refine j_aload0 (pc := 101) C dX0_step_101 ?_
                refine j_iload2 (pc := 102) C dX0_step_102 ?_
                refine j_iconst (pc := 103) C (nI 5) dX0_step_103 (by decide) ?_
                refine j_icmp_ne (tgt := 111) (pc := 104) C dX0_step_104 (by decide) (fun c104 => ?_) (fun c104 => ?_)
                · refine j_iconst (pc := 111) C (nI 0) dX0_step_111 (by decide) ?_
                  refine j_top (b2i false) rfl ?_
                  refine x_put_esc (pc := 112) C dX0_step_112 ?_
                  refine j_goto (tgt := 168) (pc := 115) C dX0_step_115 (by decide) ?_
                  obtain ⟨e1, e2, e3⟩ := st_plain c11 c26
                  refine j_vret ((nI 2), (b2i false), (-2)) C dX0_step_168 ⟨?_, ?_, ?_⟩
                  · show _ = _
                    rw [e1]
                    (try simp only [c11, c26, c31, c44, c79, c93, c104, if_true, if_false, z42, z43, z62, z63, z53, z52, z54, z56, z75, z24, z26, z34, z36, z64])
                  · show _ = _
                    rw [e2]
                    (try simp only [c11, c26, c31, c44, c79, c93, c104, decide_true, decide_false, z25, z35, z45, z65])
                  · show _ = _
                    rw [e3]
                    (try simp only [c11, c26, c31, c44, c79, c93, c104, hs, if_true, if_false, List.head?_cons, List.tail_cons, List.head?_nil, List.tail_nil, oI, z32, z52, z53, z42, z43, z62, z63])
                    (try exact ha.1)
                · refine j_iconst (pc := 107) C (nI 1) dX0_step_107 (by decide) ?_
                  refine j_top (b2i true) rfl ?_
                  refine j_goto (tgt := 112) (pc := 108) C dX0_step_108 (by decide) ?_
                  refine x_put_esc (pc := 112) C dX0_step_112 ?_
                  refine j_goto (tgt := 168) (pc := 115) C dX0_step_115 (by decide) ?_
                  exact absurd (c104.symm.trans c93) (c_ne (by omega) (by omega) (by omega))
            · refine j_aload0 (pc := 82) C dX0_step_82 ?_
              refine j_iconst (pc := 83) C (nI 1) dX0_step_83 (by decide) ?_
              refine x_put_mo (pc := 84) C dX0_step_84 ?_
              refine j_goto (tgt := 101) (pc := 87) C dX0_step_87 (by decide) ?_
              refine j_aload0 (pc := 101) C dX0_step_101 ?_
              refine j_iload2 (pc := 102) C dX0_step_102 ?_
              refine j_iconst (pc := 103) C (nI 5) dX0_step_103 (by decide) ?_
              refine j_icmp_ne (tgt := 111) (pc := 104) C dX0_step_104 (by decide) (fun c104 => ?_) (fun c104 => ?_)
              · refine j_iconst (pc := 111) C (nI 0) dX0_step_111 (by decide) ?_
                refine j_top (b2i false) rfl ?_
                refine x_put_esc (pc := 112) C dX0_step_112 ?_
                refine j_goto (tgt := 168) (pc := 115) C dX0_step_115 (by decide) ?_
                obtain ⟨e1, e2, e3⟩ := st_plain c11 c26
                refine j_vret ((nI 1), (b2i false), (-2)) C dX0_step_168 ⟨?_, ?_, ?_⟩
                · show _ = _
                  rw [e1]
                  (try simp only [c11, c26, c31, c44, c79, c104, if_true, if_false, z42, z43, z62, z63, z53, z52, z54, z56, z75, z24, z26, z34, z36, z64])
                · show _ = _
                  rw [e2]
                  (try simp only [c11, c26, c31, c44, c79, c104, decide_true, decide_false, z25, z35, z45, z65])
                · show _ = _
                  rw [e3]
                  (try simp only [c11, c26, c31, c44, c79, c104, hs, if_true, if_false, List.head?_cons, List.tail_cons, List.head?_nil, List.tail_nil, oI, z32, z52, z53, z42, z43, z62, z63])
                  (try exact ha.1)
              · refine j_iconst (pc := 107) C (nI 1) dX0_step_107 (by decide) ?_
                refine j_top (b2i true) rfl ?_
                refine j_goto (tgt := 112) (pc := 108) C dX0_step_108 (by decide) ?_
                refine x_put_esc (pc := 112) C dX0_step_112 ?_
                refine j_goto (tgt := 168) (pc := 115) C dX0_step_115 (by decide) ?_
                exact absurd (c79.symm.trans c104) (c_ne (by omega) (by omega) (by omega))
          · refine j_aload0 (pc := 47) C dX0_step_47 ?_
            refine x_ag_inn (pc := 48) C dX0_step_48 dX0_step_49 ?_
            refine j_bipush (pc := 52) C (-2) dX0_step_52 (by decide) ?_
            refine j_icmp_ne (tgt := 62) (pc := 54) C dX0_step_54 (by decide) (fun c54 => ?_) (fun c54 => ?_)
            · exact absurd rfl c54
            · refine j_bipush (pc := 57) C (-2) dX0_step_57 (by decide) ?_
              refine j_goto (tgt := 71) (pc := 59) C dX0_step_59 (by decide) ?_
              refine x_put_inn (pc := 71) C dX0_step_71 ?_
              refine j_goto (tgt := 101) (pc := 74) C dX0_step_74 (by decide) ?_
              refine j_aload0 (pc := 101) C dX0_step_101 ?_
              refine j_iload2 (pc := 102) C dX0_step_102 ?_
              refine j_iconst (pc := 103) C (nI 5) dX0_step_103 (by decide) ?_
              refine j_icmp_ne (tgt := 111) (pc := 104) C dX0_step_104 (by decide) (fun c104 => ?_) (fun c104 => ?_)
              · refine j_iconst (pc := 111) C (nI 0) dX0_step_111 (by decide) ?_
                refine j_top (b2i false) rfl ?_
                refine x_put_esc (pc := 112) C dX0_step_112 ?_
                refine j_goto (tgt := 168) (pc := 115) C dX0_step_115 (by decide) ?_
                obtain ⟨e1, e2, e3⟩ := st_plain c11 c26
                refine j_vret ((nI (md kind i)), (b2i false), (-2)) C dX0_step_168 ⟨?_, ?_, ?_⟩
                · show _ = _
                  rw [e1]
                  (try simp only [c11, c26, c31, c44, c54, c104, if_true, if_false, z42, z43, z62, z63, z53, z52, z54, z56, z75, z24, z26, z34, z36, z64])
                · show _ = _
                  rw [e2]
                  (try simp only [c11, c26, c31, c44, c54, c104, decide_true, decide_false, z25, z35, z45, z65])
                · show _ = _
                  rw [e3]
                  (try simp only [c11, c26, c31, c44, c54, c104, hs, if_true, if_false, List.head?_cons, List.tail_cons, List.head?_nil, List.tail_nil, oI, z32, z52, z53, z42, z43, z62, z63])
                  (try exact ha.1)
              · refine j_iconst (pc := 107) C (nI 1) dX0_step_107 (by decide) ?_
                refine j_top (b2i true) rfl ?_
                refine j_goto (tgt := 112) (pc := 108) C dX0_step_108 (by decide) ?_
                refine x_put_esc (pc := 112) C dX0_step_112 ?_
                refine j_goto (tgt := 168) (pc := 115) C dX0_step_115 (by decide) ?_
                exact absurd (c44.symm.trans c104) (c_ne (by omega) (by omega) (by omega))
        · refine j_aload0 (pc := 34) C dX0_step_34 ?_
          refine j_iload1 (pc := 35) C dX0_step_35 ?_
          refine x_put_inn (pc := 36) C dX0_step_36 ?_
          refine j_goto (tgt := 101) (pc := 39) C dX0_step_39 (by decide) ?_
          refine j_aload0 (pc := 101) C dX0_step_101 ?_
          refine j_iload2 (pc := 102) C dX0_step_102 ?_
          refine j_iconst (pc := 103) C (nI 5) dX0_step_103 (by decide) ?_
          refine j_icmp_ne (tgt := 111) (pc := 104) C dX0_step_104 (by decide) (fun c104 => ?_) (fun c104 => ?_)
          · refine j_iconst (pc := 111) C (nI 0) dX0_step_111 (by decide) ?_
            refine j_top (b2i false) rfl ?_
            refine x_put_esc (pc := 112) C dX0_step_112 ?_
            refine j_goto (tgt := 168) (pc := 115) C dX0_step_115 (by decide) ?_
            obtain ⟨e1, e2, e3⟩ := st_plain c11 c26
            refine j_vret ((nI (md kind i)), (b2i false), (nI i)) C dX0_step_168 ⟨?_, ?_, ?_⟩
            · show _ = _
              rw [e1]
              (try simp only [c11, c26, c31, c104, if_true, if_false, z42, z43, z62, z63, z53, z52, z54, z56, z75, z24, z26, z34, z36, z64])
            · show _ = _
              rw [e2]
              (try simp only [c11, c26, c31, c104, decide_true, decide_false, z25, z35, z45, z65])
            · show _ = _
              rw [e3]
              (try simp only [c11, c26, c31, c104, hs, if_true, if_false, List.head?_cons, List.tail_cons, List.head?_nil, List.tail_nil, oI, z32, z52, z53, z42, z43, z62, z63])
              (try exact ha.1)
          · refine j_iconst (pc := 107) C (nI 1) dX0_step_107 (by decide) ?_
            refine j_top (b2i true) rfl ?_
            refine j_goto (tgt := 112) (pc := 108) C dX0_step_108 (by decide) ?_
            refine x_put_esc (pc := 112) C dX0_step_112 ?_
            refine j_goto (tgt := 168) (pc := 115) C dX0_step_115 (by decide) ?_
            exact absurd (c31.symm.trans c104) (c_ne (by omega) (by omega) (by omega))
    · refine j_aload0 (pc := 14) C dX0_step_14 ?_
      refine j_iconst (pc := 15) C (nI 0) dX0_step_15 (by decide) ?_
      refine j_top (b2i false) rfl ?_
      refine x_put_esc (pc := 16) C dX0_step_16 ?_
      refine j_goto (tgt := 168) (pc := 19) C dX0_step_19 (by decide) ?_
      obtain ⟨e1, e2, e3⟩ := st_esc c11
      refine j_vret ((nI (md kind i)), (b2i false), (-2)) C dX0_step_168 ⟨?_, ?_, ?_⟩
      · show _ = _
        rw [e1]
        (try simp only [c11, if_true, if_false, z42, z43, z62, z63, z53, z52, z54, z56, z75, z24, z26, z34, z36, z64])
      · show _ = _
        rw [e2]
        (try simp only [c11, decide_true, decide_false, z25, z35, z45, z65])
      · show _ = _
        rw [e3]
        (try simp only [c11, hs, if_true, if_false, List.head?_cons, List.tail_cons, List.head?_nil, List.tail_nil, oI, z32, z52, z53, z42, z43, z62, z63])
        (try exact ha.1)
  | cons q rr =>
    have ha := ha q rr hs
    show JJ _ _ _ _ _ _ _ _ _ _ _ _ _ (XW ad cI cZ kind role par aro kM kE kI len kno (nI (md kind i)) (b2i (es kind i)) (nI q)) 7 _ _
    refine x_ag_esc (pc := 7) C dX0_step_7 dX0_step_8 ?_
    refine j_ifB_eq (tgt := 22) (pc := 11) C dX0_step_11 (by decide) (fun c11 => ?_) (fun c11 => ?_)
    · refine x_ag_mo (pc := 22) C dX0_step_22 dX0_step_23 ?_
      refine j_ifN_ne (tgt := 118) (pc := 26) C dX0_step_26 (by decide) (by omega) (fun c26 => ?_) (fun c26 => ?_)
      · refine x_ag_mo (pc := 118) C dX0_step_118 dX0_step_119 ?_
        refine j_iconst (pc := 122) C (nI 1) dX0_step_122 (by decide) ?_
        refine j_icmpN_ne (tgt := 157) (pc := 123) C dX0_step_123 (by decide) (by omega) (by omega) (fun c123 => ?_) (fun c123 => ?_)
        · refine j_iload2 (pc := 157) C dX0_step_157 ?_
          refine j_bipush (pc := 158) C (nI 7) dX0_step_158 (by decide) ?_
          refine j_icmp_ne (tgt := 168) (pc := 160) C dX0_step_160 (by decide) (fun c160 => ?_) (fun c160 => ?_)
          · obtain ⟨e1, e2, e3⟩ := st_rem c11 c26 c123
            refine j_vret ((nI (md kind i)), (b2i (es kind i)), (nI q)) C dX0_step_168 ⟨?_, ?_, ?_⟩
            · show _ = _
              rw [e1]
              (try simp only [c11, c26, c123, c160, if_true, if_false, z42, z43, z62, z63, z53, z52, z54, z56, z75, z24, z26, z34, z36, z64])
            · show _ = _
              rw [e2]
              (try simp only [c11, c26, c123, c160, decide_true, decide_false, z25, z35, z45, z65])
            · show _ = _
              rw [e3]
              (try simp only [c11, c26, c123, c160, hs, if_true, if_false, List.head?_cons, List.tail_cons, List.head?_nil, List.tail_nil, oI, z32, z52, z53, z42, z43, z62, z63])
              (try exact ha.1)
          · refine j_aload0 (pc := 163) C dX0_step_163 ?_
            refine j_iconst (pc := 164) C (nI 0) dX0_step_164 (by decide) ?_
            refine x_put_mo (pc := 165) C dX0_step_165 ?_
            obtain ⟨e1, e2, e3⟩ := st_rem c11 c26 c123
            refine j_vret ((nI 0), (b2i (es kind i)), (nI q)) C dX0_step_168 ⟨?_, ?_, ?_⟩
            · show _ = _
              rw [e1]
              (try simp only [c11, c26, c123, c160, if_true, if_false, z42, z43, z62, z63, z53, z52, z54, z56, z75, z24, z26, z34, z36, z64])
            · show _ = _
              rw [e2]
              (try simp only [c11, c26, c123, c160, decide_true, decide_false, z25, z35, z45, z65])
            · show _ = _
              rw [e3]
              (try simp only [c11, c26, c123, c160, hs, if_true, if_false, List.head?_cons, List.tail_cons, List.head?_nil, List.tail_nil, oI, z32, z52, z53, z42, z43, z62, z63])
              (try exact ha.1)
        · refine j_aload0 (pc := 126) C dX0_step_126 ?_
          refine j_iload2 (pc := 127) C dX0_step_127 ?_
          refine j_iconst (pc := 128) C (nI 4) dX0_step_128 (by decide) ?_
          refine j_icmp_ne (tgt := 136) (pc := 129) C dX0_step_129 (by decide) (fun c129 => ?_) (fun c129 => ?_)
          · refine j_iconst (pc := 136) C (nI 1) dX0_step_136 (by decide) ?_
            refine x_put_mo (pc := 137) C dX0_step_137 ?_
            refine j_aload0 (pc := 140) C dX0_step_140 ?_
            refine j_iload2 (pc := 141) C dX0_step_141 ?_
            refine j_iconst (pc := 142) C (nI 5) dX0_step_142 (by decide) ?_
            refine j_icmp_ne (tgt := 150) (pc := 143) C dX0_step_143 (by decide) (fun c143 => ?_) (fun c143 => ?_)
            · refine j_iconst (pc := 150) C (nI 0) dX0_step_150 (by decide) ?_
              refine j_top (b2i false) rfl ?_
              refine x_put_esc (pc := 151) C dX0_step_151 ?_
              refine j_goto (tgt := 168) (pc := 154) C dX0_step_154 (by decide) ?_
              obtain ⟨e1, e2, e3⟩ := st_str c11 c123
              refine j_vret ((nI 1), (b2i false), (nI q)) C dX0_step_168 ⟨?_, ?_, ?_⟩
              · show _ = _
                rw [e1]
                (try simp only [c11, c26, c123, c129, c143, if_true, if_false, z42, z43, z62, z63, z53, z52, z54, z56, z75, z24, z26, z34, z36, z64])
              · show _ = _
                rw [e2]
                (try simp only [c11, c26, c123, c129, c143, decide_true, decide_false, z25, z35, z45, z65])
              · show _ = _
                rw [e3]
                (try simp only [c11, c26, c123, c129, c143, hs, if_true, if_false, List.head?_cons, List.tail_cons, List.head?_nil, List.tail_nil, oI, z32, z52, z53, z42, z43, z62, z63])
                (try exact ha.1)
            · refine j_iconst (pc := 146) C (nI 1) dX0_step_146 (by decide) ?_
              refine j_top (b2i true) rfl ?_
              refine j_goto (tgt := 151) (pc := 147) C dX0_step_147 (by decide) ?_
              refine x_put_esc (pc := 151) C dX0_step_151 ?_
              refine j_goto (tgt := 168) (pc := 154) C dX0_step_154 (by decide) ?_
              obtain ⟨e1, e2, e3⟩ := st_str c11 c123
              refine j_vret ((nI 1), (b2i true), (nI q)) C dX0_step_168 ⟨?_, ?_, ?_⟩
              · show _ = _
                rw [e1]
                (try simp only [c11, c26, c123, c129, c143, if_true, if_false, z42, z43, z62, z63, z53, z52, z54, z56, z75, z24, z26, z34, z36, z64])
              · show _ = _
                rw [e2]
                (try simp only [c11, c26, c123, c129, c143, decide_true, decide_false, z25, z35, z45, z65])
              · show _ = _
                rw [e3]
                (try simp only [c11, c26, c123, c129, c143, hs, if_true, if_false, List.head?_cons, List.tail_cons, List.head?_nil, List.tail_nil, oI, z32, z52, z53, z42, z43, z62, z63])
                (try exact ha.1)
          · refine j_iconst (pc := 132) C (nI 0) dX0_step_132 (by decide) ?_
            refine j_goto (tgt := 137) (pc := 133) C dX0_step_133 (by decide) ?_
            refine x_put_mo (pc := 137) C dX0_step_137 ?_
            refine j_aload0 (pc := 140) C dX0_step_140 ?_
            refine j_iload2 (pc := 141) C dX0_step_141 ?_
            refine j_iconst (pc := 142) C (nI 5) dX0_step_142 (by decide) ?_
            refine j_icmp_ne (tgt := 150) (pc := 143) C dX0_step_143 (by decide) (fun c143 => ?_) (fun c143 => ?_)
            · refine j_iconst (pc := 150) C (nI 0) dX0_step_150 (by decide) ?_
              refine j_top (b2i false) rfl ?_
              refine x_put_esc (pc := 151) C dX0_step_151 ?_
              refine j_goto (tgt := 168) (pc := 154) C dX0_step_154 (by decide) ?_
              obtain ⟨e1, e2, e3⟩ := st_str c11 c123
              refine j_vret ((nI 0), (b2i false), (nI q)) C dX0_step_168 ⟨?_, ?_, ?_⟩
              · show _ = _
                rw [e1]
                (try simp only [c11, c26, c123, c129, c143, if_true, if_false, z42, z43, z62, z63, z53, z52, z54, z56, z75, z24, z26, z34, z36, z64])
              · show _ = _
                rw [e2]
                (try simp only [c11, c26, c123, c129, c143, decide_true, decide_false, z25, z35, z45, z65])
              · show _ = _
                rw [e3]
                (try simp only [c11, c26, c123, c129, c143, hs, if_true, if_false, List.head?_cons, List.tail_cons, List.head?_nil, List.tail_nil, oI, z32, z52, z53, z42, z43, z62, z63])
                (try exact ha.1)
            · refine j_iconst (pc := 146) C (nI 1) dX0_step_146 (by decide) ?_
              refine j_top (b2i true) rfl ?_
              refine j_goto (tgt := 151) (pc := 147) C dX0_step_147 (by decide) ?_
              refine x_put_esc (pc := 151) C dX0_step_151 ?_
              refine j_goto (tgt := 168) (pc := 154) C dX0_step_154 (by decide) ?_
              exact absurd (c129.symm.trans c143) (c_ne (by omega) (by omega) (by omega))
      · refine j_iload2 (pc := 29) C dX0_step_29 ?_
        refine j_iconst (pc := 30) C (nI 2) dX0_step_30 (by decide) ?_
        refine j_icmp_ne (tgt := 42) (pc := 31) C dX0_step_31 (by decide) (fun c31 => ?_) (fun c31 => ?_)
        · refine j_iload2 (pc := 42) C dX0_step_42 ?_
          refine j_iconst (pc := 43) C (nI 3) dX0_step_43 (by decide) ?_
          refine j_icmp_ne (tgt := 77) (pc := 44) C dX0_step_44 (by decide) (fun c44 => ?_) (fun c44 => ?_)
          · refine j_iload2 (pc := 77) C dX0_step_77 ?_
            refine j_iconst (pc := 78) C (nI 4) dX0_step_78 (by decide) ?_
            refine j_icmp_ne (tgt := 90) (pc := 79) C dX0_step_79 (by decide) (fun c79 => ?_) (fun c79 => ?_)
            · refine j_iload2 (pc := 90) C dX0_step_90 ?_
              refine j_bipush (pc := 91) C (nI 6) dX0_step_91 (by decide) ?_
              refine j_icmp_ne (tgt := 101) (pc := 93) C dX0_step_93 (by decide) (fun c93 => ?_) (fun c93 => ?_)
              · refine j_aload0 (pc := 101) C dX0_step_101 ?_
                refine j_iload2 (pc := 102) C dX0_step_102 ?_
                refine j_iconst (pc := 103) C (nI 5) dX0_step_103 (by decide) ?_
                refine j_icmp_ne (tgt := 111) (pc := 104) C dX0_step_104 (by decide) (fun c104 => ?_) (fun c104 => ?_)
                · refine j_iconst (pc := 111) C (nI 0) dX0_step_111 (by decide) ?_
                  refine j_top (b2i false) rfl ?_
                  refine x_put_esc (pc := 112) C dX0_step_112 ?_
                  refine j_goto (tgt := 168) (pc := 115) C dX0_step_115 (by decide) ?_
                  obtain ⟨e1, e2, e3⟩ := st_plain c11 c26
                  refine j_vret ((nI (md kind i)), (b2i false), (nI q)) C dX0_step_168 ⟨?_, ?_, ?_⟩
                  · show _ = _
                    rw [e1]
                    (try simp only [c11, c26, c31, c44, c79, c93, c104, if_true, if_false, z42, z43, z62, z63, z53, z52, z54, z56, z75, z24, z26, z34, z36, z64])
                  · show _ = _
                    rw [e2]
                    (try simp only [c11, c26, c31, c44, c79, c93, c104, decide_true, decide_false, z25, z35, z45, z65])
                  · show _ = _
                    rw [e3]
                    (try simp only [c11, c26, c31, c44, c79, c93, c104, hs, if_true, if_false, List.head?_cons, List.tail_cons, List.head?_nil, List.tail_nil, oI, z32, z52, z53, z42, z43, z62, z63])
                    (try exact ha.1)
                · refine j_iconst (pc := 107) C (nI 1) dX0_step_107 (by decide) ?_
                  refine j_top (b2i true) rfl ?_
                  refine j_goto (tgt := 112) (pc := 108) C dX0_step_108 (by decide) ?_
                  refine x_put_esc (pc := 112) C dX0_step_112 ?_
                  refine j_goto (tgt := 168) (pc := 115) C dX0_step_115 (by decide) ?_
                  obtain ⟨e1, e2, e3⟩ := st_plain c11 c26
                  refine j_vret ((nI (md kind i)), (b2i true), (nI q)) C dX0_step_168 ⟨?_, ?_, ?_⟩
                  · show _ = _
                    rw [e1]
                    (try simp only [c11, c26, c31, c44, c79, c93, c104, if_true, if_false, z42, z43, z62, z63, z53, z52, z54, z56, z75, z24, z26, z34, z36, z64])
                  · show _ = _
                    rw [e2]
                    (try simp only [c11, c26, c31, c44, c79, c93, c104, decide_true, decide_false, z25, z35, z45, z65])
                  · show _ = _
                    rw [e3]
                    (try simp only [c11, c26, c31, c44, c79, c93, c104, hs, if_true, if_false, List.head?_cons, List.tail_cons, List.head?_nil, List.tail_nil, oI, z32, z52, z53, z42, z43, z62, z63])
                    (try exact ha.1)
              · refine j_aload0 (pc := 96) C dX0_step_96 ?_
                refine j_iconst (pc := 97) C (nI 2) dX0_step_97 (by decide) ?_
                refine x_put_mo (pc := 98) C dX0_step_98 ?_
                refine j_aload0 (pc := 101) C dX0_step_101 ?_
                refine j_iload2 (pc := 102) C dX0_step_102 ?_
                refine j_iconst (pc := 103) C (nI 5) dX0_step_103 (by decide) ?_
                refine j_icmp_ne (tgt := 111) (pc := 104) C dX0_step_104 (by decide) (fun c104 => ?_) (fun c104 => ?_)
                · refine j_iconst (pc := 111) C (nI 0) dX0_step_111 (by decide) ?_
                  refine j_top (b2i false) rfl ?_
                  refine x_put_esc (pc := 112) C dX0_step_112 ?_
                  refine j_goto (tgt := 168) (pc := 115) C dX0_step_115 (by decide) ?_
                  obtain ⟨e1, e2, e3⟩ := st_plain c11 c26
                  refine j_vret ((nI 2), (b2i false), (nI q)) C dX0_step_168 ⟨?_, ?_, ?_⟩
                  · show _ = _
                    rw [e1]
                    (try simp only [c11, c26, c31, c44, c79, c93, c104, if_true, if_false, z42, z43, z62, z63, z53, z52, z54, z56, z75, z24, z26, z34, z36, z64])
                  · show _ = _
                    rw [e2]
                    (try simp only [c11, c26, c31, c44, c79, c93, c104, decide_true, decide_false, z25, z35, z45, z65])
                  · show _ = _
                    rw [e3]
                    (try simp only [c11, c26, c31, c44, c79, c93, c104, hs, if_true, if_false, List.head?_cons, List.tail_cons, List.head?_nil, List.tail_nil, oI, z32, z52, z53, z42, z43, z62, z63])
                    (try exact ha.1)
                · refine j_iconst (pc := 107) C (nI 1) dX0_step_107 (by decide) ?_
                  refine j_top (b2i true) rfl ?_
                  refine j_goto (tgt := 112) (pc := 108) C dX0_step_108 (by decide) ?_
                  refine x_put_esc (pc := 112) C dX0_step_112 ?_
                  refine j_goto (tgt := 168) (pc := 115) C dX0_step_115 (by decide) ?_
                  exact absurd (c104.symm.trans c93) (c_ne (by omega) (by omega) (by omega))
            · refine j_aload0 (pc := 82) C dX0_step_82 ?_
              refine j_iconst (pc := 83) C (nI 1) dX0_step_83 (by decide) ?_
              refine x_put_mo (pc := 84) C dX0_step_84 ?_
              refine j_goto (tgt := 101) (pc := 87) C dX0_step_87 (by decide) ?_
              refine j_aload0 (pc := 101) C dX0_step_101 ?_
              refine j_iload2 (pc := 102) C dX0_step_102 ?_
              refine j_iconst (pc := 103) C (nI 5) dX0_step_103 (by decide) ?_
              refine j_icmp_ne (tgt := 111) (pc := 104) C dX0_step_104 (by decide) (fun c104 => ?_) (fun c104 => ?_)
              · refine j_iconst (pc := 111) C (nI 0) dX0_step_111 (by decide) ?_
                refine j_top (b2i false) rfl ?_
                refine x_put_esc (pc := 112) C dX0_step_112 ?_
                refine j_goto (tgt := 168) (pc := 115) C dX0_step_115 (by decide) ?_
                obtain ⟨e1, e2, e3⟩ := st_plain c11 c26
                refine j_vret ((nI 1), (b2i false), (nI q)) C dX0_step_168 ⟨?_, ?_, ?_⟩
                · show _ = _
                  rw [e1]
                  (try simp only [c11, c26, c31, c44, c79, c104, if_true, if_false, z42, z43, z62, z63, z53, z52, z54, z56, z75, z24, z26, z34, z36, z64])
                · show _ = _
                  rw [e2]
                  (try simp only [c11, c26, c31, c44, c79, c104, decide_true, decide_false, z25, z35, z45, z65])
                · show _ = _
                  rw [e3]
                  (try simp only [c11, c26, c31, c44, c79, c104, hs, if_true, if_false, List.head?_cons, List.tail_cons, List.head?_nil, List.tail_nil, oI, z32, z52, z53, z42, z43, z62, z63])
                  (try exact ha.1)
              · refine j_iconst (pc := 107) C (nI 1) dX0_step_107 (by decide) ?_
                refine j_top (b2i true) rfl ?_
                refine j_goto (tgt := 112) (pc := 108) C dX0_step_108 (by decide) ?_
                refine x_put_esc (pc := 112) C dX0_step_112 ?_
                refine j_goto (tgt := 168) (pc := 115) C dX0_step_115 (by decide) ?_
                exact absurd (c79.symm.trans c104) (c_ne (by omega) (by omega) (by omega))
          · refine j_aload0 (pc := 47) C dX0_step_47 ?_
            refine x_ag_inn (pc := 48) C dX0_step_48 dX0_step_49 ?_
            refine j_bipush (pc := 52) C (-2) dX0_step_52 (by decide) ?_
            refine j_icmp_ne (tgt := 62) (pc := 54) C dX0_step_54 (by decide) (fun c54 => ?_) (fun c54 => ?_)
            · refine x_ag_aro (pc := 62) C dX0_step_62 dX0_step_63 ?_
              refine x_ag_inn (pc := 66) C dX0_step_66 dX0_step_67 ?_
              refine x_ald_aro (pc := 70) C dX0_step_70 (by omega) ?_
              refine x_put_inn (pc := 71) C dX0_step_71 ?_
              refine j_goto (tgt := 101) (pc := 74) C dX0_step_74 (by decide) ?_
              refine j_aload0 (pc := 101) C dX0_step_101 ?_
              refine j_iload2 (pc := 102) C dX0_step_102 ?_
              refine j_iconst (pc := 103) C (nI 5) dX0_step_103 (by decide) ?_
              refine j_icmp_ne (tgt := 111) (pc := 104) C dX0_step_104 (by decide) (fun c104 => ?_) (fun c104 => ?_)
              · refine j_iconst (pc := 111) C (nI 0) dX0_step_111 (by decide) ?_
                refine j_top (b2i false) rfl ?_
                refine x_put_esc (pc := 112) C dX0_step_112 ?_
                refine j_goto (tgt := 168) (pc := 115) C dX0_step_115 (by decide) ?_
                obtain ⟨e1, e2, e3⟩ := st_plain c11 c26
                refine j_vret ((nI (md kind i)), (b2i false), (aro q)) C dX0_step_168 ⟨?_, ?_, ?_⟩
                · show _ = _
                  rw [e1]
                  (try simp only [c11, c26, c31, c44, c54, c104, if_true, if_false, z42, z43, z62, z63, z53, z52, z54, z56, z75, z24, z26, z34, z36, z64])
                · show _ = _
                  rw [e2]
                  (try simp only [c11, c26, c31, c44, c54, c104, decide_true, decide_false, z25, z35, z45, z65])
                · show _ = _
                  rw [e3]
                  (try simp only [c11, c26, c31, c44, c54, c104, hs, if_true, if_false, List.head?_cons, List.tail_cons, List.head?_nil, List.tail_nil, oI, z32, z52, z53, z42, z43, z62, z63])
                  (try exact ha.1)
              · refine j_iconst (pc := 107) C (nI 1) dX0_step_107 (by decide) ?_
                refine j_top (b2i true) rfl ?_
                refine j_goto (tgt := 112) (pc := 108) C dX0_step_108 (by decide) ?_
                refine x_put_esc (pc := 112) C dX0_step_112 ?_
                refine j_goto (tgt := 168) (pc := 115) C dX0_step_115 (by decide) ?_
                exact absurd (c44.symm.trans c104) (c_ne (by omega) (by omega) (by omega))
            · exact absurd c54 (nI_m2 (by omega))
        · refine j_aload0 (pc := 34) C dX0_step_34 ?_
          refine j_iload1 (pc := 35) C dX0_step_35 ?_
          refine x_put_inn (pc := 36) C dX0_step_36 ?_
          refine j_goto (tgt := 101) (pc := 39) C dX0_step_39 (by decide) ?_
          refine j_aload0 (pc := 101) C dX0_step_101 ?_
          refine j_iload2 (pc := 102) C dX0_step_102 ?_
          refine j_iconst (pc := 103) C (nI 5) dX0_step_103 (by decide) ?_
          refine j_icmp_ne (tgt := 111) (pc := 104) C dX0_step_104 (by decide) (fun c104 => ?_) (fun c104 => ?_)
          · refine j_iconst (pc := 111) C (nI 0) dX0_step_111 (by decide) ?_
            refine j_top (b2i false) rfl ?_
            refine x_put_esc (pc := 112) C dX0_step_112 ?_
            refine j_goto (tgt := 168) (pc := 115) C dX0_step_115 (by decide) ?_
            obtain ⟨e1, e2, e3⟩ := st_plain c11 c26
            refine j_vret ((nI (md kind i)), (b2i false), (nI i)) C dX0_step_168 ⟨?_, ?_, ?_⟩
            · show _ = _
              rw [e1]
              (try simp only [c11, c26, c31, c104, if_true, if_false, z42, z43, z62, z63, z53, z52, z54, z56, z75, z24, z26, z34, z36, z64])
            · show _ = _
              rw [e2]
              (try simp only [c11, c26, c31, c104, decide_true, decide_false, z25, z35, z45, z65])
            · show _ = _
              rw [e3]
              (try simp only [c11, c26, c31, c104, hs, if_true, if_false, List.head?_cons, List.tail_cons, List.head?_nil, List.tail_nil, oI, z32, z52, z53, z42, z43, z62, z63])
              (try exact ha.1)
          · refine j_iconst (pc := 107) C (nI 1) dX0_step_107 (by decide) ?_
            refine j_top (b2i true) rfl ?_
            refine j_goto (tgt := 112) (pc := 108) C dX0_step_108 (by decide) ?_
            refine x_put_esc (pc := 112) C dX0_step_112 ?_
            refine j_goto (tgt := 168) (pc := 115) C dX0_step_115 (by decide) ?_
            exact absurd (c31.symm.trans c104) (c_ne (by omega) (by omega) (by omega))
    · refine j_aload0 (pc := 14) C dX0_step_14 ?_
      refine j_iconst (pc := 15) C (nI 0) dX0_step_15 (by decide) ?_
      refine j_top (b2i false) rfl ?_
      refine x_put_esc (pc := 16) C dX0_step_16 ?_
      refine j_goto (tgt := 168) (pc := 19) C dX0_step_19 (by decide) ?_
      obtain ⟨e1, e2, e3⟩ := st_esc c11
      refine j_vret ((nI (md kind i)), (b2i false), (nI q)) C dX0_step_168 ⟨?_, ?_, ?_⟩
      · show _ = _
        rw [e1]
        (try simp only [c11, if_true, if_false, z42, z43, z62, z63, z53, z52, z54, z56, z75, z24, z26, z34, z36, z64])
      · show _ = _
        rw [e2]
        (try simp only [c11, decide_true, decide_false, z25, z35, z45, z65])
      · show _ = _
        rw [e3]
        (try simp only [c11, hs, if_true, if_false, List.head?_cons, List.tail_cons, List.head?_nil, List.tail_nil, oI, z32, z52, z53, z42, z43, z62, z63])
        (try exact ha.1)
end
section
theorem m2_lt {k : Nat} (h : k < 2 ^ 31) : (-2 : Int32) < nI k := by
  rw [Int32.lt_iff_toInt_lt, nI_toInt h]
  have : (-2 : Int32).toInt = -2 := by decide
  omega
theorem fg_keep {t : Nat → Int32} {k kk i : Nat} (hi : i < kk) (hk : kk ≤ k) (h : rl t i ≠ 1 ∨ pn t k i = none ∨ ∃ c, pn t k i = some c ∧ c < kk) : pn t kk i = pn t k i := by
  rw [pn_less k i hk hi]
  cases e : pn t k i with
  | none => rfl
  | some c =>
    have : c < kk := by
      rcases h with h | h | ⟨c', h1, h2⟩
      · rcases (pn_some k i c e).2.2 with h1 | h1
        · exact absurd h1.1 h
        · have := sk_head_lt h1.2
          omega
      · rw [e] at h; cases h
      · rw [e] at h1; cases h1; exact h2
    simp [this]
theorem fg_cut {t : Nat → Int32} {k kk i c : Nat} (hi : i < kk) (hk : kk ≤ k) (h : pn t k i = some c) (hc : kk ≤ c) : pn t kk i = none := by
  rw [pn_less k i hk hi, h]
  simp
  omega

set_option maxHeartbeats 4000000 in
set_option maxRecDepth 100000 in
theorem xm_depthOf {l : Launch} {D : va_G} {cI cZ : ClassId} {ad : Nat → Nat} {kind role par aro kM kE kI : Nat → Int32} {len kno mo esc inn : Int32} {t : Nat → Int32} {g : Nat} (hg : g ≤ 64) (ha : ∀ j q r, (sk t g).drop j = q :: r → aro q = oI (-2) r.head? ∧ q < 64) : MetI l yX0_depthOf cX0_depthOf 5 (some .int) 0 D cI cZ [.ref (ad 0), .int (oI (-2) (sk t g).head?)] (fun _ : Unit => (XW ad cI cZ kind role par aro kM kE kI len kno mo esc inn)) (XW ad cI cZ kind role par aro kM kE kI len kno mo esc inn) (fun (r : Int32) (_ : Unit) => r = nI (sk t g).length) := by
  refine fun sz => j_start (Qc := fun A => (QI (fun (r : Int32) (_ : Unit) => r = nI (sk t g).length) (fun _ : Unit => (XW ad cI cZ kind role par aro kM kE kI len kno mo esc inn)) D cI cZ A)) [some (.inr (ad 0)), some (.inl (oI (-2) (sk t g).head?)), none, none, none] (by decide) (Nat.le_of_ble_eq_true rfl) rfl ?_ sz
  intro p e s m args below meth c A C
  have C : CC p s m args meth c D A cI cZ RX0 cX0_depthOf 5 (some .int) := C
  have hlen := sk_len t g
  have loop : ∀ (f k : Nat), 64 < k + f → k ≤ (sk t g).length → JJ p l e s m args below meth c D A 0 (QI (fun (r : Int32) (_ : Unit) => r = nI (sk t g).length) (fun _ : Unit => (XW ad cI cZ kind role par aro kM kE kI len kno mo esc inn)) D cI cZ A) (XW ad cI cZ kind role par aro kM kE kI len kno mo esc inn) 7 [some (.inr (ad 0)), some (.inl (oI (-2) (sk t g).head?)), some (.inl (nI k)), some (.inl (oI (-2) ((sk t g).drop k).head?)), some (.inl (nI k))] [] := by
    intro f
    induction f with
    | zero => intro k h1 h2; omega
    | succ f ih =>
      intro k h1 h2
      cases hs : (sk t g).drop k with
      | nil =>
        have hk : (sk t g).length ≤ k := List.drop_eq_nil_iff.mp hs
        show JJ _ _ _ _ _ _ _ _ _ _ _ _ _ (XW ad cI cZ kind role par aro kM kE kI len kno mo esc inn) 7 [_, _, _, some (.inl (-2)), _] _
        refine j_iload4 (pc := 7) C dX0_depthOf_7 ?_
        refine j_bipush (pc := 9) C (nI 64) dX0_depthOf_9 (by decide) ?_
        refine j_icmpN_ge (tgt := 36) (pc := 11) C dX0_depthOf_11 (by decide) (by omega) (by omega) (fun c11 => ?_) (fun c11 => ?_)
        · refine j_iload2 (pc := 36) C dX0_depthOf_36 ?_
          exact j_iret () C dX0_depthOf_37 (by rw [show (sk t g).length = k by omega])
        · refine j_iload3 (pc := 14) C dX0_depthOf_14 ?_
          refine j_bipush (pc := 15) C (-2) dX0_depthOf_15 (by decide) ?_
          refine j_icmp_eq (tgt := 36) (pc := 17) C dX0_depthOf_17 (by decide) (fun c17 => ?_) (fun c17 => ?_)
          · refine j_iload2 (pc := 36) C dX0_depthOf_36 ?_
            exact j_iret () C dX0_depthOf_37 (by rw [show (sk t g).length = k by omega])
          · exact absurd rfl c17
      | cons q rr =>
        obtain ⟨ha1, ha2⟩ := ha k q rr hs
        have ht : (sk t g).drop (k + 1) = rr := by rw [← List.tail_drop, hs]; rfl
        have hk : k < (sk t g).length := by
          rcases Nat.lt_or_ge k (sk t g).length with h | h
          · exact h
          · rw [List.drop_eq_nil_of_le h] at hs; cases hs
        show JJ _ _ _ _ _ _ _ _ _ _ _ _ _ (XW ad cI cZ kind role par aro kM kE kI len kno mo esc inn) 7 [_, _, _, some (.inl (nI q)), _] _
        refine j_iload4 (pc := 7) C dX0_depthOf_7 ?_
        refine j_bipush (pc := 9) C (nI 64) dX0_depthOf_9 (by decide) ?_
        refine j_icmpN_ge (tgt := 36) (pc := 11) C dX0_depthOf_11 (by decide) (by omega) (by omega) (fun c11 => ?_) (fun c11 => ?_)
        · refine j_iload2 (pc := 36) C dX0_depthOf_36 ?_
          exact j_iret () C dX0_depthOf_37 (by rw [show (sk t g).length = k by omega])
        · refine j_iload3 (pc := 14) C dX0_depthOf_14 ?_
          refine j_bipush (pc := 15) C (-2) dX0_depthOf_15 (by decide) ?_
          refine j_icmp_eq (tgt := 36) (pc := 17) C dX0_depthOf_17 (by decide) (fun c17 => ?_) (fun c17 => ?_)
          · exact absurd c17 (nI_m2 (by omega))
          · refine j_inc2 (pc := 20) C dX0_depthOf_20 ?_
            refine x_ag_aro (pc := 23) C dX0_depthOf_23 dX0_depthOf_24 ?_
            refine j_iload3 (pc := 27) C dX0_depthOf_27 ?_
            refine x_ald_aro (pc := 28) C dX0_depthOf_28 (by omega) ?_
            refine j_top _ ha1 ?_
            refine j_istore3 (pc := 29) C dX0_depthOf_29 ?_
            refine j_inc4 (pc := 30) C dX0_depthOf_30 ?_
            refine j_goto (tgt := 7) (pc := 33) C dX0_depthOf_33 (by decide) ?_
            rw [← ht]
            exact ih (k + 1) (by omega) (by omega)
  refine j_iconst (pc := 0) C (nI 0) dX0_depthOf_0 (by decide) ?_
  refine j_istore2 (pc := 1) C dX0_depthOf_1 ?_
  refine j_iload1 (pc := 2) C dX0_depthOf_2 ?_
  refine j_istore3 (pc := 3) C dX0_depthOf_3 ?_
  refine j_iconst (pc := 4) C (nI 0) dX0_depthOf_4 (by decide) ?_
  refine j_istore4 (pc := 5) C dX0_depthOf_5 ?_
  exact loop 65 0 (by omega) (by omega)

set_option maxHeartbeats 4000000 in
set_option maxRecDepth 100000 in
theorem xm_forgetFrom {l : Launch} {D : va_G} {cI cZ : ClassId} {ad : Nat → Nat} {kind role par aro kM kE kI : Nat → Int32} {len mo esc inn : Int32} {t : Nat → Int32} {k g : Nat} (hk : k ≤ 64) (hg : g ≤ 64) (hr : ∀ i, i < k → role i = nI (rl t i)) (hp : ∀ i, i < k → par i = oI (-2) (pn t k i)) : MetV l yX0_forgetFrom cX0_forgetFrom 3 0 D cI cZ [.ref (ad 0), .int (nI g)] (fun u : Nat → Int32 => (XW ad cI cZ kind role u aro kM kE kI len (nI (min k g)) mo esc inn)) (XW ad cI cZ kind role par aro kM kE kI len (nI k) mo esc inn) (fun u : Nat → Int32 => ∀ j, j < min k g → u j = oI (-2) (pn t (min k g) j)) := by
  refine fun sz => j_start (Qc := fun A => (QV (fun u : Nat → Int32 => ∀ j, j < min k g → u j = oI (-2) (pn t (min k g) j)) (fun u : Nat → Int32 => (XW ad cI cZ kind role u aro kM kE kI len (nI (min k g)) mo esc inn)) D cI cZ A)) [some (.inr (ad 0)), some (.inl (nI g)), none] (by decide) (Nat.le_of_ble_eq_true rfl) rfl ?_ sz
  intro p e s m args below meth c A C
  have C : CC p s m args meth c D A cI cZ RX0 cX0_forgetFrom 3 none := C
  have main : ∀ kk, kk = min k g → JJ p l e s m args below meth c D A 0 (QV (fun u : Nat → Int32 => ∀ j, j < min k g → u j = oI (-2) (pn t (min k g) j)) (fun u : Nat → Int32 => (XW ad cI cZ kind role u aro kM kE kI len (nI (min k g)) mo esc inn)) D cI cZ A) (XW ad cI cZ kind role par aro kM kE kI len (nI kk) mo esc inn) 13 [some (.inr (ad 0)), some (.inl (nI g)), none] [] := by
    intro kk hkk
    have loop : ∀ (f i : Nat) (pa : Nat → Int32), kk < i + f → i ≤ kk → (∀ j, j < i → pa j = oI (-2) (pn t kk j)) → (∀ j, i ≤ j → pa j = par j) → JJ p l e s m args below meth c D A 0 (QV (fun u : Nat → Int32 => ∀ j, j < min k g → u j = oI (-2) (pn t (min k g) j)) (fun u : Nat → Int32 => (XW ad cI cZ kind role u aro kM kE kI len (nI (min k g)) mo esc inn)) D cI cZ A) (XW ad cI cZ kind role pa aro kM kE kI len (nI kk) mo esc inn) 15 [some (.inr (ad 0)), some (.inl (nI g)), some (.inl (nI i))] [] := by
      subst hkk
      intro f
      induction f with
      | zero => intro i pa h1 h2; omega
      | succ f ih =>
        intro i pa h1 h2 h3 h4
        have hrl := rl_lt t i
        refine j_iload2 (pc := 15) C dX0_forgetFrom_15 ?_
        refine x_ag_kno (pc := 16) C dX0_forgetFrom_16 dX0_forgetFrom_17 ?_
        refine j_icmpN_ge (tgt := 60) (pc := 20) C dX0_forgetFrom_20 (by decide) (by omega) (by omega) (fun c20 => ?_) (fun c20 => ?_)
        · exact j_vret pa C dX0_forgetFrom_60 (fun j hj => h3 j (by omega))
        · refine x_ag_role (pc := 23) C dX0_forgetFrom_23 dX0_forgetFrom_24 ?_
          refine j_iload2 (pc := 27) C dX0_forgetFrom_27 ?_
          refine x_ald_role (pc := 28) C dX0_forgetFrom_28 (by omega) ?_
          refine j_top (nI (rl t i)) (hr i (by omega)) ?_
          refine j_iconst (pc := 29) C (nI 1) dX0_forgetFrom_29 (by decide) ?_
          refine j_icmpN_ne (tgt := 54) (pc := 30) C dX0_forgetFrom_30 (by decide) (by omega) (by omega) (fun c30 => ?_) (fun c30 => ?_)
          · refine j_inc2 (pc := 54) C dX0_forgetFrom_54 ?_
            refine j_goto (tgt := 15) (pc := 57) C dX0_forgetFrom_57 (by decide) ?_
            refine ih (i + 1) pa (by omega) (by omega) (fun j hj => ?_) (fun j hj => h4 j (by omega))
            by_cases e : j = i
            · subst e
              rw [h4 j (Nat.le_refl _), hp j (by omega), fg_keep (k := k) (kk := min k g) (by omega) (by omega) (Or.inl c30)]
            · exact h3 j (by omega)
          · refine x_ag_par (pc := 33) C dX0_forgetFrom_33 dX0_forgetFrom_34 ?_
            refine j_iload2 (pc := 37) C dX0_forgetFrom_37 ?_
            refine x_ald_par (pc := 38) C dX0_forgetFrom_38 (by omega) ?_
            refine j_top (oI (-2) (pn t k i)) (by rw [h4 i (Nat.le_refl _)]; exact hp i (by omega)) ?_
            cases hpn : pn t k i with
            | none =>
              refine j_top (-2) rfl ?_
              refine x_ag_kno (pc := 39) C dX0_forgetFrom_39 dX0_forgetFrom_40 ?_
              refine j_icmp_lt (tgt := 54) (pc := 43) C dX0_forgetFrom_43 (by decide) (fun c43 => ?_) (fun c43 => ?_)
              · refine j_inc2 (pc := 54) C dX0_forgetFrom_54 ?_
                refine j_goto (tgt := 15) (pc := 57) C dX0_forgetFrom_57 (by decide) ?_
                refine ih (i + 1) pa (by omega) (by omega) (fun j hj => ?_) (fun j hj => h4 j (by omega))
                by_cases e : j = i
                · subst e
                  rw [h4 j (Nat.le_refl _), hp j (by omega), fg_keep (k := k) (kk := min k g) (by omega) (by omega) (Or.inr (Or.inl hpn))]
                · exact h3 j (by omega)
              · exact absurd (m2_lt (by omega)) c43
            | some c =>
              have hc := (pn_some k i c hpn).1
              refine j_top (nI c) rfl ?_
              refine x_ag_kno (pc := 39) C dX0_forgetFrom_39 dX0_forgetFrom_40 ?_
              refine j_icmpN_lt (tgt := 54) (pc := 43) C dX0_forgetFrom_43 (by decide) (by omega) (by omega) (fun c43 => ?_) (fun c43 => ?_)
              · refine j_inc2 (pc := 54) C dX0_forgetFrom_54 ?_
                refine j_goto (tgt := 15) (pc := 57) C dX0_forgetFrom_57 (by decide) ?_
                refine ih (i + 1) pa (by omega) (by omega) (fun j hj => ?_) (fun j hj => h4 j (by omega))
                by_cases e : j = i
                · subst e
                  rw [h4 j (Nat.le_refl _), hp j (by omega), fg_keep (k := k) (kk := min k g) (by omega) (by omega) (Or.inr (Or.inr ⟨c, hpn, c43⟩))]
                · exact h3 j (by omega)
              · refine x_ag_par (pc := 46) C dX0_forgetFrom_46 dX0_forgetFrom_47 ?_
                refine j_iload2 (pc := 50) C dX0_forgetFrom_50 ?_
                refine j_bipush (pc := 51) C (-2) dX0_forgetFrom_51 (by decide) ?_
                refine x_ast_par (pc := 53) C dX0_forgetFrom_53 (by omega) ?_
                refine j_inc2 (pc := 54) C dX0_forgetFrom_54 ?_
                refine j_goto (tgt := 15) (pc := 57) C dX0_forgetFrom_57 (by decide) ?_
                refine ih (i + 1) (upd pa i (-2)) (by omega) (by omega) (fun j hj => ?_) (fun j hj => by rw [upd_n (by omega)]; exact h4 j (by omega))
                by_cases e : j = i
                · subst e
                  rw [upd_s, fg_cut (k := k) (kk := min k g) (by omega) (by omega) hpn c43]
                  rfl
                · rw [upd_n e]
                  exact h3 j (by omega)
    refine j_iconst (pc := 13) C (nI 0) dX0_forgetFrom_13 (by decide) ?_
    refine j_istore2 (pc := 14) C dX0_forgetFrom_14 ?_
    exact loop (kk + 1) 0 par (by omega) (by omega) (fun j hj => by omega) (fun j _ => rfl)
  refine x_ag_kno (pc := 0) C dX0_forgetFrom_0 dX0_forgetFrom_1 ?_
  refine j_iload1 (pc := 4) C dX0_forgetFrom_4 ?_
  refine j_icmpN_le (tgt := 13) (pc := 5) C dX0_forgetFrom_5 (by decide) (by omega) (by omega) (fun c5 => ?_) (fun c5 => ?_)
  · exact main k (by omega)
  · refine j_aload0 (pc := 8) C dX0_forgetFrom_8 ?_
    refine j_iload1 (pc := 9) C dX0_forgetFrom_9 ?_
    refine x_put_kno (pc := 10) C dX0_forgetFrom_10 ?_
    exact main g (by omega)

/-- a partner before the kept place, when character i has been noted -/
theorem rt_p1 {t : Nat → Int32} {i k j : Nat} {a b : Int32} (hj : j < i) (h : a = if rl t i = 2 then (if j = i then oI (-2) (sk t i).head? else if (sk t i).head? = some j then nI i else b) else if j = i then -2 else b) (hb : b = oI (-2) (pn t (max i k) j)) : a = oI (-2) (pn t (max (i + 1) k) j) := by
  rw [h]
  by_cases e2 : rl t i = 2
  · rw [if_pos e2, if_neg (by omega)]
    by_cases e3 : (sk t i).head? = some j
    · rw [if_pos e3]
      obtain ⟨p, r, e⟩ := rl2_sk e2
      rw [e] at e3
      cases e3
      rw [(pn_pair e2 e (max (i + 1) k) (by omega)).2.1]
      rfl
    · rw [if_neg e3, hb]
      by_cases hik : i < k
      · rw [show max i k = max (i + 1) k by omega]
      · rw [show max (i + 1) k = i + 1 by omega, show max i k = i by omega, pn, if_pos e2, if_neg (by omega), if_neg e3]
  · rw [if_neg e2, if_neg (by omega), hb]
    by_cases hik : i < k
    · rw [show max i k = max (i + 1) k by omega]
    · rw [show max (i + 1) k = i + 1 by omega, show max i k = i by omega, pn, if_neg e2]
theorem rt_p2 {t : Nat → Int32} {i j : Nat} {a b : Int32} (hj : j < i + 1) (h : a = if rl t i = 2 then (if j = i then oI (-2) (sk t i).head? else if (sk t i).head? = some j then nI i else b) else if j = i then -2 else b) (hb : j < i → b = oI (-2) (pn t i j)) : a = oI (-2) (pn t (i + 1) j) := by
  rw [h, pn]
  by_cases e2 : rl t i = 2
  · rw [if_pos e2, if_pos e2]
    by_cases e : j = i
    · rw [if_pos e, if_pos e]
    · rw [if_neg e, if_neg e]
      by_cases e3 : (sk t i).head? = some j
      · rw [if_pos e3, if_pos e3]; rfl
      · rw [if_neg e3, if_neg e3]; exact hb (by omega)
  · rw [if_neg e2, if_neg e2]
    by_cases e : j = i
    · rw [if_pos e, pn_ge i j (by omega)]; rfl
    · rw [if_neg e]; exact hb (by omega)

set_option maxHeartbeats 4000000 in
set_option maxRecDepth 100000 in
theorem xm_readTo {l : Launch} {D : va_G} {cI cZ : ClassId} {ad : Nat → Nat} {kind role par aro kM kE kI : Nat → Int32} {len mo esc inn : Int32} {k g : Nat} (hk : k ≤ 64) (hg : g ≤ 64) (hX : XI kind k role par aro kM kE kI) : MetV l yX0_readTo cX0_readTo 3 1 D cI cZ [.ref (ad 0), .int (nI g)] (fun u : (Nat → Int32) × (Nat → Int32) × (Nat → Int32) × (Nat → Int32) × (Nat → Int32) × (Nat → Int32) × Int32 × Int32 × Int32 => (XW ad cI cZ kind u.1 u.2.1 u.2.2.1 u.2.2.2.1 u.2.2.2.2.1 u.2.2.2.2.2.1 len (nI (max k g)) u.2.2.2.2.2.2.1 u.2.2.2.2.2.2.2.1 u.2.2.2.2.2.2.2.2)) (XW ad cI cZ kind role par aro kM kE kI len (nI k) mo esc inn) (fun u : (Nat → Int32) × (Nat → Int32) × (Nat → Int32) × (Nat → Int32) × (Nat → Int32) × (Nat → Int32) × Int32 × Int32 × Int32 => XI kind (max k g) u.1 u.2.1 u.2.2.1 u.2.2.2.1 u.2.2.2.2.1 u.2.2.2.2.2.1) := by
  refine fun sz => j_start (Qc := fun A => (QV (fun u : (Nat → Int32) × (Nat → Int32) × (Nat → Int32) × (Nat → Int32) × (Nat → Int32) × (Nat → Int32) × Int32 × Int32 × Int32 => XI kind (max k g) u.1 u.2.1 u.2.2.1 u.2.2.2.1 u.2.2.2.2.1 u.2.2.2.2.2.1) (fun u : (Nat → Int32) × (Nat → Int32) × (Nat → Int32) × (Nat → Int32) × (Nat → Int32) × (Nat → Int32) × Int32 × Int32 × Int32 => (XW ad cI cZ kind u.1 u.2.1 u.2.2.1 u.2.2.2.1 u.2.2.2.2.1 u.2.2.2.2.2.1 len (nI (max k g)) u.2.2.2.2.2.2.1 u.2.2.2.2.2.2.2.1 u.2.2.2.2.2.2.2.2)) D cI cZ A)) [some (.inr (ad 0)), some (.inl (nI g)), none] (by decide) (Nat.le_of_ble_eq_true rfl) rfl ?_ sz
  intro p e s m args below meth c A C
  have C : CC p s m args meth c D A cI cZ RX0 cX0_readTo 3 none := C
  have at62 : ∀ (role par aro kM kE kI : Nat → Int32), k < g → (∀ j, j < g ∨ j < k → role j = nI (rl kind j)) → (∀ j, j < g ∨ j < k → rl kind j = 1 → aro j = oI (-2) (sk kind j).head?) → (∀ j, j < 16 * (k / 16) → par j = oI (-2) (pn kind (max g k) j)) → (∀ j, 16 * (k / 16) ≤ j → j < g → par j = oI (-2) (pn kind g j)) → (∀ j, 16 * j ≤ k ∨ 16 * j < g → kM j = nI (md kind (16 * j)) ∧ kE j = b2i (es kind (16 * j)) ∧ kI j = oI (-2) (sk kind (16 * j)).head?) → JJ p l e s m args below meth c D A 1 (QV (fun u : (Nat → Int32) × (Nat → Int32) × (Nat → Int32) × (Nat → Int32) × (Nat → Int32) × (Nat → Int32) × Int32 × Int32 × Int32 => XI kind (max k g) u.1 u.2.1 u.2.2.1 u.2.2.2.1 u.2.2.2.2.1 u.2.2.2.2.2.1) (fun u : (Nat → Int32) × (Nat → Int32) × (Nat → Int32) × (Nat → Int32) × (Nat → Int32) × (Nat → Int32) × Int32 × Int32 × Int32 => (XW ad cI cZ kind u.1 u.2.1 u.2.2.1 u.2.2.2.1 u.2.2.2.2.1 u.2.2.2.2.2.1 len (nI (max k g)) u.2.2.2.2.2.2.1 u.2.2.2.2.2.2.2.1 u.2.2.2.2.2.2.2.2)) D cI cZ A) (XW ad cI cZ kind role par aro kM kE kI len (nI k) (nI (md kind g)) (b2i (es kind g)) (oI (-2) (sk kind g).head?)) 62 [some (.inr (ad 0)), some (.inl (nI g)), some (.inl (nI g))] [] := by
    intro role par aro kM kE kI hkg h3 h4 h5 h6 h7
    have at76 : ∀ (kM kE kI : Nat → Int32), (∀ j, 16 * j ≤ g → kM j = nI (md kind (16 * j)) ∧ kE j = b2i (es kind (16 * j)) ∧ kI j = oI (-2) (sk kind (16 * j)).head?) → JJ p l e s m args below meth c D A 1 (QV (fun u : (Nat → Int32) × (Nat → Int32) × (Nat → Int32) × (Nat → Int32) × (Nat → Int32) × (Nat → Int32) × Int32 × Int32 × Int32 => XI kind (max k g) u.1 u.2.1 u.2.2.1 u.2.2.2.1 u.2.2.2.2.1 u.2.2.2.2.2.1) (fun u : (Nat → Int32) × (Nat → Int32) × (Nat → Int32) × (Nat → Int32) × (Nat → Int32) × (Nat → Int32) × Int32 × Int32 × Int32 => (XW ad cI cZ kind u.1 u.2.1 u.2.2.1 u.2.2.2.1 u.2.2.2.2.1 u.2.2.2.2.2.1 len (nI (max k g)) u.2.2.2.2.2.2.1 u.2.2.2.2.2.2.2.1 u.2.2.2.2.2.2.2.2)) D cI cZ A) (XW ad cI cZ kind role par aro kM kE kI len (nI k) (nI (md kind g)) (b2i (es kind g)) (oI (-2) (sk kind g).head?)) 76 [some (.inr (ad 0)), some (.inl (nI g)), some (.inl (nI g))] [] := by
      intro kM kE kI hK
      refine j_aload0 (pc := 76) C dX0_readTo_76 ?_
      refine j_iload1 (pc := 77) C dX0_readTo_77 ?_
      refine x_put_kno (pc := 78) C dX0_readTo_78 ?_
      have hmx : max k g = g := by omega
      have hfin : XI kind (max k g) role par aro kM kE kI := by
        rw [hmx]
        refine ⟨fun j hj => h3 j (by omega), fun j hj => h4 j (by omega), fun j hj => ?_, fun j hj => hK j (by omega)⟩
        by_cases e : j < 16 * (k / 16)
        · have := h5 j e
          rw [show max g k = g by omega] at this
          exact this
        · exact h6 j (by omega) hj
      have hw : (nI g) = nI (max k g) := by rw [hmx]
      rw [hw]
      exact j_vret (role, par, aro, kM, kE, kI, nI (md kind g), b2i (es kind g), oI (-2) (sk kind g).head?) C dX0_readTo_81 hfin
    refine j_iload1 (pc := 62) C dX0_readTo_62 ?_
    refine j_bipush (pc := 63) C (nI 15) dX0_readTo_63 (by decide) ?_
    refine j_iand (pc := 65) C dX0_readTo_65 ?_
    refine j_top (nI (g % 16)) (nI_15 g (by omega)) ?_
    refine j_ifN_ne (tgt := 76) (pc := 66) C dX0_readTo_66 (by decide) (by omega) (fun c66 => ?_) (fun c66 => ?_)
    · exact at76 kM kE kI (fun j hj => h7 j (by omega))
    · refine j_aload0 (pc := 69) C dX0_readTo_69 ?_
      refine j_iload1 (pc := 70) C dX0_readTo_70 ?_
      refine j_iconst (pc := 71) C (nI 4) dX0_readTo_71 (by decide) ?_
      refine j_ishr (pc := 72) C dX0_readTo_72 ?_
      refine j_top (nI (g / 16)) (nI_s4 g (by omega)) ?_
      refine x_callV1 (pc := 73) C (xm_keep (k := g / 16) (b := es kind g) (by omega)) (lw_V q122 q124 qs6 q22 q125) (by decide +kernel) (by decide) (by decide) rfl (Nat.le_of_ble_eq_true rfl) dX0_readTo_73 (fun u hu => ?_)
      (try dsimp only)
      refine at76 (upd kM (g / 16) _) (upd kE (g / 16) _) (upd kI (g / 16) _) (fun j hj => ?_)
      by_cases e : j = g / 16
      · have e2 : 16 * j = g := by omega
        subst e
        rw [upd_s, upd_s, upd_s, e2]
        exact ⟨rfl, rfl, rfl⟩
      · rw [upd_n e, upd_n e, upd_n e]
        exact h7 j (by omega)
  have loop : ∀ (f i : Nat) (role par aro kM kE kI : Nat → Int32), g < i + f → i ≤ g → 16 * (k / 16) ≤ i → (∀ j, j < i ∨ j < k → role j = nI (rl kind j)) → (∀ j, j < i ∨ j < k → rl kind j = 1 → aro j = oI (-2) (sk kind j).head?) → (∀ j, j < 16 * (k / 16) → par j = oI (-2) (pn kind (max i k) j)) → (∀ j, 16 * (k / 16) ≤ j → j < i → par j = oI (-2) (pn kind i j)) → (∀ j, 16 * j ≤ k ∨ 16 * j < i → kM j = nI (md kind (16 * j)) ∧ kE j = b2i (es kind (16 * j)) ∧ kI j = oI (-2) (sk kind (16 * j)).head?) → k < g → JJ p l e s m args below meth c D A 1 (QV (fun u : (Nat → Int32) × (Nat → Int32) × (Nat → Int32) × (Nat → Int32) × (Nat → Int32) × (Nat → Int32) × Int32 × Int32 × Int32 => XI kind (max k g) u.1 u.2.1 u.2.2.1 u.2.2.2.1 u.2.2.2.2.1 u.2.2.2.2.2.1) (fun u : (Nat → Int32) × (Nat → Int32) × (Nat → Int32) × (Nat → Int32) × (Nat → Int32) × (Nat → Int32) × Int32 × Int32 × Int32 => (XW ad cI cZ kind u.1 u.2.1 u.2.2.1 u.2.2.2.1 u.2.2.2.2.1 u.2.2.2.2.2.1 len (nI (max k g)) u.2.2.2.2.2.2.1 u.2.2.2.2.2.2.2.1 u.2.2.2.2.2.2.2.2)) D cI cZ A) (XW ad cI cZ kind role par aro kM kE kI len (nI k) (nI (md kind i)) (b2i (es kind i)) (oI (-2) (sk kind i).head?)) 27 [some (.inr (ad 0)), some (.inl (nI g)), some (.inl (nI i))] [] := by
    intro f
    induction f with
    | zero => intro i role par aro kM kE kI h1 h2; omega
    | succ f ih =>
      intro i role par aro kM kE kI h1 h2 hm h3 h4 h5 h6 h7 hkg
      have at46 : i < g → ∀ (kM kE kI : Nat → Int32), (∀ j, 16 * j ≤ k ∨ 16 * j ≤ i → kM j = nI (md kind (16 * j)) ∧ kE j = b2i (es kind (16 * j)) ∧ kI j = oI (-2) (sk kind (16 * j)).head?) → JJ p l e s m args below meth c D A 1 (QV (fun u : (Nat → Int32) × (Nat → Int32) × (Nat → Int32) × (Nat → Int32) × (Nat → Int32) × (Nat → Int32) × Int32 × Int32 × Int32 => XI kind (max k g) u.1 u.2.1 u.2.2.1 u.2.2.2.1 u.2.2.2.2.1 u.2.2.2.2.2.1) (fun u : (Nat → Int32) × (Nat → Int32) × (Nat → Int32) × (Nat → Int32) × (Nat → Int32) × (Nat → Int32) × Int32 × Int32 × Int32 => (XW ad cI cZ kind u.1 u.2.1 u.2.2.1 u.2.2.2.1 u.2.2.2.2.1 u.2.2.2.2.2.1 len (nI (max k g)) u.2.2.2.2.2.2.1 u.2.2.2.2.2.2.2.1 u.2.2.2.2.2.2.2.2)) D cI cZ A) (XW ad cI cZ kind role par aro kM kE kI len (nI k) (nI (md kind i)) (b2i (es kind i)) (oI (-2) (sk kind i).head?)) 46 [some (.inr (ad 0)), some (.inl (nI g)), some (.inl (nI i))] [] := by
        intro hig kM kE kI hK
        refine j_aload0 (pc := 46) C dX0_readTo_46 ?_
        refine j_iload2 (pc := 47) C dX0_readTo_47 ?_
        refine x_callV1 (pc := 48) C (xm_note (i := i) (by omega)) (lw_V q126 q128 qs7 q22 q129) (by decide +kernel) (by decide) (by decide) rfl (Nat.le_of_ble_eq_true rfl) dX0_readTo_48 (fun u hu => ?_)
        obtain ⟨role2, par2, aro2⟩ := u
        obtain ⟨n1, n2, n3⟩ := hu
        dsimp only at n1 n2 n3 ⊢
        refine j_aload0 (pc := 51) C dX0_readTo_51 ?_
        refine j_iload2 (pc := 52) C dX0_readTo_52 ?_
        refine x_callV1 (pc := 53) C (xm_step (i := i) (by omega) (fun q r hq => by
          obtain ⟨a1, a2, a3⟩ := sk_top i q r hq
          refine ⟨?_, by omega⟩
          rw [n3 q, if_neg (by omega), h4 q (Or.inl a1) a2, a3])) (lw_V q130 q132 qs8 q22 q133) (by decide +kernel) (by decide) (by decide) rfl (Nat.le_of_ble_eq_true rfl) dX0_readTo_53 (fun u hu => ?_)
        obtain ⟨mo2, es2, in2⟩ := u
        obtain ⟨s1, s2, s3⟩ := hu
        dsimp only at s1 s2 s3 ⊢
        subst s1; subst s2; subst s3
        refine j_inc2 (pc := 56) C dX0_readTo_56 ?_
        refine j_goto (tgt := 27) (pc := 59) C dX0_readTo_59 (by decide) ?_
        refine ih (i + 1) role2 par2 aro2 kM kE kI (by omega) (by omega) (by omega) (fun j hj => ?_) (fun j hj hj1 => ?_) (fun j hj => ?_) (fun j hj1 hj2 => ?_) (fun j hj => hK j (by omega)) hkg
        · rw [n1 j]
          by_cases e : j = i
          · rw [if_pos e, e]
          · rw [if_neg e]; exact h3 j (by omega)
        · rw [n3 j]
          by_cases e : j = i
          · rw [if_pos ⟨by rw [← e]; exact hj1, e⟩, e]
          · rw [if_neg (fun q => e q.2)]; exact h4 j (by omega) hj1
        · exact rt_p1 (by omega) (n2 j) (h5 j hj)
        · exact rt_p2 (by omega) (n2 j) (fun q => h6 j hj1 q)
      refine j_iload2 (pc := 27) C dX0_readTo_27 ?_
      refine j_iload1 (pc := 28) C dX0_readTo_28 ?_
      refine j_icmpN_ge (tgt := 62) (pc := 29) C dX0_readTo_29 (by decide) (by omega) (by omega) (fun c29 => ?_) (fun c29 => ?_)
      · obtain rfl : i = g := by omega
        exact at62 role par aro kM kE kI hkg h3 h4 h5 h6 h7
      · refine j_iload2 (pc := 32) C dX0_readTo_32 ?_
        refine j_bipush (pc := 33) C (nI 15) dX0_readTo_33 (by decide) ?_
        refine j_iand (pc := 35) C dX0_readTo_35 ?_
        refine j_top (nI (i % 16)) (nI_15 i (by omega)) ?_
        refine j_ifN_ne (tgt := 46) (pc := 36) C dX0_readTo_36 (by decide) (by omega) (fun c36 => ?_) (fun c36 => ?_)
        · exact at46 (by omega) kM kE kI (fun j hj => h7 j (by omega))
        · refine j_aload0 (pc := 39) C dX0_readTo_39 ?_
          refine j_iload2 (pc := 40) C dX0_readTo_40 ?_
          refine j_iconst (pc := 41) C (nI 4) dX0_readTo_41 (by decide) ?_
          refine j_ishr (pc := 42) C dX0_readTo_42 ?_
          refine j_top (nI (i / 16)) (nI_s4 i (by omega)) ?_
          refine x_callV1 (pc := 43) C (xm_keep (k := i / 16) (b := es kind i) (by omega)) (lw_V q122 q124 qs6 q22 q125) (by decide +kernel) (by decide) (by decide) rfl (Nat.le_of_ble_eq_true rfl) dX0_readTo_43 (fun u hu => ?_)
          (try dsimp only)
          refine at46 (by omega) (upd kM (i / 16) _) (upd kE (i / 16) _) (upd kI (i / 16) _) (fun j hj => ?_)
          by_cases e : j = i / 16
          · have e2 : 16 * j = i := by omega
            subst e
            rw [upd_s, upd_s, upd_s, e2]
            exact ⟨rfl, rfl, rfl⟩
          · rw [upd_n e, upd_n e, upd_n e]
            exact h7 j (by omega)
  refine x_ag_kno (pc := 0) C dX0_readTo_0 dX0_readTo_1 ?_
  refine j_iload1 (pc := 4) C dX0_readTo_4 ?_
  refine j_icmpN_lt (tgt := 9) (pc := 5) C dX0_readTo_5 (by decide) (by omega) (by omega) (fun c5 => ?_) (fun c5 => ?_)
  · refine j_aload0 (pc := 9) C dX0_readTo_9 ?_
    refine x_ag_kno (pc := 10) C dX0_readTo_10 dX0_readTo_11 ?_
    refine j_iconst (pc := 14) C (nI 4) dX0_readTo_14 (by decide) ?_
    refine j_ishr (pc := 15) C dX0_readTo_15 ?_
    refine j_top (nI (k / 16)) (nI_s4 k (by omega)) ?_
    refine x_callV1 (pc := 16) C (xm_load (k := k / 16) (by omega) (hX.2.2.2 (k / 16) (by omega)).2.1) (lw_V q118 q120 qs5 q22 q121) (by decide +kernel) (by decide) (by decide) rfl (Nat.le_of_ble_eq_true rfl) dX0_readTo_16 (fun u hu => ?_)
    (try dsimp only)
    rw [(hX.2.2.2 (k / 16) (by omega)).1, (hX.2.2.2 (k / 16) (by omega)).2.2]
    refine x_ag_kno (pc := 19) C dX0_readTo_19 dX0_readTo_20 ?_
    refine j_bipush (pc := 23) C (-16) dX0_readTo_23 (by decide) ?_
    refine j_iand (pc := 25) C dX0_readTo_25 ?_
    refine j_top (nI (16 * (k / 16))) (nI_16 k (by omega)) ?_
    refine j_istore2 (pc := 26) C dX0_readTo_26 ?_
    refine loop (g + 1) (16 * (k / 16)) role par aro kM kE kI (by omega) (by omega) (Nat.le_refl _) (fun j hj => hX.1 j (by omega)) (fun j hj => hX.2.1 j (by omega)) (fun j hj => ?_) (fun j h1 h2 => by omega) (fun j hj => hX.2.2.2 j (by omega)) c5
    rw [show max (16 * (k / 16)) k = k by omega]
    exact hX.2.2.1 j (by omega)
  · have hmx : max k g = k := by omega
    have hfin : XI kind (max k g) role par aro kM kE kI := by rw [hmx]; exact hX
    have hw : (nI k) = nI (max k g) := by rw [hmx]
    rw [hw]
    exact j_vret (role, par, aro, kM, kE, kI, mo, esc, inn) C dX0_readTo_8 hfin

set_option maxHeartbeats 4000000 in
set_option maxRecDepth 100000 in
theorem xm_stateAt {l : Launch} {D : va_G} {cI cZ : ClassId} {ad : Nat → Nat} {kind role par aro kM kE kI : Nat → Int32} {len mo esc inn : Int32} {k g : Nat} (hk : k ≤ 64) (hg : g ≤ 64) (hX : XI kind k role par aro kM kE kI) : MetV l yX0_stateAt cX0_stateAt 3 2 D cI cZ [.ref (ad 0), .int (nI g)] (fun u : (Nat → Int32) × (Nat → Int32) × (Nat → Int32) × (Nat → Int32) × (Nat → Int32) × (Nat → Int32) × Int32 × Int32 × Int32 => (XW ad cI cZ kind u.1 u.2.1 u.2.2.1 u.2.2.2.1 u.2.2.2.2.1 u.2.2.2.2.2.1 len (nI (max k g)) u.2.2.2.2.2.2.1 u.2.2.2.2.2.2.2.1 u.2.2.2.2.2.2.2.2)) (XW ad cI cZ kind role par aro kM kE kI len (nI k) mo esc inn) (fun u : (Nat → Int32) × (Nat → Int32) × (Nat → Int32) × (Nat → Int32) × (Nat → Int32) × (Nat → Int32) × Int32 × Int32 × Int32 => XI kind (max k g) u.1 u.2.1 u.2.2.1 u.2.2.2.1 u.2.2.2.2.1 u.2.2.2.2.2.1 ∧ u.2.2.2.2.2.2.1 = nI (md kind g) ∧ u.2.2.2.2.2.2.2.1 = b2i (es kind g) ∧ u.2.2.2.2.2.2.2.2 = oI (-2) (sk kind g).head?) := by
  refine fun sz => j_start (Qc := fun A => (QV (fun u : (Nat → Int32) × (Nat → Int32) × (Nat → Int32) × (Nat → Int32) × (Nat → Int32) × (Nat → Int32) × Int32 × Int32 × Int32 => XI kind (max k g) u.1 u.2.1 u.2.2.1 u.2.2.2.1 u.2.2.2.2.1 u.2.2.2.2.2.1 ∧ u.2.2.2.2.2.2.1 = nI (md kind g) ∧ u.2.2.2.2.2.2.2.1 = b2i (es kind g) ∧ u.2.2.2.2.2.2.2.2 = oI (-2) (sk kind g).head?) (fun u : (Nat → Int32) × (Nat → Int32) × (Nat → Int32) × (Nat → Int32) × (Nat → Int32) × (Nat → Int32) × Int32 × Int32 × Int32 => (XW ad cI cZ kind u.1 u.2.1 u.2.2.1 u.2.2.2.1 u.2.2.2.2.1 u.2.2.2.2.2.1 len (nI (max k g)) u.2.2.2.2.2.2.1 u.2.2.2.2.2.2.2.1 u.2.2.2.2.2.2.2.2)) D cI cZ A)) [some (.inr (ad 0)), some (.inl (nI g)), none] (by decide) (Nat.le_of_ble_eq_true rfl) rfl ?_ sz
  intro p e s m args below meth c A C
  have C : CC p s m args meth c D A cI cZ RX0 cX0_stateAt 3 none := C
  refine j_aload0 (pc := 0) C dX0_stateAt_0 ?_
  refine j_iload1 (pc := 1) C dX0_stateAt_1 ?_
  refine x_callV1 (pc := 2) C (xm_readTo hk hg hX) (lw_V q114 q116 qs4 q22 q117) (by decide +kernel) (by decide) (by decide) rfl (Nat.le_of_ble_eq_true rfl) dX0_stateAt_2 (fun u hu => ?_)
  obtain ⟨role, par, aro, kM, kE, kI, mo, esc, inn⟩ := u
  replace hX := hu
  dsimp only at hX ⊢
  have loop : ∀ (f i : Nat), g < i + f → i ≤ g → JJ p l e s m args below meth c D A 2 (QV (fun u : (Nat → Int32) × (Nat → Int32) × (Nat → Int32) × (Nat → Int32) × (Nat → Int32) × (Nat → Int32) × Int32 × Int32 × Int32 => XI kind (max k g) u.1 u.2.1 u.2.2.1 u.2.2.2.1 u.2.2.2.2.1 u.2.2.2.2.2.1 ∧ u.2.2.2.2.2.2.1 = nI (md kind g) ∧ u.2.2.2.2.2.2.2.1 = b2i (es kind g) ∧ u.2.2.2.2.2.2.2.2 = oI (-2) (sk kind g).head?) (fun u : (Nat → Int32) × (Nat → Int32) × (Nat → Int32) × (Nat → Int32) × (Nat → Int32) × (Nat → Int32) × Int32 × Int32 × Int32 => (XW ad cI cZ kind u.1 u.2.1 u.2.2.1 u.2.2.2.1 u.2.2.2.2.1 u.2.2.2.2.2.1 len (nI (max k g)) u.2.2.2.2.2.2.1 u.2.2.2.2.2.2.2.1 u.2.2.2.2.2.2.2.2)) D cI cZ A) (XW ad cI cZ kind role par aro kM kE kI len (nI (max k g)) (nI (md kind i)) (b2i (es kind i)) (oI (-2) (sk kind i).head?)) 17 [some (.inr (ad 0)), some (.inl (nI g)), some (.inl (nI i))] [] := by
    intro f
    induction f with
    | zero => intro i h1 h2; omega
    | succ f ih =>
      intro i h1 h2
      refine j_iload2 (pc := 17) C dX0_stateAt_17 ?_
      refine j_iload1 (pc := 18) C dX0_stateAt_18 ?_
      refine j_icmpN_ge (tgt := 33) (pc := 19) C dX0_stateAt_19 (by decide) (by omega) (by omega) (fun c19 => ?_) (fun c19 => ?_)
      · obtain rfl : i = g := by omega
        exact j_vret (role, par, aro, kM, kE, kI, nI (md kind i), b2i (es kind i), oI (-2) (sk kind i).head?) C dX0_stateAt_33 ⟨hX, rfl, rfl, rfl⟩
      · refine j_aload0 (pc := 22) C dX0_stateAt_22 ?_
        refine j_iload2 (pc := 23) C dX0_stateAt_23 ?_
        refine x_callV1 (pc := 24) C (xm_step (i := i) (by omega) (fun q r hq => by have := hX.aro (g := i) (j := 0) (by omega) hq; exact ⟨this.1, by omega⟩)) (lw_V q130 q132 qs8 q22 q133) (by decide +kernel) (by decide) (by decide) rfl (Nat.le_of_ble_eq_true rfl) dX0_stateAt_24 (fun u hu => ?_)
        obtain ⟨mo2, es2, in2⟩ := u
        obtain ⟨s1, s2, s3⟩ := hu
        dsimp only at s1 s2 s3 ⊢
        subst s1; subst s2; subst s3
        refine j_inc2 (pc := 27) C dX0_stateAt_27 ?_
        refine j_goto (tgt := 17) (pc := 30) C dX0_stateAt_30 (by decide) ?_
        exact ih (i + 1) (by omega) (by omega)
  refine j_aload0 (pc := 5) C dX0_stateAt_5 ?_
  refine j_iload1 (pc := 6) C dX0_stateAt_6 ?_
  refine j_iconst (pc := 7) C (nI 4) dX0_stateAt_7 (by decide) ?_
  refine j_ishr (pc := 8) C dX0_stateAt_8 ?_
  refine j_top (nI (g / 16)) (nI_s4 g (by omega)) ?_
  refine x_callV1 (pc := 9) C (xm_load (k := g / 16) (by omega) (hX.2.2.2 (g / 16) (by omega)).2.1) (lw_V q118 q120 qs5 q22 q121) (by decide +kernel) (by decide) (by decide) rfl (Nat.le_of_ble_eq_true rfl) dX0_stateAt_9 (fun u hu => ?_)
  (try dsimp only)
  rw [(hX.2.2.2 (g / 16) (by omega)).1, (hX.2.2.2 (g / 16) (by omega)).2.2]
  refine j_iload1 (pc := 12) C dX0_stateAt_12 ?_
  refine j_bipush (pc := 13) C (-16) dX0_stateAt_13 (by decide) ?_
  refine j_iand (pc := 15) C dX0_stateAt_15 ?_
  refine j_top (nI (16 * (g / 16))) (nI_16 g (by omega)) ?_
  refine j_istore2 (pc := 16) C dX0_stateAt_16 ?_
  exact loop (g + 1) (16 * (g / 16)) (by omega) (by omega)
end
section
set_option maxHeartbeats 4000000 in
set_option maxRecDepth 100000 in
theorem xm_unitEnd {l : Launch} {D : va_G} {cI cZ : ClassId} {ad : Nat → Nat} {kind role par aro kM kE kI : Nat → Int32} {mo esc inn : Int32} {n i : Nat} (hn : n ≤ 64) (hi : i < n) (hX : XI kind n role par aro kM kE kI) : MetI l yX0_unitEnd cX0_unitEnd 3 (some .int) 3 D cI cZ [.ref (ad 0), .int (nI i)] (fun u : (Nat → Int32) × (Nat → Int32) × (Nat → Int32) × (Nat → Int32) × (Nat → Int32) × (Nat → Int32) × Int32 × Int32 × Int32 => (XW ad cI cZ kind u.1 u.2.1 u.2.2.1 u.2.2.2.1 u.2.2.2.2.1 u.2.2.2.2.2.1 (nI n) (nI n) u.2.2.2.2.2.2.1 u.2.2.2.2.2.2.2.1 u.2.2.2.2.2.2.2.2)) (XW ad cI cZ kind role par aro kM kE kI (nI n) (nI n) mo esc inn) (fun (r : Int32) (u : (Nat → Int32) × (Nat → Int32) × (Nat → Int32) × (Nat → Int32) × (Nat → Int32) × (Nat → Int32) × Int32 × Int32 × Int32) => XI kind n u.1 u.2.1 u.2.2.1 u.2.2.2.1 u.2.2.2.2.1 u.2.2.2.2.2.1 ∧ r = oI (-1) (uE kind n i)) := by
  refine fun sz => j_start (Qc := fun A => (QI (fun (r : Int32) (u : (Nat → Int32) × (Nat → Int32) × (Nat → Int32) × (Nat → Int32) × (Nat → Int32) × (Nat → Int32) × Int32 × Int32 × Int32) => XI kind n u.1 u.2.1 u.2.2.1 u.2.2.2.1 u.2.2.2.2.1 u.2.2.2.2.2.1 ∧ r = oI (-1) (uE kind n i)) (fun u : (Nat → Int32) × (Nat → Int32) × (Nat → Int32) × (Nat → Int32) × (Nat → Int32) × (Nat → Int32) × Int32 × Int32 × Int32 => (XW ad cI cZ kind u.1 u.2.1 u.2.2.1 u.2.2.2.1 u.2.2.2.2.1 u.2.2.2.2.2.1 (nI n) (nI n) u.2.2.2.2.2.2.1 u.2.2.2.2.2.2.2.1 u.2.2.2.2.2.2.2.2)) D cI cZ A)) [some (.inr (ad 0)), some (.inl (nI i)), none] (by decide) (Nat.le_of_ble_eq_true rfl) rfl ?_ sz
  intro p e s m args below meth c A C
  have C : CC p s m args meth c D A cI cZ RX0 cX0_unitEnd 3 (some .int) := C
  have hrl := rl_lt kind
  have hrli := rl_lt kind i
  have hrli1 := rl_lt kind (i - 1)
  have loop44 : uE kind n i = sE kind n n (i + 1) → ∀ (f e2 : Nat), sE kind n n (i + 1) = sE kind n f e2 → n < e2 + f → i < e2 → e2 ≤ n → JJ p l e s m args below meth c D A 3 (QI (fun (r : Int32) (u : (Nat → Int32) × (Nat → Int32) × (Nat → Int32) × (Nat → Int32) × (Nat → Int32) × (Nat → Int32) × Int32 × Int32 × Int32) => XI kind n u.1 u.2.1 u.2.2.1 u.2.2.2.1 u.2.2.2.2.1 u.2.2.2.2.2.1 ∧ r = oI (-1) (uE kind n i)) (fun u : (Nat → Int32) × (Nat → Int32) × (Nat → Int32) × (Nat → Int32) × (Nat → Int32) × (Nat → Int32) × Int32 × Int32 × Int32 => (XW ad cI cZ kind u.1 u.2.1 u.2.2.1 u.2.2.2.1 u.2.2.2.2.1 u.2.2.2.2.2.1 (nI n) (nI n) u.2.2.2.2.2.2.1 u.2.2.2.2.2.2.2.1 u.2.2.2.2.2.2.2.2)) D cI cZ A) (XW ad cI cZ kind role par aro kM kE kI (nI n) (nI n) mo esc inn) 44 [some (.inr (ad 0)), some (.inl (nI i)), some (.inl (nI e2))] [] := by
    intro hu0 f
    rw [← hu0]
    induction f with
    | zero => intro e2 h1 h2; omega
    | succ f ih =>
      intro e2 hu h2 h3 h4
      have hrl2 := rl_lt kind e2
      refine j_iload2 (pc := 44) C dX0_unitEnd_44 ?_
      refine x_ag_len (pc := 45) C dX0_unitEnd_45 dX0_unitEnd_46 ?_
      refine j_icmpN_ge (tgt := 70) (pc := 49) C dX0_unitEnd_49 (by decide) (by omega) (by omega) (fun c49 => ?_) (fun c49 => ?_)
      · refine j_iconst (pc := 70) C (-1) dX0_unitEnd_70 (by decide) ?_
        exact j_iret (role, par, aro, kM, kE, kI, _, _, _) C dX0_unitEnd_71 ⟨hX, by rw [hu, sE, if_neg (by omega)]; rfl⟩
      · refine x_ag_role (pc := 52) C dX0_unitEnd_52 dX0_unitEnd_53 ?_
        refine j_iload2 (pc := 56) C dX0_unitEnd_56 ?_
        refine x_ald_role (pc := 57) C dX0_unitEnd_57 (by omega) ?_
        refine j_top (nI (rl kind (e2))) (hX.1 (e2) (by omega)) ?_
        refine j_iconst (pc := 58) C (nI 5) dX0_unitEnd_58 (by decide) ?_
        refine j_icmpN_ne (tgt := 64) (pc := 59) C dX0_unitEnd_59 (by decide) (by omega) (by omega) (fun c59 => ?_) (fun c59 => ?_)
        · refine j_inc2 (pc := 64) C dX0_unitEnd_64 ?_
          refine j_goto (tgt := 44) (pc := 67) C dX0_unitEnd_67 (by decide) ?_
          exact ih (e2 + 1) (by rw [hu, sE, if_pos c49, if_neg c59]) (by omega) (by omega) (by omega)
        · refine j_iload2 (pc := 62) C dX0_unitEnd_62 ?_
          exact j_iret (role, par, aro, kM, kE, kI, _, _, _) C dX0_unitEnd_63 ⟨hX, by rw [hu, sE, if_pos c49, if_pos c59]; rfl⟩
  have at102 : ¬ rl kind i = 1 → ¬ rl kind i = 4 → rl kind i = 6 → ¬ (0 < i ∧ rl kind (i - 1) = 6) → JJ p l e s m args below meth c D A 3 (QI (fun (r : Int32) (u : (Nat → Int32) × (Nat → Int32) × (Nat → Int32) × (Nat → Int32) × (Nat → Int32) × (Nat → Int32) × Int32 × Int32 × Int32) => XI kind n u.1 u.2.1 u.2.2.1 u.2.2.2.1 u.2.2.2.2.1 u.2.2.2.2.2.1 ∧ r = oI (-1) (uE kind n i)) (fun u : (Nat → Int32) × (Nat → Int32) × (Nat → Int32) × (Nat → Int32) × (Nat → Int32) × (Nat → Int32) × Int32 × Int32 × Int32 => (XW ad cI cZ kind u.1 u.2.1 u.2.2.1 u.2.2.2.1 u.2.2.2.2.1 u.2.2.2.2.2.1 (nI n) (nI n) u.2.2.2.2.2.2.1 u.2.2.2.2.2.2.2.1 u.2.2.2.2.2.2.2.2)) D cI cZ A) (XW ad cI cZ kind role par aro kM kE kI (nI n) (nI n) mo esc inn) 102 [some (.inr (ad 0)), some (.inl (nI i)), none] [] := by
    intro g1 g4 g6 gp
    have hu : uE kind n i = if es kind (wE kind n n i + 1) = true then none else some (wE kind n n i) := by unfold uE; rw [if_neg g1, if_neg g4, if_pos ⟨g6, gp⟩]
    have at133 : ∀ e2, wE kind n n i = e2 → e2 < n → i ≤ e2 → JJ p l e s m args below meth c D A 3 (QI (fun (r : Int32) (u : (Nat → Int32) × (Nat → Int32) × (Nat → Int32) × (Nat → Int32) × (Nat → Int32) × (Nat → Int32) × Int32 × Int32 × Int32) => XI kind n u.1 u.2.1 u.2.2.1 u.2.2.2.1 u.2.2.2.2.1 u.2.2.2.2.2.1 ∧ r = oI (-1) (uE kind n i)) (fun u : (Nat → Int32) × (Nat → Int32) × (Nat → Int32) × (Nat → Int32) × (Nat → Int32) × (Nat → Int32) × Int32 × Int32 × Int32 => (XW ad cI cZ kind u.1 u.2.1 u.2.2.1 u.2.2.2.1 u.2.2.2.2.1 u.2.2.2.2.2.1 (nI n) (nI n) u.2.2.2.2.2.2.1 u.2.2.2.2.2.2.2.1 u.2.2.2.2.2.2.2.2)) D cI cZ A) (XW ad cI cZ kind role par aro kM kE kI (nI n) (nI n) mo esc inn) 133 [some (.inr (ad 0)), some (.inl (nI i)), some (.inl (nI e2))] [] := by
      intro e2 hw h1 h2
      refine j_aload0 (pc := 133) C dX0_unitEnd_133 ?_
      refine j_iload2 (pc := 134) C dX0_unitEnd_134 ?_
      refine j_iconst (pc := 135) C (nI 1) dX0_unitEnd_135 (by decide) ?_
      refine j_iaddN (pc := 136) C dX0_unitEnd_136 ?_
      refine x_callV1 (pc := 137) C (xm_stateAt (k := n) (g := e2 + 1) hn (by omega) hX) (lw_V q110 q112 qs3 q22 q113) (by decide +kernel) (by decide) (by decide) rfl (Nat.le_of_ble_eq_true rfl) dX0_unitEnd_137 (fun u hu => ?_)
      obtain ⟨role, par, aro, kM, kE, kI, mo, esc, inn⟩ := u
      obtain ⟨hX, ee1, ee2, ee3⟩ := hu
      dsimp only at hX ee1 ee2 ee3 ⊢
      rw [show max n (e2 + 1) = n by omega] at hX ⊢
      subst ee2
      refine x_ag_esc (pc := 140) C dX0_unitEnd_140 dX0_unitEnd_141 ?_
      refine j_ifB_eq (tgt := 151) (pc := 144) C dX0_unitEnd_144 (by decide) (fun c144 => ?_) (fun c144 => ?_)
      · refine j_iload2 (pc := 151) C dX0_unitEnd_151 ?_
        exact j_iret (role, par, aro, kM, kE, kI, _, _, _) C dX0_unitEnd_152 ⟨hX, by rw [hu, hw, if_neg (by rw [c144]; simp)]; rfl⟩
      · refine j_iconst (pc := 147) C (-1) dX0_unitEnd_147 (by decide) ?_
        refine j_goto (tgt := 152) (pc := 148) C dX0_unitEnd_148 (by decide) ?_
        exact j_iret (role, par, aro, kM, kE, kI, _, _, _) C dX0_unitEnd_152 ⟨hX, by rw [hu, hw, if_pos c144]; rfl⟩
    have loop104 : ∀ (f e2 : Nat), wE kind n n i = wE kind n f e2 → n ≤ e2 + f → i ≤ e2 → e2 < n → JJ p l e s m args below meth c D A 3 (QI (fun (r : Int32) (u : (Nat → Int32) × (Nat → Int32) × (Nat → Int32) × (Nat → Int32) × (Nat → Int32) × (Nat → Int32) × Int32 × Int32 × Int32) => XI kind n u.1 u.2.1 u.2.2.1 u.2.2.2.1 u.2.2.2.2.1 u.2.2.2.2.2.1 ∧ r = oI (-1) (uE kind n i)) (fun u : (Nat → Int32) × (Nat → Int32) × (Nat → Int32) × (Nat → Int32) × (Nat → Int32) × (Nat → Int32) × Int32 × Int32 × Int32 => (XW ad cI cZ kind u.1 u.2.1 u.2.2.1 u.2.2.2.1 u.2.2.2.2.1 u.2.2.2.2.2.1 (nI n) (nI n) u.2.2.2.2.2.2.1 u.2.2.2.2.2.2.2.1 u.2.2.2.2.2.2.2.2)) D cI cZ A) (XW ad cI cZ kind role par aro kM kE kI (nI n) (nI n) mo esc inn) 104 [some (.inr (ad 0)), some (.inl (nI i)), some (.inl (nI e2))] [] := by
      intro f
      induction f with
      | zero => intro e2 h1 h2 h3 h4; omega
      | succ f ih =>
        intro e2 hw h2 h3 h4
        have hrl2 := rl_lt kind (e2 + 1)
        refine j_iload2 (pc := 104) C dX0_unitEnd_104 ?_
        refine j_iconst (pc := 105) C (nI 1) dX0_unitEnd_105 (by decide) ?_
        refine j_iaddN (pc := 106) C dX0_unitEnd_106 ?_
        refine x_ag_len (pc := 107) C dX0_unitEnd_107 dX0_unitEnd_108 ?_
        refine j_icmpN_ge (tgt := 133) (pc := 111) C dX0_unitEnd_111 (by decide) (by omega) (by omega) (fun c111 => ?_) (fun c111 => ?_)
        · exact at133 e2 (by rw [hw, wE, if_neg (fun q => absurd q.1 (by omega))]) (by omega) (by omega)
        · refine x_ag_role (pc := 114) C dX0_unitEnd_114 dX0_unitEnd_115 ?_
          refine j_iload2 (pc := 118) C dX0_unitEnd_118 ?_
          refine j_iconst (pc := 119) C (nI 1) dX0_unitEnd_119 (by decide) ?_
          refine j_iaddN (pc := 120) C dX0_unitEnd_120 ?_
          refine x_ald_role (pc := 121) C dX0_unitEnd_121 (by omega) ?_
          refine j_top (nI (rl kind (e2 + 1))) (hX.1 (e2 + 1) (by omega)) ?_
          refine j_bipush (pc := 122) C (nI 6) dX0_unitEnd_122 (by decide) ?_
          refine j_icmpN_ne (tgt := 133) (pc := 124) C dX0_unitEnd_124 (by decide) (by omega) (by omega) (fun c124 => ?_) (fun c124 => ?_)
          · exact at133 e2 (by rw [hw, wE, if_neg (fun q => c124 q.2)]) (by omega) (by omega)
          · refine j_inc2 (pc := 127) C dX0_unitEnd_127 ?_
            refine j_goto (tgt := 104) (pc := 130) C dX0_unitEnd_130 (by decide) ?_
            exact ih (e2 + 1) (by rw [hw, wE, if_pos ⟨c111, c124⟩]) (by omega) (by omega) (by omega)
    refine j_iload1 (pc := 102) C dX0_unitEnd_102 ?_
    refine j_istore2 (pc := 103) C dX0_unitEnd_103 ?_
    exact loop104 n i rfl (by omega) (by omega) (by omega)
  refine x_ag_role (pc := 0) C dX0_unitEnd_0 dX0_unitEnd_1 ?_
  refine j_iload1 (pc := 4) C dX0_unitEnd_4 ?_
  refine x_ald_role (pc := 5) C dX0_unitEnd_5 (by omega) ?_
  refine j_top (nI (rl kind (i))) (hX.1 (i) (by omega)) ?_
  refine j_iconst (pc := 6) C (nI 1) dX0_unitEnd_6 (by decide) ?_
  refine j_icmpN_ne (tgt := 30) (pc := 7) C dX0_unitEnd_7 (by decide) (by omega) (by omega) (fun c7 => ?_) (fun c7 => ?_)
  · refine x_ag_role (pc := 30) C dX0_unitEnd_30 dX0_unitEnd_31 ?_
    refine j_iload1 (pc := 34) C dX0_unitEnd_34 ?_
    refine x_ald_role (pc := 35) C dX0_unitEnd_35 (by omega) ?_
    refine j_top (nI (rl kind (i))) (hX.1 (i) (by omega)) ?_
    refine j_iconst (pc := 36) C (nI 4) dX0_unitEnd_36 (by decide) ?_
    refine j_icmpN_ne (tgt := 72) (pc := 37) C dX0_unitEnd_37 (by decide) (by omega) (by omega) (fun c37 => ?_) (fun c37 => ?_)
    · refine x_ag_role (pc := 72) C dX0_unitEnd_72 dX0_unitEnd_73 ?_
      refine j_iload1 (pc := 76) C dX0_unitEnd_76 ?_
      refine x_ald_role (pc := 77) C dX0_unitEnd_77 (by omega) ?_
      refine j_top (nI (rl kind (i))) (hX.1 (i) (by omega)) ?_
      refine j_bipush (pc := 78) C (nI 6) dX0_unitEnd_78 (by decide) ?_
      refine j_icmpN_ne (tgt := 100) (pc := 80) C dX0_unitEnd_80 (by decide) (by omega) (by omega) (fun c80 => ?_) (fun c80 => ?_)
      · refine j_iconst (pc := 100) C (-1) dX0_unitEnd_100 (by decide) ?_
        exact j_iret (role, par, aro, kM, kE, kI, _, _, _) C dX0_unitEnd_101 ⟨hX, by unfold uE; rw [if_neg c7, if_neg c37, if_neg (fun q => c80 q.1)]; rfl⟩
      · refine j_iload1 (pc := 83) C dX0_unitEnd_83 ?_
        refine j_ifN_le (tgt := 102) (pc := 84) C dX0_unitEnd_84 (by decide) (by omega) (fun c84 => ?_) (fun c84 => ?_)
        · exact at102 c7 c37 c80 (fun q => absurd q.1 (by omega))
        · refine x_ag_role (pc := 87) C dX0_unitEnd_87 dX0_unitEnd_88 ?_
          refine j_iload1 (pc := 91) C dX0_unitEnd_91 ?_
          refine j_iconst (pc := 92) C (nI 1) dX0_unitEnd_92 (by decide) ?_
          refine j_isubN (pc := 93) C dX0_unitEnd_93 (by omega) ?_
          refine x_ald_role (pc := 94) C dX0_unitEnd_94 (by omega) ?_
          refine j_top (nI (rl kind (i - 1))) (hX.1 (i - 1) (by omega)) ?_
          refine j_bipush (pc := 95) C (nI 6) dX0_unitEnd_95 (by decide) ?_
          refine j_icmpN_ne (tgt := 102) (pc := 97) C dX0_unitEnd_97 (by decide) (by omega) (by omega) (fun c97 => ?_) (fun c97 => ?_)
          · exact at102 c7 c37 c80 (fun q => c97 q.2)
          · refine j_iconst (pc := 100) C (-1) dX0_unitEnd_100 (by decide) ?_
            exact j_iret (role, par, aro, kM, kE, kI, _, _, _) C dX0_unitEnd_101 ⟨hX, by unfold uE; rw [if_neg c7, if_neg c37, if_neg (fun q => q.2 ⟨c84, c97⟩)]; rfl⟩
    · refine j_iload1 (pc := 40) C dX0_unitEnd_40 ?_
      refine j_iconst (pc := 41) C (nI 1) dX0_unitEnd_41 (by decide) ?_
      refine j_iaddN (pc := 42) C dX0_unitEnd_42 ?_
      refine j_istore2 (pc := 43) C dX0_unitEnd_43 ?_
      exact loop44 (by unfold uE; rw [if_neg c7, if_pos c37]) n (i + 1) rfl (by omega) (by omega) (by omega)
  · have hu : uE kind n i = pn kind n i := by unfold uE; rw [if_pos c7]
    cases hp : pn kind n i with
    | none =>
      refine x_ag_par (pc := 10) C dX0_unitEnd_10 dX0_unitEnd_11 ?_
      refine j_iload1 (pc := 14) C dX0_unitEnd_14 ?_
      refine x_ald_par (pc := 15) C dX0_unitEnd_15 (by omega) ?_
      refine j_top (-2) (by rw [hX.2.2.1 i hi, hp]; rfl) ?_
      refine j_if_ge (tgt := 23) (pc := 16) C dX0_unitEnd_16 (by decide) (fun c16 => ?_) (fun c16 => ?_)
      · exact absurd c16 (by decide)
      · refine j_iconst (pc := 19) C (-1) dX0_unitEnd_19 (by decide) ?_
        refine j_goto (tgt := 29) (pc := 20) C dX0_unitEnd_20 (by decide) ?_
        exact j_iret (role, par, aro, kM, kE, kI, _, _, _) C dX0_unitEnd_29 ⟨hX, by rw [hu, hp]; rfl⟩
    | some q =>
      have hq := (pn_some n i q hp).1
      refine x_ag_par (pc := 10) C dX0_unitEnd_10 dX0_unitEnd_11 ?_
      refine j_iload1 (pc := 14) C dX0_unitEnd_14 ?_
      refine x_ald_par (pc := 15) C dX0_unitEnd_15 (by omega) ?_
      refine j_top (nI q) (by rw [hX.2.2.1 i hi, hp]; rfl) ?_
      refine j_ifN_ge (tgt := 23) (pc := 16) C dX0_unitEnd_16 (by decide) (by omega) (fun c16 => ?_) (fun c16 => ?_)
      · refine x_ag_par (pc := 23) C dX0_unitEnd_23 dX0_unitEnd_24 ?_
        refine j_iload1 (pc := 27) C dX0_unitEnd_27 ?_
        refine x_ald_par (pc := 28) C dX0_unitEnd_28 (by omega) ?_
        refine j_top (nI q) (by rw [hX.2.2.1 i hi, hp]; rfl) ?_
        exact j_iret (role, par, aro, kM, kE, kI, _, _, _) C dX0_unitEnd_29 ⟨hX, by rw [hu, hp]; rfl⟩
      · exact absurd c16 (by omega)


set_option maxHeartbeats 4000000 in
set_option maxRecDepth 100000 in
theorem xm_unitStart {l : Launch} {D : va_G} {cI cZ : ClassId} {ad : Nat → Nat} {kind role par aro kM kE kI : Nat → Int32} {mo esc inn : Int32} {n i : Nat} (hn : n ≤ 64) (hi : i < n) (hX : XI kind n role par aro kM kE kI) : MetI l yX0_unitStart cX0_unitStart 3 (some .int) 3 D cI cZ [.ref (ad 0), .int (nI i)] (fun u : (Nat → Int32) × (Nat → Int32) × (Nat → Int32) × (Nat → Int32) × (Nat → Int32) × (Nat → Int32) × Int32 × Int32 × Int32 => (XW ad cI cZ kind u.1 u.2.1 u.2.2.1 u.2.2.2.1 u.2.2.2.2.1 u.2.2.2.2.2.1 (nI n) (nI n) u.2.2.2.2.2.2.1 u.2.2.2.2.2.2.2.1 u.2.2.2.2.2.2.2.2)) (XW ad cI cZ kind role par aro kM kE kI (nI n) (nI n) mo esc inn) (fun (r : Int32) (u : (Nat → Int32) × (Nat → Int32) × (Nat → Int32) × (Nat → Int32) × (Nat → Int32) × (Nat → Int32) × Int32 × Int32 × Int32) => XI kind n u.1 u.2.1 u.2.2.1 u.2.2.2.1 u.2.2.2.2.1 u.2.2.2.2.2.1 ∧ r = oI (-1) (uS kind n i)) := by
  refine fun sz => j_start (Qc := fun A => (QI (fun (r : Int32) (u : (Nat → Int32) × (Nat → Int32) × (Nat → Int32) × (Nat → Int32) × (Nat → Int32) × (Nat → Int32) × Int32 × Int32 × Int32) => XI kind n u.1 u.2.1 u.2.2.1 u.2.2.2.1 u.2.2.2.2.1 u.2.2.2.2.2.1 ∧ r = oI (-1) (uS kind n i)) (fun u : (Nat → Int32) × (Nat → Int32) × (Nat → Int32) × (Nat → Int32) × (Nat → Int32) × (Nat → Int32) × Int32 × Int32 × Int32 => (XW ad cI cZ kind u.1 u.2.1 u.2.2.1 u.2.2.2.1 u.2.2.2.2.1 u.2.2.2.2.2.1 (nI n) (nI n) u.2.2.2.2.2.2.1 u.2.2.2.2.2.2.2.1 u.2.2.2.2.2.2.2.2)) D cI cZ A)) [some (.inr (ad 0)), some (.inl (nI i)), none] (by decide) (Nat.le_of_ble_eq_true rfl) rfl ?_ sz
  intro p e s m args below meth c A C
  have C : CC p s m args meth c D A cI cZ RX0 cX0_unitStart 3 (some .int) := C
  have hrli := rl_lt kind i
  have hrli1 := rl_lt kind (i + 1)
  have loop29 : uS kind n i = some (sS kind i) → ∀ (j : Nat), sS kind i = sS kind j → j ≤ i → JJ p l e s m args below meth c D A 3 (QI (fun (r : Int32) (u : (Nat → Int32) × (Nat → Int32) × (Nat → Int32) × (Nat → Int32) × (Nat → Int32) × (Nat → Int32) × Int32 × Int32 × Int32) => XI kind n u.1 u.2.1 u.2.2.1 u.2.2.2.1 u.2.2.2.2.1 u.2.2.2.2.2.1 ∧ r = oI (-1) (uS kind n i)) (fun u : (Nat → Int32) × (Nat → Int32) × (Nat → Int32) × (Nat → Int32) × (Nat → Int32) × (Nat → Int32) × Int32 × Int32 × Int32 => (XW ad cI cZ kind u.1 u.2.1 u.2.2.1 u.2.2.2.1 u.2.2.2.2.1 u.2.2.2.2.2.1 (nI n) (nI n) u.2.2.2.2.2.2.1 u.2.2.2.2.2.2.2.1 u.2.2.2.2.2.2.2.2)) D cI cZ A) (XW ad cI cZ kind role par aro kM kE kI (nI n) (nI n) mo esc inn) 29 [some (.inr (ad 0)), some (.inl (nI i)), some (.inl (nI j))] [] := by
    intro hu j
    induction j with
    | zero =>
      intro hj h2
      refine j_iload2 (pc := 29) C dX0_unitStart_29 ?_
      refine j_ifN_le (tgt := 49) (pc := 30) C dX0_unitStart_30 (by decide) (by omega) (fun c30 => ?_) (fun c30 => ?_)
      · refine j_iload2 (pc := 49) C dX0_unitStart_49 ?_
        exact j_iret (role, par, aro, kM, kE, kI, _, _, _) C dX0_unitStart_50 ⟨hX, by rw [hu, hj]; rfl⟩
      · exact absurd c30 (by omega)
    | succ j ih =>
      intro hj h2
      have hrl2 := rl_lt kind (j + 1)
      refine j_iload2 (pc := 29) C dX0_unitStart_29 ?_
      refine j_ifN_le (tgt := 49) (pc := 30) C dX0_unitStart_30 (by decide) (by omega) (fun c30 => ?_) (fun c30 => ?_)
      · exact absurd c30 (by omega)
      · refine x_ag_role (pc := 33) C dX0_unitStart_33 dX0_unitStart_34 ?_
        refine j_iload2 (pc := 37) C dX0_unitStart_37 ?_
        refine x_ald_role (pc := 38) C dX0_unitStart_38 (by omega) ?_
        refine j_top (nI (rl kind (j + 1))) (hX.1 (j + 1) (by omega)) ?_
        refine j_iconst (pc := 39) C (nI 4) dX0_unitStart_39 (by decide) ?_
        refine j_icmpN_eq (tgt := 49) (pc := 40) C dX0_unitStart_40 (by decide) (by omega) (by omega) (fun c40 => ?_) (fun c40 => ?_)
        · refine j_iload2 (pc := 49) C dX0_unitStart_49 ?_
          exact j_iret (role, par, aro, kM, kE, kI, _, _, _) C dX0_unitStart_50 ⟨hX, by rw [hu, hj, sS, if_pos c40]; rfl⟩
        · refine j_dec2 (pc := 43) C dX0_unitStart_43 (by omega) ?_
          refine j_goto (tgt := 29) (pc := 46) C dX0_unitStart_46 (by decide) ?_
          exact ih (by rw [hj, sS, if_neg c40]) (by omega)
  have at87 : ¬ rl kind i = 2 → ¬ rl kind i = 5 → rl kind i = 6 → ¬ (i + 1 < n ∧ rl kind (i + 1) = 6) → JJ p l e s m args below meth c D A 3 (QI (fun (r : Int32) (u : (Nat → Int32) × (Nat → Int32) × (Nat → Int32) × (Nat → Int32) × (Nat → Int32) × (Nat → Int32) × Int32 × Int32 × Int32) => XI kind n u.1 u.2.1 u.2.2.1 u.2.2.2.1 u.2.2.2.2.1 u.2.2.2.2.2.1 ∧ r = oI (-1) (uS kind n i)) (fun u : (Nat → Int32) × (Nat → Int32) × (Nat → Int32) × (Nat → Int32) × (Nat → Int32) × (Nat → Int32) × Int32 × Int32 × Int32 => (XW ad cI cZ kind u.1 u.2.1 u.2.2.1 u.2.2.2.1 u.2.2.2.2.1 u.2.2.2.2.2.1 (nI n) (nI n) u.2.2.2.2.2.2.1 u.2.2.2.2.2.2.2.1 u.2.2.2.2.2.2.2.2)) D cI cZ A) (XW ad cI cZ kind role par aro kM kE kI (nI n) (nI n) mo esc inn) 87 [some (.inr (ad 0)), some (.inl (nI i)), none] [] := by
    intro g2 g5 g6 gp
    have hu : uS kind n i = if es kind (i + 1) = true then none else some (wS kind i) := by unfold uS; rw [if_neg g2, if_neg g5, if_pos ⟨g6, gp⟩]
    refine j_aload0 (pc := 87) C dX0_unitStart_87 ?_
    refine j_iload1 (pc := 88) C dX0_unitStart_88 ?_
    refine j_iconst (pc := 89) C (nI 1) dX0_unitStart_89 (by decide) ?_
    refine j_iaddN (pc := 90) C dX0_unitStart_90 ?_
    refine x_callV1 (pc := 91) C (xm_stateAt (k := n) (g := i + 1) hn (by omega) hX) (lw_V q110 q112 qs3 q22 q113) (by decide +kernel) (by decide) (by decide) rfl (Nat.le_of_ble_eq_true rfl) dX0_unitStart_91 (fun u hu => ?_)
    obtain ⟨role, par, aro, kM, kE, kI, mo, esc, inn⟩ := u
    obtain ⟨hX, ee1, ee2, ee3⟩ := hu
    dsimp only at hX ee1 ee2 ee3 ⊢
    rw [show max n (i + 1) = n by omega] at hX ⊢
    subst ee2
    refine x_ag_esc (pc := 94) C dX0_unitStart_94 dX0_unitStart_95 ?_
    refine j_ifB_eq (tgt := 103) (pc := 98) C dX0_unitStart_98 (by decide) (fun c98 => ?_) (fun c98 => ?_)
    · refine j_iload1 (pc := 103) C dX0_unitStart_103 ?_
      refine j_istore2 (pc := 104) C dX0_unitStart_104 ?_
      have loop105 : ∀ (j : Nat), wS kind i = wS kind j → j ≤ i → JJ p l e s m args below meth c D A 3 (QI (fun (r : Int32) (u : (Nat → Int32) × (Nat → Int32) × (Nat → Int32) × (Nat → Int32) × (Nat → Int32) × (Nat → Int32) × Int32 × Int32 × Int32) => XI kind n u.1 u.2.1 u.2.2.1 u.2.2.2.1 u.2.2.2.2.1 u.2.2.2.2.2.1 ∧ r = oI (-1) (uS kind n i)) (fun u : (Nat → Int32) × (Nat → Int32) × (Nat → Int32) × (Nat → Int32) × (Nat → Int32) × (Nat → Int32) × Int32 × Int32 × Int32 => (XW ad cI cZ kind u.1 u.2.1 u.2.2.1 u.2.2.2.1 u.2.2.2.2.1 u.2.2.2.2.2.1 (nI n) (nI n) u.2.2.2.2.2.2.1 u.2.2.2.2.2.2.2.1 u.2.2.2.2.2.2.2.2)) D cI cZ A) (XW ad cI cZ kind role par aro kM kE kI (nI n) (nI n) mo (b2i (es kind (i + 1))) inn) 105 [some (.inr (ad 0)), some (.inl (nI i)), some (.inl (nI j))] [] := by
        have hu : uS kind n i = some (wS kind i) := by rw [hu, if_neg (by rw [c98]; simp)]
        intro j
        induction j with
        | zero =>
          intro hj h2
          refine j_iload2 (pc := 105) C dX0_unitStart_105 ?_
          refine j_ifN_le (tgt := 128) (pc := 106) C dX0_unitStart_106 (by decide) (by omega) (fun c106 => ?_) (fun c106 => ?_)
          · refine j_iload2 (pc := 128) C dX0_unitStart_128 ?_
            exact j_iret (role, par, aro, kM, kE, kI, _, _, _) C dX0_unitStart_129 ⟨hX, by rw [hu, hj]; rfl⟩
          · exact absurd c106 (by omega)
        | succ j ih =>
          intro hj h2
          have hrl2 := rl_lt kind j
          refine j_iload2 (pc := 105) C dX0_unitStart_105 ?_
          refine j_ifN_le (tgt := 128) (pc := 106) C dX0_unitStart_106 (by decide) (by omega) (fun c106 => ?_) (fun c106 => ?_)
          · exact absurd c106 (by omega)
          · refine x_ag_role (pc := 109) C dX0_unitStart_109 dX0_unitStart_110 ?_
            refine j_iload2 (pc := 113) C dX0_unitStart_113 ?_
            refine j_iconst (pc := 114) C (nI 1) dX0_unitStart_114 (by decide) ?_
            refine j_isubN (pc := 115) C dX0_unitStart_115 (by omega) ?_
            refine x_ald_role (pc := 116) C dX0_unitStart_116 (by omega) ?_
            refine j_top (nI (rl kind (j))) (hX.1 (j) (by omega)) ?_
            refine j_bipush (pc := 117) C (nI 6) dX0_unitStart_117 (by decide) ?_
            refine j_icmpN_ne (tgt := 128) (pc := 119) C dX0_unitStart_119 (by decide) (by omega) (by omega) (fun c119 => ?_) (fun c119 => ?_)
            · refine j_iload2 (pc := 128) C dX0_unitStart_128 ?_
              exact j_iret (role, par, aro, kM, kE, kI, _, _, _) C dX0_unitStart_129 ⟨hX, by rw [hu, hj, wS, if_neg (show ¬ rl kind j = 6 from c119)]; rfl⟩
            · refine j_dec2 (pc := 122) C dX0_unitStart_122 (by omega) ?_
              refine j_goto (tgt := 105) (pc := 125) C dX0_unitStart_125 (by decide) ?_
              exact ih (by rw [hj, wS, if_pos (show rl kind j = 6 from c119)]) (by omega)
      exact loop105 i rfl (by omega)
    · refine j_iconst (pc := 101) C (-1) dX0_unitStart_101 (by decide) ?_
      exact j_iret (role, par, aro, kM, kE, kI, _, _, _) C dX0_unitStart_102 ⟨hX, by rw [hu, if_pos c98]; rfl⟩
  refine x_ag_role (pc := 0) C dX0_unitStart_0 dX0_unitStart_1 ?_
  refine j_iload1 (pc := 4) C dX0_unitStart_4 ?_
  refine x_ald_role (pc := 5) C dX0_unitStart_5 (by omega) ?_
  refine j_top (nI (rl kind (i))) (hX.1 (i) (by omega)) ?_
  refine j_iconst (pc := 6) C (nI 2) dX0_unitStart_6 (by decide) ?_
  refine j_icmpN_ne (tgt := 17) (pc := 7) C dX0_unitStart_7 (by decide) (by omega) (by omega) (fun c7 => ?_) (fun c7 => ?_)
  · refine x_ag_role (pc := 17) C dX0_unitStart_17 dX0_unitStart_18 ?_
    refine j_iload1 (pc := 21) C dX0_unitStart_21 ?_
    refine x_ald_role (pc := 22) C dX0_unitStart_22 (by omega) ?_
    refine j_top (nI (rl kind (i))) (hX.1 (i) (by omega)) ?_
    refine j_iconst (pc := 23) C (nI 5) dX0_unitStart_23 (by decide) ?_
    refine j_icmpN_ne (tgt := 51) (pc := 24) C dX0_unitStart_24 (by decide) (by omega) (by omega) (fun c24 => ?_) (fun c24 => ?_)
    · refine x_ag_role (pc := 51) C dX0_unitStart_51 dX0_unitStart_52 ?_
      refine j_iload1 (pc := 55) C dX0_unitStart_55 ?_
      refine x_ald_role (pc := 56) C dX0_unitStart_56 (by omega) ?_
      refine j_top (nI (rl kind (i))) (hX.1 (i) (by omega)) ?_
      refine j_bipush (pc := 57) C (nI 6) dX0_unitStart_57 (by decide) ?_
      refine j_icmpN_ne (tgt := 85) (pc := 59) C dX0_unitStart_59 (by decide) (by omega) (by omega) (fun c59 => ?_) (fun c59 => ?_)
      · refine j_iconst (pc := 85) C (-1) dX0_unitStart_85 (by decide) ?_
        exact j_iret (role, par, aro, kM, kE, kI, _, _, _) C dX0_unitStart_86 ⟨hX, by unfold uS; rw [if_neg c7, if_neg c24, if_neg (fun q => c59 q.1)]; rfl⟩
      · refine j_iload1 (pc := 62) C dX0_unitStart_62 ?_
        refine j_iconst (pc := 63) C (nI 1) dX0_unitStart_63 (by decide) ?_
        refine j_iaddN (pc := 64) C dX0_unitStart_64 ?_
        refine x_ag_len (pc := 65) C dX0_unitStart_65 dX0_unitStart_66 ?_
        refine j_icmpN_ge (tgt := 87) (pc := 69) C dX0_unitStart_69 (by decide) (by omega) (by omega) (fun c69 => ?_) (fun c69 => ?_)
        · exact at87 c7 c24 c59 (fun q => absurd q.1 (by omega))
        · refine x_ag_role (pc := 72) C dX0_unitStart_72 dX0_unitStart_73 ?_
          refine j_iload1 (pc := 76) C dX0_unitStart_76 ?_
          refine j_iconst (pc := 77) C (nI 1) dX0_unitStart_77 (by decide) ?_
          refine j_iaddN (pc := 78) C dX0_unitStart_78 ?_
          refine x_ald_role (pc := 79) C dX0_unitStart_79 (by omega) ?_
          refine j_top (nI (rl kind (i + 1))) (hX.1 (i + 1) (by omega)) ?_
          refine j_bipush (pc := 80) C (nI 6) dX0_unitStart_80 (by decide) ?_
          refine j_icmpN_ne (tgt := 87) (pc := 82) C dX0_unitStart_82 (by decide) (by omega) (by omega) (fun c82 => ?_) (fun c82 => ?_)
          · exact at87 c7 c24 c59 (fun q => c82 q.2)
          · refine j_iconst (pc := 85) C (-1) dX0_unitStart_85 (by decide) ?_
            exact j_iret (role, par, aro, kM, kE, kI, _, _, _) C dX0_unitStart_86 ⟨hX, by unfold uS; rw [if_neg c7, if_neg c24, if_neg (fun q => q.2 ⟨c69, c82⟩)]; rfl⟩
    · refine j_iload1 (pc := 27) C dX0_unitStart_27 ?_
      refine j_istore2 (pc := 28) C dX0_unitStart_28 ?_
      exact loop29 (by unfold uS; rw [if_neg c7, if_pos c24]) i rfl (by omega)
  · obtain ⟨q, r0, hq⟩ := rl2_sk c7
    have hp := (pn_pair c7 hq n hi).1
    refine x_ag_par (pc := 10) C dX0_unitStart_10 dX0_unitStart_11 ?_
    refine j_iload1 (pc := 14) C dX0_unitStart_14 ?_
    refine x_ald_par (pc := 15) C dX0_unitStart_15 (by omega) ?_
    refine j_top (nI q) (by rw [hX.2.2.1 i hi, hp]; rfl) ?_
    exact j_iret (role, par, aro, kM, kE, kI, _, _, _) C dX0_unitStart_16 ⟨hX, by unfold uS; rw [if_pos c7, hp]; rfl⟩
end
section
/-! ANSWERS: what every call answers, out of the text t of n characters; no program here -/
def insL (t : Nat → Int32) (i n : Nat) : Nat → Int32 := fun j => if i < j ∧ j ≤ n then t (j - 1) else t j
def insF (t : Nat → Int32) (g n : Nat) (b : Int32) : Nat → Int32 := upd (insL t g n) g b
def delL (t : Nat → Int32) (a d i : Nat) : Nat → Int32 := fun j => if a ≤ j ∧ j + d < i then t (j + d) else t j
def cl (x : Int32) : Nat := x.toNatClampNeg
def f_ins (t : Nat → Int32) (n : Nat) (x y : Int32) : Int32 × (Nat → Int32) × Nat :=
  if ¬ x < 0 ∧ ¬ nI n < x then (if ¬ y < 0 ∧ ¬ nI 7 < y then (if n = 64 then (-3, t, n) else (nI (n + 1), insF t (cl x) n y, n + 1)) else (-2, t, n)) else (-1, t, n)
def f_del (t : Nat → Int32) (n : Nat) (x y : Int32) : Int32 × (Nat → Int32) × Nat :=
  if ¬ x < 0 ∧ ¬ y < x ∧ ¬ nI n < y then (nI (n - (cl y - cl x)), delL t (cl x) (cl y - cl x) n, n - (cl y - cl x)) else (-1, t, n)
def f_set (t : Nat → Int32) (n : Nat) (x y : Int32) : Int32 × (Nat → Int32) × Nat :=
  if ¬ x < 0 ∧ ¬ nI n ≤ x then (if ¬ y < 0 ∧ ¬ nI 7 < y then (t (cl x), upd t (cl x) y, n) else (-2, t, n)) else (-1, t, n)
def f_kin (t : Nat → Int32) (n : Nat) (x : Int32) : Int32 := if ¬ x < 0 ∧ ¬ nI n ≤ x then t (cl x) else -1
def f_mod (t : Nat → Int32) (n : Nat) (x : Int32) : Int32 := if ¬ x < 0 ∧ ¬ nI n < x then nI (md t (cl x)) else -1
def f_esc (t : Nat → Int32) (n : Nat) (x : Int32) : Int32 := if ¬ x < 0 ∧ ¬ nI n < x then b2i (es t (cl x)) else -1
def f_dep (t : Nat → Int32) (n : Nat) (x : Int32) : Int32 := if ¬ x < 0 ∧ ¬ nI n < x then nI (sk t (cl x)).length else -1
def f_brk (t : Nat → Int32) (n : Nat) (x y : Int32) : Int32 := if ¬ x < 0 ∧ ¬ nI n < x then (if ¬ y < 0 ∧ ¬ nI (sk t (cl x)).length ≤ y then nI ((sk t (cl x)).reverse.getD (cl y) 0) else -2) else -1
def f_par (t : Nat → Int32) (n : Nat) (x : Int32) : Int32 := if ¬ x < 0 ∧ ¬ nI n ≤ x then oI (-2) (pn t n (cl x)) else -1
def f_str (t : Nat → Int32) (n : Nat) : Int32 := nI (cS t n n)
def f_fwd (t : Nat → Int32) (n : Nat) (x : Int32) : Int32 := if ¬ x < 0 ∧ ¬ nI n < x then fwd t n (n + 1) (cl x) else -1
def f_bwd (t : Nat → Int32) (n : Nat) (x : Int32) : Int32 := if ¬ x < 0 ∧ ¬ nI n < x then bwd t n (cl x) (cl x) else -1
def f_up (t : Nat → Int32) (n : Nat) (x : Int32) : Int32 := if ¬ x < 0 ∧ ¬ nI n < x then oI (-2) (sk t (cl x)).head? else -1
def f_dwn (t : Nat → Int32) (n : Nat) (x : Int32) : Int32 := if ¬ x < 0 ∧ ¬ nI n < x then dwn t n (n + 1) (cl x) false else -1
def f_uni (t : Nat → Int32) (n : Nat) : Int32 := nI (cU t n n)
theorem cl_n {k : Nat} (h : k ≤ 64) : cl (nI k) = k := nI_clamp (by omega)
theorem insL_0 (t : Nat → Int32) (n : Nat) : insL t n n = t := by
  funext j
  unfold insL
  rw [if_neg (by omega)]
theorem insL_s {t : Nat → Int32} {i n : Nat} (h0 : 0 < i) (h : i ≤ n) : upd (insL t i n) i (insL t i n (i - 1)) = insL t (i - 1) n := by
  funext j
  unfold insL upd
  by_cases e : j = i
  · subst e
    rw [if_pos rfl, if_neg (by omega), if_pos (by omega)]
  · rw [if_neg e]
    dsimp only
    by_cases q : i < j ∧ j ≤ n
    · rw [if_pos q, if_pos (by omega)]
    · rw [if_neg q, if_neg (by omega)]
theorem insF_lo {t : Nat → Int32} {g n : Nat} {b : Int32} : ∀ j, j < g → t j = insF t g n b j := by
  intro j hj
  unfold insF insL
  rw [upd_n (by omega), if_neg (by omega)]
theorem delL_0 (t : Nat → Int32) (a d : Nat) : delL t a d (a + d) = t := by
  funext j
  unfold delL
  rw [if_neg (by omega)]
theorem delL_s {t : Nat → Int32} {a d i : Nat} (h : a + d ≤ i) : upd (delL t a d i) (i - d) (t i) = delL t a d (i + 1) := by
  funext j
  unfold delL upd
  by_cases e : j = i - d
  · subst e
    rw [if_pos rfl, if_pos (by omega), show i - d + d = i by omega]
  · rw [if_neg e]
    dsimp only
    by_cases q : a ≤ j ∧ j + d < i
    · rw [if_pos q, if_pos (by omega)]
    · rw [if_neg q, if_neg (by omega)]
theorem delL_at {t : Nat → Int32} {a d i : Nat} : delL t a d i i = t i := by
  unfold delL
  rw [if_neg (by omega)]
theorem delL_lo {t : Nat → Int32} {a d n : Nat} : ∀ j, j < a → t j = delL t a d n j := by
  intro j hj
  unfold delL
  rw [if_neg (by omega)]
theorem delL_z (t : Nat → Int32) (a n : Nat) : delL t a 0 n = t := by
  funext j
  unfold delL
  split <;> rfl
theorem del_of {x y : Int32} {n : Nat} (hn : n ≤ 64) (h1 : ¬ x < 0) (h2 : ¬ y < x) (h3 : ¬ nI n < y) : ∃ a b : Nat, a ≤ b ∧ b ≤ n ∧ x = nI a ∧ y = nI b := by
  obtain ⟨a, ha, rfl⟩ := nI_of h1
  have hy : ¬ y < 0 := by
    intro q
    rw [Int32.lt_iff_toInt_lt] at q h2
    rw [nI_toInt ha] at h2
    have : (0 : Int32).toInt = 0 := by decide
    omega
  obtain ⟨b, hb, rfl⟩ := nI_of hy
  exact ⟨a, b, Nat.not_lt.mp (fun q => h2 ((nI_ltI hb ha).mpr q)), Nat.not_lt.mp (fun q => h3 ((nI_ltI (by omega) hb).mpr q)), rfl, rfl⟩
theorem del_is {n a b : Nat} (hn : n ≤ 64) (h1 : a ≤ b) (h2 : b ≤ n) : ¬ nI a < 0 ∧ ¬ nI b < nI a ∧ ¬ nI n < nI b := ⟨nI_pos (by omega), nI_nlt h1 (by omega), nI_nlt h2 (by omega)⟩
theorem rev_get {l : List Nat} {i : Nat} (h : i < l.length) : (l.drop (l.length - 1 - i)).head? = some (l.reverse.getD i 0) := by
  rw [List.head?_drop, List.getD_eq_getElem?_getD, List.getElem?_reverse h, List.getElem?_eq_getElem (by omega)]
  rfl
theorem XI.forget {t t' : Nat → Int32} {k g : Nat} {role par par' aro kM kE kI : Nat → Int32} (h : XI t k role par aro kM kE kI) (ht : ∀ j, j < g → t j = t' j) (hp : ∀ j, j < min k g → par' j = oI (-2) (pn t (min k g) j)) : XI t' (min k g) role par' aro kM kE kI := by
  have e : ∀ j, j < min k g → t j = t' j := fun j hj => ht j (by omega)
  refine ⟨fun i hi => ?_, fun i hi h1 => ?_, fun i hi => ?_, fun j hj => ?_⟩
  · rw [← rl_ext e hi]; exact h.1 i (by omega)
  · rw [← rl_ext e hi] at h1
    rw [← sk_ext (fun j hj => e j (by omega))]
    exact h.2.1 i (by omega) h1
  · rw [← pn_ext e i]; exact hp i hi
  · rw [← md_ext (fun i hi => e i (by omega)), ← es_ext (fun i hi => e i (by omega)), ← sk_ext (fun i hi => e i (by omega))]
    exact h.2.2.2 j (by omega)
theorem dec_e (x : Int32) : x + Int32.ofInt (-1) = x - nI 1 := by
  show x + (-1) = x - 1
  rw [Int32.sub_eq_add_neg]
theorem m1_neg : nI 0 - nI 1 < 0 := by decide
abbrev XT : Type := (Nat → Int32) × (Nat → Int32) × (Nat → Int32) × (Nat → Int32) × (Nat → Int32) × (Nat → Int32) × (Nat → Int32) × Int32 × Int32 × Int32 × Int32 × Int32
def XU (ad : Nat → Nat) (cI cZ : ClassId) (u : XT) : va_W := XW ad cI cZ u.1 u.2.1 u.2.2.1 u.2.2.2.1 u.2.2.2.2.1 u.2.2.2.2.2.1 u.2.2.2.2.2.2.1 u.2.2.2.2.2.2.2.1 u.2.2.2.2.2.2.2.2.1 u.2.2.2.2.2.2.2.2.2.1 u.2.2.2.2.2.2.2.2.2.2.1 u.2.2.2.2.2.2.2.2.2.2.2
/-- a SexpMotion that holds the text t of n characters -/
def XOK (t : Nat → Int32) (n : Nat) (u : XT) : Prop := u.1 = t ∧ n ≤ 64 ∧ u.2.2.2.2.2.2.2.1 = nI n ∧ ∃ k, k ≤ n ∧ u.2.2.2.2.2.2.2.2.1 = nI k ∧ XI t k u.2.1 u.2.2.1 u.2.2.2.1 u.2.2.2.2.1 u.2.2.2.2.2.1 u.2.2.2.2.2.2.1
abbrev YT : Type := (Nat → Int32) × (Nat → Int32) × (Nat → Int32) × (Nat → Int32) × (Nat → Int32) × (Nat → Int32) × (Nat → Int32) × (Nat → Int32) × (Nat → Int32) × Int32 × Int32
def YU (ad : Nat → Nat) (cI cZ : ClassId) (u : YT) : va_W := YW ad cI cZ u.1 u.2.1 u.2.2.1 u.2.2.2.1 u.2.2.2.2.1 u.2.2.2.2.2.1 u.2.2.2.2.2.2.1 u.2.2.2.2.2.2.2.1 u.2.2.2.2.2.2.2.2.1 u.2.2.2.2.2.2.2.2.2.1 u.2.2.2.2.2.2.2.2.2.2
def YOK (t : Nat → Int32) (n : Nat) (u : YT) : Prop := u.1 = t ∧ n ≤ 64 ∧ u.2.2.2.2.2.2.2.2.2.1 = nI n
end
section
set_option maxHeartbeats 4000000 in
set_option maxRecDepth 100000 in
theorem xm_length {l : Launch} {D : va_G} {cI cZ : ClassId} {ad : Nat → Nat} {kind role par aro kM kE kI : Nat → Int32} {mo esc inn : Int32} {n k : Nat} (hn : n ≤ 64) (hk : k ≤ n) (hX : XI kind k role par aro kM kE kI) : MetI l yX0_length cX0_length 1 (some .int) 4 D cI cZ [.ref (ad 0)] (XU ad cI cZ) (XW ad cI cZ kind role par aro kM kE kI (nI n) (nI k) mo esc inn) (fun (r : Int32) (u : XT) => XOK kind n u ∧ r = nI n) := by
  refine fun sz => j_start (Qc := fun A => (QI (fun (r : Int32) (u : XT) => XOK kind n u ∧ r = nI n) (XU ad cI cZ) D cI cZ A)) [some (.inr (ad 0))] (by decide) (Nat.le_of_ble_eq_true rfl) rfl ?_ sz
  intro p e s m args below meth c A C
  have C : CC p s m args meth c D A cI cZ RX0 cX0_length 1 (some .int) := C
  refine x_ag_len (pc := 0) C dX0_length_0 dX0_length_1 ?_
  exact j_iret (WS := XU ad cI cZ) (kind, role, par, aro, kM, kE, kI, nI (n), nI (k), _, _, _) C dX0_length_4 ⟨⟨rfl, hn, rfl, k, hk, rfl, hX⟩, rfl⟩

set_option maxHeartbeats 4000000 in
set_option maxRecDepth 100000 in
theorem xm_kindAt {l : Launch} {D : va_G} {cI cZ : ClassId} {ad : Nat → Nat} {kind role par aro kM kE kI : Nat → Int32} {mo esc inn : Int32} {n k : Nat} (hn : n ≤ 64) (hk : k ≤ n) (hX : XI kind k role par aro kM kE kI) {x : Int32} : MetI l yX0_kindAt cX0_kindAt 2 (some .int) 4 D cI cZ [.ref (ad 0), .int x] (XU ad cI cZ) (XW ad cI cZ kind role par aro kM kE kI (nI n) (nI k) mo esc inn) (fun (r : Int32) (u : XT) => XOK kind n u ∧ r = f_kin kind n x) := by
  refine fun sz => j_start (Qc := fun A => (QI (fun (r : Int32) (u : XT) => XOK kind n u ∧ r = f_kin kind n x) (XU ad cI cZ) D cI cZ A)) [some (.inr (ad 0)), some (.inl x)] (by decide) (Nat.le_of_ble_eq_true rfl) rfl ?_ sz
  intro p e s m args below meth c A C
  have C : CC p s m args meth c D A cI cZ RX0 cX0_kindAt 2 (some .int) := C
  refine j_aload0 (pc := 0) C dX0_kindAt_0 ?_
  refine j_iload1 (pc := 1) C dX0_kindAt_1 ?_
  refine x_callI1 (pc := 2) C xm_isPlace (lw_V q94 q96 qs2 q22 q97) (by decide +kernel) (by decide) (by decide) rfl (Nat.le_of_ble_eq_true rfl) dX0_kindAt_2 (fun r u hr => ?_)
  subst hr
  (try dsimp only)
  refine j_ifB_eq (tgt := 17) (pc := 5) C dX0_kindAt_5 (by decide) (fun c5 => ?_) (fun c5 => ?_)
  · refine j_iconst (pc := 17) C (-1) dX0_kindAt_17 (by decide) ?_
    exact j_iret (WS := XU ad cI cZ) (kind, role, par, aro, kM, kE, kI, nI (n), nI (k), _, _, _) C dX0_kindAt_18 ⟨⟨rfl, hn, rfl, k, hk, rfl, hX⟩, by unfold f_kin; rw [if_neg (of_decide_eq_false c5)]⟩
  · have hpl := of_decide_eq_true c5
    obtain ⟨g, hg, rfl⟩ := place_of hn hpl
    refine x_ag_kind (pc := 8) C dX0_kindAt_8 dX0_kindAt_9 ?_
    refine j_iload1 (pc := 12) C dX0_kindAt_12 ?_
    refine x_ald_kind (pc := 13) C dX0_kindAt_13 (by omega) ?_
    refine j_goto (tgt := 18) (pc := 14) C dX0_kindAt_14 (by decide) ?_
    exact j_iret (WS := XU ad cI cZ) (kind, role, par, aro, kM, kE, kI, nI (n), nI (k), _, _, _) C dX0_kindAt_18 ⟨⟨rfl, hn, rfl, k, hk, rfl, hX⟩, by unfold f_kin; rw [if_pos hpl, cl_n (by omega)]⟩

set_option maxHeartbeats 4000000 in
set_option maxRecDepth 100000 in
theorem xm_mode {l : Launch} {D : va_G} {cI cZ : ClassId} {ad : Nat → Nat} {kind role par aro kM kE kI : Nat → Int32} {mo esc inn : Int32} {n k : Nat} (hn : n ≤ 64) (hk : k ≤ n) (hX : XI kind k role par aro kM kE kI) {x : Int32} : MetI l yX0_mode cX0_mode 2 (some .int) 4 D cI cZ [.ref (ad 0), .int x] (XU ad cI cZ) (XW ad cI cZ kind role par aro kM kE kI (nI n) (nI k) mo esc inn) (fun (r : Int32) (u : XT) => XOK kind n u ∧ r = f_mod kind n x) := by
  refine fun sz => j_start (Qc := fun A => (QI (fun (r : Int32) (u : XT) => XOK kind n u ∧ r = f_mod kind n x) (XU ad cI cZ) D cI cZ A)) [some (.inr (ad 0)), some (.inl x)] (by decide) (Nat.le_of_ble_eq_true rfl) rfl ?_ sz
  intro p e s m args below meth c A C
  have C : CC p s m args meth c D A cI cZ RX0 cX0_mode 2 (some .int) := C
  refine j_aload0 (pc := 0) C dX0_mode_0 ?_
  refine j_iload1 (pc := 1) C dX0_mode_1 ?_
  refine x_callI1 (pc := 2) C xm_isGap (lw_V q75 q77 qs0 q22 q78) (by decide +kernel) (by decide) (by decide) rfl (Nat.le_of_ble_eq_true rfl) dX0_mode_2 (fun r u hr => ?_)
  subst hr
  (try dsimp only)
  refine j_ifB_ne (tgt := 10) (pc := 5) C dX0_mode_5 (by decide) (fun c5 => ?_) (fun c5 => ?_)
  · have hgap := of_decide_eq_true c5
    obtain ⟨g, hg, rfl⟩ := gap_of hn hgap
    refine j_aload0 (pc := 10) C dX0_mode_10 ?_
    refine j_iload1 (pc := 11) C dX0_mode_11 ?_
    refine x_callV1 (pc := 12) C (xm_stateAt (k := k) (g := g) (by omega) (by omega) hX) (lw_V q110 q112 qs3 q22 q113) (by decide +kernel) (by decide) (by decide) rfl (Nat.le_of_ble_eq_true rfl) dX0_mode_12 (fun u hu => ?_)
    clear hX
    obtain ⟨role, par, aro, kM, kE, kI, mo, esc, inn⟩ := u
    obtain ⟨hX, ee1, ee2, ee3⟩ := hu
    dsimp only at hX ee1 ee2 ee3 ⊢
    subst ee1; subst ee2; subst ee3
    refine x_ag_mo (pc := 15) C dX0_mode_15 dX0_mode_16 ?_
    exact j_iret (WS := XU ad cI cZ) (kind, role, par, aro, kM, kE, kI, nI (n), nI (max k g), _, _, _) C dX0_mode_19 ⟨⟨rfl, hn, rfl, max k g, by omega, rfl, hX⟩, by unfold f_mod; rw [if_pos hgap, cl_n (by omega)]⟩
  · refine j_iconst (pc := 8) C (-1) dX0_mode_8 (by decide) ?_
    exact j_iret (WS := XU ad cI cZ) (kind, role, par, aro, kM, kE, kI, nI (n), nI (k), _, _, _) C dX0_mode_9 ⟨⟨rfl, hn, rfl, k, hk, rfl, hX⟩, by unfold f_mod; rw [if_neg (of_decide_eq_false c5)]⟩

set_option maxHeartbeats 4000000 in
set_option maxRecDepth 100000 in
theorem xm_up {l : Launch} {D : va_G} {cI cZ : ClassId} {ad : Nat → Nat} {kind role par aro kM kE kI : Nat → Int32} {mo esc inn : Int32} {n k : Nat} (hn : n ≤ 64) (hk : k ≤ n) (hX : XI kind k role par aro kM kE kI) {x : Int32} : MetI l yX0_up cX0_up 2 (some .int) 4 D cI cZ [.ref (ad 0), .int x] (XU ad cI cZ) (XW ad cI cZ kind role par aro kM kE kI (nI n) (nI k) mo esc inn) (fun (r : Int32) (u : XT) => XOK kind n u ∧ r = f_up kind n x) := by
  refine fun sz => j_start (Qc := fun A => (QI (fun (r : Int32) (u : XT) => XOK kind n u ∧ r = f_up kind n x) (XU ad cI cZ) D cI cZ A)) [some (.inr (ad 0)), some (.inl x)] (by decide) (Nat.le_of_ble_eq_true rfl) rfl ?_ sz
  intro p e s m args below meth c A C
  have C : CC p s m args meth c D A cI cZ RX0 cX0_up 2 (some .int) := C
  refine j_aload0 (pc := 0) C dX0_up_0 ?_
  refine j_iload1 (pc := 1) C dX0_up_1 ?_
  refine x_callI1 (pc := 2) C xm_isGap (lw_V q75 q77 qs0 q22 q78) (by decide +kernel) (by decide) (by decide) rfl (Nat.le_of_ble_eq_true rfl) dX0_up_2 (fun r u hr => ?_)
  subst hr
  (try dsimp only)
  refine j_ifB_ne (tgt := 10) (pc := 5) C dX0_up_5 (by decide) (fun c5 => ?_) (fun c5 => ?_)
  · have hgap := of_decide_eq_true c5
    obtain ⟨g, hg, rfl⟩ := gap_of hn hgap
    refine j_aload0 (pc := 10) C dX0_up_10 ?_
    refine j_iload1 (pc := 11) C dX0_up_11 ?_
    refine x_callV1 (pc := 12) C (xm_stateAt (k := k) (g := g) (by omega) (by omega) hX) (lw_V q110 q112 qs3 q22 q113) (by decide +kernel) (by decide) (by decide) rfl (Nat.le_of_ble_eq_true rfl) dX0_up_12 (fun u hu => ?_)
    clear hX
    obtain ⟨role, par, aro, kM, kE, kI, mo, esc, inn⟩ := u
    obtain ⟨hX, ee1, ee2, ee3⟩ := hu
    dsimp only at hX ee1 ee2 ee3 ⊢
    subst ee1; subst ee2; subst ee3
    refine x_ag_inn (pc := 15) C dX0_up_15 dX0_up_16 ?_
    exact j_iret (WS := XU ad cI cZ) (kind, role, par, aro, kM, kE, kI, nI (n), nI (max k g), _, _, _) C dX0_up_19 ⟨⟨rfl, hn, rfl, max k g, by omega, rfl, hX⟩, by unfold f_up; rw [if_pos hgap, cl_n (by omega)]⟩
  · refine j_iconst (pc := 8) C (-1) dX0_up_8 (by decide) ?_
    exact j_iret (WS := XU ad cI cZ) (kind, role, par, aro, kM, kE, kI, nI (n), nI (k), _, _, _) C dX0_up_9 ⟨⟨rfl, hn, rfl, k, hk, rfl, hX⟩, by unfold f_up; rw [if_neg (of_decide_eq_false c5)]⟩

set_option maxHeartbeats 4000000 in
set_option maxRecDepth 100000 in
theorem xm_escaped {l : Launch} {D : va_G} {cI cZ : ClassId} {ad : Nat → Nat} {kind role par aro kM kE kI : Nat → Int32} {mo esc inn : Int32} {n k : Nat} (hn : n ≤ 64) (hk : k ≤ n) (hX : XI kind k role par aro kM kE kI) {x : Int32} : MetI l yX0_escaped cX0_escaped 2 (some .int) 4 D cI cZ [.ref (ad 0), .int x] (XU ad cI cZ) (XW ad cI cZ kind role par aro kM kE kI (nI n) (nI k) mo esc inn) (fun (r : Int32) (u : XT) => XOK kind n u ∧ r = f_esc kind n x) := by
  refine fun sz => j_start (Qc := fun A => (QI (fun (r : Int32) (u : XT) => XOK kind n u ∧ r = f_esc kind n x) (XU ad cI cZ) D cI cZ A)) [some (.inr (ad 0)), some (.inl x)] (by decide) (Nat.le_of_ble_eq_true rfl) rfl ?_ sz
  intro p e s m args below meth c A C
  have C : CC p s m args meth c D A cI cZ RX0 cX0_escaped 2 (some .int) := C
  refine j_aload0 (pc := 0) C dX0_escaped_0 ?_
  refine j_iload1 (pc := 1) C dX0_escaped_1 ?_
  refine x_callI1 (pc := 2) C xm_isGap (lw_V q75 q77 qs0 q22 q78) (by decide +kernel) (by decide) (by decide) rfl (Nat.le_of_ble_eq_true rfl) dX0_escaped_2 (fun r u hr => ?_)
  subst hr
  (try dsimp only)
  refine j_ifB_ne (tgt := 10) (pc := 5) C dX0_escaped_5 (by decide) (fun c5 => ?_) (fun c5 => ?_)
  · have hgap := of_decide_eq_true c5
    obtain ⟨g, hg, rfl⟩ := gap_of hn hgap
    refine j_aload0 (pc := 10) C dX0_escaped_10 ?_
    refine j_iload1 (pc := 11) C dX0_escaped_11 ?_
    refine x_callV1 (pc := 12) C (xm_stateAt (k := k) (g := g) (by omega) (by omega) hX) (lw_V q110 q112 qs3 q22 q113) (by decide +kernel) (by decide) (by decide) rfl (Nat.le_of_ble_eq_true rfl) dX0_escaped_12 (fun u hu => ?_)
    clear hX
    obtain ⟨role, par, aro, kM, kE, kI, mo, esc, inn⟩ := u
    obtain ⟨hX, ee1, ee2, ee3⟩ := hu
    dsimp only at hX ee1 ee2 ee3 ⊢
    subst ee1; subst ee2; subst ee3
    refine x_ag_esc (pc := 15) C dX0_escaped_15 dX0_escaped_16 ?_
    refine j_ifB_eq (tgt := 26) (pc := 19) C dX0_escaped_19 (by decide) (fun c19 => ?_) (fun c19 => ?_)
    · refine j_iconst (pc := 26) C (nI 0) dX0_escaped_26 (by decide) ?_
      exact j_iret (WS := XU ad cI cZ) (kind, role, par, aro, kM, kE, kI, nI (n), nI (max k g), _, _, _) C dX0_escaped_27 ⟨⟨rfl, hn, rfl, max k g, by omega, rfl, hX⟩, by unfold f_esc; rw [if_pos hgap, cl_n (by omega), c19]; rfl⟩
    · refine j_iconst (pc := 22) C (nI 1) dX0_escaped_22 (by decide) ?_
      refine j_goto (tgt := 27) (pc := 23) C dX0_escaped_23 (by decide) ?_
      exact j_iret (WS := XU ad cI cZ) (kind, role, par, aro, kM, kE, kI, nI (n), nI (max k g), _, _, _) C dX0_escaped_27 ⟨⟨rfl, hn, rfl, max k g, by omega, rfl, hX⟩, by unfold f_esc; rw [if_pos hgap, cl_n (by omega), c19]; rfl⟩
  · refine j_iconst (pc := 8) C (-1) dX0_escaped_8 (by decide) ?_
    exact j_iret (WS := XU ad cI cZ) (kind, role, par, aro, kM, kE, kI, nI (n), nI (k), _, _, _) C dX0_escaped_9 ⟨⟨rfl, hn, rfl, k, hk, rfl, hX⟩, by unfold f_esc; rw [if_neg (of_decide_eq_false c5)]⟩

set_option maxHeartbeats 4000000 in
set_option maxRecDepth 100000 in
theorem xm_depth {l : Launch} {D : va_G} {cI cZ : ClassId} {ad : Nat → Nat} {kind role par aro kM kE kI : Nat → Int32} {mo esc inn : Int32} {n k : Nat} (hn : n ≤ 64) (hk : k ≤ n) (hX : XI kind k role par aro kM kE kI) {x : Int32} : MetI l yX0_depth cX0_depth 2 (some .int) 4 D cI cZ [.ref (ad 0), .int x] (XU ad cI cZ) (XW ad cI cZ kind role par aro kM kE kI (nI n) (nI k) mo esc inn) (fun (r : Int32) (u : XT) => XOK kind n u ∧ r = f_dep kind n x) := by
  refine fun sz => j_start (Qc := fun A => (QI (fun (r : Int32) (u : XT) => XOK kind n u ∧ r = f_dep kind n x) (XU ad cI cZ) D cI cZ A)) [some (.inr (ad 0)), some (.inl x)] (by decide) (Nat.le_of_ble_eq_true rfl) rfl ?_ sz
  intro p e s m args below meth c A C
  have C : CC p s m args meth c D A cI cZ RX0 cX0_depth 2 (some .int) := C
  refine j_aload0 (pc := 0) C dX0_depth_0 ?_
  refine j_iload1 (pc := 1) C dX0_depth_1 ?_
  refine x_callI1 (pc := 2) C xm_isGap (lw_V q75 q77 qs0 q22 q78) (by decide +kernel) (by decide) (by decide) rfl (Nat.le_of_ble_eq_true rfl) dX0_depth_2 (fun r u hr => ?_)
  subst hr
  (try dsimp only)
  refine j_ifB_ne (tgt := 10) (pc := 5) C dX0_depth_5 (by decide) (fun c5 => ?_) (fun c5 => ?_)
  · have hgap := of_decide_eq_true c5
    obtain ⟨g, hg, rfl⟩ := gap_of hn hgap
    refine j_aload0 (pc := 10) C dX0_depth_10 ?_
    refine j_iload1 (pc := 11) C dX0_depth_11 ?_
    refine x_callV1 (pc := 12) C (xm_stateAt (k := k) (g := g) (by omega) (by omega) hX) (lw_V q110 q112 qs3 q22 q113) (by decide +kernel) (by decide) (by decide) rfl (Nat.le_of_ble_eq_true rfl) dX0_depth_12 (fun u hu => ?_)
    clear hX
    obtain ⟨role, par, aro, kM, kE, kI, mo, esc, inn⟩ := u
    obtain ⟨hX, ee1, ee2, ee3⟩ := hu
    dsimp only at hX ee1 ee2 ee3 ⊢
    subst ee1; subst ee2; subst ee3
    refine j_aload0 (pc := 15) C dX0_depth_15 ?_
    refine x_ag_inn (pc := 16) C dX0_depth_16 dX0_depth_17 ?_
    refine x_callI1 (pc := 20) C (xm_depthOf (t := kind) (g := g) (by omega) (fun j q r h => by have := hX.aro (g := g) (by omega) h; exact ⟨this.1, by omega⟩)) (lw_V q142 q144 qs9 q22 q145) (by decide +kernel) (by decide) (by decide) rfl (Nat.le_of_ble_eq_true rfl) dX0_depth_20 (fun r u hr => ?_)
    subst hr
    (try dsimp only)
    exact j_iret (WS := XU ad cI cZ) (kind, role, par, aro, kM, kE, kI, nI (n), nI (max k g), _, _, _) C dX0_depth_23 ⟨⟨rfl, hn, rfl, max k g, by omega, rfl, hX⟩, by unfold f_dep; rw [if_pos hgap, cl_n (by omega)]⟩
  · refine j_iconst (pc := 8) C (-1) dX0_depth_8 (by decide) ?_
    exact j_iret (WS := XU ad cI cZ) (kind, role, par, aro, kM, kE, kI, nI (n), nI (k), _, _, _) C dX0_depth_9 ⟨⟨rfl, hn, rfl, k, hk, rfl, hX⟩, by unfold f_dep; rw [if_neg (of_decide_eq_false c5)]⟩

set_option maxHeartbeats 4000000 in
set_option maxRecDepth 100000 in
theorem xm_bracketAt {l : Launch} {D : va_G} {cI cZ : ClassId} {ad : Nat → Nat} {kind role par aro kM kE kI : Nat → Int32} {mo esc inn : Int32} {n k : Nat} (hn : n ≤ 64) (hk : k ≤ n) (hX : XI kind k role par aro kM kE kI) {x y : Int32} : MetI l yX0_bracketAt cX0_bracketAt 6 (some .int) 4 D cI cZ [.ref (ad 0), .int x, .int y] (XU ad cI cZ) (XW ad cI cZ kind role par aro kM kE kI (nI n) (nI k) mo esc inn) (fun (r : Int32) (u : XT) => XOK kind n u ∧ r = f_brk kind n x y) := by
  refine fun sz => j_start (Qc := fun A => (QI (fun (r : Int32) (u : XT) => XOK kind n u ∧ r = f_brk kind n x y) (XU ad cI cZ) D cI cZ A)) [some (.inr (ad 0)), some (.inl x), some (.inl y), none, none, none] (by decide) (Nat.le_of_ble_eq_true rfl) rfl ?_ sz
  intro p e s m args below meth c A C
  have C : CC p s m args meth c D A cI cZ RX0 cX0_bracketAt 6 (some .int) := C
  refine j_aload0 (pc := 0) C dX0_bracketAt_0 ?_
  refine j_iload1 (pc := 1) C dX0_bracketAt_1 ?_
  refine x_callI1 (pc := 2) C xm_isGap (lw_V q75 q77 qs0 q22 q78) (by decide +kernel) (by decide) (by decide) rfl (Nat.le_of_ble_eq_true rfl) dX0_bracketAt_2 (fun r u hr => ?_)
  subst hr
  (try dsimp only)
  refine j_ifB_ne (tgt := 10) (pc := 5) C dX0_bracketAt_5 (by decide) (fun c5 => ?_) (fun c5 => ?_)
  · have hgap := of_decide_eq_true c5
    obtain ⟨g, hg, rfl⟩ := gap_of hn hgap
    refine j_aload0 (pc := 10) C dX0_bracketAt_10 ?_
    refine j_iload1 (pc := 11) C dX0_bracketAt_11 ?_
    refine x_callV1 (pc := 12) C (xm_stateAt (k := k) (g := g) (by omega) (by omega) hX) (lw_V q110 q112 qs3 q22 q113) (by decide +kernel) (by decide) (by decide) rfl (Nat.le_of_ble_eq_true rfl) dX0_bracketAt_12 (fun u hu => ?_)
    clear hX
    obtain ⟨role, par, aro, kM, kE, kI, mo, esc, inn⟩ := u
    obtain ⟨hX, ee1, ee2, ee3⟩ := hu
    dsimp only at hX ee1 ee2 ee3 ⊢
    subst ee1; subst ee2; subst ee3
    refine j_aload0 (pc := 15) C dX0_bracketAt_15 ?_
    refine x_ag_inn (pc := 16) C dX0_bracketAt_16 dX0_bracketAt_17 ?_
    refine x_callI1 (pc := 20) C (xm_depthOf (t := kind) (g := g) (by omega) (fun j q r h => by have := hX.aro (g := g) (by omega) h; exact ⟨this.1, by omega⟩)) (lw_V q142 q144 qs9 q22 q145) (by decide +kernel) (by decide) (by decide) rfl (Nat.le_of_ble_eq_true rfl) dX0_bracketAt_20 (fun r u hr => ?_)
    subst hr
    (try dsimp only)
    have hL := sk_len kind g
    refine j_istore3 (pc := 23) C dX0_bracketAt_23 ?_
    refine j_iload2 (pc := 24) C dX0_bracketAt_24 ?_
    refine j_if_lt (tgt := 33) (pc := 25) C dX0_bracketAt_25 (by decide) (fun c25 => ?_) (fun c25 => ?_)
    · refine j_bipush (pc := 33) C (-2) dX0_bracketAt_33 (by decide) ?_
      exact j_iret (WS := XU ad cI cZ) (kind, role, par, aro, kM, kE, kI, nI (n), nI (max k g), _, _, _) C dX0_bracketAt_35 ⟨⟨rfl, hn, rfl, max k g, by omega, rfl, hX⟩, by unfold f_brk; rw [if_pos hgap, cl_n (by omega), if_neg (fun q => q.1 c25)]⟩
    · refine j_iload2 (pc := 28) C dX0_bracketAt_28 ?_
      refine j_iload3 (pc := 29) C dX0_bracketAt_29 ?_
      refine j_icmp_lt (tgt := 36) (pc := 30) C dX0_bracketAt_30 (by decide) (fun c30 => ?_) (fun c30 => ?_)
      · obtain ⟨v, hv, rfl⟩ := place_of (by omega) ⟨c25, Int32.not_le.mpr c30⟩
        have hlv : ¬ nI v < 0 ∧ ¬ nI (sk kind g).length ≤ nI v := place_is (by omega) hv
        have loop : ∀ (f q : Nat), q = v + f → q < (sk kind g).length → JJ p l e s m args below meth c D A 4 (QI (fun (r : Int32) (u : XT) => XOK kind n u ∧ r = f_brk kind n (nI g) (nI v)) (XU ad cI cZ) D cI cZ A) (XW ad cI cZ kind role par aro kM kE kI (nI n) (nI (max k g)) (nI (md kind g)) (b2i (es kind g)) (oI (-2) (sk kind g).head?)) 47 [some (.inr (ad 0)), some (.inl (nI g)), some (.inl (nI v)), some (.inl (nI (sk kind g).length)), some (.inl (oI (-2) ((sk kind g).drop ((sk kind g).length - 1 - q)).head?)), some (.inl (nI q))] [] := by
          intro f
          induction f with
          | zero =>
            intro q hq hq2
            cases hs : (sk kind g).drop ((sk kind g).length - 1 - q) with
            | nil => exact absurd (List.drop_eq_nil_iff.mp hs) (by omega)
            | cons p0 rr =>
              have ha := hX.aro (g := g) (by omega) hs
              show JJ _ _ _ _ _ _ _ _ _ _ _ _ _ (XW ad cI cZ kind role par aro kM kE kI (nI n) (nI (max k g)) (nI (md kind g)) (b2i (es kind g)) (oI (-2) (sk kind g).head?)) 47 [_, _, _, _, some (.inl (nI p0)), _] _
              refine j_iload5 (pc := 47) C dX0_bracketAt_47 ?_
              refine j_iload2 (pc := 49) C dX0_bracketAt_49 ?_
              refine j_icmpN_le (tgt := 68) (pc := 50) C dX0_bracketAt_50 (by decide) (by omega) (by omega) (fun c50 => ?_) (fun c50 => ?_)
              · refine j_iload4 (pc := 68) C dX0_bracketAt_68 ?_
                exact j_iret (WS := XU ad cI cZ) (kind, role, par, aro, kM, kE, kI, nI (n), nI (max k g), _, _, _) C dX0_bracketAt_70 ⟨⟨rfl, hn, rfl, max k g, by omega, rfl, hX⟩, by unfold f_brk; rw [if_pos hgap, cl_n (by omega), if_pos hlv, cl_n (by omega)]; have h9 := rev_get hv; rw [show (sk kind g).length - 1 - v = (sk kind g).length - 1 - q by omega, hs] at h9; exact congrArg nI (Option.some.inj h9)⟩
              · exact absurd c50 (by omega)
          | succ f ih =>
            intro q hq hq2
            cases hs : (sk kind g).drop ((sk kind g).length - 1 - q) with
            | nil => exact absurd (List.drop_eq_nil_iff.mp hs) (by omega)
            | cons p0 rr =>
              have ha := hX.aro (g := g) (by omega) hs
              show JJ _ _ _ _ _ _ _ _ _ _ _ _ _ (XW ad cI cZ kind role par aro kM kE kI (nI n) (nI (max k g)) (nI (md kind g)) (b2i (es kind g)) (oI (-2) (sk kind g).head?)) 47 [_, _, _, _, some (.inl (nI p0)), _] _
              refine j_iload5 (pc := 47) C dX0_bracketAt_47 ?_
              refine j_iload2 (pc := 49) C dX0_bracketAt_49 ?_
              refine j_icmpN_le (tgt := 68) (pc := 50) C dX0_bracketAt_50 (by decide) (by omega) (by omega) (fun c50 => ?_) (fun c50 => ?_)
              · exact absurd c50 (by omega)
              · refine x_ag_aro (pc := 53) C dX0_bracketAt_53 dX0_bracketAt_54 ?_
                refine j_iload4 (pc := 57) C dX0_bracketAt_57 ?_
                refine x_ald_aro (pc := 59) C dX0_bracketAt_59 (by omega) ?_
                refine j_top _ ha.1 ?_
                refine j_istore4 (pc := 60) C dX0_bracketAt_60 ?_
                refine j_dec5 (pc := 62) C dX0_bracketAt_62 (by omega) ?_
                refine j_goto (tgt := 47) (pc := 65) C dX0_bracketAt_65 (by decide) ?_
                have e9 : rr = (sk kind g).drop ((sk kind g).length - 1 - (q - 1)) := by
                  rw [show (sk kind g).length - 1 - (q - 1) = (sk kind g).length - 1 - q + 1 by omega, ← List.tail_drop, hs]
                  rfl
                rw [e9]
                exact ih (q - 1) (by omega) (by omega)
        refine x_ag_inn (pc := 36) C dX0_bracketAt_36 dX0_bracketAt_37 ?_
        refine j_istore4 (pc := 40) C dX0_bracketAt_40 ?_
        refine j_iload3 (pc := 42) C dX0_bracketAt_42 ?_
        refine j_iconst (pc := 43) C (nI 1) dX0_bracketAt_43 (by decide) ?_
        refine j_isubN (pc := 44) C dX0_bracketAt_44 (by omega) ?_
        refine j_istore5 (pc := 45) C dX0_bracketAt_45 ?_
        have e0 : (sk kind g).head? = ((sk kind g).drop ((sk kind g).length - 1 - ((sk kind g).length - 1))).head? := by rw [Nat.sub_self]; rfl
        have h9 := loop ((sk kind g).length - 1 - v) ((sk kind g).length - 1) (by omega) (by omega)
        rw [← e0] at h9
        exact h9
      · refine j_bipush (pc := 33) C (-2) dX0_bracketAt_33 (by decide) ?_
        exact j_iret (WS := XU ad cI cZ) (kind, role, par, aro, kM, kE, kI, nI (n), nI (max k g), _, _, _) C dX0_bracketAt_35 ⟨⟨rfl, hn, rfl, max k g, by omega, rfl, hX⟩, by unfold f_brk; rw [if_pos hgap, cl_n (by omega), if_neg (fun q => c30 (Int32.not_le.mp q.2))]⟩
  · refine j_iconst (pc := 8) C (-1) dX0_bracketAt_8 (by decide) ?_
    exact j_iret (WS := XU ad cI cZ) (kind, role, par, aro, kM, kE, kI, nI (n), nI (k), _, _, _) C dX0_bracketAt_9 ⟨⟨rfl, hn, rfl, k, hk, rfl, hX⟩, by unfold f_brk; rw [if_neg (of_decide_eq_false c5)]⟩

set_option maxHeartbeats 4000000 in
set_option maxRecDepth 100000 in
theorem xm_partner {l : Launch} {D : va_G} {cI cZ : ClassId} {ad : Nat → Nat} {kind role par aro kM kE kI : Nat → Int32} {mo esc inn : Int32} {n k : Nat} (hn : n ≤ 64) (hk : k ≤ n) (hX : XI kind k role par aro kM kE kI) {x : Int32} : MetI l yX0_partner cX0_partner 2 (some .int) 4 D cI cZ [.ref (ad 0), .int x] (XU ad cI cZ) (XW ad cI cZ kind role par aro kM kE kI (nI n) (nI k) mo esc inn) (fun (r : Int32) (u : XT) => XOK kind n u ∧ r = f_par kind n x) := by
  refine fun sz => j_start (Qc := fun A => (QI (fun (r : Int32) (u : XT) => XOK kind n u ∧ r = f_par kind n x) (XU ad cI cZ) D cI cZ A)) [some (.inr (ad 0)), some (.inl x)] (by decide) (Nat.le_of_ble_eq_true rfl) rfl ?_ sz
  intro p e s m args below meth c A C
  have C : CC p s m args meth c D A cI cZ RX0 cX0_partner 2 (some .int) := C
  have hrl := fun j => rl_lt kind j
  refine j_aload0 (pc := 0) C dX0_partner_0 ?_
  refine j_iload1 (pc := 1) C dX0_partner_1 ?_
  refine x_callI1 (pc := 2) C xm_isPlace (lw_V q94 q96 qs2 q22 q97) (by decide +kernel) (by decide) (by decide) rfl (Nat.le_of_ble_eq_true rfl) dX0_partner_2 (fun r u hr => ?_)
  subst hr
  (try dsimp only)
  refine j_ifB_ne (tgt := 10) (pc := 5) C dX0_partner_5 (by decide) (fun c5 => ?_) (fun c5 => ?_)
  · have hpl := of_decide_eq_true c5
    obtain ⟨g, hg, rfl⟩ := place_of hn hpl
    have hrl1 := rl_lt kind g
    refine j_aload0 (pc := 10) C dX0_partner_10 ?_
    refine x_ag_len (pc := 11) C dX0_partner_11 dX0_partner_12 ?_
    refine x_callV1 (pc := 15) C (xm_readTo (k := k) (g := n) (by omega) hn hX) (lw_V q114 q116 qs4 q22 q117) (by decide +kernel) (by decide) (by decide) rfl (Nat.le_of_ble_eq_true rfl) dX0_partner_15 (fun u hu => ?_)
    clear hX
    obtain ⟨role, par, aro, kM, kE, kI, mo, esc, inn⟩ := u
    replace hX := hu
    dsimp only at hX ⊢
    rw [show max k n = n by omega] at hX ⊢
    refine x_ag_role (pc := 18) C dX0_partner_18 dX0_partner_19 ?_
    refine j_iload1 (pc := 22) C dX0_partner_22 ?_
    refine x_ald_role (pc := 23) C dX0_partner_23 (by omega) ?_
    refine j_top (nI (rl kind (g))) (hX.1 (g) (by omega)) ?_
    refine j_iconst (pc := 24) C (nI 1) dX0_partner_24 (by decide) ?_
    refine j_icmpN_eq (tgt := 38) (pc := 25) C dX0_partner_25 (by decide) (by omega) (by omega) (fun c25 => ?_) (fun c25 => ?_)
    · refine x_ag_par (pc := 38) C dX0_partner_38 dX0_partner_39 ?_
      refine j_iload1 (pc := 42) C dX0_partner_42 ?_
      refine x_ald_par (pc := 43) C dX0_partner_43 (by omega) ?_
      refine j_top _ (hX.2.2.1 g hg) ?_
      refine j_goto (tgt := 49) (pc := 44) C dX0_partner_44 (by decide) ?_
      exact j_iret (WS := XU ad cI cZ) (kind, role, par, aro, kM, kE, kI, nI (n), nI (n), _, _, _) C dX0_partner_49 ⟨⟨rfl, hn, rfl, n, Nat.le_refl n, rfl, hX⟩, by unfold f_par; rw [if_pos hpl, cl_n (by omega)]⟩
    · refine x_ag_role (pc := 28) C dX0_partner_28 dX0_partner_29 ?_
      refine j_iload1 (pc := 32) C dX0_partner_32 ?_
      refine x_ald_role (pc := 33) C dX0_partner_33 (by omega) ?_
      refine j_top (nI (rl kind (g))) (hX.1 (g) (by omega)) ?_
      refine j_iconst (pc := 34) C (nI 2) dX0_partner_34 (by decide) ?_
      refine j_icmpN_ne (tgt := 47) (pc := 35) C dX0_partner_35 (by decide) (by omega) (by omega) (fun c35 => ?_) (fun c35 => ?_)
      · refine j_bipush (pc := 47) C (-2) dX0_partner_47 (by decide) ?_
        exact j_iret (WS := XU ad cI cZ) (kind, role, par, aro, kM, kE, kI, nI (n), nI (n), _, _, _) C dX0_partner_49 ⟨⟨rfl, hn, rfl, n, Nat.le_refl n, rfl, hX⟩, by unfold f_par; rw [if_pos hpl, cl_n (by omega), pn_none c25 c35]; rfl⟩
      · refine x_ag_par (pc := 38) C dX0_partner_38 dX0_partner_39 ?_
        refine j_iload1 (pc := 42) C dX0_partner_42 ?_
        refine x_ald_par (pc := 43) C dX0_partner_43 (by omega) ?_
        refine j_top _ (hX.2.2.1 g hg) ?_
        refine j_goto (tgt := 49) (pc := 44) C dX0_partner_44 (by decide) ?_
        exact j_iret (WS := XU ad cI cZ) (kind, role, par, aro, kM, kE, kI, nI (n), nI (n), _, _, _) C dX0_partner_49 ⟨⟨rfl, hn, rfl, n, Nat.le_refl n, rfl, hX⟩, by unfold f_par; rw [if_pos hpl, cl_n (by omega)]⟩
  · refine j_iconst (pc := 8) C (-1) dX0_partner_8 (by decide) ?_
    exact j_iret (WS := XU ad cI cZ) (kind, role, par, aro, kM, kE, kI, nI (n), nI (k), _, _, _) C dX0_partner_9 ⟨⟨rfl, hn, rfl, k, hk, rfl, hX⟩, by unfold f_par; rw [if_neg (of_decide_eq_false c5)]⟩

set_option maxHeartbeats 4000000 in
set_option maxRecDepth 100000 in
theorem xm_strays {l : Launch} {D : va_G} {cI cZ : ClassId} {ad : Nat → Nat} {kind role par aro kM kE kI : Nat → Int32} {mo esc inn : Int32} {n k : Nat} (hn : n ≤ 64) (hk : k ≤ n) (hX : XI kind k role par aro kM kE kI) : MetI l yX0_strays cX0_strays 3 (some .int) 4 D cI cZ [.ref (ad 0)] (XU ad cI cZ) (XW ad cI cZ kind role par aro kM kE kI (nI n) (nI k) mo esc inn) (fun (r : Int32) (u : XT) => XOK kind n u ∧ r = f_str kind n) := by
  refine fun sz => j_start (Qc := fun A => (QI (fun (r : Int32) (u : XT) => XOK kind n u ∧ r = f_str kind n) (XU ad cI cZ) D cI cZ A)) [some (.inr (ad 0)), none, none] (by decide) (Nat.le_of_ble_eq_true rfl) rfl ?_ sz
  intro p e s m args below meth c A C
  have C : CC p s m args meth c D A cI cZ RX0 cX0_strays 3 (some .int) := C
  refine j_aload0 (pc := 0) C dX0_strays_0 ?_
  refine x_ag_len (pc := 1) C dX0_strays_1 dX0_strays_2 ?_
  refine x_callV1 (pc := 5) C (xm_readTo (k := k) (g := n) (by omega) hn hX) (lw_V q114 q116 qs4 q22 q117) (by decide +kernel) (by decide) (by decide) rfl (Nat.le_of_ble_eq_true rfl) dX0_strays_5 (fun u hu => ?_)
  clear hX
  obtain ⟨role, par, aro, kM, kE, kI, mo, esc, inn⟩ := u
  replace hX := hu
  dsimp only at hX ⊢
  rw [show max k n = n by omega] at hX ⊢
  have loop : ∀ (f i : Nat), n < i + f → i ≤ n → JJ p l e s m args below meth c D A 4 (QI (fun (r : Int32) (u : XT) => XOK kind n u ∧ r = f_str kind n) (XU ad cI cZ) D cI cZ A) (XW ad cI cZ kind role par aro kM kE kI (nI n) (nI n) mo esc inn) 12 [some (.inr (ad 0)), some (.inl (nI (cS kind n i))), some (.inl (nI i))] [] := by
    intro f
    induction f with
    | zero => intro i h1 h2; omega
    | succ f ih =>
      intro i h1 h2
      have hrl := rl_lt kind i
      refine j_iload2 (pc := 12) C dX0_strays_12 ?_
      refine x_ag_len (pc := 13) C dX0_strays_13 dX0_strays_14 ?_
      refine j_icmpN_ge (tgt := 39) (pc := 17) C dX0_strays_17 (by decide) (by omega) (by omega) (fun c17 => ?_) (fun c17 => ?_)
      · refine j_iload1 (pc := 39) C dX0_strays_39 ?_
        exact j_iret (WS := XU ad cI cZ) (kind, role, par, aro, kM, kE, kI, nI (n), nI (n), _, _, _) C dX0_strays_40 ⟨⟨rfl, hn, rfl, n, Nat.le_refl n, rfl, hX⟩, by unfold f_str; rw [show i = n by omega]⟩
      · refine x_ag_role (pc := 20) C dX0_strays_20 dX0_strays_21 ?_
        refine j_iload2 (pc := 24) C dX0_strays_24 ?_
        refine x_ald_role (pc := 25) C dX0_strays_25 (by omega) ?_
        refine j_top (nI (rl kind (i))) (hX.1 (i) (by omega)) ?_
        refine j_iconst (pc := 26) C (nI 3) dX0_strays_26 (by decide) ?_
        refine j_icmpN_ne (tgt := 33) (pc := 27) C dX0_strays_27 (by decide) (by omega) (by omega) (fun c27 => ?_) (fun c27 => ?_)
        · refine j_inc2 (pc := 33) C dX0_strays_33 ?_
          refine j_goto (tgt := 12) (pc := 36) C dX0_strays_36 (by decide) ?_
          rw [show cS kind n i = cS kind n (i + 1) by rw [cS, if_neg (fun q => c27 q.2)]; rfl]
          exact ih (i + 1) (by omega) (by omega)
        · refine j_inc1 (pc := 30) C dX0_strays_30 ?_
          refine j_inc2 (pc := 33) C dX0_strays_33 ?_
          refine j_goto (tgt := 12) (pc := 36) C dX0_strays_36 (by decide) ?_
          rw [show cS kind n i + 1 = cS kind n (i + 1) by rw [cS, if_pos ⟨c17, c27⟩]]
          exact ih (i + 1) (by omega) (by omega)
  refine j_iconst (pc := 8) C (nI 0) dX0_strays_8 (by decide) ?_
  refine j_istore1 (pc := 9) C dX0_strays_9 ?_
  refine j_iconst (pc := 10) C (nI 0) dX0_strays_10 (by decide) ?_
  refine j_istore2 (pc := 11) C dX0_strays_11 ?_
  exact loop (n + 1) 0 (by omega) (by omega)

set_option maxHeartbeats 4000000 in
set_option maxRecDepth 100000 in
theorem xm_forward {l : Launch} {D : va_G} {cI cZ : ClassId} {ad : Nat → Nat} {kind role par aro kM kE kI : Nat → Int32} {mo esc inn : Int32} {n k : Nat} (hn : n ≤ 64) (hk : k ≤ n) (hX : XI kind k role par aro kM kE kI) {x : Int32} : MetI l yX0_forward cX0_forward 4 (some .int) 4 D cI cZ [.ref (ad 0), .int x] (XU ad cI cZ) (XW ad cI cZ kind role par aro kM kE kI (nI n) (nI k) mo esc inn) (fun (r : Int32) (u : XT) => XOK kind n u ∧ r = f_fwd kind n x) := by
  refine fun sz => j_start (Qc := fun A => (QI (fun (r : Int32) (u : XT) => XOK kind n u ∧ r = f_fwd kind n x) (XU ad cI cZ) D cI cZ A)) [some (.inr (ad 0)), some (.inl x), none, none] (by decide) (Nat.le_of_ble_eq_true rfl) rfl ?_ sz
  intro p e s m args below meth c A C
  have C : CC p s m args meth c D A cI cZ RX0 cX0_forward 4 (some .int) := C
  refine j_aload0 (pc := 0) C dX0_forward_0 ?_
  refine j_iload1 (pc := 1) C dX0_forward_1 ?_
  refine x_callI1 (pc := 2) C xm_isGap (lw_V q75 q77 qs0 q22 q78) (by decide +kernel) (by decide) (by decide) rfl (Nat.le_of_ble_eq_true rfl) dX0_forward_2 (fun r u hr => ?_)
  subst hr
  (try dsimp only)
  refine j_ifB_ne (tgt := 10) (pc := 5) C dX0_forward_5 (by decide) (fun c5 => ?_) (fun c5 => ?_)
  · have hgap := of_decide_eq_true c5
    obtain ⟨g, hg, rfl⟩ := gap_of hn hgap
    refine j_aload0 (pc := 10) C dX0_forward_10 ?_
    refine x_ag_len (pc := 11) C dX0_forward_11 dX0_forward_12 ?_
    refine x_callV1 (pc := 15) C (xm_readTo (k := k) (g := n) (by omega) hn hX) (lw_V q114 q116 qs4 q22 q117) (by decide +kernel) (by decide) (by decide) rfl (Nat.le_of_ble_eq_true rfl) dX0_forward_15 (fun u hu => ?_)
    clear hX
    obtain ⟨role, par, aro, kM, kE, kI, mo, esc, inn⟩ := u
    replace hX := hu
    dsimp only at hX ⊢
    rw [show max k n = n by omega] at hX ⊢
    have hf0 : f_fwd kind n (nI g) = fwd kind n (n + 1) g := by unfold f_fwd; rw [if_pos hgap, cl_n (by omega)]
    have loop : ∀ (f i : Nat) (role par aro kM kE kI : Nat → Int32) (mo esc inn : Int32) (v3 : Option jT), XI kind n role par aro kM kE kI → f_fwd kind n (nI g) = fwd kind n f i → n < i + f → i ≤ n → JJ p l e s m args below meth c D A 4 (QI (fun (r : Int32) (u : XT) => XOK kind n u ∧ r = f_fwd kind n (nI g)) (XU ad cI cZ) D cI cZ A) (XW ad cI cZ kind role par aro kM kE kI (nI n) (nI n) mo esc inn) 20 [some (.inr (ad 0)), some (.inl (nI g)), some (.inl (nI i)), v3] [] := by
      clear hX
      intro f
      induction f with
      | zero => intro i role par aro kM kE kI mo esc inn v3 hX hf h1 h2; omega
      | succ f ih =>
        intro i role par aro kM kE kI mo esc inn v3 hX hf h1 h2
        have hrl := rl_lt kind i
        refine j_iload2 (pc := 20) C dX0_forward_20 ?_
        refine x_ag_len (pc := 21) C dX0_forward_21 dX0_forward_22 ?_
        refine j_icmpN_ge (tgt := 71) (pc := 25) C dX0_forward_25 (by decide) (by omega) (by omega) (fun c25 => ?_) (fun c25 => ?_)
        · refine j_bipush (pc := 71) C (-2) dX0_forward_71 (by decide) ?_
          exact j_iret (WS := XU ad cI cZ) (kind, role, par, aro, kM, kE, kI, nI (n), nI (n), _, _, _) C dX0_forward_73 ⟨⟨rfl, hn, rfl, n, Nat.le_refl n, rfl, hX⟩, by rw [hf, fwd, if_neg (by omega)]⟩
        · refine x_ag_role (pc := 28) C dX0_forward_28 dX0_forward_29 ?_
          refine j_iload2 (pc := 32) C dX0_forward_32 ?_
          refine x_ald_role (pc := 33) C dX0_forward_33 (by omega) ?_
          refine j_top (nI (rl kind (i))) (hX.1 (i) (by omega)) ?_
          refine j_iconst (pc := 34) C (nI 2) dX0_forward_34 (by decide) ?_
          refine j_icmpN_eq (tgt := 48) (pc := 35) C dX0_forward_35 (by decide) (by omega) (by omega) (fun c35 => ?_) (fun c35 => ?_)
          · refine j_bipush (pc := 48) C (-3) dX0_forward_48 (by decide) ?_
            exact j_iret (WS := XU ad cI cZ) (kind, role, par, aro, kM, kE, kI, nI (n), nI (n), _, _, _) C dX0_forward_50 ⟨⟨rfl, hn, rfl, n, Nat.le_refl n, rfl, hX⟩, by rw [hf, fwd, if_pos c25, if_pos (by omega)]⟩
          · refine x_ag_role (pc := 38) C dX0_forward_38 dX0_forward_39 ?_
            refine j_iload2 (pc := 42) C dX0_forward_42 ?_
            refine x_ald_role (pc := 43) C dX0_forward_43 (by omega) ?_
            refine j_top (nI (rl kind (i))) (hX.1 (i) (by omega)) ?_
            refine j_iconst (pc := 44) C (nI 3) dX0_forward_44 (by decide) ?_
            refine j_icmpN_ne (tgt := 51) (pc := 45) C dX0_forward_45 (by decide) (by omega) (by omega) (fun c45 => ?_) (fun c45 => ?_)
            · refine j_aload0 (pc := 51) C dX0_forward_51 ?_
              refine j_iload2 (pc := 52) C dX0_forward_52 ?_
              refine x_callI1 (pc := 53) C (xm_unitEnd (n := n) (i := i) hn (by omega) hX) (lw_V q162 q164 qs10 q22 q165) (by decide +kernel) (by decide) (by decide) rfl (Nat.le_of_ble_eq_true rfl) dX0_forward_53 (fun r u hu => ?_)
              clear hX
              obtain ⟨role, par, aro, kM, kE, kI, mo, esc, inn⟩ := u
              obtain ⟨hX, hr⟩ := hu
              dsimp only at hX ⊢
              subst hr
              cases hu : uE kind n i with
              | none =>
                refine j_top (-1) rfl ?_
                refine j_istore3 (pc := 56) C dX0_forward_56 ?_
                refine j_iload3 (pc := 57) C dX0_forward_57 ?_
                refine j_if_lt (tgt := 65) (pc := 58) C dX0_forward_58 (by decide) (fun c58 => ?_) (fun c58 => ?_)
                · refine j_inc2 (pc := 65) C dX0_forward_65 ?_
                  refine j_goto (tgt := 20) (pc := 68) C dX0_forward_68 (by decide) ?_
                  exact ih (i + 1) role par aro kM kE kI _ _ _ _ hX (by rw [hf, fwd, if_pos c25, if_neg (by omega), hu]) (by omega) (by omega)
                · exact absurd (by decide) c58
              | some e9 =>
                have he9 := (uE_uS (by omega) hu).2.1
                refine j_top (nI e9) rfl ?_
                refine j_istore3 (pc := 56) C dX0_forward_56 ?_
                refine j_iload3 (pc := 57) C dX0_forward_57 ?_
                refine j_ifN_lt (tgt := 65) (pc := 58) C dX0_forward_58 (by decide) (by omega) (fun c58 => ?_) (fun c58 => ?_)
                · exact absurd c58 (by omega)
                · refine j_iload3 (pc := 61) C dX0_forward_61 ?_
                  refine j_iconst (pc := 62) C (nI 1) dX0_forward_62 (by decide) ?_
                  refine j_iaddN (pc := 63) C dX0_forward_63 ?_
                  exact j_iret (WS := XU ad cI cZ) (kind, role, par, aro, kM, kE, kI, nI (n), nI (n), _, _, _) C dX0_forward_64 ⟨⟨rfl, hn, rfl, n, Nat.le_refl n, rfl, hX⟩, by rw [hf, fwd, if_pos c25, if_neg (by omega), hu]⟩
            · refine j_bipush (pc := 48) C (-3) dX0_forward_48 (by decide) ?_
              exact j_iret (WS := XU ad cI cZ) (kind, role, par, aro, kM, kE, kI, nI (n), nI (n), _, _, _) C dX0_forward_50 ⟨⟨rfl, hn, rfl, n, Nat.le_refl n, rfl, hX⟩, by rw [hf, fwd, if_pos c25, if_pos (by omega)]⟩
    refine j_iload1 (pc := 18) C dX0_forward_18 ?_
    refine j_istore2 (pc := 19) C dX0_forward_19 ?_
    exact loop (n + 1) g role par aro kM kE kI _ _ _ _ hX hf0 (by omega) (by omega)
  · refine j_iconst (pc := 8) C (-1) dX0_forward_8 (by decide) ?_
    exact j_iret (WS := XU ad cI cZ) (kind, role, par, aro, kM, kE, kI, nI (n), nI (k), _, _, _) C dX0_forward_9 ⟨⟨rfl, hn, rfl, k, hk, rfl, hX⟩, by unfold f_fwd; rw [if_neg (of_decide_eq_false c5)]⟩

set_option maxHeartbeats 4000000 in
set_option maxRecDepth 100000 in
theorem xm_backward {l : Launch} {D : va_G} {cI cZ : ClassId} {ad : Nat → Nat} {kind role par aro kM kE kI : Nat → Int32} {mo esc inn : Int32} {n k : Nat} (hn : n ≤ 64) (hk : k ≤ n) (hX : XI kind k role par aro kM kE kI) {x : Int32} : MetI l yX0_backward cX0_backward 4 (some .int) 4 D cI cZ [.ref (ad 0), .int x] (XU ad cI cZ) (XW ad cI cZ kind role par aro kM kE kI (nI n) (nI k) mo esc inn) (fun (r : Int32) (u : XT) => XOK kind n u ∧ r = f_bwd kind n x) := by
  refine fun sz => j_start (Qc := fun A => (QI (fun (r : Int32) (u : XT) => XOK kind n u ∧ r = f_bwd kind n x) (XU ad cI cZ) D cI cZ A)) [some (.inr (ad 0)), some (.inl x), none, none] (by decide) (Nat.le_of_ble_eq_true rfl) rfl ?_ sz
  intro p e s m args below meth c A C
  have C : CC p s m args meth c D A cI cZ RX0 cX0_backward 4 (some .int) := C
  refine j_aload0 (pc := 0) C dX0_backward_0 ?_
  refine j_iload1 (pc := 1) C dX0_backward_1 ?_
  refine x_callI1 (pc := 2) C xm_isGap (lw_V q75 q77 qs0 q22 q78) (by decide +kernel) (by decide) (by decide) rfl (Nat.le_of_ble_eq_true rfl) dX0_backward_2 (fun r u hr => ?_)
  subst hr
  (try dsimp only)
  refine j_ifB_ne (tgt := 10) (pc := 5) C dX0_backward_5 (by decide) (fun c5 => ?_) (fun c5 => ?_)
  · have hgap := of_decide_eq_true c5
    obtain ⟨g, hg, rfl⟩ := gap_of hn hgap
    refine j_aload0 (pc := 10) C dX0_backward_10 ?_
    refine x_ag_len (pc := 11) C dX0_backward_11 dX0_backward_12 ?_
    refine x_callV1 (pc := 15) C (xm_readTo (k := k) (g := n) (by omega) hn hX) (lw_V q114 q116 qs4 q22 q117) (by decide +kernel) (by decide) (by decide) rfl (Nat.le_of_ble_eq_true rfl) dX0_backward_15 (fun u hu => ?_)
    clear hX
    obtain ⟨role, par, aro, kM, kE, kI, mo, esc, inn⟩ := u
    replace hX := hu
    dsimp only at hX ⊢
    rw [show max k n = n by omega] at hX ⊢
    have hf0 : f_bwd kind n (nI g) = bwd kind n g g := by unfold f_bwd; rw [if_pos hgap, cl_n (by omega)]
    have loop : ∀ (j : Nat) (role par aro kM kE kI : Nat → Int32) (mo esc inn : Int32) (v3 : Option jT), XI kind n role par aro kM kE kI → f_bwd kind n (nI g) = bwd kind n g j → j ≤ g → JJ p l e s m args below meth c D A 4 (QI (fun (r : Int32) (u : XT) => XOK kind n u ∧ r = f_bwd kind n (nI g)) (XU ad cI cZ) D cI cZ A) (XW ad cI cZ kind role par aro kM kE kI (nI n) (nI n) mo esc inn) 22 [some (.inr (ad 0)), some (.inl (nI g)), some (.inl (nI j - nI 1)), v3] [] := by
      clear hX
      intro j
      induction j with
      | zero =>
        intro role par aro kM kE kI mo esc inn v3 hX hf h1
        refine j_iload2 (pc := 22) C dX0_backward_22 ?_
        refine j_if_lt (tgt := 76) (pc := 23) C dX0_backward_23 (by decide) (fun c23 => ?_) (fun c23 => ?_)
        · refine j_bipush (pc := 76) C (-2) dX0_backward_76 (by decide) ?_
          exact j_iret (WS := XU ad cI cZ) (kind, role, par, aro, kM, kE, kI, nI (n), nI (n), _, _, _) C dX0_backward_78 ⟨⟨rfl, hn, rfl, n, Nat.le_refl n, rfl, hX⟩, by rw [hf]; rfl⟩
        · exact absurd m1_neg c23
      | succ j ih =>
        intro role par aro kM kE kI mo esc inn v3 hX hf h1
        have hrl := rl_lt kind j
        rw [show nI (j + 1) - nI 1 = nI j from nI_pred j]
        have at58 : ¬ (rl kind j = 1 ∧ (pn kind n j = none ∨ ∃ c, pn kind n j = some c ∧ g ≤ c)) → JJ p l e s m args below meth c D A 4 (QI (fun (r : Int32) (u : XT) => XOK kind n u ∧ r = f_bwd kind n (nI g)) (XU ad cI cZ) D cI cZ A) (XW ad cI cZ kind role par aro kM kE kI (nI n) (nI n) mo esc inn) 58 [some (.inr (ad 0)), some (.inl (nI g)), some (.inl (nI j)), v3] [] := by
          intro hno
          refine j_aload0 (pc := 58) C dX0_backward_58 ?_
          refine j_iload2 (pc := 59) C dX0_backward_59 ?_
          refine x_callI1 (pc := 60) C (xm_unitStart (n := n) (i := j) hn (by omega) hX) (lw_V q170 q172 qs11 q22 q173) (by decide +kernel) (by decide) (by decide) rfl (Nat.le_of_ble_eq_true rfl) dX0_backward_60 (fun r u hu => ?_)
          clear hX
          obtain ⟨role, par, aro, kM, kE, kI, mo, esc, inn⟩ := u
          obtain ⟨hX, hr⟩ := hu
          dsimp only at hX ⊢
          subst hr
          cases hu : uS kind n j with
          | none =>
            refine j_top (-1) rfl ?_
            refine j_istore3 (pc := 63) C dX0_backward_63 ?_
            refine j_iload3 (pc := 64) C dX0_backward_64 ?_
            refine j_if_lt (tgt := 70) (pc := 65) C dX0_backward_65 (by decide) (fun c65 => ?_) (fun c65 => ?_)
            · refine j_iinc2 (pc := 70) C (nI j - nI 1) dX0_backward_70 (dec_e _) ?_
              refine j_goto (tgt := 22) (pc := 73) C dX0_backward_73 (by decide) ?_
              exact ih role par aro kM kE kI _ _ _ _ hX (by rw [hf, bwd, if_neg hno, hu]) (by omega)
            · exact absurd (by decide) c65
          | some e9 =>
            have he9 := (uS_uE (by omega) hu).1
            refine j_top (nI e9) rfl ?_
            refine j_istore3 (pc := 63) C dX0_backward_63 ?_
            refine j_iload3 (pc := 64) C dX0_backward_64 ?_
            refine j_ifN_lt (tgt := 70) (pc := 65) C dX0_backward_65 (by decide) (by omega) (fun c65 => ?_) (fun c65 => ?_)
            · exact absurd c65 (by omega)
            · refine j_iload3 (pc := 68) C dX0_backward_68 ?_
              exact j_iret (WS := XU ad cI cZ) (kind, role, par, aro, kM, kE, kI, nI (n), nI (n), _, _, _) C dX0_backward_69 ⟨⟨rfl, hn, rfl, n, Nat.le_refl n, rfl, hX⟩, by rw [hf, bwd, if_neg hno, hu]⟩
        refine j_iload2 (pc := 22) C dX0_backward_22 ?_
        refine j_ifN_lt (tgt := 76) (pc := 23) C dX0_backward_23 (by decide) (by omega) (fun c23 => ?_) (fun c23 => ?_)
        · exact absurd c23 (by omega)
        · refine x_ag_role (pc := 26) C dX0_backward_26 dX0_backward_27 ?_
          refine j_iload2 (pc := 30) C dX0_backward_30 ?_
          refine x_ald_role (pc := 31) C dX0_backward_31 (by omega) ?_
          refine j_top (nI (rl kind (j))) (hX.1 (j) (by omega)) ?_
          refine j_iconst (pc := 32) C (nI 1) dX0_backward_32 (by decide) ?_
          refine j_icmpN_ne (tgt := 58) (pc := 33) C dX0_backward_33 (by decide) (by omega) (by omega) (fun c33 => ?_) (fun c33 => ?_)
          · exact at58 (fun q => c33 q.1)
          · cases hp : pn kind n j with
            | none =>
              refine x_ag_par (pc := 36) C dX0_backward_36 dX0_backward_37 ?_
              refine j_iload2 (pc := 40) C dX0_backward_40 ?_
              refine x_ald_par (pc := 41) C dX0_backward_41 (by omega) ?_
              refine j_top (-2) (by rw [hX.2.2.1 j (by omega), hp]; rfl) ?_
              refine j_if_lt (tgt := 55) (pc := 42) C dX0_backward_42 (by decide) (fun c42 => ?_) (fun c42 => ?_)
              · refine j_bipush (pc := 55) C (-3) dX0_backward_55 (by decide) ?_
                exact j_iret (WS := XU ad cI cZ) (kind, role, par, aro, kM, kE, kI, nI (n), nI (n), _, _, _) C dX0_backward_57 ⟨⟨rfl, hn, rfl, n, Nat.le_refl n, rfl, hX⟩, by rw [hf, bwd, if_pos ⟨c33, Or.inl hp⟩]⟩
              · exact absurd (by decide) c42
            | some q =>
              have hq := (pn_some n j q hp).1
              refine x_ag_par (pc := 36) C dX0_backward_36 dX0_backward_37 ?_
              refine j_iload2 (pc := 40) C dX0_backward_40 ?_
              refine x_ald_par (pc := 41) C dX0_backward_41 (by omega) ?_
              refine j_top (nI q) (by rw [hX.2.2.1 j (by omega), hp]; rfl) ?_
              refine j_ifN_lt (tgt := 55) (pc := 42) C dX0_backward_42 (by decide) (by omega) (fun c42 => ?_) (fun c42 => ?_)
              · exact absurd c42 (by omega)
              · refine x_ag_par (pc := 45) C dX0_backward_45 dX0_backward_46 ?_
                refine j_iload2 (pc := 49) C dX0_backward_49 ?_
                refine x_ald_par (pc := 50) C dX0_backward_50 (by omega) ?_
                refine j_top (nI q) (by rw [hX.2.2.1 j (by omega), hp]; rfl) ?_
                refine j_iload1 (pc := 51) C dX0_backward_51 ?_
                refine j_icmpN_lt (tgt := 58) (pc := 52) C dX0_backward_52 (by decide) (by omega) (by omega) (fun c52 => ?_) (fun c52 => ?_)
                · refine at58 (fun q2 => ?_)
                  rcases q2.2 with q3 | ⟨q4, q5, q6⟩
                  · rw [hp] at q3; cases q3
                  · rw [hp] at q5; cases q5; omega
                · refine j_bipush (pc := 55) C (-3) dX0_backward_55 (by decide) ?_
                  exact j_iret (WS := XU ad cI cZ) (kind, role, par, aro, kM, kE, kI, nI (n), nI (n), _, _, _) C dX0_backward_57 ⟨⟨rfl, hn, rfl, n, Nat.le_refl n, rfl, hX⟩, by rw [hf, bwd, if_pos ⟨c33, Or.inr ⟨q, hp, c52⟩⟩]⟩
    refine j_iload1 (pc := 18) C dX0_backward_18 ?_
    refine j_iconst (pc := 19) C (nI 1) dX0_backward_19 (by decide) ?_
    refine j_isub (pc := 20) C dX0_backward_20 ?_
    refine j_istore2 (pc := 21) C dX0_backward_21 ?_
    exact loop g role par aro kM kE kI _ _ _ _ hX hf0 (by omega)
  · refine j_iconst (pc := 8) C (-1) dX0_backward_8 (by decide) ?_
    exact j_iret (WS := XU ad cI cZ) (kind, role, par, aro, kM, kE, kI, nI (n), nI (k), _, _, _) C dX0_backward_9 ⟨⟨rfl, hn, rfl, k, hk, rfl, hX⟩, by unfold f_bwd; rw [if_neg (of_decide_eq_false c5)]⟩

set_option maxHeartbeats 4000000 in
set_option maxRecDepth 100000 in
theorem xm_down {l : Launch} {D : va_G} {cI cZ : ClassId} {ad : Nat → Nat} {kind role par aro kM kE kI : Nat → Int32} {mo esc inn : Int32} {n k : Nat} (hn : n ≤ 64) (hk : k ≤ n) (hX : XI kind k role par aro kM kE kI) {x : Int32} : MetI l yX0_down cX0_down 4 (some .int) 4 D cI cZ [.ref (ad 0), .int x] (XU ad cI cZ) (XW ad cI cZ kind role par aro kM kE kI (nI n) (nI k) mo esc inn) (fun (r : Int32) (u : XT) => XOK kind n u ∧ r = f_dwn kind n x) := by
  refine fun sz => j_start (Qc := fun A => (QI (fun (r : Int32) (u : XT) => XOK kind n u ∧ r = f_dwn kind n x) (XU ad cI cZ) D cI cZ A)) [some (.inr (ad 0)), some (.inl x), none, none] (by decide) (Nat.le_of_ble_eq_true rfl) rfl ?_ sz
  intro p e s m args below meth c A C
  have C : CC p s m args meth c D A cI cZ RX0 cX0_down 4 (some .int) := C
  refine j_aload0 (pc := 0) C dX0_down_0 ?_
  refine j_iload1 (pc := 1) C dX0_down_1 ?_
  refine x_callI1 (pc := 2) C xm_isGap (lw_V q75 q77 qs0 q22 q78) (by decide +kernel) (by decide) (by decide) rfl (Nat.le_of_ble_eq_true rfl) dX0_down_2 (fun r u hr => ?_)
  subst hr
  (try dsimp only)
  refine j_ifB_ne (tgt := 10) (pc := 5) C dX0_down_5 (by decide) (fun c5 => ?_) (fun c5 => ?_)
  · have hgap := of_decide_eq_true c5
    obtain ⟨g, hg, rfl⟩ := gap_of hn hgap
    refine j_aload0 (pc := 10) C dX0_down_10 ?_
    refine x_ag_len (pc := 11) C dX0_down_11 dX0_down_12 ?_
    refine x_callV1 (pc := 15) C (xm_readTo (k := k) (g := n) (by omega) hn hX) (lw_V q114 q116 qs4 q22 q117) (by decide +kernel) (by decide) (by decide) rfl (Nat.le_of_ble_eq_true rfl) dX0_down_15 (fun u hu => ?_)
    clear hX
    obtain ⟨role, par, aro, kM, kE, kI, mo, esc, inn⟩ := u
    replace hX := hu
    dsimp only at hX ⊢
    rw [show max k n = n by omega] at hX ⊢
    have hf0 : f_dwn kind n (nI g) = dwn kind n (n + 1) g false := by unfold f_dwn; rw [if_pos hgap, cl_n (by omega)]
    have loop : ∀ (f i : Nat) (cc2 : Bool), f_dwn kind n (nI g) = dwn kind n f i cc2 → n < i + f → i ≤ n → JJ p l e s m args below meth c D A 4 (QI (fun (r : Int32) (u : XT) => XOK kind n u ∧ r = f_dwn kind n (nI g)) (XU ad cI cZ) D cI cZ A) (XW ad cI cZ kind role par aro kM kE kI (nI n) (nI n) mo esc inn) 22 [some (.inr (ad 0)), some (.inl (nI g)), some (.inl (b2i cc2)), some (.inl (nI i))] [] := by
      intro f
      induction f with
      | zero => intro i cc2 hf h1 h2; omega
      | succ f ih =>
        intro i cc2 hf h1 h2
        have hrl := rl_lt kind i
        have at52 : ∀ dd, dd = (cc2 || decide (rl kind i = 2 ∨ rl kind i = 3)) → i < n → JJ p l e s m args below meth c D A 4 (QI (fun (r : Int32) (u : XT) => XOK kind n u ∧ r = f_dwn kind n (nI g)) (XU ad cI cZ) D cI cZ A) (XW ad cI cZ kind role par aro kM kE kI (nI n) (nI n) mo esc inn) 52 [some (.inr (ad 0)), some (.inl (nI g)), some (.inl (b2i dd)), some (.inl (nI i))] [] := by
          intro dd hdd hin
          have hcd : rl kind i = 1 → dd = cc2 := fun q => by rw [hdd, decide_eq_false (by omega)]; simp
          refine x_ag_role (pc := 52) C dX0_down_52 dX0_down_53 ?_
          refine j_iload3 (pc := 56) C dX0_down_56 ?_
          refine x_ald_role (pc := 57) C dX0_down_57 (by omega) ?_
          refine j_top (nI (rl kind (i))) (hX.1 (i) (by omega)) ?_
          refine j_iconst (pc := 58) C (nI 1) dX0_down_58 (by decide) ?_
          refine j_icmpN_ne (tgt := 75) (pc := 59) C dX0_down_59 (by decide) (by omega) (by omega) (fun c59 => ?_) (fun c59 => ?_)
          · refine j_inc3 (pc := 75) C dX0_down_75 ?_
            refine j_goto (tgt := 22) (pc := 78) C dX0_down_78 (by decide) ?_
            exact ih (i + 1) dd (by rw [hf, dwn, if_pos hin, if_neg c59, hdd]) (by omega) (by omega)
          · refine j_iload2 (pc := 62) C dX0_down_62 ?_
            refine j_ifB_eq (tgt := 71) (pc := 63) C dX0_down_63 (by decide) (fun c63 => ?_) (fun c63 => ?_)
            · refine j_iload3 (pc := 71) C dX0_down_71 ?_
              refine j_iconst (pc := 72) C (nI 1) dX0_down_72 (by decide) ?_
              refine j_iaddN (pc := 73) C dX0_down_73 ?_
              exact j_iret (WS := XU ad cI cZ) (kind, role, par, aro, kM, kE, kI, nI (n), nI (n), _, _, _) C dX0_down_74 ⟨⟨rfl, hn, rfl, n, Nat.le_refl n, rfl, hX⟩, by rw [hf, dwn, if_pos hin, if_pos c59, if_neg (by rw [← hcd c59, c63]; simp)]⟩
            · refine j_bipush (pc := 66) C (-3) dX0_down_66 (by decide) ?_
              refine j_goto (tgt := 74) (pc := 68) C dX0_down_68 (by decide) ?_
              exact j_iret (WS := XU ad cI cZ) (kind, role, par, aro, kM, kE, kI, nI (n), nI (n), _, _, _) C dX0_down_74 ⟨⟨rfl, hn, rfl, n, Nat.le_refl n, rfl, hX⟩, by rw [hf, dwn, if_pos hin, if_pos c59, if_pos (by rw [← hcd c59, c63])]⟩
        refine j_iload3 (pc := 22) C dX0_down_22 ?_
        refine x_ag_len (pc := 23) C dX0_down_23 dX0_down_24 ?_
        refine j_icmpN_ge (tgt := 81) (pc := 27) C dX0_down_27 (by decide) (by omega) (by omega) (fun c27 => ?_) (fun c27 => ?_)
        · refine j_bipush (pc := 81) C (-2) dX0_down_81 (by decide) ?_
          exact j_iret (WS := XU ad cI cZ) (kind, role, par, aro, kM, kE, kI, nI (n), nI (n), _, _, _) C dX0_down_83 ⟨⟨rfl, hn, rfl, n, Nat.le_refl n, rfl, hX⟩, by rw [hf, dwn, if_neg (by omega)]⟩
        · refine x_ag_role (pc := 30) C dX0_down_30 dX0_down_31 ?_
          refine j_iload3 (pc := 34) C dX0_down_34 ?_
          refine x_ald_role (pc := 35) C dX0_down_35 (by omega) ?_
          refine j_top (nI (rl kind (i))) (hX.1 (i) (by omega)) ?_
          refine j_iconst (pc := 36) C (nI 2) dX0_down_36 (by decide) ?_
          refine j_icmpN_eq (tgt := 50) (pc := 37) C dX0_down_37 (by decide) (by omega) (by omega) (fun c37 => ?_) (fun c37 => ?_)
          · refine j_iconst (pc := 50) C (nI 1) dX0_down_50 (by decide) ?_
            refine j_top (b2i true) rfl ?_
            refine j_istore2 (pc := 51) C dX0_down_51 ?_
            exact at52 true (by rw [decide_eq_true (Or.inl c37)]; simp) c27
          · refine x_ag_role (pc := 40) C dX0_down_40 dX0_down_41 ?_
            refine j_iload3 (pc := 44) C dX0_down_44 ?_
            refine x_ald_role (pc := 45) C dX0_down_45 (by omega) ?_
            refine j_top (nI (rl kind (i))) (hX.1 (i) (by omega)) ?_
            refine j_iconst (pc := 46) C (nI 3) dX0_down_46 (by decide) ?_
            refine j_icmpN_ne (tgt := 52) (pc := 47) C dX0_down_47 (by decide) (by omega) (by omega) (fun c47 => ?_) (fun c47 => ?_)
            · exact at52 cc2 (by rw [decide_eq_false (by omega)]; simp) c27
            · refine j_iconst (pc := 50) C (nI 1) dX0_down_50 (by decide) ?_
              refine j_top (b2i true) rfl ?_
              refine j_istore2 (pc := 51) C dX0_down_51 ?_
              exact at52 true (by rw [decide_eq_true (Or.inr c47)]; simp) c27
    refine j_iconst (pc := 18) C (nI 0) dX0_down_18 (by decide) ?_
    refine j_top (b2i false) rfl ?_
    refine j_istore2 (pc := 19) C dX0_down_19 ?_
    refine j_iload1 (pc := 20) C dX0_down_20 ?_
    refine j_istore3 (pc := 21) C dX0_down_21 ?_
    exact loop (n + 1) g false hf0 (by omega) (by omega)
  · refine j_iconst (pc := 8) C (-1) dX0_down_8 (by decide) ?_
    exact j_iret (WS := XU ad cI cZ) (kind, role, par, aro, kM, kE, kI, nI (n), nI (k), _, _, _) C dX0_down_9 ⟨⟨rfl, hn, rfl, k, hk, rfl, hX⟩, by unfold f_dwn; rw [if_neg (of_decide_eq_false c5)]⟩

set_option maxHeartbeats 4000000 in
set_option maxRecDepth 100000 in
theorem xm_units {l : Launch} {D : va_G} {cI cZ : ClassId} {ad : Nat → Nat} {kind role par aro kM kE kI : Nat → Int32} {mo esc inn : Int32} {n k : Nat} (hn : n ≤ 64) (hk : k ≤ n) (hX : XI kind k role par aro kM kE kI) : MetI l yX0_units cX0_units 4 (some .int) 4 D cI cZ [.ref (ad 0)] (XU ad cI cZ) (XW ad cI cZ kind role par aro kM kE kI (nI n) (nI k) mo esc inn) (fun (r : Int32) (u : XT) => XOK kind n u ∧ r = f_uni kind n) := by
  refine fun sz => j_start (Qc := fun A => (QI (fun (r : Int32) (u : XT) => XOK kind n u ∧ r = f_uni kind n) (XU ad cI cZ) D cI cZ A)) [some (.inr (ad 0)), none, none, none] (by decide) (Nat.le_of_ble_eq_true rfl) rfl ?_ sz
  intro p e s m args below meth c A C
  have C : CC p s m args meth c D A cI cZ RX0 cX0_units 4 (some .int) := C
  refine j_aload0 (pc := 0) C dX0_units_0 ?_
  refine x_ag_len (pc := 1) C dX0_units_1 dX0_units_2 ?_
  refine x_callV1 (pc := 5) C (xm_readTo (k := k) (g := n) (by omega) hn hX) (lw_V q114 q116 qs4 q22 q117) (by decide +kernel) (by decide) (by decide) rfl (Nat.le_of_ble_eq_true rfl) dX0_units_5 (fun u hu => ?_)
  clear hX
  obtain ⟨role, par, aro, kM, kE, kI, mo, esc, inn⟩ := u
  replace hX := hu
  dsimp only at hX ⊢
  rw [show max k n = n by omega] at hX ⊢
  have loop : ∀ (f i : Nat) (role par aro kM kE kI : Nat → Int32) (mo esc inn : Int32) (v3 : Option jT), XI kind n role par aro kM kE kI → n < i + f → i ≤ n → JJ p l e s m args below meth c D A 4 (QI (fun (r : Int32) (u : XT) => XOK kind n u ∧ r = f_uni kind n) (XU ad cI cZ) D cI cZ A) (XW ad cI cZ kind role par aro kM kE kI (nI n) (nI n) mo esc inn) 12 [some (.inr (ad 0)), some (.inl (nI (cU kind n i))), some (.inl (nI i)), v3] [] := by
    clear hX
    intro f
    induction f with
    | zero => intro i role par aro kM kE kI mo esc inn v3 hX h1 h2; omega
    | succ f ih =>
      intro i role par aro kM kE kI mo esc inn v3 hX h1 h2
      refine j_iload2 (pc := 12) C dX0_units_12 ?_
      refine x_ag_len (pc := 13) C dX0_units_13 dX0_units_14 ?_
      refine j_icmpN_ge (tgt := 39) (pc := 17) C dX0_units_17 (by decide) (by omega) (by omega) (fun c17 => ?_) (fun c17 => ?_)
      · refine j_iload1 (pc := 39) C dX0_units_39 ?_
        exact j_iret (WS := XU ad cI cZ) (kind, role, par, aro, kM, kE, kI, nI (n), nI (n), _, _, _) C dX0_units_40 ⟨⟨rfl, hn, rfl, n, Nat.le_refl n, rfl, hX⟩, by unfold f_uni; rw [show i = n by omega]⟩
      · refine j_aload0 (pc := 20) C dX0_units_20 ?_
        refine j_iload2 (pc := 21) C dX0_units_21 ?_
        refine x_callI1 (pc := 22) C (xm_unitEnd (n := n) (i := i) hn (by omega) hX) (lw_V q162 q164 qs10 q22 q165) (by decide +kernel) (by decide) (by decide) rfl (Nat.le_of_ble_eq_true rfl) dX0_units_22 (fun r u hu => ?_)
        clear hX
        obtain ⟨role, par, aro, kM, kE, kI, mo, esc, inn⟩ := u
        obtain ⟨hX, hr⟩ := hu
        dsimp only at hX ⊢
        subst hr
        cases hu : uE kind n i with
        | none =>
          refine j_top (-1) rfl ?_
          refine j_istore3 (pc := 25) C dX0_units_25 ?_
          refine j_iload3 (pc := 26) C dX0_units_26 ?_
          refine j_if_lt (tgt := 33) (pc := 27) C dX0_units_27 (by decide) (fun c27 => ?_) (fun c27 => ?_)
          · refine j_inc2 (pc := 33) C dX0_units_33 ?_
            refine j_goto (tgt := 12) (pc := 36) C dX0_units_36 (by decide) ?_
            rw [show cU kind n i = cU kind n (i + 1) by rw [cU, if_pos hu]; rfl]
            exact ih (i + 1) role par aro kM kE kI _ _ _ _ hX (by omega) (by omega)
          · exact absurd (by decide) c27
        | some e9 =>
          have he9 := (uE_uS (by omega) hu).2.1
          refine j_top (nI e9) rfl ?_
          refine j_istore3 (pc := 25) C dX0_units_25 ?_
          refine j_iload3 (pc := 26) C dX0_units_26 ?_
          refine j_ifN_lt (tgt := 33) (pc := 27) C dX0_units_27 (by decide) (by omega) (fun c27 => ?_) (fun c27 => ?_)
          · exact absurd c27 (by omega)
          · refine j_inc1 (pc := 30) C dX0_units_30 ?_
            refine j_inc2 (pc := 33) C dX0_units_33 ?_
            refine j_goto (tgt := 12) (pc := 36) C dX0_units_36 (by decide) ?_
            rw [show cU kind n i + 1 = cU kind n (i + 1) by rw [cU, if_neg (by rw [hu]; simp)]]
            exact ih (i + 1) role par aro kM kE kI _ _ _ _ hX (by omega) (by omega)
  refine j_iconst (pc := 8) C (nI 0) dX0_units_8 (by decide) ?_
  refine j_istore1 (pc := 9) C dX0_units_9 ?_
  refine j_iconst (pc := 10) C (nI 0) dX0_units_10 (by decide) ?_
  refine j_istore2 (pc := 11) C dX0_units_11 ?_
  exact loop (n + 1) 0 role par aro kM kE kI _ _ _ _ hX (by omega) (by omega)
end
section
set_option maxHeartbeats 4000000 in
set_option maxRecDepth 100000 in
theorem xm_insert {l : Launch} {D : va_G} {cI cZ : ClassId} {ad : Nat → Nat} {kind role par aro kM kE kI : Nat → Int32} {mo esc inn : Int32} {n k : Nat} (hn : n ≤ 64) (hk : k ≤ n) (hX : XI kind k role par aro kM kE kI) {x y : Int32} : MetI l yX0_insert cX0_insert 4 (some .int) 4 D cI cZ [.ref (ad 0), .int x, .int y] (XU ad cI cZ) (XW ad cI cZ kind role par aro kM kE kI (nI n) (nI k) mo esc inn) (fun (r : Int32) (u : XT) => XOK (f_ins kind n x y).2.1 (f_ins kind n x y).2.2 u ∧ r = (f_ins kind n x y).1) := by
  refine fun sz => j_start (Qc := fun A => (QI (fun (r : Int32) (u : XT) => XOK (f_ins kind n x y).2.1 (f_ins kind n x y).2.2 u ∧ r = (f_ins kind n x y).1) (XU ad cI cZ) D cI cZ A)) [some (.inr (ad 0)), some (.inl x), some (.inl y), none] (by decide) (Nat.le_of_ble_eq_true rfl) rfl ?_ sz
  intro p e s m args below meth c A C
  have C : CC p s m args meth c D A cI cZ RX0 cX0_insert 4 (some .int) := C
  refine j_aload0 (pc := 0) C dX0_insert_0 ?_
  refine j_iload1 (pc := 1) C dX0_insert_1 ?_
  refine x_callI1 (pc := 2) C xm_isGap (lw_V q75 q77 qs0 q22 q78) (by decide +kernel) (by decide) (by decide) rfl (Nat.le_of_ble_eq_true rfl) dX0_insert_2 (fun r u hr => ?_)
  subst hr
  (try dsimp only)
  refine j_ifB_ne (tgt := 10) (pc := 5) C dX0_insert_5 (by decide) (fun c5 => ?_) (fun c5 => ?_)
  · have hgap := of_decide_eq_true c5
    obtain ⟨g, hg, rfl⟩ := gap_of hn hgap
    refine j_iload2 (pc := 10) C dX0_insert_10 ?_
    refine x_callS1 (pc := 11) C xm_isKind (lw_S q79 q80 q22 q81) (by decide +kernel) (by decide) (by decide) rfl (Nat.le_of_ble_eq_true rfl) dX0_insert_11 (fun r hr => ?_)
    subst hr
    refine j_ifB_ne (tgt := 20) (pc := 14) C dX0_insert_14 (by decide) (fun c14 => ?_) (fun c14 => ?_)
    · refine x_ag_len (pc := 20) C dX0_insert_20 dX0_insert_21 ?_
      refine j_bipush (pc := 24) C (nI 64) dX0_insert_24 (by decide) ?_
      refine j_icmpN_ne (tgt := 32) (pc := 26) C dX0_insert_26 (by decide) (by omega) (by omega) (fun c26 => ?_) (fun c26 => ?_)
      · have hf : f_ins kind n (nI g) y = (nI (n + 1), insF kind g n y, n + 1) := by unfold f_ins; rw [if_pos hgap, if_pos (of_decide_eq_true c14), if_neg c26, cl_n (by omega)]
        have loop : ∀ (f i : Nat), i = g + f → i ≤ n → JJ p l e s m args below meth c D A 4 (QI (fun (r : Int32) (u : XT) => XOK (f_ins kind n (nI g) y).2.1 (f_ins kind n (nI g) y).2.2 u ∧ r = (f_ins kind n (nI g) y).1) (XU ad cI cZ) D cI cZ A) (XW ad cI cZ (insL kind i n) role par aro kM kE kI (nI n) (nI k) mo esc inn) 37 [some (.inr (ad 0)), some (.inl (nI g)), some (.inl y), some (.inl (nI i))] [] := by
          intro f
          induction f with
          | zero =>
            intro i h1 h2
            refine j_iload3 (pc := 37) C dX0_insert_37 ?_
            refine j_iload1 (pc := 38) C dX0_insert_38 ?_
            refine j_icmpN_le (tgt := 62) (pc := 39) C dX0_insert_39 (by decide) (by omega) (by omega) (fun c39 => ?_) (fun c39 => ?_)
            · obtain rfl : i = g := by omega
              refine x_ag_kind (pc := 62) C dX0_insert_62 dX0_insert_63 ?_
              refine j_iload1 (pc := 66) C dX0_insert_66 ?_
              refine j_iload2 (pc := 67) C dX0_insert_67 ?_
              refine x_ast_kind (pc := 68) C dX0_insert_68 (by omega) ?_
              rw [show upd (insL kind i n) i y = insF kind i n y from rfl]
              refine j_aload0 (pc := 69) C dX0_insert_69 ?_
              refine j_dupr (pc := 70) C dX0_insert_70 ?_
              refine x_get_len (pc := 71) C dX0_insert_71 ?_
              refine j_iconst (pc := 74) C (nI 1) dX0_insert_74 (by decide) ?_
              refine j_iaddN (pc := 75) C dX0_insert_75 ?_
              refine x_put_len (pc := 76) C dX0_insert_76 ?_
              refine j_aload0 (pc := 79) C dX0_insert_79 ?_
              refine j_iload1 (pc := 80) C dX0_insert_80 ?_
              refine x_callV1 (pc := 81) C (xm_forgetFrom (t := kind) (k := k) (g := i) (by omega) (by omega) hX.1 hX.2.2.1) (lw_V q82 q84 qs1 q22 q85) (by decide +kernel) (by decide) (by decide) rfl (Nat.le_of_ble_eq_true rfl) dX0_insert_81 (fun par2 hp2 => ?_)
              (try dsimp only)
              have hX2 : XI (insF kind i n y) (min k (i)) role par2 aro kM kE kI := hX.forget insF_lo hp2
              refine x_ag_len (pc := 84) C dX0_insert_84 dX0_insert_85 ?_
              exact j_iret (WS := XU ad cI cZ) (insF kind i n y, role, par2, aro, kM, kE, kI, nI (n + 1), nI (min k i), _, _, _) C dX0_insert_88 ⟨by rw [hf]; dsimp only; exact ⟨rfl, by omega, rfl, min k i, by omega, rfl, hX2⟩, by rw [hf]⟩
            · exact absurd c39 (by omega)
          | succ f ih =>
            intro i h1 h2
            refine j_iload3 (pc := 37) C dX0_insert_37 ?_
            refine j_iload1 (pc := 38) C dX0_insert_38 ?_
            refine j_icmpN_le (tgt := 62) (pc := 39) C dX0_insert_39 (by decide) (by omega) (by omega) (fun c39 => ?_) (fun c39 => ?_)
            · exact absurd c39 (by omega)
            · refine x_ag_kind (pc := 42) C dX0_insert_42 dX0_insert_43 ?_
              refine j_iload3 (pc := 46) C dX0_insert_46 ?_
              refine x_ag_kind (pc := 47) C dX0_insert_47 dX0_insert_48 ?_
              refine j_iload3 (pc := 51) C dX0_insert_51 ?_
              refine j_iconst (pc := 52) C (nI 1) dX0_insert_52 (by decide) ?_
              refine j_isubN (pc := 53) C dX0_insert_53 (by omega) ?_
              refine x_ald_kind (pc := 54) C dX0_insert_54 (by omega) ?_
              refine x_ast_kind (pc := 55) C dX0_insert_55 (by omega) ?_
              rw [insL_s (by omega) (by omega)]
              refine j_dec3 (pc := 56) C dX0_insert_56 (by omega) ?_
              refine j_goto (tgt := 37) (pc := 59) C dX0_insert_59 (by decide) ?_
              exact ih (i - 1) (by omega) (by omega)
        refine x_ag_len (pc := 32) C dX0_insert_32 dX0_insert_33 ?_
        refine j_istore3 (pc := 36) C dX0_insert_36 ?_
        have h9 := loop (n - g) n (by omega) (Nat.le_refl n)
        rw [insL_0] at h9
        exact h9
      · refine j_bipush (pc := 29) C (-3) dX0_insert_29 (by decide) ?_
        have hf : f_ins kind n (nI g) y = (-3, kind, n) := by unfold f_ins; rw [if_pos hgap, if_pos (of_decide_eq_true c14), if_pos c26]
        exact j_iret (WS := XU ad cI cZ) (kind, role, par, aro, kM, kE, kI, nI n, nI k, _, _, _) C dX0_insert_31 ⟨by rw [hf]; dsimp only; exact ⟨rfl, hn, rfl, k, hk, rfl, hX⟩, by rw [hf]⟩
    · refine j_bipush (pc := 17) C (-2) dX0_insert_17 (by decide) ?_
      have hf : f_ins kind n (nI g) y = (-2, kind, n) := by unfold f_ins; rw [if_pos hgap, if_neg (of_decide_eq_false c14)]
      exact j_iret (WS := XU ad cI cZ) (kind, role, par, aro, kM, kE, kI, nI n, nI k, _, _, _) C dX0_insert_19 ⟨by rw [hf]; dsimp only; exact ⟨rfl, hn, rfl, k, hk, rfl, hX⟩, by rw [hf]⟩
  · refine j_iconst (pc := 8) C (-1) dX0_insert_8 (by decide) ?_
    have hf : f_ins kind n x y = (-1, kind, n) := by unfold f_ins; rw [if_neg (of_decide_eq_false c5)]
    exact j_iret (WS := XU ad cI cZ) (kind, role, par, aro, kM, kE, kI, nI n, nI k, _, _, _) C dX0_insert_9 ⟨by rw [hf]; dsimp only; exact ⟨rfl, hn, rfl, k, hk, rfl, hX⟩, by rw [hf]⟩

set_option maxHeartbeats 4000000 in
set_option maxRecDepth 100000 in
theorem xm_delete {l : Launch} {D : va_G} {cI cZ : ClassId} {ad : Nat → Nat} {kind role par aro kM kE kI : Nat → Int32} {mo esc inn : Int32} {n k : Nat} (hn : n ≤ 64) (hk : k ≤ n) (hX : XI kind k role par aro kM kE kI) {x y : Int32} : MetI l yX0_delete cX0_delete 5 (some .int) 4 D cI cZ [.ref (ad 0), .int x, .int y] (XU ad cI cZ) (XW ad cI cZ kind role par aro kM kE kI (nI n) (nI k) mo esc inn) (fun (r : Int32) (u : XT) => XOK (f_del kind n x y).2.1 (f_del kind n x y).2.2 u ∧ r = (f_del kind n x y).1) := by
  refine fun sz => j_start (Qc := fun A => (QI (fun (r : Int32) (u : XT) => XOK (f_del kind n x y).2.1 (f_del kind n x y).2.2 u ∧ r = (f_del kind n x y).1) (XU ad cI cZ) D cI cZ A)) [some (.inr (ad 0)), some (.inl x), some (.inl y), none, none] (by decide) (Nat.le_of_ble_eq_true rfl) rfl ?_ sz
  intro p e s m args below meth c A C
  have C : CC p s m args meth c D A cI cZ RX0 cX0_delete 5 (some .int) := C
  refine j_iload1 (pc := 0) C dX0_delete_0 ?_
  refine j_if_lt (tgt := 17) (pc := 1) C dX0_delete_1 (by decide) (fun c1 => ?_) (fun c1 => ?_)
  · refine j_iconst (pc := 17) C (-1) dX0_delete_17 (by decide) ?_
    have hf : f_del kind n x y = (-1, kind, n) := by unfold f_del; rw [if_neg (fun q => q.1 c1)]
    exact j_iret (WS := XU ad cI cZ) (kind, role, par, aro, kM, kE, kI, nI n, nI k, _, _, _) C dX0_delete_18 ⟨by rw [hf]; dsimp only; exact ⟨rfl, hn, rfl, k, hk, rfl, hX⟩, by rw [hf]⟩
  · refine j_iload1 (pc := 4) C dX0_delete_4 ?_
    refine j_iload2 (pc := 5) C dX0_delete_5 ?_
    refine j_icmp_gt (tgt := 17) (pc := 6) C dX0_delete_6 (by decide) (fun c6 => ?_) (fun c6 => ?_)
    · refine j_iconst (pc := 17) C (-1) dX0_delete_17 (by decide) ?_
      have hf : f_del kind n x y = (-1, kind, n) := by unfold f_del; rw [if_neg (fun q => q.2.1 c6)]
      exact j_iret (WS := XU ad cI cZ) (kind, role, par, aro, kM, kE, kI, nI n, nI k, _, _, _) C dX0_delete_18 ⟨by rw [hf]; dsimp only; exact ⟨rfl, hn, rfl, k, hk, rfl, hX⟩, by rw [hf]⟩
    · refine j_iload2 (pc := 9) C dX0_delete_9 ?_
      refine x_ag_len (pc := 10) C dX0_delete_10 dX0_delete_11 ?_
      refine j_icmp_le (tgt := 19) (pc := 14) C dX0_delete_14 (by decide) (fun c14 => ?_) (fun c14 => ?_)
      · obtain ⟨a, b, ha, hb, rfl, rfl⟩ := del_of hn c1 c6 (Int32.not_lt.mpr c14)
        have hab : ¬ nI a < 0 ∧ ¬ nI b < nI a ∧ ¬ nI n < nI b := del_is hn ha hb
        have hf : f_del kind n (nI a) (nI b) = (nI (n - (b - a)), delL kind a (b - a) n, n - (b - a)) := by unfold f_del; rw [if_pos hab, cl_n (by omega), cl_n (by omega)]
        have loop : ∀ (f i : Nat), n < i + f → i ≤ n → b ≤ i → JJ p l e s m args below meth c D A 4 (QI (fun (r : Int32) (u : XT) => XOK (f_del kind n (nI a) (nI b)).2.1 (f_del kind n (nI a) (nI b)).2.2 u ∧ r = (f_del kind n (nI a) (nI b)).1) (XU ad cI cZ) D cI cZ A) (XW ad cI cZ (delL kind a (b - a) i) role par aro kM kE kI (nI n) (nI k) mo esc inn) 26 [some (.inr (ad 0)), some (.inl (nI a)), some (.inl (nI b)), some (.inl (nI (b - a))), some (.inl (nI i))] [] := by
          intro f
          induction f with
          | zero => intro i h1 h2 h3; omega
          | succ f ih =>
            intro i h1 h2 h3
            refine j_iload4 (pc := 26) C dX0_delete_26 ?_
            refine x_ag_len (pc := 28) C dX0_delete_28 dX0_delete_29 ?_
            refine j_icmpN_ge (tgt := 57) (pc := 32) C dX0_delete_32 (by decide) (by omega) (by omega) (fun c32 => ?_) (fun c32 => ?_)
            · obtain rfl : i = n := by omega
              refine j_aload0 (pc := 57) C dX0_delete_57 ?_
              refine j_dupr (pc := 58) C dX0_delete_58 ?_
              refine x_get_len (pc := 59) C dX0_delete_59 ?_
              refine j_iload3 (pc := 62) C dX0_delete_62 ?_
              refine j_isubN (pc := 63) C dX0_delete_63 (by omega) ?_
              refine x_put_len (pc := 64) C dX0_delete_64 ?_
              refine j_iload3 (pc := 67) C dX0_delete_67 ?_
              refine j_ifN_le (tgt := 76) (pc := 68) C dX0_delete_68 (by decide) (by omega) (fun c68 => ?_) (fun c68 => ?_)
              · refine x_ag_len (pc := 76) C dX0_delete_76 dX0_delete_77 ?_
                have e0 : b - a = 0 := by omega
                have hfk : delL kind a (b - a) i = kind := by rw [e0]; exact delL_z kind a i
                exact j_iret (WS := XU ad cI cZ) (delL kind a (b - a) i, role, par, aro, kM, kE, kI, nI (i - (b - a)), nI k, _, _, _) C dX0_delete_80 ⟨by rw [hf]; dsimp only; exact ⟨rfl, by omega, rfl, k, by omega, rfl, by rw [hfk]; exact hX⟩, by rw [hf]⟩
              · refine j_aload0 (pc := 71) C dX0_delete_71 ?_
                refine j_iload1 (pc := 72) C dX0_delete_72 ?_
                refine x_callV1 (pc := 73) C (xm_forgetFrom (t := kind) (k := k) (g := a) (by omega) (by omega) hX.1 hX.2.2.1) (lw_V q82 q84 qs1 q22 q85) (by decide +kernel) (by decide) (by decide) rfl (Nat.le_of_ble_eq_true rfl) dX0_delete_73 (fun par2 hp2 => ?_)
                (try dsimp only)
                have hX2 : XI (delL kind a (b - a) i) (min k (a)) role par2 aro kM kE kI := hX.forget delL_lo hp2
                refine x_ag_len (pc := 76) C dX0_delete_76 dX0_delete_77 ?_
                exact j_iret (WS := XU ad cI cZ) (delL kind a (b - a) i, role, par2, aro, kM, kE, kI, nI (i - (b - a)), nI (min k a), _, _, _) C dX0_delete_80 ⟨by rw [hf]; dsimp only; exact ⟨rfl, by omega, rfl, min k a, by omega, rfl, hX2⟩, by rw [hf]⟩
            · refine x_ag_kind (pc := 35) C dX0_delete_35 dX0_delete_36 ?_
              refine j_iload4 (pc := 39) C dX0_delete_39 ?_
              refine j_iload3 (pc := 41) C dX0_delete_41 ?_
              refine j_isubN (pc := 42) C dX0_delete_42 (by omega) ?_
              refine x_ag_kind (pc := 43) C dX0_delete_43 dX0_delete_44 ?_
              refine j_iload4 (pc := 47) C dX0_delete_47 ?_
              refine x_ald_kind (pc := 49) C dX0_delete_49 (by omega) ?_
              refine j_top (kind i) delL_at ?_
              refine x_ast_kind (pc := 50) C dX0_delete_50 (by omega) ?_
              rw [delL_s (by omega)]
              refine j_inc4 (pc := 51) C dX0_delete_51 ?_
              refine j_goto (tgt := 26) (pc := 54) C dX0_delete_54 (by decide) ?_
              exact ih (i + 1) (by omega) (by omega) (by omega)
        refine j_iload2 (pc := 19) C dX0_delete_19 ?_
        refine j_iload1 (pc := 20) C dX0_delete_20 ?_
        refine j_isubN (pc := 21) C dX0_delete_21 (by omega) ?_
        refine j_istore3 (pc := 22) C dX0_delete_22 ?_
        refine j_iload2 (pc := 23) C dX0_delete_23 ?_
        refine j_istore4 (pc := 24) C dX0_delete_24 ?_
        have h9 := loop (n + 1) b (by omega) (by omega) (Nat.le_refl b)
        have e1 : delL kind a (b - a) b = kind := by have := delL_0 kind a (b - a); rwa [show a + (b - a) = b by omega] at this
        rw [e1] at h9
        exact h9
      · refine j_iconst (pc := 17) C (-1) dX0_delete_17 (by decide) ?_
        have hf : f_del kind n x y = (-1, kind, n) := by unfold f_del; rw [if_neg (fun q => c14 (Int32.not_lt.mp q.2.2))]
        exact j_iret (WS := XU ad cI cZ) (kind, role, par, aro, kM, kE, kI, nI n, nI k, _, _, _) C dX0_delete_18 ⟨by rw [hf]; dsimp only; exact ⟨rfl, hn, rfl, k, hk, rfl, hX⟩, by rw [hf]⟩

set_option maxHeartbeats 4000000 in
set_option maxRecDepth 100000 in
theorem xm_set {l : Launch} {D : va_G} {cI cZ : ClassId} {ad : Nat → Nat} {kind role par aro kM kE kI : Nat → Int32} {mo esc inn : Int32} {n k : Nat} (hn : n ≤ 64) (hk : k ≤ n) (hX : XI kind k role par aro kM kE kI) {x y : Int32} : MetI l yX0_set cX0_set 4 (some .int) 4 D cI cZ [.ref (ad 0), .int x, .int y] (XU ad cI cZ) (XW ad cI cZ kind role par aro kM kE kI (nI n) (nI k) mo esc inn) (fun (r : Int32) (u : XT) => XOK (f_set kind n x y).2.1 (f_set kind n x y).2.2 u ∧ r = (f_set kind n x y).1) := by
  refine fun sz => j_start (Qc := fun A => (QI (fun (r : Int32) (u : XT) => XOK (f_set kind n x y).2.1 (f_set kind n x y).2.2 u ∧ r = (f_set kind n x y).1) (XU ad cI cZ) D cI cZ A)) [some (.inr (ad 0)), some (.inl x), some (.inl y), none] (by decide) (Nat.le_of_ble_eq_true rfl) rfl ?_ sz
  intro p e s m args below meth c A C
  have C : CC p s m args meth c D A cI cZ RX0 cX0_set 4 (some .int) := C
  refine j_aload0 (pc := 0) C dX0_set_0 ?_
  refine j_iload1 (pc := 1) C dX0_set_1 ?_
  refine x_callI1 (pc := 2) C xm_isPlace (lw_V q94 q96 qs2 q22 q97) (by decide +kernel) (by decide) (by decide) rfl (Nat.le_of_ble_eq_true rfl) dX0_set_2 (fun r u hr => ?_)
  subst hr
  (try dsimp only)
  refine j_ifB_ne (tgt := 10) (pc := 5) C dX0_set_5 (by decide) (fun c5 => ?_) (fun c5 => ?_)
  · have hpl := of_decide_eq_true c5
    obtain ⟨g, hg, rfl⟩ := place_of hn hpl
    refine j_iload2 (pc := 10) C dX0_set_10 ?_
    refine x_callS1 (pc := 11) C xm_isKind (lw_S q79 q80 q22 q81) (by decide +kernel) (by decide) (by decide) rfl (Nat.le_of_ble_eq_true rfl) dX0_set_11 (fun r hr => ?_)
    subst hr
    refine j_ifB_ne (tgt := 20) (pc := 14) C dX0_set_14 (by decide) (fun c14 => ?_) (fun c14 => ?_)
    · refine x_ag_kind (pc := 20) C dX0_set_20 dX0_set_21 ?_
      refine j_iload1 (pc := 24) C dX0_set_24 ?_
      refine x_ald_kind (pc := 25) C dX0_set_25 (by omega) ?_
      refine j_istore3 (pc := 26) C dX0_set_26 ?_
      refine x_ag_kind (pc := 27) C dX0_set_27 dX0_set_28 ?_
      refine j_iload1 (pc := 31) C dX0_set_31 ?_
      refine j_iload2 (pc := 32) C dX0_set_32 ?_
      refine x_ast_kind (pc := 33) C dX0_set_33 (by omega) ?_
      refine j_aload0 (pc := 34) C dX0_set_34 ?_
      refine j_iload1 (pc := 35) C dX0_set_35 ?_
      refine x_callV1 (pc := 36) C (xm_forgetFrom (t := kind) (k := k) (g := g) (by omega) (by omega) hX.1 hX.2.2.1) (lw_V q82 q84 qs1 q22 q85) (by decide +kernel) (by decide) (by decide) rfl (Nat.le_of_ble_eq_true rfl) dX0_set_36 (fun par2 hp2 => ?_)
      (try dsimp only)
      have hX2 : XI (upd kind g y) (min k (g)) role par2 aro kM kE kI := hX.forget (fun j hj => by rw [upd_n (by omega)]) hp2
      refine j_iload3 (pc := 39) C dX0_set_39 ?_
      have hf : f_set kind n (nI g) y = (kind g, upd kind g y, n) := by unfold f_set; rw [if_pos hpl, if_pos (of_decide_eq_true c14), cl_n (by omega)]
      exact j_iret (WS := XU ad cI cZ) (upd kind g y, role, par2, aro, kM, kE, kI, nI n, nI (min k g), _, _, _) C dX0_set_40 ⟨by rw [hf]; dsimp only; exact ⟨rfl, hn, rfl, min k g, by omega, rfl, hX2⟩, by rw [hf]⟩
    · refine j_bipush (pc := 17) C (-2) dX0_set_17 (by decide) ?_
      have hf : f_set kind n (nI g) y = (-2, kind, n) := by unfold f_set; rw [if_pos hpl, if_neg (of_decide_eq_false c14)]
      exact j_iret (WS := XU ad cI cZ) (kind, role, par, aro, kM, kE, kI, nI n, nI k, _, _, _) C dX0_set_19 ⟨by rw [hf]; dsimp only; exact ⟨rfl, hn, rfl, k, hk, rfl, hX⟩, by rw [hf]⟩
  · refine j_iconst (pc := 8) C (-1) dX0_set_8 (by decide) ?_
    have hf : f_set kind n x y = (-1, kind, n) := by unfold f_set; rw [if_neg (of_decide_eq_false c5)]
    exact j_iret (WS := XU ad cI cZ) (kind, role, par, aro, kM, kE, kI, nI n, nI k, _, _, _) C dX0_set_9 ⟨by rw [hf]; dsimp only; exact ⟨rfl, hn, rfl, k, hk, rfl, hX⟩, by rw [hf]⟩
end
section
def kq1 (t : Nat → Int32) (j : Nat) : Bool := decide (rl t j = 1)
def kq23 (t : Nat → Int32) (j : Nat) : Bool := decide (rl t j = 2 ∨ rl t j = 3)
def kq3 (t : Nat → Int32) (j : Nat) : Bool := decide (rl t j = 3)
/-- what the reference's arrays of positions and its stack hold when i characters have been read -/
def YB (t : Nat → Int32) (i : Nat) (prs jns cls sty stk : Nat → Int32) : Prop :=
  (∀ j, j < 64 → prs j = oI (-1) (pn t i j)) ∧ (∀ j, j < 64 → jns j = b2i (decide (j < i) && kq1 t j)) ∧ (∀ j, j < 64 → cls j = b2i (decide (j < i) && kq23 t j)) ∧ (∀ j, j < 64 → sty j = b2i (decide (j < i) && kq3 t j)) ∧ ∀ k, k < (sk t i).length → stk k = nI ((sk t i).reverse.getD k 0)
def YM (t : Nat → Int32) (i : Nat) (mds ess dps : Nat → Int32) : Prop := ∀ j, j < i → mds j = nI (md t j) ∧ ess j = b2i (es t j) ∧ dps j = nI (sk t j).length
theorem b_keep {a : Nat → Int32} {P : Nat → Bool} {i : Nat} (h : ∀ j, j < 64 → a j = b2i (decide (j < i) && P j)) (hP : P i = false) : ∀ j, j < 64 → a j = b2i (decide (j < i + 1) && P j) := by
  intro j hj
  rw [h j hj]
  by_cases e : j = i
  · subst e; rw [hP]; simp
  · by_cases q : j < i
    · rw [decide_eq_true q, decide_eq_true (show j < i + 1 by omega)]
    · rw [decide_eq_false q, decide_eq_false (show ¬ j < i + 1 by omega)]
theorem b_set {a : Nat → Int32} {P : Nat → Bool} {i : Nat} (h : ∀ j, j < 64 → a j = b2i (decide (j < i) && P j)) (hP : P i = true) : ∀ j, j < 64 → upd a i (b2i true) j = b2i (decide (j < i + 1) && P j) := by
  intro j hj
  by_cases e : j = i
  · subst e; rw [upd_s, hP, decide_eq_true (Nat.lt_succ_self j)]; rfl
  · rw [upd_n e, h j hj]
    by_cases q : j < i
    · rw [decide_eq_true q, decide_eq_true (show j < i + 1 by omega)]
    · rw [decide_eq_false q, decide_eq_false (show ¬ j < i + 1 by omega)]
theorem kq1_f {t : Nat → Int32} {i : Nat} (h : rl t i ≠ 1) : kq1 t i = false := decide_eq_false h
theorem kq1_t {t : Nat → Int32} {i : Nat} (h : rl t i = 1) : kq1 t i = true := decide_eq_true h
theorem kq23_f {t : Nat → Int32} {i : Nat} (h : rl t i ≠ 2) (h3 : rl t i ≠ 3) : kq23 t i = false := decide_eq_false (by omega)
theorem kq23_t {t : Nat → Int32} {i : Nat} (h : rl t i = 2 ∨ rl t i = 3) : kq23 t i = true := decide_eq_true h
theorem kq3_f {t : Nat → Int32} {i : Nat} (h : rl t i ≠ 3) : kq3 t i = false := decide_eq_false h
theorem kq3_t {t : Nat → Int32} {i : Nat} (h : rl t i = 3) : kq3 t i = true := decide_eq_true h
theorem pn_k {t : Nat → Int32} {i : Nat} {prs : Nat → Int32} (h : ∀ j, j < 64 → prs j = oI (-1) (pn t i j)) (r2 : rl t i ≠ 2) : ∀ j, j < 64 → prs j = oI (-1) (pn t (i + 1) j) := by
  intro j hj
  rw [pn, if_neg r2]
  exact h j hj
theorem yb_keep {t : Nat → Int32} {i : Nat} {prs jns cls sty stk : Nat → Int32} (h : YB t i prs jns cls sty stk) (r1 : rl t i ≠ 1) (r2 : rl t i ≠ 2) (r3 : rl t i ≠ 3) (hs : sk t (i + 1) = sk t i) : YB t (i + 1) prs jns cls sty stk := by
  refine ⟨pn_k h.1 r2, b_keep h.2.1 (kq1_f r1), b_keep h.2.2.1 (kq23_f r2 r3), b_keep h.2.2.2.1 (kq3_f r3), ?_⟩
  rw [hs]; exact h.2.2.2.2
theorem rv_lo {q : Nat} {rr : List Nat} {k : Nat} (h : k < rr.length) : (q :: rr).reverse.getD k 0 = rr.reverse.getD k 0 := by
  rw [List.reverse_cons, List.getD_eq_getElem?_getD, List.getD_eq_getElem?_getD, List.getElem?_append_left (by simp; exact h)]
theorem rv_hi {q : Nat} {rr : List Nat} : (q :: rr).reverse.getD rr.length 0 = q := by
  rw [List.reverse_cons, List.getD_eq_getElem?_getD, List.getElem?_append_right (by simp)]
  simp
theorem yb_open {t : Nat → Int32} {i : Nat} {prs jns cls sty stk : Nat → Int32} (h : YB t i prs jns cls sty stk) (r1 : rl t i = 1) (hs : sk t (i + 1) = i :: sk t i) : YB t (i + 1) prs (upd jns i (b2i true)) cls sty (upd stk (sk t i).length (nI i)) := by
  refine ⟨pn_k h.1 (by omega), b_set h.2.1 (kq1_t r1), b_keep h.2.2.1 (kq23_f (by omega) (by omega)), b_keep h.2.2.2.1 (kq3_f (by omega)), ?_⟩
  rw [hs]
  intro k hk
  rw [List.length_cons] at hk
  by_cases e : k = (sk t i).length
  · rw [e, upd_s, rv_hi]
  · rw [upd_n e, rv_lo (by omega)]
    exact h.2.2.2.2 k (by omega)
theorem yb_stray {t : Nat → Int32} {i : Nat} {prs jns cls sty stk : Nat → Int32} (h : YB t i prs jns cls sty stk) (r3 : rl t i = 3) (hs : sk t (i + 1) = sk t i) : YB t (i + 1) prs jns (upd cls i (b2i true)) (upd sty i (b2i true)) stk := by
  refine ⟨pn_k h.1 (by omega), b_keep h.2.1 (kq1_f (by omega)), b_set h.2.2.1 (kq23_t (Or.inr r3)), b_set h.2.2.2.1 (kq3_t r3), ?_⟩
  rw [hs]; exact h.2.2.2.2
theorem yb_pair {t : Nat → Int32} {i q : Nat} {rr : List Nat} {prs jns cls sty stk : Nat → Int32} (h : YB t i prs jns cls sty stk) (r2 : rl t i = 2) (e : sk t i = q :: rr) (hs : sk t (i + 1) = rr) : YB t (i + 1) (upd (upd prs i (nI q)) q (nI i)) jns (upd cls i (b2i true)) sty stk := by
  have hq := sk_lt e
  refine ⟨?_, b_keep h.2.1 (kq1_f (by omega)), b_set h.2.2.1 (kq23_t (Or.inl r2)), b_keep h.2.2.2.1 (kq3_f (by omega)), ?_⟩
  · intro j hj
    rw [pn, if_pos r2, e]
    by_cases e1 : j = i
    · subst e1
      rw [if_pos rfl, upd_n (by omega), upd_s]
      rfl
    · rw [if_neg e1]
      by_cases e2 : j = q
      · subst e2
        rw [upd_s, List.head?_cons, if_pos rfl]
        rfl
      · rw [upd_n e2, upd_n e1, List.head?_cons, if_neg (fun z => e2 (Option.some.inj z).symm)]
        exact h.1 j hj
  · rw [hs]
    intro k hk
    have := h.2.2.2.2 k (by rw [e]; simp; omega)
    rw [e, rv_lo hk] at this
    exact this
theorem yb_top {t : Nat → Int32} {i q : Nat} {rr : List Nat} {prs jns cls sty stk : Nat → Int32} (h : YB t i prs jns cls sty stk) (e : sk t i = q :: rr) : stk rr.length = nI q := by
  have := h.2.2.2.2 rr.length (by rw [e]; simp)
  rw [e, rv_hi] at this
  exact this
theorem rl_esc {t : Nat → Int32} {i : Nat} (h : es t i = true) : rl t i ≠ 1 ∧ rl t i ≠ 2 ∧ rl t i ≠ 3 := by
  by_cases h0 : md t i = 0
  · rw [rl_6 h0 (Or.inl h)]; omega
  · rw [rl_00 h0 (fun q => by rw [h] at q; cases q.2.1)]; omega
theorem rl_md {t : Nat → Int32} {i : Nat} (h : ¬ md t i = 0) : rl t i ≠ 1 ∧ rl t i ≠ 2 ∧ rl t i ≠ 3 := by
  unfold rl
  rw [if_neg h]
  split <;> omega
theorem nw_of {t : Nat → Int32} {i : Nat} (a : Nat) (he : es t i = false) (hc : t i = nI a) (h0 : a ≠ 0) (h5 : a ≠ 5) (ha : a < 8) : ¬ (es t i = true ∨ t i = nI 0 ∨ t i = nI 5) := by
  rw [he, hc]
  rintro (h | h | h)
  · cases h
  · exact c_ne ha (by omega) h0 h
  · exact c_ne ha (by omega) h5 h
theorem rl_els {t : Nat → Int32} {i : Nat} (h0 : md t i = 0) (h2 : ¬ t i = nI 2) (h3 : ¬ t i = nI 3) : rl t i ≠ 1 ∧ rl t i ≠ 2 ∧ rl t i ≠ 3 := by
  unfold rl
  rw [if_pos h0, if_neg h2, if_neg h3]
  split
  · omega
  · split <;> omega
def pv (c : Int32) : Nat := if c = nI 4 then 2 else if c = nI 5 then 1 else if c = nI 6 then 3 else 0
theorem pv_le (c : Int32) : pv c ≤ 3 := by
  unfold pv
  split
  · omega
  · split
    · omega
    · split <;> omega
theorem pv_es (c : Int32) : decide (c = nI 5) = decide (pv c = 1) := by
  unfold pv
  by_cases h4 : c = nI 4
  · rw [if_pos h4, h4]; decide
  · rw [if_neg h4]
    by_cases h5 : c = nI 5
    · rw [if_pos h5, decide_eq_true h5]; rfl
    · rw [if_neg h5, decide_eq_false h5]
      split <;> rfl
theorem pv_md (c : Int32) : (if c = nI 4 then 1 else if c = nI 6 then 2 else 0) = if pv c ≤ 1 then 0 else pv c - 1 := by
  unfold pv
  by_cases h4 : c = nI 4
  · rw [if_pos h4, if_pos h4]; rfl
  · rw [if_neg h4, if_neg h4]
    by_cases h5 : c = nI 5
    · rw [if_pos h5, h5]; decide
    · rw [if_neg h5]
      by_cases h6 : c = nI 6
      · rw [if_pos h6, if_pos h6]; rfl
      · rw [if_neg h6, if_neg h6]; rfl

set_option maxHeartbeats 4000000 in
set_option maxRecDepth 100000 in
theorem ym_badPosition {l : Launch} {D : va_G} {cI cZ : ClassId} {ad : Nat → Nat} {txt mds ess dps prs jns cls sty stk : Nat → Int32} {top : Int32} {n : Nat} (hn : n ≤ 64) {x : Int32} : MetI l yX1_badPosition cX1_badPosition 2 (some .boolean) 0 D cI cZ [.ref (ad 0), .int x] (fun _ : Unit => (YW ad cI cZ txt mds ess dps prs jns cls sty stk (nI n) top)) (YW ad cI cZ txt mds ess dps prs jns cls sty stk (nI n) top) (fun (r : Int32) (_ : Unit) => r = b2i (decide (¬ (¬ x < 0 ∧ ¬ nI n ≤ x)))) := by
  refine fun sz => j_start (Qc := fun A => (QI (fun (r : Int32) (_ : Unit) => r = b2i (decide (¬ (¬ x < 0 ∧ ¬ nI n ≤ x)))) (fun _ : Unit => (YW ad cI cZ txt mds ess dps prs jns cls sty stk (nI n) top)) D cI cZ A)) [some (.inr (ad 0)), some (.inl x)] (by decide) (Nat.le_of_ble_eq_true rfl) rfl ?_ sz
  intro p e s m args below meth c A C
  have C : CC p s m args meth c D A cI cZ RX1 cX1_badPosition 2 (some .boolean) := C
  refine j_iload1 (pc := 0) C dX1_badPosition_0 ?_
  refine j_if_lt (tgt := 18) (pc := 1) C dX1_badPosition_1 (by decide) (fun c1 => ?_) (fun c1 => ?_)
  · refine j_iconst (pc := 18) C (nI 1) dX1_badPosition_18 (by decide) ?_
    refine j_goto (tgt := 23) (pc := 19) C dX1_badPosition_19 (by decide) ?_
    refine j_top (b2i true) rfl ?_
    exact j_zret () C dX1_badPosition_23 (by rw [decide_eq_true (show ¬ (¬ x < 0 ∧ ¬ nI n ≤ x) from fun q => q.1 c1)])
  · refine j_iload1 (pc := 4) C dX1_badPosition_4 ?_
    refine y_ag_len (pc := 5) C dX1_badPosition_5 dX1_badPosition_6 ?_
    refine j_icmp_ge (tgt := 18) (pc := 9) C dX1_badPosition_9 (by decide) (fun c9 => ?_) (fun c9 => ?_)
    · refine j_iconst (pc := 18) C (nI 1) dX1_badPosition_18 (by decide) ?_
      refine j_goto (tgt := 23) (pc := 19) C dX1_badPosition_19 (by decide) ?_
      refine j_top (b2i true) rfl ?_
      exact j_zret () C dX1_badPosition_23 (by rw [decide_eq_true (show ¬ (¬ x < 0 ∧ ¬ nI n ≤ x) from fun q => q.2 c9)])
    · refine j_iload1 (pc := 12) C dX1_badPosition_12 ?_
      refine j_bipush (pc := 13) C (nI 64) dX1_badPosition_13 (by decide) ?_
      refine j_icmp_lt (tgt := 22) (pc := 15) C dX1_badPosition_15 (by decide) (fun c15 => ?_) (fun c15 => ?_)
      · refine j_iconst (pc := 22) C (nI 0) dX1_badPosition_22 (by decide) ?_
        refine j_top (b2i false) rfl ?_
        exact j_zret () C dX1_badPosition_23 (by rw [decide_eq_false (fun q => q ⟨c1, c9⟩)])
      · exact absurd (by obtain ⟨j, hj, rfl⟩ := place_of hn ⟨c1, c9⟩; exact nI_lt (by omega) (by omega)) c15

set_option maxHeartbeats 4000000 in
set_option maxRecDepth 100000 in
theorem ym_badGap {l : Launch} {D : va_G} {cI cZ : ClassId} {ad : Nat → Nat} {txt mds ess dps prs jns cls sty stk : Nat → Int32} {top : Int32} {n : Nat} (hn : n ≤ 64) {x : Int32} : MetI l yX1_badGap cX1_badGap 2 (some .boolean) 0 D cI cZ [.ref (ad 0), .int x] (fun _ : Unit => (YW ad cI cZ txt mds ess dps prs jns cls sty stk (nI n) top)) (YW ad cI cZ txt mds ess dps prs jns cls sty stk (nI n) top) (fun (r : Int32) (_ : Unit) => r = b2i (decide (¬ (¬ x < 0 ∧ ¬ nI n < x)))) := by
  refine fun sz => j_start (Qc := fun A => (QI (fun (r : Int32) (_ : Unit) => r = b2i (decide (¬ (¬ x < 0 ∧ ¬ nI n < x)))) (fun _ : Unit => (YW ad cI cZ txt mds ess dps prs jns cls sty stk (nI n) top)) D cI cZ A)) [some (.inr (ad 0)), some (.inl x)] (by decide) (Nat.le_of_ble_eq_true rfl) rfl ?_ sz
  intro p e s m args below meth c A C
  have C : CC p s m args meth c D A cI cZ RX1 cX1_badGap 2 (some .boolean) := C
  refine j_iload1 (pc := 0) C dX1_badGap_0 ?_
  refine j_if_lt (tgt := 18) (pc := 1) C dX1_badGap_1 (by decide) (fun c1 => ?_) (fun c1 => ?_)
  · refine j_iconst (pc := 18) C (nI 1) dX1_badGap_18 (by decide) ?_
    refine j_goto (tgt := 23) (pc := 19) C dX1_badGap_19 (by decide) ?_
    refine j_top (b2i true) rfl ?_
    exact j_zret () C dX1_badGap_23 (by rw [decide_eq_true (show ¬ (¬ x < 0 ∧ ¬ nI n < x) from fun q => q.1 c1)])
  · refine j_iload1 (pc := 4) C dX1_badGap_4 ?_
    refine y_ag_len (pc := 5) C dX1_badGap_5 dX1_badGap_6 ?_
    refine j_icmp_gt (tgt := 18) (pc := 9) C dX1_badGap_9 (by decide) (fun c9 => ?_) (fun c9 => ?_)
    · refine j_iconst (pc := 18) C (nI 1) dX1_badGap_18 (by decide) ?_
      refine j_goto (tgt := 23) (pc := 19) C dX1_badGap_19 (by decide) ?_
      refine j_top (b2i true) rfl ?_
      exact j_zret () C dX1_badGap_23 (by rw [decide_eq_true (show ¬ (¬ x < 0 ∧ ¬ nI n < x) from fun q => q.2 c9)])
    · refine j_iload1 (pc := 12) C dX1_badGap_12 ?_
      refine j_bipush (pc := 13) C (nI 64) dX1_badGap_13 (by decide) ?_
      refine j_icmp_le (tgt := 22) (pc := 15) C dX1_badGap_15 (by decide) (fun c15 => ?_) (fun c15 => ?_)
      · refine j_iconst (pc := 22) C (nI 0) dX1_badGap_22 (by decide) ?_
        refine j_top (b2i false) rfl ?_
        exact j_zret () C dX1_badGap_23 (by rw [decide_eq_false (fun q => q ⟨c1, c9⟩)])
      · exact absurd (by obtain ⟨j, hj, rfl⟩ := gap_of hn ⟨c1, c9⟩; exact nI_le (by omega) (by omega)) c15

set_option maxHeartbeats 4000000 in
set_option maxRecDepth 100000 in
theorem ym_plain {l : Launch} {D : va_G} {cI cZ : ClassId} {ad : Nat → Nat} {txt mds ess dps prs jns cls sty stk : Nat → Int32} {len : Int32} {i : Nat} (hi : i < 64) (hB : YB txt i prs jns cls sty stk) (h0 : md txt i = 0) (he : es txt i = false) : MetI l yX1_plain cX1_plain 3 (some .int) 0 D cI cZ [.ref (ad 0), .int (nI i)] (fun u : (Nat → Int32) × (Nat → Int32) × (Nat → Int32) × (Nat → Int32) × (Nat → Int32) × Int32 => (YW ad cI cZ txt mds ess dps u.1 u.2.1 u.2.2.1 u.2.2.2.1 u.2.2.2.2.1 len u.2.2.2.2.2)) (YW ad cI cZ txt mds ess dps prs jns cls sty stk len (nI (sk txt i).length)) (fun (r : Int32) (u : (Nat → Int32) × (Nat → Int32) × (Nat → Int32) × (Nat → Int32) × (Nat → Int32) × Int32) => YB txt (i + 1) u.1 u.2.1 u.2.2.1 u.2.2.2.1 u.2.2.2.2.1 ∧ u.2.2.2.2.2 = nI (sk txt (i + 1)).length ∧ r = nI (pv (txt i))) := by
  refine fun sz => j_start (Qc := fun A => (QI (fun (r : Int32) (u : (Nat → Int32) × (Nat → Int32) × (Nat → Int32) × (Nat → Int32) × (Nat → Int32) × Int32) => YB txt (i + 1) u.1 u.2.1 u.2.2.1 u.2.2.2.1 u.2.2.2.2.1 ∧ u.2.2.2.2.2 = nI (sk txt (i + 1)).length ∧ r = nI (pv (txt i))) (fun u : (Nat → Int32) × (Nat → Int32) × (Nat → Int32) × (Nat → Int32) × (Nat → Int32) × Int32 => (YW ad cI cZ txt mds ess dps u.1 u.2.1 u.2.2.1 u.2.2.2.1 u.2.2.2.2.1 len u.2.2.2.2.2)) D cI cZ A)) [some (.inr (ad 0)), some (.inl (nI i)), none] (by decide) (Nat.le_of_ble_eq_true rfl) rfl ?_ sz
  intro p e s m args below meth c A C
  have C : CC p s m args meth c D A cI cZ RX1 cX1_plain 3 (some .int) := C
  have hlen := sk_len txt i
  refine y_ag_txt (pc := 0) C dX1_plain_0 dX1_plain_1 ?_
  refine j_iload1 (pc := 4) C dX1_plain_4 ?_
  refine y_ald_txt (pc := 5) C dX1_plain_5 (by omega) ?_
  refine j_istore2 (pc := 6) C dX1_plain_6 ?_
  rcases hs : sk txt i with _ | ⟨q, rr⟩
  · rw [hs] at hlen
    show JJ _ _ _ _ _ _ _ _ _ _ _ _ _ (YW ad cI cZ txt mds ess dps prs jns cls sty stk len (nI 0)) 7 _ _
    refine j_iload2 (pc := 7) C dX1_plain_7 ?_
    refine j_iconst (pc := 8) C (nI 2) dX1_plain_8 (by decide) ?_
    refine j_icmp_ne (tgt := 39) (pc := 9) C dX1_plain_9 (by decide) (fun c9 => ?_) (fun c9 => ?_)
    · refine j_iload2 (pc := 39) C dX1_plain_39 ?_
      refine j_iconst (pc := 40) C (nI 3) dX1_plain_40 (by decide) ?_
      refine j_icmp_ne (tgt := 108) (pc := 41) C dX1_plain_41 (by decide) (fun c41 => ?_) (fun c41 => ?_)
      · refine j_iload2 (pc := 108) C dX1_plain_108 ?_
        refine j_iconst (pc := 109) C (nI 4) dX1_plain_109 (by decide) ?_
        refine j_icmp_ne (tgt := 115) (pc := 110) C dX1_plain_110 (by decide) (fun c110 => ?_) (fun c110 => ?_)
        · refine j_iload2 (pc := 115) C dX1_plain_115 ?_
          refine j_iconst (pc := 116) C (nI 5) dX1_plain_116 (by decide) ?_
          refine j_icmp_ne (tgt := 122) (pc := 117) C dX1_plain_117 (by decide) (fun c117 => ?_) (fun c117 => ?_)
          · refine j_iload2 (pc := 122) C dX1_plain_122 ?_
            refine j_bipush (pc := 123) C (nI 6) dX1_plain_123 (by decide) ?_
            refine j_icmp_ne (tgt := 132) (pc := 125) C dX1_plain_125 (by decide) (fun c125 => ?_) (fun c125 => ?_)
            · refine j_iconst (pc := 132) C (nI 0) dX1_plain_132 (by decide) ?_
              have hsk : sk txt (i + 1) = sk txt i := by rw [(st_plain he h0).2.2, if_neg c9, if_neg c41]
              have hr := rl_els h0 c9 c41
              exact j_iret (prs, jns, cls, sty, stk, _) C dX1_plain_133 ⟨yb_keep hB hr.1 hr.2.1 hr.2.2 hsk, by dsimp only; rw [hsk, hs]; rfl, by unfold pv; rw [if_neg c110, if_neg c117, if_neg c125]⟩
            · refine j_iconst (pc := 128) C (nI 3) dX1_plain_128 (by decide) ?_
              refine j_goto (tgt := 133) (pc := 129) C dX1_plain_129 (by decide) ?_
              have hsk : sk txt (i + 1) = sk txt i := by rw [(st_plain he h0).2.2, if_neg c9, if_neg c41]
              have hr := rl_els h0 c9 c41
              exact j_iret (prs, jns, cls, sty, stk, _) C dX1_plain_133 ⟨yb_keep hB hr.1 hr.2.1 hr.2.2 hsk, by dsimp only; rw [hsk, hs]; rfl, by unfold pv; rw [if_neg c110, if_neg c117, if_pos c125]⟩
          · refine j_iconst (pc := 120) C (nI 1) dX1_plain_120 (by decide) ?_
            have hsk : sk txt (i + 1) = sk txt i := by rw [(st_plain he h0).2.2, if_neg c9, if_neg c41]
            have hr := rl_els h0 c9 c41
            exact j_iret (prs, jns, cls, sty, stk, _) C dX1_plain_121 ⟨yb_keep hB hr.1 hr.2.1 hr.2.2 hsk, by dsimp only; rw [hsk, hs]; rfl, by unfold pv; rw [if_neg c110, if_pos c117]⟩
        · refine j_iconst (pc := 113) C (nI 2) dX1_plain_113 (by decide) ?_
          have hsk : sk txt (i + 1) = sk txt i := by rw [(st_plain he h0).2.2, if_neg c9, if_neg c41]
          have hr := rl_els h0 c9 c41
          exact j_iret (prs, jns, cls, sty, stk, _) C dX1_plain_114 ⟨yb_keep hB hr.1 hr.2.1 hr.2.2 hsk, by dsimp only; rw [hsk, hs]; rfl, by unfold pv; rw [if_pos c110]⟩
      · refine y_ag_cls (pc := 44) C dX1_plain_44 dX1_plain_45 ?_
        refine j_iload1 (pc := 48) C dX1_plain_48 ?_
        refine j_iconst (pc := 49) C (nI 1) dX1_plain_49 (by decide) ?_
        refine j_top (b2i true) rfl ?_
        refine y_ast_cls (pc := 50) C dX1_plain_50 (by omega) ?_
        refine y_ag_top (pc := 51) C dX1_plain_51 dX1_plain_52 ?_
        refine j_ifN_ne (tgt := 68) (pc := 55) C dX1_plain_55 (by decide) (by omega) (fun c55 => ?_) (fun c55 => ?_)
        · exact absurd rfl c55
        · refine y_ag_sty (pc := 58) C dX1_plain_58 dX1_plain_59 ?_
          refine j_iload1 (pc := 62) C dX1_plain_62 ?_
          refine j_iconst (pc := 63) C (nI 1) dX1_plain_63 (by decide) ?_
          refine j_top (b2i true) rfl ?_
          refine y_ast_sty (pc := 64) C dX1_plain_64 (by omega) ?_
          refine j_goto (tgt := 108) (pc := 65) C dX1_plain_65 (by decide) ?_
          refine j_iload2 (pc := 108) C dX1_plain_108 ?_
          refine j_iconst (pc := 109) C (nI 4) dX1_plain_109 (by decide) ?_
          refine j_icmp_ne (tgt := 115) (pc := 110) C dX1_plain_110 (by decide) (fun c110 => ?_) (fun c110 => ?_)
          · refine j_iload2 (pc := 115) C dX1_plain_115 ?_
            refine j_iconst (pc := 116) C (nI 5) dX1_plain_116 (by decide) ?_
            refine j_icmp_ne (tgt := 122) (pc := 117) C dX1_plain_117 (by decide) (fun c117 => ?_) (fun c117 => ?_)
            · refine j_iload2 (pc := 122) C dX1_plain_122 ?_
              refine j_bipush (pc := 123) C (nI 6) dX1_plain_123 (by decide) ?_
              refine j_icmp_ne (tgt := 132) (pc := 125) C dX1_plain_125 (by decide) (fun c125 => ?_) (fun c125 => ?_)
              · refine j_iconst (pc := 132) C (nI 0) dX1_plain_132 (by decide) ?_
                have hsk : sk txt (i + 1) = (sk txt i).tail := by rw [(st_plain he h0).2.2, if_neg c9, if_pos c41]
                rw [hs] at hsk
                have hr := rl_3 h0 (nw_of 3 he c41 (by omega) (by omega) (by omega)) c41 hs
                have hB2 := yb_stray hB hr (by rw [hsk, hs]; rfl)
                exact j_iret (prs, jns, upd cls i (b2i true), upd sty i (b2i true), stk, _) C dX1_plain_133 ⟨hB2, by dsimp only; rw [hsk]; rfl, by unfold pv; rw [if_neg c110, if_neg c117, if_neg c125]⟩
              · exact absurd (c41.symm.trans c125) (c_ne (by omega) (by omega) (by omega))
            · exact absurd (c41.symm.trans c117) (c_ne (by omega) (by omega) (by omega))
          · exact absurd (c41.symm.trans c110) (c_ne (by omega) (by omega) (by omega))
    · refine y_ag_jns (pc := 12) C dX1_plain_12 dX1_plain_13 ?_
      refine j_iload1 (pc := 16) C dX1_plain_16 ?_
      refine j_iconst (pc := 17) C (nI 1) dX1_plain_17 (by decide) ?_
      refine j_top (b2i true) rfl ?_
      refine y_ast_jns (pc := 18) C dX1_plain_18 (by omega) ?_
      refine y_ag_stk (pc := 19) C dX1_plain_19 dX1_plain_20 ?_
      refine y_ag_top (pc := 23) C dX1_plain_23 dX1_plain_24 ?_
      refine j_iload1 (pc := 27) C dX1_plain_27 ?_
      refine y_ast_stk (pc := 28) C dX1_plain_28 (by omega) ?_
      refine j_aload0 (pc := 29) C dX1_plain_29 ?_
      refine j_dupr (pc := 30) C dX1_plain_30 ?_
      refine y_get_top (pc := 31) C dX1_plain_31 ?_
      refine j_iconst (pc := 34) C (nI 1) dX1_plain_34 (by decide) ?_
      refine j_iaddN (pc := 35) C dX1_plain_35 ?_
      refine y_put_top (pc := 36) C dX1_plain_36 ?_
      refine j_iload2 (pc := 39) C dX1_plain_39 ?_
      refine j_iconst (pc := 40) C (nI 3) dX1_plain_40 (by decide) ?_
      refine j_icmp_ne (tgt := 108) (pc := 41) C dX1_plain_41 (by decide) (fun c41 => ?_) (fun c41 => ?_)
      · refine j_iload2 (pc := 108) C dX1_plain_108 ?_
        refine j_iconst (pc := 109) C (nI 4) dX1_plain_109 (by decide) ?_
        refine j_icmp_ne (tgt := 115) (pc := 110) C dX1_plain_110 (by decide) (fun c110 => ?_) (fun c110 => ?_)
        · refine j_iload2 (pc := 115) C dX1_plain_115 ?_
          refine j_iconst (pc := 116) C (nI 5) dX1_plain_116 (by decide) ?_
          refine j_icmp_ne (tgt := 122) (pc := 117) C dX1_plain_117 (by decide) (fun c117 => ?_) (fun c117 => ?_)
          · refine j_iload2 (pc := 122) C dX1_plain_122 ?_
            refine j_bipush (pc := 123) C (nI 6) dX1_plain_123 (by decide) ?_
            refine j_icmp_ne (tgt := 132) (pc := 125) C dX1_plain_125 (by decide) (fun c125 => ?_) (fun c125 => ?_)
            · refine j_iconst (pc := 132) C (nI 0) dX1_plain_132 (by decide) ?_
              have hr := rl_1 h0 (nw_of 2 he c9 (by omega) (by omega) (by omega)) c9
              have hsk : sk txt (i + 1) = i :: sk txt i := by rw [(st_plain he h0).2.2, if_pos c9]
              have hB2 := yb_open hB hr hsk
              rw [hs] at hB2 hsk
              exact j_iret (prs, upd jns i (b2i true), cls, sty, upd stk 0 (nI i), _) C dX1_plain_133 ⟨hB2, by dsimp only; rw [hsk]; rfl, by unfold pv; rw [if_neg c110, if_neg c117, if_neg c125]⟩
            · exact absurd (c9.symm.trans c125) (c_ne (by omega) (by omega) (by omega))
          · exact absurd (c9.symm.trans c117) (c_ne (by omega) (by omega) (by omega))
        · exact absurd (c9.symm.trans c110) (c_ne (by omega) (by omega) (by omega))
      · exact absurd (c9.symm.trans c41) (c_ne (by omega) (by omega) (by omega))
  · have hq := sk_lt hs
    rw [hs, List.length_cons] at hlen
    show JJ _ _ _ _ _ _ _ _ _ _ _ _ _ (YW ad cI cZ txt mds ess dps prs jns cls sty stk len (nI (rr.length + 1))) 7 _ _
    refine j_iload2 (pc := 7) C dX1_plain_7 ?_
    refine j_iconst (pc := 8) C (nI 2) dX1_plain_8 (by decide) ?_
    refine j_icmp_ne (tgt := 39) (pc := 9) C dX1_plain_9 (by decide) (fun c9 => ?_) (fun c9 => ?_)
    · refine j_iload2 (pc := 39) C dX1_plain_39 ?_
      refine j_iconst (pc := 40) C (nI 3) dX1_plain_40 (by decide) ?_
      refine j_icmp_ne (tgt := 108) (pc := 41) C dX1_plain_41 (by decide) (fun c41 => ?_) (fun c41 => ?_)
      · refine j_iload2 (pc := 108) C dX1_plain_108 ?_
        refine j_iconst (pc := 109) C (nI 4) dX1_plain_109 (by decide) ?_
        refine j_icmp_ne (tgt := 115) (pc := 110) C dX1_plain_110 (by decide) (fun c110 => ?_) (fun c110 => ?_)
        · refine j_iload2 (pc := 115) C dX1_plain_115 ?_
          refine j_iconst (pc := 116) C (nI 5) dX1_plain_116 (by decide) ?_
          refine j_icmp_ne (tgt := 122) (pc := 117) C dX1_plain_117 (by decide) (fun c117 => ?_) (fun c117 => ?_)
          · refine j_iload2 (pc := 122) C dX1_plain_122 ?_
            refine j_bipush (pc := 123) C (nI 6) dX1_plain_123 (by decide) ?_
            refine j_icmp_ne (tgt := 132) (pc := 125) C dX1_plain_125 (by decide) (fun c125 => ?_) (fun c125 => ?_)
            · refine j_iconst (pc := 132) C (nI 0) dX1_plain_132 (by decide) ?_
              have hsk : sk txt (i + 1) = sk txt i := by rw [(st_plain he h0).2.2, if_neg c9, if_neg c41]
              have hr := rl_els h0 c9 c41
              exact j_iret (prs, jns, cls, sty, stk, _) C dX1_plain_133 ⟨yb_keep hB hr.1 hr.2.1 hr.2.2 hsk, by dsimp only; rw [hsk, hs]; rfl, by unfold pv; rw [if_neg c110, if_neg c117, if_neg c125]⟩
            · refine j_iconst (pc := 128) C (nI 3) dX1_plain_128 (by decide) ?_
              refine j_goto (tgt := 133) (pc := 129) C dX1_plain_129 (by decide) ?_
              have hsk : sk txt (i + 1) = sk txt i := by rw [(st_plain he h0).2.2, if_neg c9, if_neg c41]
              have hr := rl_els h0 c9 c41
              exact j_iret (prs, jns, cls, sty, stk, _) C dX1_plain_133 ⟨yb_keep hB hr.1 hr.2.1 hr.2.2 hsk, by dsimp only; rw [hsk, hs]; rfl, by unfold pv; rw [if_neg c110, if_neg c117, if_pos c125]⟩
          · refine j_iconst (pc := 120) C (nI 1) dX1_plain_120 (by decide) ?_
            have hsk : sk txt (i + 1) = sk txt i := by rw [(st_plain he h0).2.2, if_neg c9, if_neg c41]
            have hr := rl_els h0 c9 c41
            exact j_iret (prs, jns, cls, sty, stk, _) C dX1_plain_121 ⟨yb_keep hB hr.1 hr.2.1 hr.2.2 hsk, by dsimp only; rw [hsk, hs]; rfl, by unfold pv; rw [if_neg c110, if_pos c117]⟩
        · refine j_iconst (pc := 113) C (nI 2) dX1_plain_113 (by decide) ?_
          have hsk : sk txt (i + 1) = sk txt i := by rw [(st_plain he h0).2.2, if_neg c9, if_neg c41]
          have hr := rl_els h0 c9 c41
          exact j_iret (prs, jns, cls, sty, stk, _) C dX1_plain_114 ⟨yb_keep hB hr.1 hr.2.1 hr.2.2 hsk, by dsimp only; rw [hsk, hs]; rfl, by unfold pv; rw [if_pos c110]⟩
      · refine y_ag_cls (pc := 44) C dX1_plain_44 dX1_plain_45 ?_
        refine j_iload1 (pc := 48) C dX1_plain_48 ?_
        refine j_iconst (pc := 49) C (nI 1) dX1_plain_49 (by decide) ?_
        refine j_top (b2i true) rfl ?_
        refine y_ast_cls (pc := 50) C dX1_plain_50 (by omega) ?_
        refine y_ag_top (pc := 51) C dX1_plain_51 dX1_plain_52 ?_
        refine j_ifN_ne (tgt := 68) (pc := 55) C dX1_plain_55 (by decide) (by omega) (fun c55 => ?_) (fun c55 => ?_)
        · refine j_aload0 (pc := 68) C dX1_plain_68 ?_
          refine j_dupr (pc := 69) C dX1_plain_69 ?_
          refine y_get_top (pc := 70) C dX1_plain_70 ?_
          refine j_iconst (pc := 73) C (nI 1) dX1_plain_73 (by decide) ?_
          refine j_isubN (pc := 74) C dX1_plain_74 (by omega) ?_
          refine j_top (nI rr.length) rfl ?_
          refine y_put_top (pc := 75) C dX1_plain_75 ?_
          refine y_ag_prs (pc := 78) C dX1_plain_78 dX1_plain_79 ?_
          refine j_iload1 (pc := 82) C dX1_plain_82 ?_
          refine y_ag_stk (pc := 83) C dX1_plain_83 dX1_plain_84 ?_
          refine y_ag_top (pc := 87) C dX1_plain_87 dX1_plain_88 ?_
          refine y_ald_stk (pc := 91) C dX1_plain_91 (by omega) ?_
          refine j_top (nI q) (yb_top hB hs) ?_
          refine y_ast_prs (pc := 92) C dX1_plain_92 (by omega) ?_
          refine y_ag_prs (pc := 93) C dX1_plain_93 dX1_plain_94 ?_
          refine y_ag_stk (pc := 97) C dX1_plain_97 dX1_plain_98 ?_
          refine y_ag_top (pc := 101) C dX1_plain_101 dX1_plain_102 ?_
          refine y_ald_stk (pc := 105) C dX1_plain_105 (by omega) ?_
          refine j_top (nI q) (yb_top hB hs) ?_
          refine j_iload1 (pc := 106) C dX1_plain_106 ?_
          refine y_ast_prs (pc := 107) C dX1_plain_107 (by omega) ?_
          refine j_iload2 (pc := 108) C dX1_plain_108 ?_
          refine j_iconst (pc := 109) C (nI 4) dX1_plain_109 (by decide) ?_
          refine j_icmp_ne (tgt := 115) (pc := 110) C dX1_plain_110 (by decide) (fun c110 => ?_) (fun c110 => ?_)
          · refine j_iload2 (pc := 115) C dX1_plain_115 ?_
            refine j_iconst (pc := 116) C (nI 5) dX1_plain_116 (by decide) ?_
            refine j_icmp_ne (tgt := 122) (pc := 117) C dX1_plain_117 (by decide) (fun c117 => ?_) (fun c117 => ?_)
            · refine j_iload2 (pc := 122) C dX1_plain_122 ?_
              refine j_bipush (pc := 123) C (nI 6) dX1_plain_123 (by decide) ?_
              refine j_icmp_ne (tgt := 132) (pc := 125) C dX1_plain_125 (by decide) (fun c125 => ?_) (fun c125 => ?_)
              · refine j_iconst (pc := 132) C (nI 0) dX1_plain_132 (by decide) ?_
                have hsk : sk txt (i + 1) = (sk txt i).tail := by rw [(st_plain he h0).2.2, if_neg c9, if_pos c41]
                rw [hs] at hsk
                have hr := rl_2 h0 (nw_of 3 he c41 (by omega) (by omega) (by omega)) c41 (by rw [hs]; simp)
                have hB2 := yb_pair hB hr hs hsk
                exact j_iret (upd (upd prs i (nI q)) q (nI i), jns, upd cls i (b2i true), sty, stk, _) C dX1_plain_133 ⟨hB2, by dsimp only; rw [hsk]; rfl, by unfold pv; rw [if_neg c110, if_neg c117, if_neg c125]⟩
              · exact absurd (c41.symm.trans c125) (c_ne (by omega) (by omega) (by omega))
            · exact absurd (c41.symm.trans c117) (c_ne (by omega) (by omega) (by omega))
          · exact absurd (c41.symm.trans c110) (c_ne (by omega) (by omega) (by omega))
        · exact absurd c55 (by omega)
    · refine y_ag_jns (pc := 12) C dX1_plain_12 dX1_plain_13 ?_
      refine j_iload1 (pc := 16) C dX1_plain_16 ?_
      refine j_iconst (pc := 17) C (nI 1) dX1_plain_17 (by decide) ?_
      refine j_top (b2i true) rfl ?_
      refine y_ast_jns (pc := 18) C dX1_plain_18 (by omega) ?_
      refine y_ag_stk (pc := 19) C dX1_plain_19 dX1_plain_20 ?_
      refine y_ag_top (pc := 23) C dX1_plain_23 dX1_plain_24 ?_
      refine j_iload1 (pc := 27) C dX1_plain_27 ?_
      refine y_ast_stk (pc := 28) C dX1_plain_28 (by omega) ?_
      refine j_aload0 (pc := 29) C dX1_plain_29 ?_
      refine j_dupr (pc := 30) C dX1_plain_30 ?_
      refine y_get_top (pc := 31) C dX1_plain_31 ?_
      refine j_iconst (pc := 34) C (nI 1) dX1_plain_34 (by decide) ?_
      refine j_iaddN (pc := 35) C dX1_plain_35 ?_
      refine y_put_top (pc := 36) C dX1_plain_36 ?_
      refine j_iload2 (pc := 39) C dX1_plain_39 ?_
      refine j_iconst (pc := 40) C (nI 3) dX1_plain_40 (by decide) ?_
      refine j_icmp_ne (tgt := 108) (pc := 41) C dX1_plain_41 (by decide) (fun c41 => ?_) (fun c41 => ?_)
      · refine j_iload2 (pc := 108) C dX1_plain_108 ?_
        refine j_iconst (pc := 109) C (nI 4) dX1_plain_109 (by decide) ?_
        refine j_icmp_ne (tgt := 115) (pc := 110) C dX1_plain_110 (by decide) (fun c110 => ?_) (fun c110 => ?_)
        · refine j_iload2 (pc := 115) C dX1_plain_115 ?_
          refine j_iconst (pc := 116) C (nI 5) dX1_plain_116 (by decide) ?_
          refine j_icmp_ne (tgt := 122) (pc := 117) C dX1_plain_117 (by decide) (fun c117 => ?_) (fun c117 => ?_)
          · refine j_iload2 (pc := 122) C dX1_plain_122 ?_
            refine j_bipush (pc := 123) C (nI 6) dX1_plain_123 (by decide) ?_
            refine j_icmp_ne (tgt := 132) (pc := 125) C dX1_plain_125 (by decide) (fun c125 => ?_) (fun c125 => ?_)
            · refine j_iconst (pc := 132) C (nI 0) dX1_plain_132 (by decide) ?_
              have hr := rl_1 h0 (nw_of 2 he c9 (by omega) (by omega) (by omega)) c9
              have hsk : sk txt (i + 1) = i :: sk txt i := by rw [(st_plain he h0).2.2, if_pos c9]
              have hB2 := yb_open hB hr hsk
              rw [hs] at hB2 hsk
              exact j_iret (prs, upd jns i (b2i true), cls, sty, upd stk (rr.length + 1) (nI i), _) C dX1_plain_133 ⟨hB2, by dsimp only; rw [hsk]; rfl, by unfold pv; rw [if_neg c110, if_neg c117, if_neg c125]⟩
            · exact absurd (c9.symm.trans c125) (c_ne (by omega) (by omega) (by omega))
          · exact absurd (c9.symm.trans c117) (c_ne (by omega) (by omega) (by omega))
        · exact absurd (c9.symm.trans c110) (c_ne (by omega) (by omega) (by omega))
      · exact absurd (c9.symm.trans c41) (c_ne (by omega) (by omega) (by omega))

set_option maxHeartbeats 4000000 in
set_option maxRecDepth 100000 in
theorem ym_read {l : Launch} {D : va_G} {cI cZ : ClassId} {ad : Nat → Nat} {txt mds ess dps prs jns cls sty stk : Nat → Int32} {len top : Int32} {g : Nat} (hg : g ≤ 64) : MetV l yX1_read cX1_read 7 1 D cI cZ [.ref (ad 0), .int (nI g)] (fun u : (Nat → Int32) × (Nat → Int32) × (Nat → Int32) × (Nat → Int32) × (Nat → Int32) × (Nat → Int32) × (Nat → Int32) × (Nat → Int32) => (YW ad cI cZ txt u.1 u.2.1 u.2.2.1 u.2.2.2.1 u.2.2.2.2.1 u.2.2.2.2.2.1 u.2.2.2.2.2.2.1 u.2.2.2.2.2.2.2 len (nI (sk txt g).length))) (YW ad cI cZ txt mds ess dps prs jns cls sty stk len top) (fun u : (Nat → Int32) × (Nat → Int32) × (Nat → Int32) × (Nat → Int32) × (Nat → Int32) × (Nat → Int32) × (Nat → Int32) × (Nat → Int32) => YM txt (g + 1) u.1 u.2.1 u.2.2.1 ∧ YB txt g u.2.2.2.1 u.2.2.2.2.1 u.2.2.2.2.2.1 u.2.2.2.2.2.2.1 u.2.2.2.2.2.2.2) := by
  refine fun sz => j_start (Qc := fun A => (QV (fun u : (Nat → Int32) × (Nat → Int32) × (Nat → Int32) × (Nat → Int32) × (Nat → Int32) × (Nat → Int32) × (Nat → Int32) × (Nat → Int32) => YM txt (g + 1) u.1 u.2.1 u.2.2.1 ∧ YB txt g u.2.2.2.1 u.2.2.2.2.1 u.2.2.2.2.2.1 u.2.2.2.2.2.2.1 u.2.2.2.2.2.2.2) (fun u : (Nat → Int32) × (Nat → Int32) × (Nat → Int32) × (Nat → Int32) × (Nat → Int32) × (Nat → Int32) × (Nat → Int32) × (Nat → Int32) => (YW ad cI cZ txt u.1 u.2.1 u.2.2.1 u.2.2.2.1 u.2.2.2.2.1 u.2.2.2.2.2.1 u.2.2.2.2.2.2.1 u.2.2.2.2.2.2.2 len (nI (sk txt g).length))) D cI cZ A)) [some (.inr (ad 0)), some (.inl (nI g)), none, none, none, none, none] (by decide) (Nat.le_of_ble_eq_true rfl) rfl ?_ sz
  intro p e s m args below meth c A C
  have C : CC p s m args meth c D A cI cZ RX1 cX1_read 7 none := C
  have loop2 : ∀ (f i : Nat) (mds ess dps prs jns cls sty stk : Nat → Int32) (v5 v6 : Option jT), g < i + f → i ≤ g → YM txt i mds ess dps → YB txt i prs jns cls sty stk → JJ p l e s m args below meth c D A 1 (QV (fun u : (Nat → Int32) × (Nat → Int32) × (Nat → Int32) × (Nat → Int32) × (Nat → Int32) × (Nat → Int32) × (Nat → Int32) × (Nat → Int32) => YM txt (g + 1) u.1 u.2.1 u.2.2.1 ∧ YB txt g u.2.2.2.1 u.2.2.2.2.1 u.2.2.2.2.2.1 u.2.2.2.2.2.2.1 u.2.2.2.2.2.2.2) (fun u : (Nat → Int32) × (Nat → Int32) × (Nat → Int32) × (Nat → Int32) × (Nat → Int32) × (Nat → Int32) × (Nat → Int32) × (Nat → Int32) => (YW ad cI cZ txt u.1 u.2.1 u.2.2.1 u.2.2.2.1 u.2.2.2.2.1 u.2.2.2.2.2.1 u.2.2.2.2.2.2.1 u.2.2.2.2.2.2.2 len (nI (sk txt g).length))) D cI cZ A) (YW ad cI cZ txt mds ess dps prs jns cls sty stk len (nI (sk txt i).length)) 60 [some (.inr (ad 0)), some (.inl (nI g)), some (.inl (nI (md txt i))), some (.inl (b2i (es txt i))), some (.inl (nI i)), v5, v6] [] := by
    intro f
    induction f with
    | zero => intro i mds ess dps prs jns cls sty stk v5 v6 h1 h2; omega
    | succ f ih =>
      intro i mds ess dps prs jns cls sty stk v5 v6 h1 h2 hM hB
      have hmd := md_le txt i
      have hlen := sk_len txt i
      have hM2 : YM txt (i + 1) (upd mds i (nI (md txt i))) (upd ess i (b2i (es txt i))) (upd dps i (nI (sk txt i).length)) := by
        intro j hj
        by_cases e : j = i
        · subst e; rw [upd_s, upd_s, upd_s]; exact ⟨rfl, rfl, rfl⟩
        · rw [upd_n e, upd_n e, upd_n e]; exact hM j (by omega)
      have at210 : i < g → ∀ (prs jns cls sty stk : Nat → Int32) (v5 v6 : Option jT), YB txt (i + 1) prs jns cls sty stk → JJ p l e s m args below meth c D A 1 (QV (fun u : (Nat → Int32) × (Nat → Int32) × (Nat → Int32) × (Nat → Int32) × (Nat → Int32) × (Nat → Int32) × (Nat → Int32) × (Nat → Int32) => YM txt (g + 1) u.1 u.2.1 u.2.2.1 ∧ YB txt g u.2.2.2.1 u.2.2.2.2.1 u.2.2.2.2.2.1 u.2.2.2.2.2.2.1 u.2.2.2.2.2.2.2) (fun u : (Nat → Int32) × (Nat → Int32) × (Nat → Int32) × (Nat → Int32) × (Nat → Int32) × (Nat → Int32) × (Nat → Int32) × (Nat → Int32) => (YW ad cI cZ txt u.1 u.2.1 u.2.2.1 u.2.2.2.1 u.2.2.2.2.1 u.2.2.2.2.2.1 u.2.2.2.2.2.2.1 u.2.2.2.2.2.2.2 len (nI (sk txt g).length))) D cI cZ A) (YW ad cI cZ txt (upd mds i (nI (md txt i))) (upd ess i (b2i (es txt i))) (upd dps i (nI (sk txt i).length)) prs jns cls sty stk len (nI (sk txt (i + 1)).length)) 210 [some (.inr (ad 0)), some (.inl (nI g)), some (.inl (nI (md txt (i + 1)))), some (.inl (b2i (es txt (i + 1)))), some (.inl (nI i)), v5, v6] [] := by
        intro hig prs jns cls sty stk v5 v6 hB
        refine j_inc4 (pc := 210) C dX1_read_210 ?_
        refine j_goto (tgt := 60) (pc := 213) C dX1_read_213 (by decide) ?_
        exact ih (i + 1) _ _ _ prs jns cls sty stk v5 v6 (by omega) (by omega) hM2 hB
      refine j_iload4 (pc := 60) C dX1_read_60 ?_
      refine j_iload1 (pc := 62) C dX1_read_62 ?_
      refine j_icmpN_gt (tgt := 216) (pc := 63) C dX1_read_63 (by decide) (by omega) (by omega) (fun c63 => ?_) (fun c63 => ?_)
      · exact absurd c63 (by omega)
      · refine j_iload4 (pc := 66) C dX1_read_66 ?_
        refine j_bipush (pc := 68) C (nI 64) dX1_read_68 (by decide) ?_
        refine j_icmpN_gt (tgt := 216) (pc := 70) C dX1_read_70 (by decide) (by omega) (by omega) (fun c70 => ?_) (fun c70 => ?_)
        · exact absurd c70 (by omega)
        · refine y_ag_mds (pc := 73) C dX1_read_73 dX1_read_74 ?_
          refine j_iload4 (pc := 77) C dX1_read_77 ?_
          refine j_iload2 (pc := 79) C dX1_read_79 ?_
          refine y_ast_mds (pc := 80) C dX1_read_80 (by omega) ?_
          refine y_ag_ess (pc := 81) C dX1_read_81 dX1_read_82 ?_
          refine j_iload4 (pc := 85) C dX1_read_85 ?_
          refine j_iload3 (pc := 87) C dX1_read_87 ?_
          refine y_ast_ess (pc := 88) C dX1_read_88 (by omega) ?_
          refine y_ag_dps (pc := 89) C dX1_read_89 dX1_read_90 ?_
          refine j_iload4 (pc := 93) C dX1_read_93 ?_
          refine y_ag_top (pc := 95) C dX1_read_95 dX1_read_96 ?_
          refine y_ast_dps (pc := 99) C dX1_read_99 (by omega) ?_
          refine j_iload4 (pc := 100) C dX1_read_100 ?_
          refine j_iload1 (pc := 102) C dX1_read_102 ?_
          refine j_icmpN_ge (tgt := 210) (pc := 103) C dX1_read_103 (by decide) (by omega) (by omega) (fun c103 => ?_) (fun c103 => ?_)
          · refine j_inc4 (pc := 210) C dX1_read_210 ?_
            refine j_goto (tgt := 60) (pc := 213) C dX1_read_213 (by decide) ?_
            obtain rfl : i = g := by omega
            refine j_iload4 (pc := 60) C dX1_read_60 ?_
            refine j_iload1 (pc := 62) C dX1_read_62 ?_
            refine j_icmpN_gt (tgt := 216) (pc := 63) C dX1_read_63 (by decide) (by omega) (by omega) (fun c63 => ?_) (fun c63 => ?_)
            · refine j_vret (upd mds i (nI (md txt i)), upd ess i (b2i (es txt i)), upd dps i (nI (sk txt i).length), prs, jns, cls, sty, stk) C dX1_read_216 ⟨?_, hB⟩
              exact hM2
            · exact absurd c63 (by omega)
          · refine j_iload4 (pc := 106) C dX1_read_106 ?_
            refine j_bipush (pc := 108) C (nI 64) dX1_read_108 (by decide) ?_
            refine j_icmpN_ge (tgt := 210) (pc := 110) C dX1_read_110 (by decide) (by omega) (by omega) (fun c110 => ?_) (fun c110 => ?_)
            · exact absurd c110 (by omega)
            · refine y_ag_txt (pc := 113) C dX1_read_113 dX1_read_114 ?_
              refine j_iload4 (pc := 117) C dX1_read_117 ?_
              refine y_ald_txt (pc := 119) C dX1_read_119 (by omega) ?_
              refine j_istore5 (pc := 120) C dX1_read_120 ?_
              refine j_iload3 (pc := 122) C dX1_read_122 ?_
              refine j_ifB_eq (tgt := 131) (pc := 123) C dX1_read_123 (by decide) (fun c123 => ?_) (fun c123 => ?_)
              · refine j_iload2 (pc := 131) C dX1_read_131 ?_
                refine j_ifN_ne (tgt := 173) (pc := 132) C dX1_read_132 (by decide) (by omega) (fun c132 => ?_) (fun c132 => ?_)
                · refine j_iload2 (pc := 173) C dX1_read_173 ?_
                  refine j_iconst (pc := 174) C (nI 1) dX1_read_174 (by decide) ?_
                  refine j_icmpN_ne (tgt := 201) (pc := 175) C dX1_read_175 (by decide) (by omega) (by omega) (fun c175 => ?_) (fun c175 => ?_)
                  · refine j_iload5 (pc := 201) C dX1_read_201 ?_
                    refine j_bipush (pc := 203) C (nI 7) dX1_read_203 (by decide) ?_
                    refine j_icmp_ne (tgt := 210) (pc := 205) C dX1_read_205 (by decide) (fun c205 => ?_) (fun c205 => ?_)
                    · obtain ⟨e1, e2, e3⟩ := st_rem c123 c132 c175
                      have hr := rl_md c132
                      have e2 : es txt (i + 1) = es txt i := by rw [e2, c123]
                      have e1 : md txt (i + 1) = md txt i := by rw [e1, if_neg c205]
                      have h9 := at210 c103 prs jns cls sty stk (some (.inl (txt i))) v6 (yb_keep hB hr.1 hr.2.1 hr.2.2 e3)
                      rw [e1, e2, e3] at h9
                      exact h9
                    · refine j_iconst (pc := 208) C (nI 0) dX1_read_208 (by decide) ?_
                      refine j_istore2 (pc := 209) C dX1_read_209 ?_
                      obtain ⟨e1, e2, e3⟩ := st_rem c123 c132 c175
                      have hr := rl_md c132
                      have e2 : es txt (i + 1) = es txt i := by rw [e2, c123]
                      have e1 : md txt (i + 1) = 0 := by rw [e1, if_pos c205]
                      have h9 := at210 c103 prs jns cls sty stk (some (.inl (txt i))) v6 (yb_keep hB hr.1 hr.2.1 hr.2.2 e3)
                      rw [e1, e2, e3] at h9
                      exact h9
                  · refine j_iload5 (pc := 178) C dX1_read_178 ?_
                    refine j_iconst (pc := 180) C (nI 5) dX1_read_180 (by decide) ?_
                    refine j_icmp_ne (tgt := 188) (pc := 181) C dX1_read_181 (by decide) (fun c181 => ?_) (fun c181 => ?_)
                    · refine j_iconst (pc := 188) C (nI 0) dX1_read_188 (by decide) ?_
                      refine j_top (b2i false) rfl ?_
                      refine j_istore3 (pc := 189) C dX1_read_189 ?_
                      refine j_iload5 (pc := 190) C dX1_read_190 ?_
                      refine j_iconst (pc := 192) C (nI 4) dX1_read_192 (by decide) ?_
                      refine j_icmp_ne (tgt := 210) (pc := 193) C dX1_read_193 (by decide) (fun c193 => ?_) (fun c193 => ?_)
                      · obtain ⟨e1, e2, e3⟩ := st_str c123 c175
                        have hr := rl_md c132
                        have e1 : md txt (i + 1) = md txt i := by rw [e1, if_neg c193, c175]
                        have h9 := at210 c103 prs jns cls sty stk (some (.inl (txt i))) v6 (yb_keep hB hr.1 hr.2.1 hr.2.2 e3)
                        rw [e1, e2, e3, decide_eq_false c181] at h9
                        exact h9
                      · refine j_iconst (pc := 196) C (nI 0) dX1_read_196 (by decide) ?_
                        refine j_istore2 (pc := 197) C dX1_read_197 ?_
                        refine j_goto (tgt := 210) (pc := 198) C dX1_read_198 (by decide) ?_
                        obtain ⟨e1, e2, e3⟩ := st_str c123 c175
                        have hr := rl_md c132
                        have e1 : md txt (i + 1) = 0 := by rw [e1, if_pos c193]
                        have h9 := at210 c103 prs jns cls sty stk (some (.inl (txt i))) v6 (yb_keep hB hr.1 hr.2.1 hr.2.2 e3)
                        rw [e1, e2, e3, decide_eq_false c181] at h9
                        exact h9
                    · refine j_iconst (pc := 184) C (nI 1) dX1_read_184 (by decide) ?_
                      refine j_top (b2i true) rfl ?_
                      refine j_goto (tgt := 189) (pc := 185) C dX1_read_185 (by decide) ?_
                      refine j_istore3 (pc := 189) C dX1_read_189 ?_
                      refine j_iload5 (pc := 190) C dX1_read_190 ?_
                      refine j_iconst (pc := 192) C (nI 4) dX1_read_192 (by decide) ?_
                      refine j_icmp_ne (tgt := 210) (pc := 193) C dX1_read_193 (by decide) (fun c193 => ?_) (fun c193 => ?_)
                      · obtain ⟨e1, e2, e3⟩ := st_str c123 c175
                        have hr := rl_md c132
                        have e1 : md txt (i + 1) = md txt i := by rw [e1, if_neg c193, c175]
                        have h9 := at210 c103 prs jns cls sty stk (some (.inl (txt i))) v6 (yb_keep hB hr.1 hr.2.1 hr.2.2 e3)
                        rw [e1, e2, e3, decide_eq_true c181] at h9
                        exact h9
                      · exact absurd (c181.symm.trans c193) (c_ne (by omega) (by omega) (by omega))
                · refine j_aload0 (pc := 135) C dX1_read_135 ?_
                  refine j_iload4 (pc := 136) C dX1_read_136 ?_
                  refine y_callI1 (pc := 138) C (ym_plain (i := i) (by omega) hB c132 c123) (lw_V q262 q264 qs15 q23 q265) (by decide +kernel) (by decide) (by decide) rfl (Nat.le_of_ble_eq_true rfl) dX1_read_138 (fun r u hu => ?_)
                  obtain ⟨prs2, jns2, cls2, sty2, stk2, top2⟩ := u
                  obtain ⟨hB2, ht2, hr⟩ := hu
                  dsimp only at hB2 ht2 ⊢
                  subst hr; subst ht2
                  have hpv := pv_le (txt i)
                  refine j_istore6 (pc := 141) C dX1_read_141 ?_
                  refine j_iload6 (pc := 143) C dX1_read_143 ?_
                  refine j_iconst (pc := 145) C (nI 1) dX1_read_145 (by decide) ?_
                  refine j_icmpN_ne (tgt := 153) (pc := 146) C dX1_read_146 (by decide) (by omega) (by omega) (fun c146 => ?_) (fun c146 => ?_)
                  · refine j_iconst (pc := 153) C (nI 0) dX1_read_153 (by decide) ?_
                    refine j_top (b2i false) rfl ?_
                    refine j_istore3 (pc := 154) C dX1_read_154 ?_
                    refine j_iload6 (pc := 155) C dX1_read_155 ?_
                    refine j_iconst (pc := 157) C (nI 1) dX1_read_157 (by decide) ?_
                    refine j_icmpN_le (tgt := 168) (pc := 158) C dX1_read_158 (by decide) (by omega) (by omega) (fun c158 => ?_) (fun c158 => ?_)
                    · refine j_iconst (pc := 168) C (nI 0) dX1_read_168 (by decide) ?_
                      refine j_istore2 (pc := 169) C dX1_read_169 ?_
                      refine j_goto (tgt := 210) (pc := 170) C dX1_read_170 (by decide) ?_
                      obtain ⟨e1, e2, e3⟩ := st_plain c123 c132
                      have h9 := at210 c103 prs2 jns2 cls2 sty2 stk2 (some (.inl (txt i))) (some (.inl (nI (pv (txt i))))) hB2
                      rw [e1, pv_md, if_pos c158, e2, pv_es, decide_eq_false c146] at h9
                      exact h9
                    · refine j_iload6 (pc := 161) C dX1_read_161 ?_
                      refine j_iconst (pc := 163) C (nI 1) dX1_read_163 (by decide) ?_
                      refine j_isubN (pc := 164) C dX1_read_164 (by omega) ?_
                      refine j_goto (tgt := 169) (pc := 165) C dX1_read_165 (by decide) ?_
                      refine j_istore2 (pc := 169) C dX1_read_169 ?_
                      refine j_goto (tgt := 210) (pc := 170) C dX1_read_170 (by decide) ?_
                      obtain ⟨e1, e2, e3⟩ := st_plain c123 c132
                      have h9 := at210 c103 prs2 jns2 cls2 sty2 stk2 (some (.inl (txt i))) (some (.inl (nI (pv (txt i))))) hB2
                      rw [e1, pv_md, if_neg (by omega), e2, pv_es, decide_eq_false c146] at h9
                      exact h9
                  · refine j_iconst (pc := 149) C (nI 1) dX1_read_149 (by decide) ?_
                    refine j_top (b2i true) rfl ?_
                    refine j_goto (tgt := 154) (pc := 150) C dX1_read_150 (by decide) ?_
                    refine j_istore3 (pc := 154) C dX1_read_154 ?_
                    refine j_iload6 (pc := 155) C dX1_read_155 ?_
                    refine j_iconst (pc := 157) C (nI 1) dX1_read_157 (by decide) ?_
                    refine j_icmpN_le (tgt := 168) (pc := 158) C dX1_read_158 (by decide) (by omega) (by omega) (fun c158 => ?_) (fun c158 => ?_)
                    · refine j_iconst (pc := 168) C (nI 0) dX1_read_168 (by decide) ?_
                      refine j_istore2 (pc := 169) C dX1_read_169 ?_
                      refine j_goto (tgt := 210) (pc := 170) C dX1_read_170 (by decide) ?_
                      obtain ⟨e1, e2, e3⟩ := st_plain c123 c132
                      have h9 := at210 c103 prs2 jns2 cls2 sty2 stk2 (some (.inl (txt i))) (some (.inl (nI (pv (txt i))))) hB2
                      rw [e1, pv_md, if_pos c158, e2, pv_es, decide_eq_true c146] at h9
                      exact h9
                    · refine j_iload6 (pc := 161) C dX1_read_161 ?_
                      refine j_iconst (pc := 163) C (nI 1) dX1_read_163 (by decide) ?_
                      refine j_isubN (pc := 164) C dX1_read_164 (by omega) ?_
                      refine j_goto (tgt := 169) (pc := 165) C dX1_read_165 (by decide) ?_
                      refine j_istore2 (pc := 169) C dX1_read_169 ?_
                      refine j_goto (tgt := 210) (pc := 170) C dX1_read_170 (by decide) ?_
                      obtain ⟨e1, e2, e3⟩ := st_plain c123 c132
                      have h9 := at210 c103 prs2 jns2 cls2 sty2 stk2 (some (.inl (txt i))) (some (.inl (nI (pv (txt i))))) hB2
                      rw [e1, pv_md, if_neg (by omega), e2, pv_es, decide_eq_true c146] at h9
                      exact h9
              · refine j_iconst (pc := 126) C (nI 0) dX1_read_126 (by decide) ?_
                refine j_top (b2i false) rfl ?_
                refine j_istore3 (pc := 127) C dX1_read_127 ?_
                refine j_goto (tgt := 210) (pc := 128) C dX1_read_128 (by decide) ?_
                obtain ⟨e1, e2, e3⟩ := st_esc c123
                have hr := rl_esc c123
                have h9 := at210 c103 prs jns cls sty stk (some (.inl (txt i))) v6 (yb_keep hB hr.1 hr.2.1 hr.2.2 e3)
                rw [e1, e2, e3] at h9
                exact h9
  have loop1 : ∀ (f i : Nat) (prs jns cls sty : Nat → Int32), 64 < i + f → i ≤ 64 → (∀ j, j < 64 → j < i → prs j = -1 ∧ jns j = b2i false ∧ cls j = b2i false ∧ sty j = b2i false) → JJ p l e s m args below meth c D A 1 (QV (fun u : (Nat → Int32) × (Nat → Int32) × (Nat → Int32) × (Nat → Int32) × (Nat → Int32) × (Nat → Int32) × (Nat → Int32) × (Nat → Int32) => YM txt (g + 1) u.1 u.2.1 u.2.2.1 ∧ YB txt g u.2.2.2.1 u.2.2.2.2.1 u.2.2.2.2.2.1 u.2.2.2.2.2.2.1 u.2.2.2.2.2.2.2) (fun u : (Nat → Int32) × (Nat → Int32) × (Nat → Int32) × (Nat → Int32) × (Nat → Int32) × (Nat → Int32) × (Nat → Int32) × (Nat → Int32) => (YW ad cI cZ txt u.1 u.2.1 u.2.2.1 u.2.2.2.1 u.2.2.2.2.1 u.2.2.2.2.2.1 u.2.2.2.2.2.2.1 u.2.2.2.2.2.2.2 len (nI (sk txt g).length))) D cI cZ A) (YW ad cI cZ txt mds ess dps prs jns cls sty stk len (nI 0)) 12 [some (.inr (ad 0)), some (.inl (nI g)), some (.inl (nI 0)), some (.inl (b2i false)), some (.inl (nI i)), none, none] [] := by
    intro f
    induction f with
    | zero => intro i prs jns cls sty h1 h2; omega
    | succ f ih =>
      intro i prs jns cls sty h1 h2 h3
      refine j_iload4 (pc := 12) C dX1_read_12 ?_
      refine j_bipush (pc := 14) C (nI 64) dX1_read_14 (by decide) ?_
      refine j_icmpN_ge (tgt := 57) (pc := 16) C dX1_read_16 (by decide) (by omega) (by omega) (fun c16 => ?_) (fun c16 => ?_)
      · refine j_iconst (pc := 57) C (nI 0) dX1_read_57 (by decide) ?_
        refine j_istore4 (pc := 58) C dX1_read_58 ?_
        refine loop2 (g + 1) 0 mds ess dps prs jns cls sty stk _ _ (by omega) (by omega) (fun j hj => by omega) ⟨fun j hj => ?_, fun j hj => ?_, fun j hj => ?_, fun j hj => ?_, fun k hk => by simp [sk_0] at hk⟩
        · rw [(h3 j hj (by omega)).1]; rfl
        · rw [(h3 j hj (by omega)).2.1]; simp
        · rw [(h3 j hj (by omega)).2.2.1]; simp
        · rw [(h3 j hj (by omega)).2.2.2]; simp
      · refine y_ag_prs (pc := 19) C dX1_read_19 dX1_read_20 ?_
        refine j_iload4 (pc := 23) C dX1_read_23 ?_
        refine j_iconst (pc := 25) C (-1) dX1_read_25 (by decide) ?_
        refine y_ast_prs (pc := 26) C dX1_read_26 (by omega) ?_
        refine y_ag_jns (pc := 27) C dX1_read_27 dX1_read_28 ?_
        refine j_iload4 (pc := 31) C dX1_read_31 ?_
        refine j_iconst (pc := 33) C (nI 0) dX1_read_33 (by decide) ?_
        refine j_top (b2i false) rfl ?_
        refine y_ast_jns (pc := 34) C dX1_read_34 (by omega) ?_
        refine y_ag_cls (pc := 35) C dX1_read_35 dX1_read_36 ?_
        refine j_iload4 (pc := 39) C dX1_read_39 ?_
        refine j_iconst (pc := 41) C (nI 0) dX1_read_41 (by decide) ?_
        refine j_top (b2i false) rfl ?_
        refine y_ast_cls (pc := 42) C dX1_read_42 (by omega) ?_
        refine y_ag_sty (pc := 43) C dX1_read_43 dX1_read_44 ?_
        refine j_iload4 (pc := 47) C dX1_read_47 ?_
        refine j_iconst (pc := 49) C (nI 0) dX1_read_49 (by decide) ?_
        refine j_top (b2i false) rfl ?_
        refine y_ast_sty (pc := 50) C dX1_read_50 (by omega) ?_
        refine j_inc4 (pc := 51) C dX1_read_51 ?_
        refine j_goto (tgt := 12) (pc := 54) C dX1_read_54 (by decide) ?_
        refine ih (i + 1) (upd prs i (-1)) (upd jns i (b2i false)) (upd cls i (b2i false)) (upd sty i (b2i false)) (by omega) (by omega) (fun j hj1 hj2 => ?_)
        by_cases e : j = i
        · subst e; rw [upd_s, upd_s, upd_s, upd_s]; exact ⟨rfl, rfl, rfl, rfl⟩
        · rw [upd_n e, upd_n e, upd_n e, upd_n e]; exact h3 j hj1 (by omega)
  refine j_aload0 (pc := 0) C dX1_read_0 ?_
  refine j_iconst (pc := 1) C (nI 0) dX1_read_1 (by decide) ?_
  refine y_put_top (pc := 2) C dX1_read_2 ?_
  refine j_iconst (pc := 5) C (nI 0) dX1_read_5 (by decide) ?_
  refine j_istore2 (pc := 6) C dX1_read_6 ?_
  refine j_iconst (pc := 7) C (nI 0) dX1_read_7 (by decide) ?_
  refine j_top (b2i false) rfl ?_
  refine j_istore3 (pc := 8) C dX1_read_8 ?_
  refine j_iconst (pc := 9) C (nI 0) dX1_read_9 (by decide) ?_
  refine j_istore4 (pc := 10) C dX1_read_10 ?_
  exact loop1 65 0 prs jns cls sty (by omega) (by omega) (fun j _ h => by omega)
end
section
theorem rl6_md {t : Nat → Int32} {i : Nat} (h : rl t i = 6) : md t i = 0 := by
  by_cases q : md t i = 0
  · exact q
  · unfold rl at h
    rw [if_neg q] at h
    split at h <;> omega
theorem rl_n6 {t : Nat → Int32} {i : Nat} (h0 : md t i = 0) (h : ¬ (es t i = true ∨ t i = nI 0 ∨ t i = nI 5)) : rl t i ≠ 6 := by
  unfold rl
  rw [if_pos h0, if_neg h]
  split
  · omega
  · split
    · split <;> omega
    · split <;> omega
theorem rl4_all {t : Nat → Int32} {i : Nat} (h : rl t i = 4) : md t i = 0 ∧ es t i = false ∧ t i = nI 4 := by
  unfold rl at h
  split at h
  · rename_i h0
    split at h
    · omega
    · rename_i h1
      split at h
      · omega
      · split at h
        · split at h <;> omega
        · split at h
          · rename_i h4
            refine ⟨h0, ?_, h4⟩
            cases e : es t i with
            | false => rfl
            | true => exact absurd (Or.inl e) h1
          · omega
  · split at h <;> omega
theorem rl5_all {t : Nat → Int32} {i : Nat} (h : rl t i = 5) : md t i = 1 ∧ es t i = false ∧ t i = nI 4 := by
  have h1 := rl5_md h
  unfold rl at h
  rw [if_neg (by omega)] at h
  split at h
  · rename_i q; exact q
  · omega
def wU (t : Nat → Int32) (n i : Nat) : Option Nat := if rl t i = 6 ∧ ¬ (0 < i ∧ rl t (i - 1) = 6) then (if es t (wE t n n i + 1) = true then none else some (wE t n n i)) else none
def sU (t : Nat → Int32) (n i : Nat) : Option Nat := if rl t i = 4 then sE t n n (i + 1) else none
theorem uE_none {t : Nat → Int32} {n i : Nat} (h1 : ¬ rl t i = 1) (hw : wU t n i = none) : uE t n i = sU t n i := by
  unfold uE sU
  rw [if_neg h1]
  by_cases h4 : rl t i = 4
  · rw [if_pos h4, if_pos h4]
  · rw [if_neg h4, if_neg h4]
    exact hw
theorem uE_word {t : Nat → Int32} {n i e : Nat} (h1 : ¬ rl t i = 1) (hw : wU t n i = some e) : uE t n i = some e := by
  have h6 : rl t i = 6 := by
    by_cases q : rl t i = 6
    · exact q
    · unfold wU at hw
      rw [if_neg (fun z => q z.1)] at hw
      cases hw
  unfold uE
  rw [if_neg h1, if_neg (by omega)]
  exact hw

set_option maxHeartbeats 4000000 in
set_option maxRecDepth 100000 in
theorem ym_wordyN {l : Launch} {D : va_G} {cI cZ : ClassId} {ad : Nat → Nat} {txt mds ess dps prs jns cls sty stk : Nat → Int32} {top : Int32} {n : Nat} (hn : n ≤ 64) {x : Int32} (hx : x < 0) : MetI l yX1_wordy cX1_wordy 2 (some .boolean) 0 D cI cZ [.ref (ad 0), .int x] (fun _ : Unit => (YW ad cI cZ txt mds ess dps prs jns cls sty stk (nI n) top)) (YW ad cI cZ txt mds ess dps prs jns cls sty stk (nI n) top) (fun (r : Int32) (_ : Unit) => r = b2i false) := by
  refine fun sz => j_start (Qc := fun A => (QI (fun (r : Int32) (_ : Unit) => r = b2i false) (fun _ : Unit => (YW ad cI cZ txt mds ess dps prs jns cls sty stk (nI n) top)) D cI cZ A)) [some (.inr (ad 0)), some (.inl x)] (by decide) (Nat.le_of_ble_eq_true rfl) rfl ?_ sz
  intro p e s m args below meth c A C
  have C : CC p s m args meth c D A cI cZ RX1 cX1_wordy 2 (some .boolean) := C
  refine j_iload1 (pc := 0) C dX1_wordy_0 ?_
  refine j_if_lt (tgt := 18) (pc := 1) C dX1_wordy_1 (by decide) (fun c1 => ?_) (fun c1 => ?_)
  · refine j_iconst (pc := 18) C (nI 0) dX1_wordy_18 (by decide) ?_
    refine j_top (b2i false) rfl ?_
    exact j_zret () C dX1_wordy_19 rfl
  · exact absurd hx c1

set_option maxHeartbeats 4000000 in
set_option maxRecDepth 100000 in
theorem ym_wordy {l : Launch} {D : va_G} {cI cZ : ClassId} {ad : Nat → Nat} {txt mds ess dps prs jns cls sty stk : Nat → Int32} {top : Int32} {n j : Nat} (hn : n ≤ 64) (hj : j ≤ 64) (hM : YM txt (n + 1) mds ess dps) : MetI l yX1_wordy cX1_wordy 2 (some .boolean) 0 D cI cZ [.ref (ad 0), .int (nI j)] (fun _ : Unit => (YW ad cI cZ txt mds ess dps prs jns cls sty stk (nI n) top)) (YW ad cI cZ txt mds ess dps prs jns cls sty stk (nI n) top) (fun (r : Int32) (_ : Unit) => r = b2i (decide (j < n ∧ rl txt j = 6))) := by
  refine fun sz => j_start (Qc := fun A => (QI (fun (r : Int32) (_ : Unit) => r = b2i (decide (j < n ∧ rl txt j = 6))) (fun _ : Unit => (YW ad cI cZ txt mds ess dps prs jns cls sty stk (nI n) top)) D cI cZ A)) [some (.inr (ad 0)), some (.inl (nI j))] (by decide) (Nat.le_of_ble_eq_true rfl) rfl ?_ sz
  intro p e s m args below meth c A C
  have C : CC p s m args meth c D A cI cZ RX1 cX1_wordy 2 (some .boolean) := C
  have hmd := md_le txt j
  refine j_iload1 (pc := 0) C dX1_wordy_0 ?_
  refine j_ifN_lt (tgt := 18) (pc := 1) C dX1_wordy_1 (by decide) (by omega) (fun c1 => ?_) (fun c1 => ?_)
  · exact absurd c1 (by omega)
  · refine j_iload1 (pc := 4) C dX1_wordy_4 ?_
    refine y_ag_len (pc := 5) C dX1_wordy_5 dX1_wordy_6 ?_
    refine j_icmpN_ge (tgt := 18) (pc := 9) C dX1_wordy_9 (by decide) (by omega) (by omega) (fun c9 => ?_) (fun c9 => ?_)
    · refine j_iconst (pc := 18) C (nI 0) dX1_wordy_18 (by decide) ?_
      refine j_top (b2i false) rfl ?_
      exact j_zret () C dX1_wordy_19 (by rw [decide_eq_false (fun q => absurd q.1 (by omega))])
    · refine j_iload1 (pc := 12) C dX1_wordy_12 ?_
      refine j_bipush (pc := 13) C (nI 64) dX1_wordy_13 (by decide) ?_
      refine j_icmpN_lt (tgt := 20) (pc := 15) C dX1_wordy_15 (by decide) (by omega) (by omega) (fun c15 => ?_) (fun c15 => ?_)
      · refine y_ag_mds (pc := 20) C dX1_wordy_20 dX1_wordy_21 ?_
        refine j_iload1 (pc := 24) C dX1_wordy_24 ?_
        refine y_ald_mds (pc := 25) C dX1_wordy_25 (by omega) ?_
        refine j_top (nI (md txt j)) (hM j (by omega)).1 ?_
        refine j_ifN_ne (tgt := 61) (pc := 26) C dX1_wordy_26 (by decide) (by omega) (fun c26 => ?_) (fun c26 => ?_)
        · refine j_iconst (pc := 61) C (nI 0) dX1_wordy_61 (by decide) ?_
          refine j_top (b2i false) rfl ?_
          exact j_zret () C dX1_wordy_62 (by rw [decide_eq_false (fun q => c26 (rl6_md q.2))])
        · refine y_ag_txt (pc := 29) C dX1_wordy_29 dX1_wordy_30 ?_
          refine j_iload1 (pc := 33) C dX1_wordy_33 ?_
          refine y_ald_txt (pc := 34) C dX1_wordy_34 (by omega) ?_
          refine j_if_eq (tgt := 57) (pc := 35) C dX1_wordy_35 (by decide) (fun c35 => ?_) (fun c35 => ?_)
          · refine j_iconst (pc := 57) C (nI 1) dX1_wordy_57 (by decide) ?_
            refine j_goto (tgt := 62) (pc := 58) C dX1_wordy_58 (by decide) ?_
            refine j_top (b2i true) rfl ?_
            exact j_zret () C dX1_wordy_62 (by rw [decide_eq_true (⟨c9, rl_6 c26 (Or.inr (Or.inl c35))⟩)])
          · refine y_ag_txt (pc := 38) C dX1_wordy_38 dX1_wordy_39 ?_
            refine j_iload1 (pc := 42) C dX1_wordy_42 ?_
            refine y_ald_txt (pc := 43) C dX1_wordy_43 (by omega) ?_
            refine j_iconst (pc := 44) C (nI 5) dX1_wordy_44 (by decide) ?_
            refine j_icmp_eq (tgt := 57) (pc := 45) C dX1_wordy_45 (by decide) (fun c45 => ?_) (fun c45 => ?_)
            · refine j_iconst (pc := 57) C (nI 1) dX1_wordy_57 (by decide) ?_
              refine j_goto (tgt := 62) (pc := 58) C dX1_wordy_58 (by decide) ?_
              refine j_top (b2i true) rfl ?_
              exact j_zret () C dX1_wordy_62 (by rw [decide_eq_true (⟨c9, rl_6 c26 (Or.inr (Or.inr c45))⟩)])
            · refine y_ag_ess (pc := 48) C dX1_wordy_48 dX1_wordy_49 ?_
              refine j_iload1 (pc := 52) C dX1_wordy_52 ?_
              refine y_ald_ess (pc := 53) C dX1_wordy_53 (by omega) ?_
              refine j_top (b2i (es txt j)) (hM j (by omega)).2.1 ?_
              refine j_ifB_eq (tgt := 61) (pc := 54) C dX1_wordy_54 (by decide) (fun c54 => ?_) (fun c54 => ?_)
              · refine j_iconst (pc := 61) C (nI 0) dX1_wordy_61 (by decide) ?_
                refine j_top (b2i false) rfl ?_
                exact j_zret () C dX1_wordy_62 (by rw [decide_eq_false (fun q => rl_n6 c26 (fun h => h.elim (fun h => by rw [c54] at h; cases h) (fun h => h.elim c35 c45)) q.2)])
              · refine j_iconst (pc := 57) C (nI 1) dX1_wordy_57 (by decide) ?_
                refine j_goto (tgt := 62) (pc := 58) C dX1_wordy_58 (by decide) ?_
                refine j_top (b2i true) rfl ?_
                exact j_zret () C dX1_wordy_62 (by rw [decide_eq_true (⟨c9, rl_6 c26 (Or.inl c54)⟩)])
      · exact absurd c15 (by omega)

set_option maxHeartbeats 4000000 in
set_option maxRecDepth 100000 in
theorem ym_wordEnd {l : Launch} {D : va_G} {cI cZ : ClassId} {ad : Nat → Nat} {txt mds ess dps prs jns cls sty stk : Nat → Int32} {top : Int32} {n i : Nat} (hn : n ≤ 64) (hi : i < n) (hM : YM txt (n + 1) mds ess dps) : MetI l yX1_wordEnd cX1_wordEnd 3 (some .int) 1 D cI cZ [.ref (ad 0), .int (nI i)] (fun _ : Unit => (YW ad cI cZ txt mds ess dps prs jns cls sty stk (nI n) top)) (YW ad cI cZ txt mds ess dps prs jns cls sty stk (nI n) top) (fun (r : Int32) (_ : Unit) => r = oI (-1) (wU txt n i)) := by
  refine fun sz => j_start (Qc := fun A => (QI (fun (r : Int32) (_ : Unit) => r = oI (-1) (wU txt n i)) (fun _ : Unit => (YW ad cI cZ txt mds ess dps prs jns cls sty stk (nI n) top)) D cI cZ A)) [some (.inr (ad 0)), some (.inl (nI i)), none] (by decide) (Nat.le_of_ble_eq_true rfl) rfl ?_ sz
  intro p e s m args below meth c A C
  have C : CC p s m args meth c D A cI cZ RX1 cX1_wordEnd 3 (some .int) := C
  have at29 : rl txt i = 6 → ¬ (0 < i ∧ rl txt (i - 1) = 6) → JJ p l e s m args below meth c D A 1 (QI (fun (r : Int32) (_ : Unit) => r = oI (-1) (wU txt n i)) (fun _ : Unit => (YW ad cI cZ txt mds ess dps prs jns cls sty stk (nI n) top)) D cI cZ A) (YW ad cI cZ txt mds ess dps prs jns cls sty stk (nI n) top) 29 [some (.inr (ad 0)), some (.inl (nI i)), none] [] := by
    intro g6 gp
    have hu : wU txt n i = if es txt (wE txt n n i + 1) = true then none else some (wE txt n n i) := by unfold wU; rw [if_pos ⟨g6, gp⟩]
    have at53 : ∀ e2, wE txt n n i = e2 → e2 < n → JJ p l e s m args below meth c D A 1 (QI (fun (r : Int32) (_ : Unit) => r = oI (-1) (wU txt n i)) (fun _ : Unit => (YW ad cI cZ txt mds ess dps prs jns cls sty stk (nI n) top)) D cI cZ A) (YW ad cI cZ txt mds ess dps prs jns cls sty stk (nI n) top) 53 [some (.inr (ad 0)), some (.inl (nI i)), some (.inl (nI e2))] [] := by
      intro e2 hw h1
      refine y_ag_ess (pc := 53) C dX1_wordEnd_53 dX1_wordEnd_54 ?_
      refine j_iload2 (pc := 57) C dX1_wordEnd_57 ?_
      refine j_iconst (pc := 58) C (nI 1) dX1_wordEnd_58 (by decide) ?_
      refine j_iaddN (pc := 59) C dX1_wordEnd_59 ?_
      refine y_ald_ess (pc := 60) C dX1_wordEnd_60 (by omega) ?_
      refine j_top (b2i (es txt (e2 + 1))) (hM (e2 + 1) (by omega)).2.1 ?_
      refine j_ifB_eq (tgt := 68) (pc := 61) C dX1_wordEnd_61 (by decide) (fun c61 => ?_) (fun c61 => ?_)
      · refine j_iload2 (pc := 68) C dX1_wordEnd_68 ?_
        exact j_iret () C dX1_wordEnd_69 (by rw [hu, hw, if_neg (by rw [c61]; simp)]; rfl)
      · refine j_iconst (pc := 64) C (-1) dX1_wordEnd_64 (by decide) ?_
        refine j_goto (tgt := 69) (pc := 65) C dX1_wordEnd_65 (by decide) ?_
        exact j_iret () C dX1_wordEnd_69 (by rw [hu, hw, if_pos c61]; rfl)
    have loop31 : ∀ (f e2 : Nat), wE txt n n i = wE txt n f e2 → n ≤ e2 + f → i ≤ e2 → e2 < n → JJ p l e s m args below meth c D A 1 (QI (fun (r : Int32) (_ : Unit) => r = oI (-1) (wU txt n i)) (fun _ : Unit => (YW ad cI cZ txt mds ess dps prs jns cls sty stk (nI n) top)) D cI cZ A) (YW ad cI cZ txt mds ess dps prs jns cls sty stk (nI n) top) 31 [some (.inr (ad 0)), some (.inl (nI i)), some (.inl (nI e2))] [] := by
      intro f
      induction f with
      | zero => intro e2 h1 h2 h3 h4; omega
      | succ f ih =>
        intro e2 hw h2 h3 h4
        refine j_iload2 (pc := 31) C dX1_wordEnd_31 ?_
        refine j_bipush (pc := 32) C (nI 63) dX1_wordEnd_32 (by decide) ?_
        refine j_icmpN_ge (tgt := 53) (pc := 34) C dX1_wordEnd_34 (by decide) (by omega) (by omega) (fun c34 => ?_) (fun c34 => ?_)
        · exact at53 e2 (by rw [hw, wE, if_neg (fun q => absurd q.1 (by omega))]) (by omega)
        · refine j_aload0 (pc := 37) C dX1_wordEnd_37 ?_
          refine j_iload2 (pc := 38) C dX1_wordEnd_38 ?_
          refine j_iconst (pc := 39) C (nI 1) dX1_wordEnd_39 (by decide) ?_
          refine j_iaddN (pc := 40) C dX1_wordEnd_40 ?_
          refine y_callI1 (pc := 41) C (ym_wordy (n := n) (j := e2 + 1) hn (by omega) hM) (lw_V q298 q300 qs18 q23 q301) (by decide +kernel) (by decide) (by decide) rfl (Nat.le_of_ble_eq_true rfl) dX1_wordEnd_41 (fun r u hr => ?_)
          subst hr
          (try dsimp only)
          refine j_ifB_eq (tgt := 53) (pc := 44) C dX1_wordEnd_44 (by decide) (fun c44 => ?_) (fun c44 => ?_)
          · exact at53 e2 (by rw [hw, wE, if_neg (of_decide_eq_false c44)]) (by omega)
          · refine j_inc2 (pc := 47) C dX1_wordEnd_47 ?_
            refine j_goto (tgt := 31) (pc := 50) C dX1_wordEnd_50 (by decide) ?_
            have q9 := of_decide_eq_true c44
            exact ih (e2 + 1) (by rw [hw, wE, if_pos q9]) (by omega) (by omega) (by omega)
    refine j_iload1 (pc := 29) C dX1_wordEnd_29 ?_
    refine j_istore2 (pc := 30) C dX1_wordEnd_30 ?_
    exact loop31 n i rfl (by omega) (by omega) (by omega)
  refine j_aload0 (pc := 0) C dX1_wordEnd_0 ?_
  refine j_iload1 (pc := 1) C dX1_wordEnd_1 ?_
  refine y_callI1 (pc := 2) C (ym_wordy (n := n) (j := i) hn (by omega) hM) (lw_V q298 q300 qs18 q23 q301) (by decide +kernel) (by decide) (by decide) rfl (Nat.le_of_ble_eq_true rfl) dX1_wordEnd_2 (fun r u hr => ?_)
  subst hr
  (try dsimp only)
  refine j_ifB_eq (tgt := 27) (pc := 5) C dX1_wordEnd_5 (by decide) (fun c5 => ?_) (fun c5 => ?_)
  · refine j_iconst (pc := 27) C (-1) dX1_wordEnd_27 (by decide) ?_
    exact j_iret () C dX1_wordEnd_28 (by unfold wU; rw [if_neg (fun q => of_decide_eq_false c5 ⟨hi, q.1⟩)]; rfl)
  · have g6 := (of_decide_eq_true c5).2
    rcases Nat.eq_zero_or_pos i with hi0 | hi0
    · skip
      refine j_aload0 (pc := 8) C dX1_wordEnd_8 ?_
      refine j_iload1 (pc := 9) C dX1_wordEnd_9 ?_
      refine j_iconst (pc := 10) C (nI 1) dX1_wordEnd_10 (by decide) ?_
      refine j_isub (pc := 11) C dX1_wordEnd_11 ?_
      refine y_callI1 (pc := 12) C (ym_wordyN (n := n) hn (x := nI i - nI 1) (by rw [hi0]; exact m1_neg)) (lw_V q298 q300 qs18 q23 q301) (by decide +kernel) (by decide) (by decide) rfl (Nat.le_of_ble_eq_true rfl) dX1_wordEnd_12 (fun r u hr => ?_)
      subst hr
      (try dsimp only)
      refine j_ifB_ne (tgt := 27) (pc := 15) C dX1_wordEnd_15 (by decide) (fun c15 => ?_) (fun c15 => ?_)
      · exact absurd c15 (by simp)
      · refine y_ag_ess (pc := 18) C dX1_wordEnd_18 dX1_wordEnd_19 ?_
        refine j_iload1 (pc := 22) C dX1_wordEnd_22 ?_
        refine y_ald_ess (pc := 23) C dX1_wordEnd_23 (by omega) ?_
        refine j_top (b2i (es txt i)) (hM i (by omega)).2.1 ?_
        refine j_ifB_eq (tgt := 29) (pc := 24) C dX1_wordEnd_24 (by decide) (fun c24 => ?_) (fun c24 => ?_)
        · exact at29 g6 (fun q => absurd q.1 (by omega))
        · exact absurd (es_word (rl6_md g6) c24).1 (by omega)
    · skip
      refine j_aload0 (pc := 8) C dX1_wordEnd_8 ?_
      refine j_iload1 (pc := 9) C dX1_wordEnd_9 ?_
      refine j_iconst (pc := 10) C (nI 1) dX1_wordEnd_10 (by decide) ?_
      refine j_isubN (pc := 11) C dX1_wordEnd_11 (by omega) ?_
      refine y_callI1 (pc := 12) C (ym_wordy (n := n) (j := i - 1) hn (by omega) hM) (lw_V q298 q300 qs18 q23 q301) (by decide +kernel) (by decide) (by decide) rfl (Nat.le_of_ble_eq_true rfl) dX1_wordEnd_12 (fun r u hr => ?_)
      subst hr
      (try dsimp only)
      refine j_ifB_ne (tgt := 27) (pc := 15) C dX1_wordEnd_15 (by decide) (fun c15 => ?_) (fun c15 => ?_)
      · refine j_iconst (pc := 27) C (-1) dX1_wordEnd_27 (by decide) ?_
        exact j_iret () C dX1_wordEnd_28 (by unfold wU; rw [if_neg (fun q => q.2 ⟨hi0, (of_decide_eq_true c15).2⟩)]; rfl)
      · refine y_ag_ess (pc := 18) C dX1_wordEnd_18 dX1_wordEnd_19 ?_
        refine j_iload1 (pc := 22) C dX1_wordEnd_22 ?_
        refine y_ald_ess (pc := 23) C dX1_wordEnd_23 (by omega) ?_
        refine j_top (b2i (es txt i)) (hM i (by omega)).2.1 ?_
        refine j_ifB_eq (tgt := 29) (pc := 24) C dX1_wordEnd_24 (by decide) (fun c24 => ?_) (fun c24 => ?_)
        · exact at29 g6 (fun q => of_decide_eq_false c15 ⟨by omega, q.2⟩)
        · exact absurd (es_word (rl6_md g6) c24).2 (fun q => of_decide_eq_false c15 ⟨by omega, q⟩)

set_option maxHeartbeats 4000000 in
set_option maxRecDepth 100000 in
theorem ym_stringEnd {l : Launch} {D : va_G} {cI cZ : ClassId} {ad : Nat → Nat} {txt mds ess dps prs jns cls sty stk : Nat → Int32} {top : Int32} {n i : Nat} (hn : n ≤ 64) (hi : i < n) (hM : YM txt (n + 1) mds ess dps) : MetI l yX1_stringEnd cX1_stringEnd 3 (some .int) 0 D cI cZ [.ref (ad 0), .int (nI i)] (fun _ : Unit => (YW ad cI cZ txt mds ess dps prs jns cls sty stk (nI n) top)) (YW ad cI cZ txt mds ess dps prs jns cls sty stk (nI n) top) (fun (r : Int32) (_ : Unit) => r = oI (-1) (sU txt n i)) := by
  refine fun sz => j_start (Qc := fun A => (QI (fun (r : Int32) (_ : Unit) => r = oI (-1) (sU txt n i)) (fun _ : Unit => (YW ad cI cZ txt mds ess dps prs jns cls sty stk (nI n) top)) D cI cZ A)) [some (.inr (ad 0)), some (.inl (nI i)), none] (by decide) (Nat.le_of_ble_eq_true rfl) rfl ?_ sz
  intro p e s m args below meth c A C
  have C : CC p s m args meth c D A cI cZ RX1 cX1_stringEnd 3 (some .int) := C
  have loop34 : sU txt n i = sE txt n n (i + 1) → ∀ (f e2 : Nat), sE txt n n (i + 1) = sE txt n f e2 → n < e2 + f → i < e2 → e2 ≤ n → JJ p l e s m args below meth c D A 0 (QI (fun (r : Int32) (_ : Unit) => r = oI (-1) (sU txt n i)) (fun _ : Unit => (YW ad cI cZ txt mds ess dps prs jns cls sty stk (nI n) top)) D cI cZ A) (YW ad cI cZ txt mds ess dps prs jns cls sty stk (nI n) top) 34 [some (.inr (ad 0)), some (.inl (nI i)), some (.inl (nI e2))] [] := by
    intro hu f
    induction f with
    | zero => intro e2 h1 h2; omega
    | succ f ih =>
      intro e2 hs h2 h3 h4
      have hmd := md_le txt e2
      refine j_iload2 (pc := 34) C dX1_stringEnd_34 ?_
      refine y_ag_len (pc := 35) C dX1_stringEnd_35 dX1_stringEnd_36 ?_
      refine j_icmpN_ge (tgt := 85) (pc := 39) C dX1_stringEnd_39 (by decide) (by omega) (by omega) (fun c39 => ?_) (fun c39 => ?_)
      · refine j_iconst (pc := 85) C (-1) dX1_stringEnd_85 (by decide) ?_
        exact j_iret () C dX1_stringEnd_86 (by rw [hu, hs, sE, if_neg (by omega)]; rfl)
      · refine j_iload2 (pc := 42) C dX1_stringEnd_42 ?_
        refine j_bipush (pc := 43) C (nI 64) dX1_stringEnd_43 (by decide) ?_
        refine j_icmpN_ge (tgt := 85) (pc := 45) C dX1_stringEnd_45 (by decide) (by omega) (by omega) (fun c45 => ?_) (fun c45 => ?_)
        · exact absurd c45 (by omega)
        · refine y_ag_txt (pc := 48) C dX1_stringEnd_48 dX1_stringEnd_49 ?_
          refine j_iload2 (pc := 52) C dX1_stringEnd_52 ?_
          refine y_ald_txt (pc := 53) C dX1_stringEnd_53 (by omega) ?_
          refine j_iconst (pc := 54) C (nI 4) dX1_stringEnd_54 (by decide) ?_
          refine j_icmp_ne (tgt := 79) (pc := 55) C dX1_stringEnd_55 (by decide) (fun c55 => ?_) (fun c55 => ?_)
          · refine j_inc2 (pc := 79) C dX1_stringEnd_79 ?_
            refine j_goto (tgt := 34) (pc := 82) C dX1_stringEnd_82 (by decide) ?_
            exact ih (e2 + 1) (by rw [hs, sE, if_pos c39, if_neg (fun q => c55 (rl5_all q).2.2)]) (by omega) (by omega) (by omega)
          · refine y_ag_mds (pc := 58) C dX1_stringEnd_58 dX1_stringEnd_59 ?_
            refine j_iload2 (pc := 62) C dX1_stringEnd_62 ?_
            refine y_ald_mds (pc := 63) C dX1_stringEnd_63 (by omega) ?_
            refine j_top (nI (md txt e2)) (hM e2 (by omega)).1 ?_
            refine j_iconst (pc := 64) C (nI 1) dX1_stringEnd_64 (by decide) ?_
            refine j_icmpN_ne (tgt := 79) (pc := 65) C dX1_stringEnd_65 (by decide) (by omega) (by omega) (fun c65 => ?_) (fun c65 => ?_)
            · refine j_inc2 (pc := 79) C dX1_stringEnd_79 ?_
              refine j_goto (tgt := 34) (pc := 82) C dX1_stringEnd_82 (by decide) ?_
              exact ih (e2 + 1) (by rw [hs, sE, if_pos c39, if_neg (fun q => c65 (rl5_all q).1)]) (by omega) (by omega) (by omega)
            · refine y_ag_ess (pc := 68) C dX1_stringEnd_68 dX1_stringEnd_69 ?_
              refine j_iload2 (pc := 72) C dX1_stringEnd_72 ?_
              refine y_ald_ess (pc := 73) C dX1_stringEnd_73 (by omega) ?_
              refine j_top (b2i (es txt e2)) (hM e2 (by omega)).2.1 ?_
              refine j_ifB_ne (tgt := 79) (pc := 74) C dX1_stringEnd_74 (by decide) (fun c74 => ?_) (fun c74 => ?_)
              · refine j_inc2 (pc := 79) C dX1_stringEnd_79 ?_
                refine j_goto (tgt := 34) (pc := 82) C dX1_stringEnd_82 (by decide) ?_
                exact ih (e2 + 1) (by rw [hs, sE, if_pos c39, if_neg (fun q => by rw [(rl5_all q).2.1] at c74; cases c74)]) (by omega) (by omega) (by omega)
              · refine j_iload2 (pc := 77) C dX1_stringEnd_77 ?_
                exact j_iret () C dX1_stringEnd_78 (by rw [hu, hs, sE, if_pos c39, if_pos (rl_5 c65 c74 c55)]; rfl)
  have hmd := md_le txt i
  refine y_ag_txt (pc := 0) C dX1_stringEnd_0 dX1_stringEnd_1 ?_
  refine j_iload1 (pc := 4) C dX1_stringEnd_4 ?_
  refine y_ald_txt (pc := 5) C dX1_stringEnd_5 (by omega) ?_
  refine j_iconst (pc := 6) C (nI 4) dX1_stringEnd_6 (by decide) ?_
  refine j_icmp_ne (tgt := 28) (pc := 7) C dX1_stringEnd_7 (by decide) (fun c7 => ?_) (fun c7 => ?_)
  · refine j_iconst (pc := 28) C (-1) dX1_stringEnd_28 (by decide) ?_
    exact j_iret () C dX1_stringEnd_29 (by unfold sU; rw [if_neg (fun q => c7 (rl4_all q).2.2)]; rfl)
  · refine y_ag_mds (pc := 10) C dX1_stringEnd_10 dX1_stringEnd_11 ?_
    refine j_iload1 (pc := 14) C dX1_stringEnd_14 ?_
    refine y_ald_mds (pc := 15) C dX1_stringEnd_15 (by omega) ?_
    refine j_top (nI (md txt i)) (hM i (by omega)).1 ?_
    refine j_ifN_ne (tgt := 28) (pc := 16) C dX1_stringEnd_16 (by decide) (by omega) (fun c16 => ?_) (fun c16 => ?_)
    · refine j_iconst (pc := 28) C (-1) dX1_stringEnd_28 (by decide) ?_
      exact j_iret () C dX1_stringEnd_29 (by unfold sU; rw [if_neg (fun q => c16 (rl4_all q).1)]; rfl)
    · refine y_ag_ess (pc := 19) C dX1_stringEnd_19 dX1_stringEnd_20 ?_
      refine j_iload1 (pc := 23) C dX1_stringEnd_23 ?_
      refine y_ald_ess (pc := 24) C dX1_stringEnd_24 (by omega) ?_
      refine j_top (b2i (es txt i)) (hM i (by omega)).2.1 ?_
      refine j_ifB_eq (tgt := 30) (pc := 25) C dX1_stringEnd_25 (by decide) (fun c25 => ?_) (fun c25 => ?_)
      · refine j_iload1 (pc := 30) C dX1_stringEnd_30 ?_
        refine j_iconst (pc := 31) C (nI 1) dX1_stringEnd_31 (by decide) ?_
        refine j_iaddN (pc := 32) C dX1_stringEnd_32 ?_
        refine j_istore2 (pc := 33) C dX1_stringEnd_33 ?_
        exact loop34 (by unfold sU; rw [if_pos (rl_4 c16 (nw_of 4 c25 c7 (by omega) (by omega) (by omega)) c7)]) n (i + 1) rfl (by omega) (by omega) (by omega)
      · refine j_iconst (pc := 28) C (-1) dX1_stringEnd_28 (by decide) ?_
        exact j_iret () C dX1_stringEnd_29 (by unfold sU; rw [if_neg (fun q => by rw [(rl4_all q).2.1] at c25; cases c25)]; rfl)

set_option maxHeartbeats 4000000 in
set_option maxRecDepth 100000 in
theorem ym_unitEnd {l : Launch} {D : va_G} {cI cZ : ClassId} {ad : Nat → Nat} {txt mds ess dps prs jns cls sty stk : Nat → Int32} {top : Int32} {n i : Nat} (hn : n ≤ 64) (hi : i < n) (hM : YM txt (n + 1) mds ess dps) (hB : YB txt n prs jns cls sty stk) : MetI l yX1_unitEnd cX1_unitEnd 3 (some .int) 2 D cI cZ [.ref (ad 0), .int (nI i)] (fun _ : Unit => (YW ad cI cZ txt mds ess dps prs jns cls sty stk (nI n) top)) (YW ad cI cZ txt mds ess dps prs jns cls sty stk (nI n) top) (fun (r : Int32) (_ : Unit) => r = oI (-1) (uE txt n i)) := by
  refine fun sz => j_start (Qc := fun A => (QI (fun (r : Int32) (_ : Unit) => r = oI (-1) (uE txt n i)) (fun _ : Unit => (YW ad cI cZ txt mds ess dps prs jns cls sty stk (nI n) top)) D cI cZ A)) [some (.inr (ad 0)), some (.inl (nI i)), none] (by decide) (Nat.le_of_ble_eq_true rfl) rfl ?_ sz
  intro p e s m args below meth c A C
  have C : CC p s m args meth c D A cI cZ RX1 cX1_unitEnd 3 (some .int) := C
  refine y_ag_jns (pc := 0) C dX1_unitEnd_0 dX1_unitEnd_1 ?_
  refine j_iload1 (pc := 4) C dX1_unitEnd_4 ?_
  refine y_ald_jns (pc := 5) C dX1_unitEnd_5 (by omega) ?_
  refine j_top (b2i (decide (rl txt i = 1))) (by rw [hB.2.1 i (by omega), decide_eq_true hi]; rfl) ?_
  refine j_ifB_eq (tgt := 16) (pc := 6) C dX1_unitEnd_6 (by decide) (fun c6 => ?_) (fun c6 => ?_)
  · refine j_aload0 (pc := 16) C dX1_unitEnd_16 ?_
    refine j_iload1 (pc := 17) C dX1_unitEnd_17 ?_
    refine y_callI1 (pc := 18) C (ym_wordEnd (n := n) (i := i) hn hi hM) (lw_V q294 q296 qs17 q23 q297) (by decide +kernel) (by decide) (by decide) rfl (Nat.le_of_ble_eq_true rfl) dX1_unitEnd_18 (fun r u hr => ?_)
    subst hr
    (try dsimp only)
    cases hw : wU txt n i with
    | none =>
      refine j_top (-1) rfl ?_
      refine j_istore2 (pc := 21) C dX1_unitEnd_21 ?_
      refine j_iload2 (pc := 22) C dX1_unitEnd_22 ?_
      refine j_if_lt (tgt := 30) (pc := 23) C dX1_unitEnd_23 (by decide) (fun c23 => ?_) (fun c23 => ?_)
      · refine j_aload0 (pc := 30) C dX1_unitEnd_30 ?_
        refine j_iload1 (pc := 31) C dX1_unitEnd_31 ?_
        refine y_callI1 (pc := 32) C (ym_stringEnd (n := n) (i := i) hn hi hM) (lw_V q302 q304 qs19 q23 q305) (by decide +kernel) (by decide) (by decide) rfl (Nat.le_of_ble_eq_true rfl) dX1_unitEnd_32 (fun r u hr => ?_)
        subst hr
        (try dsimp only)
        exact j_iret () C dX1_unitEnd_35 (by rw [uE_none (of_decide_eq_false c6) hw])
      · exact absurd (by decide) c23
    | some e9 =>
      have hE := uE_word (of_decide_eq_false c6) hw
      have he9 := (uE_uS hi hE).2.1
      refine j_top (nI e9) rfl ?_
      refine j_istore2 (pc := 21) C dX1_unitEnd_21 ?_
      refine j_iload2 (pc := 22) C dX1_unitEnd_22 ?_
      refine j_ifN_lt (tgt := 30) (pc := 23) C dX1_unitEnd_23 (by decide) (by omega) (fun c23 => ?_) (fun c23 => ?_)
      · exact absurd c23 (by omega)
      · refine j_iload2 (pc := 26) C dX1_unitEnd_26 ?_
        refine j_goto (tgt := 35) (pc := 27) C dX1_unitEnd_27 (by decide) ?_
        exact j_iret () C dX1_unitEnd_35 (by rw [hE]; rfl)
  · refine y_ag_prs (pc := 9) C dX1_unitEnd_9 dX1_unitEnd_10 ?_
    refine j_iload1 (pc := 13) C dX1_unitEnd_13 ?_
    refine y_ald_prs (pc := 14) C dX1_unitEnd_14 (by omega) ?_
    refine j_top _ (hB.1 i (by omega)) ?_
    exact j_iret () C dX1_unitEnd_15 (by unfold uE; rw [if_pos (of_decide_eq_true c6)])

set_option maxHeartbeats 4000000 in
set_option maxRecDepth 100000 in
theorem ym_unitStart {l : Launch} {D : va_G} {cI cZ : ClassId} {ad : Nat → Nat} {txt mds ess dps prs jns cls sty stk : Nat → Int32} {top : Int32} {n a : Nat} (hn : n ≤ 64) (ha : a < n) (hM : YM txt (n + 1) mds ess dps) (hB : YB txt n prs jns cls sty stk) : MetI l yX1_unitStart cX1_unitStart 3 (some .int) 3 D cI cZ [.ref (ad 0), .int (nI a)] (fun _ : Unit => (YW ad cI cZ txt mds ess dps prs jns cls sty stk (nI n) top)) (YW ad cI cZ txt mds ess dps prs jns cls sty stk (nI n) top) (fun (r : Int32) (_ : Unit) => r = oI (-1) (uS txt n a)) := by
  refine fun sz => j_start (Qc := fun A => (QI (fun (r : Int32) (_ : Unit) => r = oI (-1) (uS txt n a)) (fun _ : Unit => (YW ad cI cZ txt mds ess dps prs jns cls sty stk (nI n) top)) D cI cZ A)) [some (.inr (ad 0)), some (.inl (nI a)), none] (by decide) (Nat.le_of_ble_eq_true rfl) rfl ?_ sz
  intro p e s m args below meth c A C
  have C : CC p s m args meth c D A cI cZ RX1 cX1_unitStart 3 (some .int) := C
  have hf0 : uS txt n a = fS txt n a (a + 2) 0 := (fS_eq ha (a + 2) 0 (by omega) (fun j h => by omega)).symm
  have loop : ∀ (f i : Nat), uS txt n a = fS txt n a f i → a + 1 < i + f → i ≤ a + 1 → JJ p l e s m args below meth c D A 3 (QI (fun (r : Int32) (_ : Unit) => r = oI (-1) (uS txt n a)) (fun _ : Unit => (YW ad cI cZ txt mds ess dps prs jns cls sty stk (nI n) top)) D cI cZ A) (YW ad cI cZ txt mds ess dps prs jns cls sty stk (nI n) top) 2 [some (.inr (ad 0)), some (.inl (nI a)), some (.inl (nI i))] [] := by
    intro f
    induction f with
    | zero => intro i h1 h2; omega
    | succ f ih =>
      intro i hf h2 h3
      refine j_iload2 (pc := 2) C dX1_unitStart_2 ?_
      refine j_iload1 (pc := 3) C dX1_unitStart_3 ?_
      refine j_icmpN_gt (tgt := 24) (pc := 4) C dX1_unitStart_4 (by decide) (by omega) (by omega) (fun c4 => ?_) (fun c4 => ?_)
      · refine j_iconst (pc := 24) C (-1) dX1_unitStart_24 (by decide) ?_
        exact j_iret () C dX1_unitStart_25 (by rw [hf, fS, if_neg (by omega)]; rfl)
      · refine j_aload0 (pc := 7) C dX1_unitStart_7 ?_
        refine j_iload2 (pc := 8) C dX1_unitStart_8 ?_
        refine y_callI1 (pc := 9) C (ym_unitEnd (n := n) (i := i) hn (by omega) hM hB) (lw_V q290 q292 qs16 q23 q293) (by decide +kernel) (by decide) (by decide) rfl (Nat.le_of_ble_eq_true rfl) dX1_unitStart_9 (fun r u hr => ?_)
        subst hr
        (try dsimp only)
        cases hu : uE txt n i with
        | none =>
          refine j_top (-1) rfl ?_
          refine j_iload1 (pc := 12) C dX1_unitStart_12 ?_
          refine j_icmp_ne (tgt := 18) (pc := 13) C dX1_unitStart_13 (by decide) (fun c13 => ?_) (fun c13 => ?_)
          · refine j_inc2 (pc := 18) C dX1_unitStart_18 ?_
            refine j_goto (tgt := 2) (pc := 21) C dX1_unitStart_21 (by decide) ?_
            exact ih (i + 1) (by rw [hf, fS, if_pos c4, if_neg (by rw [hu]; simp)]) (by omega) (by omega)
          · exact absurd c13.symm (nI_m1 (by omega))
        | some e9 =>
          have he9 := (uE_uS (by omega) hu).2.1
          refine j_top (nI e9) rfl ?_
          refine j_iload1 (pc := 12) C dX1_unitStart_12 ?_
          refine j_icmpN_ne (tgt := 18) (pc := 13) C dX1_unitStart_13 (by decide) (by omega) (by omega) (fun c13 => ?_) (fun c13 => ?_)
          · refine j_inc2 (pc := 18) C dX1_unitStart_18 ?_
            refine j_goto (tgt := 2) (pc := 21) C dX1_unitStart_21 (by decide) ?_
            exact ih (i + 1) (by rw [hf, fS, if_pos c4, if_neg (by rw [hu]; simp; exact c13)]) (by omega) (by omega)
          · refine j_iload2 (pc := 16) C dX1_unitStart_16 ?_
            exact j_iret () C dX1_unitStart_17 (by rw [hf, fS, if_pos c4, if_pos (by rw [hu, c13])]; rfl)
  refine j_iconst (pc := 0) C (nI 0) dX1_unitStart_0 (by decide) ?_
  refine j_istore2 (pc := 1) C dX1_unitStart_1 ?_
  exact loop (a + 2) 0 hf0 (by omega) (by omega)
end
section
set_option maxHeartbeats 4000000 in
set_option maxRecDepth 100000 in
theorem ym_length {l : Launch} {D : va_G} {cI cZ : ClassId} {ad : Nat → Nat} {txt mds ess dps prs jns cls sty stk : Nat → Int32} {top : Int32} {n : Nat} (hn : n ≤ 64) : MetI l yX1_length cX1_length 1 (some .int) 4 D cI cZ [.ref (ad 0)] (YU ad cI cZ) (YW ad cI cZ txt mds ess dps prs jns cls sty stk (nI n) top) (fun (r : Int32) (u : YT) => YOK txt n u ∧ r = nI n) := by
  refine fun sz => j_start (Qc := fun A => (QI (fun (r : Int32) (u : YT) => YOK txt n u ∧ r = nI n) (YU ad cI cZ) D cI cZ A)) [some (.inr (ad 0))] (by decide) (Nat.le_of_ble_eq_true rfl) rfl ?_ sz
  intro p e s m args below meth c A C
  have C : CC p s m args meth c D A cI cZ RX1 cX1_length 1 (some .int) := C
  refine y_ag_len (pc := 0) C dX1_length_0 dX1_length_1 ?_
  exact j_iret (WS := YU ad cI cZ) (txt, _, _, _, _, _, _, _, _, nI n, _) C dX1_length_4 ⟨⟨rfl, hn, rfl⟩, rfl⟩

set_option maxHeartbeats 4000000 in
set_option maxRecDepth 100000 in
theorem ym_kindAt {l : Launch} {D : va_G} {cI cZ : ClassId} {ad : Nat → Nat} {txt mds ess dps prs jns cls sty stk : Nat → Int32} {top : Int32} {n : Nat} (hn : n ≤ 64) {x : Int32} : MetI l yX1_kindAt cX1_kindAt 2 (some .int) 4 D cI cZ [.ref (ad 0), .int x] (YU ad cI cZ) (YW ad cI cZ txt mds ess dps prs jns cls sty stk (nI n) top) (fun (r : Int32) (u : YT) => YOK txt n u ∧ r = f_kin txt n x) := by
  refine fun sz => j_start (Qc := fun A => (QI (fun (r : Int32) (u : YT) => YOK txt n u ∧ r = f_kin txt n x) (YU ad cI cZ) D cI cZ A)) [some (.inr (ad 0)), some (.inl x)] (by decide) (Nat.le_of_ble_eq_true rfl) rfl ?_ sz
  intro p e s m args below meth c A C
  have C : CC p s m args meth c D A cI cZ RX1 cX1_kindAt 2 (some .int) := C
  refine j_aload0 (pc := 0) C dX1_kindAt_0 ?_
  refine j_iload1 (pc := 1) C dX1_kindAt_1 ?_
  refine y_callI1 (pc := 2) C (ym_badPosition hn) (lw_V q242 q244 qs13 q23 q245) (by decide +kernel) (by decide) (by decide) rfl (Nat.le_of_ble_eq_true rfl) dX1_kindAt_2 (fun r u hr => ?_)
  subst hr
  (try dsimp only)
  refine j_ifB_eq (tgt := 12) (pc := 5) C dX1_kindAt_5 (by decide) (fun c5 => ?_) (fun c5 => ?_)
  · have hpl := Decidable.of_not_not (of_decide_eq_false c5)
    obtain ⟨g, hg, rfl⟩ := place_of hn hpl
    refine y_ag_txt (pc := 12) C dX1_kindAt_12 dX1_kindAt_13 ?_
    refine j_iload1 (pc := 16) C dX1_kindAt_16 ?_
    refine y_ald_txt (pc := 17) C dX1_kindAt_17 (by omega) ?_
    exact j_iret (WS := YU ad cI cZ) (txt, _, _, _, _, _, _, _, _, nI n, _) C dX1_kindAt_18 ⟨⟨rfl, hn, rfl⟩, by unfold f_kin; rw [if_pos hpl, cl_n (by omega)]⟩
  · refine j_iconst (pc := 8) C (-1) dX1_kindAt_8 (by decide) ?_
    refine j_goto (tgt := 18) (pc := 9) C dX1_kindAt_9 (by decide) ?_
    exact j_iret (WS := YU ad cI cZ) (txt, _, _, _, _, _, _, _, _, nI n, _) C dX1_kindAt_18 ⟨⟨rfl, hn, rfl⟩, by unfold f_kin; rw [if_neg (of_decide_eq_true c5)]⟩

set_option maxHeartbeats 4000000 in
set_option maxRecDepth 100000 in
theorem ym_mode {l : Launch} {D : va_G} {cI cZ : ClassId} {ad : Nat → Nat} {txt mds ess dps prs jns cls sty stk : Nat → Int32} {top : Int32} {n : Nat} (hn : n ≤ 64) {x : Int32} : MetI l yX1_mode cX1_mode 2 (some .int) 4 D cI cZ [.ref (ad 0), .int x] (YU ad cI cZ) (YW ad cI cZ txt mds ess dps prs jns cls sty stk (nI n) top) (fun (r : Int32) (u : YT) => YOK txt n u ∧ r = f_mod txt n x) := by
  refine fun sz => j_start (Qc := fun A => (QI (fun (r : Int32) (u : YT) => YOK txt n u ∧ r = f_mod txt n x) (YU ad cI cZ) D cI cZ A)) [some (.inr (ad 0)), some (.inl x)] (by decide) (Nat.le_of_ble_eq_true rfl) rfl ?_ sz
  intro p e s m args below meth c A C
  have C : CC p s m args meth c D A cI cZ RX1 cX1_mode 2 (some .int) := C
  refine j_aload0 (pc := 0) C dX1_mode_0 ?_
  refine j_iload1 (pc := 1) C dX1_mode_1 ?_
  refine y_callI1 (pc := 2) C (ym_badGap hn) (lw_V q230 q232 qs12 q23 q233) (by decide +kernel) (by decide) (by decide) rfl (Nat.le_of_ble_eq_true rfl) dX1_mode_2 (fun r u hr => ?_)
  subst hr
  (try dsimp only)
  refine j_ifB_eq (tgt := 10) (pc := 5) C dX1_mode_5 (by decide) (fun c5 => ?_) (fun c5 => ?_)
  · have hgap := Decidable.of_not_not (of_decide_eq_false c5)
    obtain ⟨g, hg, rfl⟩ := gap_of hn hgap
    refine j_aload0 (pc := 10) C dX1_mode_10 ?_
    refine j_iload1 (pc := 11) C dX1_mode_11 ?_
    refine y_callV1 (pc := 12) C (ym_read (g := g) (by omega)) (lw_V q258 q260 qs14 q23 q261) (by decide +kernel) (by decide) (by decide) rfl (Nat.le_of_ble_eq_true rfl) dX1_mode_12 (fun u hu => ?_)
    obtain ⟨mds, ess, dps, prs, jns, cls, sty, stk⟩ := u
    obtain ⟨hM, hB⟩ := hu
    dsimp only at hM hB ⊢
    refine y_ag_mds (pc := 15) C dX1_mode_15 dX1_mode_16 ?_
    refine j_iload1 (pc := 19) C dX1_mode_19 ?_
    refine y_ald_mds (pc := 20) C dX1_mode_20 (by omega) ?_
    refine j_top _ (hM g (by omega)).1 ?_
    exact j_iret (WS := YU ad cI cZ) (txt, _, _, _, _, _, _, _, _, nI n, _) C dX1_mode_21 ⟨⟨rfl, hn, rfl⟩, by unfold f_mod; rw [if_pos hgap, cl_n (by omega)]⟩
  · refine j_iconst (pc := 8) C (-1) dX1_mode_8 (by decide) ?_
    exact j_iret (WS := YU ad cI cZ) (txt, _, _, _, _, _, _, _, _, nI n, _) C dX1_mode_9 ⟨⟨rfl, hn, rfl⟩, by unfold f_mod; rw [if_neg (of_decide_eq_true c5)]⟩

set_option maxHeartbeats 4000000 in
set_option maxRecDepth 100000 in
theorem ym_depth {l : Launch} {D : va_G} {cI cZ : ClassId} {ad : Nat → Nat} {txt mds ess dps prs jns cls sty stk : Nat → Int32} {top : Int32} {n : Nat} (hn : n ≤ 64) {x : Int32} : MetI l yX1_depth cX1_depth 2 (some .int) 4 D cI cZ [.ref (ad 0), .int x] (YU ad cI cZ) (YW ad cI cZ txt mds ess dps prs jns cls sty stk (nI n) top) (fun (r : Int32) (u : YT) => YOK txt n u ∧ r = f_dep txt n x) := by
  refine fun sz => j_start (Qc := fun A => (QI (fun (r : Int32) (u : YT) => YOK txt n u ∧ r = f_dep txt n x) (YU ad cI cZ) D cI cZ A)) [some (.inr (ad 0)), some (.inl x)] (by decide) (Nat.le_of_ble_eq_true rfl) rfl ?_ sz
  intro p e s m args below meth c A C
  have C : CC p s m args meth c D A cI cZ RX1 cX1_depth 2 (some .int) := C
  refine j_aload0 (pc := 0) C dX1_depth_0 ?_
  refine j_iload1 (pc := 1) C dX1_depth_1 ?_
  refine y_callI1 (pc := 2) C (ym_badGap hn) (lw_V q230 q232 qs12 q23 q233) (by decide +kernel) (by decide) (by decide) rfl (Nat.le_of_ble_eq_true rfl) dX1_depth_2 (fun r u hr => ?_)
  subst hr
  (try dsimp only)
  refine j_ifB_eq (tgt := 10) (pc := 5) C dX1_depth_5 (by decide) (fun c5 => ?_) (fun c5 => ?_)
  · have hgap := Decidable.of_not_not (of_decide_eq_false c5)
    obtain ⟨g, hg, rfl⟩ := gap_of hn hgap
    refine j_aload0 (pc := 10) C dX1_depth_10 ?_
    refine j_iload1 (pc := 11) C dX1_depth_11 ?_
    refine y_callV1 (pc := 12) C (ym_read (g := g) (by omega)) (lw_V q258 q260 qs14 q23 q261) (by decide +kernel) (by decide) (by decide) rfl (Nat.le_of_ble_eq_true rfl) dX1_depth_12 (fun u hu => ?_)
    obtain ⟨mds, ess, dps, prs, jns, cls, sty, stk⟩ := u
    obtain ⟨hM, hB⟩ := hu
    dsimp only at hM hB ⊢
    refine y_ag_dps (pc := 15) C dX1_depth_15 dX1_depth_16 ?_
    refine j_iload1 (pc := 19) C dX1_depth_19 ?_
    refine y_ald_dps (pc := 20) C dX1_depth_20 (by omega) ?_
    refine j_top _ (hM g (by omega)).2.2 ?_
    exact j_iret (WS := YU ad cI cZ) (txt, _, _, _, _, _, _, _, _, nI n, _) C dX1_depth_21 ⟨⟨rfl, hn, rfl⟩, by unfold f_dep; rw [if_pos hgap, cl_n (by omega)]⟩
  · refine j_iconst (pc := 8) C (-1) dX1_depth_8 (by decide) ?_
    exact j_iret (WS := YU ad cI cZ) (txt, _, _, _, _, _, _, _, _, nI n, _) C dX1_depth_9 ⟨⟨rfl, hn, rfl⟩, by unfold f_dep; rw [if_neg (of_decide_eq_true c5)]⟩

set_option maxHeartbeats 4000000 in
set_option maxRecDepth 100000 in
theorem ym_escaped {l : Launch} {D : va_G} {cI cZ : ClassId} {ad : Nat → Nat} {txt mds ess dps prs jns cls sty stk : Nat → Int32} {top : Int32} {n : Nat} (hn : n ≤ 64) {x : Int32} : MetI l yX1_escaped cX1_escaped 2 (some .int) 4 D cI cZ [.ref (ad 0), .int x] (YU ad cI cZ) (YW ad cI cZ txt mds ess dps prs jns cls sty stk (nI n) top) (fun (r : Int32) (u : YT) => YOK txt n u ∧ r = f_esc txt n x) := by
  refine fun sz => j_start (Qc := fun A => (QI (fun (r : Int32) (u : YT) => YOK txt n u ∧ r = f_esc txt n x) (YU ad cI cZ) D cI cZ A)) [some (.inr (ad 0)), some (.inl x)] (by decide) (Nat.le_of_ble_eq_true rfl) rfl ?_ sz
  intro p e s m args below meth c A C
  have C : CC p s m args meth c D A cI cZ RX1 cX1_escaped 2 (some .int) := C
  refine j_aload0 (pc := 0) C dX1_escaped_0 ?_
  refine j_iload1 (pc := 1) C dX1_escaped_1 ?_
  refine y_callI1 (pc := 2) C (ym_badGap hn) (lw_V q230 q232 qs12 q23 q233) (by decide +kernel) (by decide) (by decide) rfl (Nat.le_of_ble_eq_true rfl) dX1_escaped_2 (fun r u hr => ?_)
  subst hr
  (try dsimp only)
  refine j_ifB_eq (tgt := 10) (pc := 5) C dX1_escaped_5 (by decide) (fun c5 => ?_) (fun c5 => ?_)
  · have hgap := Decidable.of_not_not (of_decide_eq_false c5)
    obtain ⟨g, hg, rfl⟩ := gap_of hn hgap
    refine j_aload0 (pc := 10) C dX1_escaped_10 ?_
    refine j_iload1 (pc := 11) C dX1_escaped_11 ?_
    refine y_callV1 (pc := 12) C (ym_read (g := g) (by omega)) (lw_V q258 q260 qs14 q23 q261) (by decide +kernel) (by decide) (by decide) rfl (Nat.le_of_ble_eq_true rfl) dX1_escaped_12 (fun u hu => ?_)
    obtain ⟨mds, ess, dps, prs, jns, cls, sty, stk⟩ := u
    obtain ⟨hM, hB⟩ := hu
    dsimp only at hM hB ⊢
    refine y_ag_ess (pc := 15) C dX1_escaped_15 dX1_escaped_16 ?_
    refine j_iload1 (pc := 19) C dX1_escaped_19 ?_
    refine y_ald_ess (pc := 20) C dX1_escaped_20 (by omega) ?_
    refine j_top (b2i (es txt g)) (hM g (by omega)).2.1 ?_
    refine j_ifB_eq (tgt := 28) (pc := 21) C dX1_escaped_21 (by decide) (fun c21 => ?_) (fun c21 => ?_)
    · refine j_iconst (pc := 28) C (nI 0) dX1_escaped_28 (by decide) ?_
      exact j_iret (WS := YU ad cI cZ) (txt, _, _, _, _, _, _, _, _, nI n, _) C dX1_escaped_29 ⟨⟨rfl, hn, rfl⟩, by unfold f_esc; rw [if_pos hgap, cl_n (by omega), c21]; rfl⟩
    · refine j_iconst (pc := 24) C (nI 1) dX1_escaped_24 (by decide) ?_
      refine j_goto (tgt := 29) (pc := 25) C dX1_escaped_25 (by decide) ?_
      exact j_iret (WS := YU ad cI cZ) (txt, _, _, _, _, _, _, _, _, nI n, _) C dX1_escaped_29 ⟨⟨rfl, hn, rfl⟩, by unfold f_esc; rw [if_pos hgap, cl_n (by omega), c21]; rfl⟩
  · refine j_iconst (pc := 8) C (-1) dX1_escaped_8 (by decide) ?_
    exact j_iret (WS := YU ad cI cZ) (txt, _, _, _, _, _, _, _, _, nI n, _) C dX1_escaped_9 ⟨⟨rfl, hn, rfl⟩, by unfold f_esc; rw [if_neg (of_decide_eq_true c5)]⟩

set_option maxHeartbeats 4000000 in
set_option maxRecDepth 100000 in
theorem ym_up {l : Launch} {D : va_G} {cI cZ : ClassId} {ad : Nat → Nat} {txt mds ess dps prs jns cls sty stk : Nat → Int32} {top : Int32} {n : Nat} (hn : n ≤ 64) {x : Int32} : MetI l yX1_up cX1_up 2 (some .int) 4 D cI cZ [.ref (ad 0), .int x] (YU ad cI cZ) (YW ad cI cZ txt mds ess dps prs jns cls sty stk (nI n) top) (fun (r : Int32) (u : YT) => YOK txt n u ∧ r = f_up txt n x) := by
  refine fun sz => j_start (Qc := fun A => (QI (fun (r : Int32) (u : YT) => YOK txt n u ∧ r = f_up txt n x) (YU ad cI cZ) D cI cZ A)) [some (.inr (ad 0)), some (.inl x)] (by decide) (Nat.le_of_ble_eq_true rfl) rfl ?_ sz
  intro p e s m args below meth c A C
  have C : CC p s m args meth c D A cI cZ RX1 cX1_up 2 (some .int) := C
  refine j_aload0 (pc := 0) C dX1_up_0 ?_
  refine j_iload1 (pc := 1) C dX1_up_1 ?_
  refine y_callI1 (pc := 2) C (ym_badGap hn) (lw_V q230 q232 qs12 q23 q233) (by decide +kernel) (by decide) (by decide) rfl (Nat.le_of_ble_eq_true rfl) dX1_up_2 (fun r u hr => ?_)
  subst hr
  (try dsimp only)
  refine j_ifB_eq (tgt := 10) (pc := 5) C dX1_up_5 (by decide) (fun c5 => ?_) (fun c5 => ?_)
  · have hgap := Decidable.of_not_not (of_decide_eq_false c5)
    obtain ⟨g, hg, rfl⟩ := gap_of hn hgap
    refine j_aload0 (pc := 10) C dX1_up_10 ?_
    refine j_iload1 (pc := 11) C dX1_up_11 ?_
    refine y_callV1 (pc := 12) C (ym_read (g := g) (by omega)) (lw_V q258 q260 qs14 q23 q261) (by decide +kernel) (by decide) (by decide) rfl (Nat.le_of_ble_eq_true rfl) dX1_up_12 (fun u hu => ?_)
    obtain ⟨mds, ess, dps, prs, jns, cls, sty, stk⟩ := u
    obtain ⟨hM, hB⟩ := hu
    dsimp only at hM hB ⊢
    have hlen := sk_len txt g
    rcases hs : sk txt g with _ | ⟨q, rr⟩
    · show JJ _ _ _ _ _ _ _ _ _ _ _ _ _ (YW ad cI cZ txt mds ess dps prs jns cls sty stk (nI n) (nI 0)) 15 _ _
      refine y_ag_top (pc := 15) C dX1_up_15 dX1_up_16 ?_
      refine j_ifN_ne (tgt := 27) (pc := 19) C dX1_up_19 (by decide) (by omega) (fun c19 => ?_) (fun c19 => ?_)
      · exact absurd rfl c19
      · refine j_bipush (pc := 22) C (-2) dX1_up_22 (by decide) ?_
        refine j_goto (tgt := 38) (pc := 24) C dX1_up_24 (by decide) ?_
        exact j_iret (WS := YU ad cI cZ) (txt, _, _, _, _, _, _, _, _, nI n, _) C dX1_up_38 ⟨⟨rfl, hn, rfl⟩, by unfold f_up; rw [if_pos hgap, cl_n (by omega), hs]; rfl⟩
    · rw [hs, List.length_cons] at hlen
      show JJ _ _ _ _ _ _ _ _ _ _ _ _ _ (YW ad cI cZ txt mds ess dps prs jns cls sty stk (nI n) (nI (rr.length + 1))) 15 _ _
      refine y_ag_top (pc := 15) C dX1_up_15 dX1_up_16 ?_
      refine j_ifN_ne (tgt := 27) (pc := 19) C dX1_up_19 (by decide) (by omega) (fun c19 => ?_) (fun c19 => ?_)
      · refine y_ag_stk (pc := 27) C dX1_up_27 dX1_up_28 ?_
        refine y_ag_top (pc := 31) C dX1_up_31 dX1_up_32 ?_
        refine j_iconst (pc := 35) C (nI 1) dX1_up_35 (by decide) ?_
        refine j_isubN (pc := 36) C dX1_up_36 (by omega) ?_
        refine j_top (nI rr.length) rfl ?_
        refine y_ald_stk (pc := 37) C dX1_up_37 (by omega) ?_
        refine j_top (nI q) (yb_top hB hs) ?_
        exact j_iret (WS := YU ad cI cZ) (txt, _, _, _, _, _, _, _, _, nI n, _) C dX1_up_38 ⟨⟨rfl, hn, rfl⟩, by unfold f_up; rw [if_pos hgap, cl_n (by omega), hs]; rfl⟩
      · exact absurd c19 (by omega)
  · refine j_iconst (pc := 8) C (-1) dX1_up_8 (by decide) ?_
    exact j_iret (WS := YU ad cI cZ) (txt, _, _, _, _, _, _, _, _, nI n, _) C dX1_up_9 ⟨⟨rfl, hn, rfl⟩, by unfold f_up; rw [if_neg (of_decide_eq_true c5)]⟩

set_option maxHeartbeats 4000000 in
set_option maxRecDepth 100000 in
theorem ym_bracketAt {l : Launch} {D : va_G} {cI cZ : ClassId} {ad : Nat → Nat} {txt mds ess dps prs jns cls sty stk : Nat → Int32} {top : Int32} {n : Nat} (hn : n ≤ 64) {x y : Int32} : MetI l yX1_bracketAt cX1_bracketAt 3 (some .int) 4 D cI cZ [.ref (ad 0), .int x, .int y] (YU ad cI cZ) (YW ad cI cZ txt mds ess dps prs jns cls sty stk (nI n) top) (fun (r : Int32) (u : YT) => YOK txt n u ∧ r = f_brk txt n x y) := by
  refine fun sz => j_start (Qc := fun A => (QI (fun (r : Int32) (u : YT) => YOK txt n u ∧ r = f_brk txt n x y) (YU ad cI cZ) D cI cZ A)) [some (.inr (ad 0)), some (.inl x), some (.inl y)] (by decide) (Nat.le_of_ble_eq_true rfl) rfl ?_ sz
  intro p e s m args below meth c A C
  have C : CC p s m args meth c D A cI cZ RX1 cX1_bracketAt 3 (some .int) := C
  refine j_aload0 (pc := 0) C dX1_bracketAt_0 ?_
  refine j_iload1 (pc := 1) C dX1_bracketAt_1 ?_
  refine y_callI1 (pc := 2) C (ym_badGap hn) (lw_V q230 q232 qs12 q23 q233) (by decide +kernel) (by decide) (by decide) rfl (Nat.le_of_ble_eq_true rfl) dX1_bracketAt_2 (fun r u hr => ?_)
  subst hr
  (try dsimp only)
  refine j_ifB_eq (tgt := 10) (pc := 5) C dX1_bracketAt_5 (by decide) (fun c5 => ?_) (fun c5 => ?_)
  · have hgap := Decidable.of_not_not (of_decide_eq_false c5)
    obtain ⟨g, hg, rfl⟩ := gap_of hn hgap
    refine j_aload0 (pc := 10) C dX1_bracketAt_10 ?_
    refine j_iload1 (pc := 11) C dX1_bracketAt_11 ?_
    refine y_callV1 (pc := 12) C (ym_read (g := g) (by omega)) (lw_V q258 q260 qs14 q23 q261) (by decide +kernel) (by decide) (by decide) rfl (Nat.le_of_ble_eq_true rfl) dX1_bracketAt_12 (fun u hu => ?_)
    obtain ⟨mds, ess, dps, prs, jns, cls, sty, stk⟩ := u
    obtain ⟨hM, hB⟩ := hu
    dsimp only at hM hB ⊢
    have hlen := sk_len txt g
    refine j_iload2 (pc := 15) C dX1_bracketAt_15 ?_
    refine j_if_lt (tgt := 27) (pc := 16) C dX1_bracketAt_16 (by decide) (fun c16 => ?_) (fun c16 => ?_)
    · refine j_bipush (pc := 27) C (-2) dX1_bracketAt_27 (by decide) ?_
      exact j_iret (WS := YU ad cI cZ) (txt, _, _, _, _, _, _, _, _, nI n, _) C dX1_bracketAt_29 ⟨⟨rfl, hn, rfl⟩, by unfold f_brk; rw [if_pos hgap, cl_n (by omega), if_neg (fun q => q.1 c16)]⟩
    · refine j_iload2 (pc := 19) C dX1_bracketAt_19 ?_
      refine y_ag_top (pc := 20) C dX1_bracketAt_20 dX1_bracketAt_21 ?_
      refine j_icmp_lt (tgt := 30) (pc := 24) C dX1_bracketAt_24 (by decide) (fun c24 => ?_) (fun c24 => ?_)
      · obtain ⟨v, hv, rfl⟩ := place_of (by omega) ⟨c16, Int32.not_le.mpr c24⟩
        refine y_ag_stk (pc := 30) C dX1_bracketAt_30 dX1_bracketAt_31 ?_
        refine j_iload2 (pc := 34) C dX1_bracketAt_34 ?_
        refine y_ald_stk (pc := 35) C dX1_bracketAt_35 (by omega) ?_
        refine j_top _ (hB.2.2.2.2 v hv) ?_
        exact j_iret (WS := YU ad cI cZ) (txt, _, _, _, _, _, _, _, _, nI n, _) C dX1_bracketAt_36 ⟨⟨rfl, hn, rfl⟩, by unfold f_brk; rw [if_pos hgap, cl_n (by omega), if_pos (place_is (by omega) hv), cl_n (by omega)]⟩
      · refine j_bipush (pc := 27) C (-2) dX1_bracketAt_27 (by decide) ?_
        exact j_iret (WS := YU ad cI cZ) (txt, _, _, _, _, _, _, _, _, nI n, _) C dX1_bracketAt_29 ⟨⟨rfl, hn, rfl⟩, by unfold f_brk; rw [if_pos hgap, cl_n (by omega), if_neg (fun q => c24 (Int32.not_le.mp q.2))]⟩
  · refine j_iconst (pc := 8) C (-1) dX1_bracketAt_8 (by decide) ?_
    exact j_iret (WS := YU ad cI cZ) (txt, _, _, _, _, _, _, _, _, nI n, _) C dX1_bracketAt_9 ⟨⟨rfl, hn, rfl⟩, by unfold f_brk; rw [if_neg (of_decide_eq_true c5)]⟩

set_option maxHeartbeats 4000000 in
set_option maxRecDepth 100000 in
theorem ym_partner {l : Launch} {D : va_G} {cI cZ : ClassId} {ad : Nat → Nat} {txt mds ess dps prs jns cls sty stk : Nat → Int32} {top : Int32} {n : Nat} (hn : n ≤ 64) {x : Int32} : MetI l yX1_partner cX1_partner 2 (some .int) 4 D cI cZ [.ref (ad 0), .int x] (YU ad cI cZ) (YW ad cI cZ txt mds ess dps prs jns cls sty stk (nI n) top) (fun (r : Int32) (u : YT) => YOK txt n u ∧ r = f_par txt n x) := by
  refine fun sz => j_start (Qc := fun A => (QI (fun (r : Int32) (u : YT) => YOK txt n u ∧ r = f_par txt n x) (YU ad cI cZ) D cI cZ A)) [some (.inr (ad 0)), some (.inl x)] (by decide) (Nat.le_of_ble_eq_true rfl) rfl ?_ sz
  intro p e s m args below meth c A C
  have C : CC p s m args meth c D A cI cZ RX1 cX1_partner 2 (some .int) := C
  refine j_aload0 (pc := 0) C dX1_partner_0 ?_
  refine j_iload1 (pc := 1) C dX1_partner_1 ?_
  refine y_callI1 (pc := 2) C (ym_badPosition hn) (lw_V q242 q244 qs13 q23 q245) (by decide +kernel) (by decide) (by decide) rfl (Nat.le_of_ble_eq_true rfl) dX1_partner_2 (fun r u hr => ?_)
  subst hr
  (try dsimp only)
  refine j_ifB_eq (tgt := 10) (pc := 5) C dX1_partner_5 (by decide) (fun c5 => ?_) (fun c5 => ?_)
  · have hpl := Decidable.of_not_not (of_decide_eq_false c5)
    obtain ⟨g, hg, rfl⟩ := place_of hn hpl
    refine j_aload0 (pc := 10) C dX1_partner_10 ?_
    refine y_ag_len (pc := 11) C dX1_partner_11 dX1_partner_12 ?_
    refine y_callV1 (pc := 15) C (ym_read (g := n) (by omega)) (lw_V q258 q260 qs14 q23 q261) (by decide +kernel) (by decide) (by decide) rfl (Nat.le_of_ble_eq_true rfl) dX1_partner_15 (fun u hu => ?_)
    obtain ⟨mds, ess, dps, prs, jns, cls, sty, stk⟩ := u
    obtain ⟨hM, hB⟩ := hu
    dsimp only at hM hB ⊢
    cases hp : pn txt n g with
    | none =>
      refine y_ag_prs (pc := 18) C dX1_partner_18 dX1_partner_19 ?_
      refine j_iload1 (pc := 22) C dX1_partner_22 ?_
      refine y_ald_prs (pc := 23) C dX1_partner_23 (by omega) ?_
      refine j_top (-1) (by rw [hB.1 g (by omega), hp]; rfl) ?_
      refine j_if_ge (tgt := 32) (pc := 24) C dX1_partner_24 (by decide) (fun c24 => ?_) (fun c24 => ?_)
      · exact absurd c24 (by decide)
      · refine j_bipush (pc := 27) C (-2) dX1_partner_27 (by decide) ?_
        refine j_goto (tgt := 38) (pc := 29) C dX1_partner_29 (by decide) ?_
        exact j_iret (WS := YU ad cI cZ) (txt, _, _, _, _, _, _, _, _, nI n, _) C dX1_partner_38 ⟨⟨rfl, hn, rfl⟩, by unfold f_par; rw [if_pos hpl, cl_n (by omega), hp]; rfl⟩
    | some q =>
      have hq := (pn_some n g q hp).1
      refine y_ag_prs (pc := 18) C dX1_partner_18 dX1_partner_19 ?_
      refine j_iload1 (pc := 22) C dX1_partner_22 ?_
      refine y_ald_prs (pc := 23) C dX1_partner_23 (by omega) ?_
      refine j_top (nI q) (by rw [hB.1 g (by omega), hp]; rfl) ?_
      refine j_ifN_ge (tgt := 32) (pc := 24) C dX1_partner_24 (by decide) (by omega) (fun c24 => ?_) (fun c24 => ?_)
      · refine y_ag_prs (pc := 32) C dX1_partner_32 dX1_partner_33 ?_
        refine j_iload1 (pc := 36) C dX1_partner_36 ?_
        refine y_ald_prs (pc := 37) C dX1_partner_37 (by omega) ?_
        refine j_top (nI q) (by rw [hB.1 g (by omega), hp]; rfl) ?_
        exact j_iret (WS := YU ad cI cZ) (txt, _, _, _, _, _, _, _, _, nI n, _) C dX1_partner_38 ⟨⟨rfl, hn, rfl⟩, by unfold f_par; rw [if_pos hpl, cl_n (by omega), hp]; rfl⟩
      · exact absurd c24 (by omega)
  · refine j_iconst (pc := 8) C (-1) dX1_partner_8 (by decide) ?_
    exact j_iret (WS := YU ad cI cZ) (txt, _, _, _, _, _, _, _, _, nI n, _) C dX1_partner_9 ⟨⟨rfl, hn, rfl⟩, by unfold f_par; rw [if_neg (of_decide_eq_true c5)]⟩

set_option maxHeartbeats 4000000 in
set_option maxRecDepth 100000 in
theorem ym_strays {l : Launch} {D : va_G} {cI cZ : ClassId} {ad : Nat → Nat} {txt mds ess dps prs jns cls sty stk : Nat → Int32} {top : Int32} {n : Nat} (hn : n ≤ 64) : MetI l yX1_strays cX1_strays 3 (some .int) 4 D cI cZ [.ref (ad 0)] (YU ad cI cZ) (YW ad cI cZ txt mds ess dps prs jns cls sty stk (nI n) top) (fun (r : Int32) (u : YT) => YOK txt n u ∧ r = f_str txt n) := by
  refine fun sz => j_start (Qc := fun A => (QI (fun (r : Int32) (u : YT) => YOK txt n u ∧ r = f_str txt n) (YU ad cI cZ) D cI cZ A)) [some (.inr (ad 0)), none, none] (by decide) (Nat.le_of_ble_eq_true rfl) rfl ?_ sz
  intro p e s m args below meth c A C
  have C : CC p s m args meth c D A cI cZ RX1 cX1_strays 3 (some .int) := C
  refine j_aload0 (pc := 0) C dX1_strays_0 ?_
  refine y_ag_len (pc := 1) C dX1_strays_1 dX1_strays_2 ?_
  refine y_callV1 (pc := 5) C (ym_read (g := n) (by omega)) (lw_V q258 q260 qs14 q23 q261) (by decide +kernel) (by decide) (by decide) rfl (Nat.le_of_ble_eq_true rfl) dX1_strays_5 (fun u hu => ?_)
  obtain ⟨mds, ess, dps, prs, jns, cls, sty, stk⟩ := u
  obtain ⟨hM, hB⟩ := hu
  dsimp only at hM hB ⊢
  have loop : ∀ (f i : Nat), 64 < i + f → i ≤ 64 → JJ p l e s m args below meth c D A 4 (QI (fun (r : Int32) (u : YT) => YOK txt n u ∧ r = f_str txt n) (YU ad cI cZ) D cI cZ A) (YW ad cI cZ txt mds ess dps prs jns cls sty stk (nI n) (nI (sk txt n).length)) 12 [some (.inr (ad 0)), some (.inl (nI (cS txt n i))), some (.inl (nI i))] [] := by
    intro f
    induction f with
    | zero => intro i h1 h2; omega
    | succ f ih =>
      intro i h1 h2
      refine j_iload2 (pc := 12) C dX1_strays_12 ?_
      refine j_bipush (pc := 13) C (nI 64) dX1_strays_13 (by decide) ?_
      refine j_icmpN_ge (tgt := 36) (pc := 15) C dX1_strays_15 (by decide) (by omega) (by omega) (fun c15 => ?_) (fun c15 => ?_)
      · refine j_iload1 (pc := 36) C dX1_strays_36 ?_
        exact j_iret (WS := YU ad cI cZ) (txt, _, _, _, _, _, _, _, _, nI n, _) C dX1_strays_37 ⟨⟨rfl, hn, rfl⟩, by unfold f_str; rw [show i = n + (64 - n) by omega, cS_end]⟩
      · refine y_ag_sty (pc := 18) C dX1_strays_18 dX1_strays_19 ?_
        refine j_iload2 (pc := 22) C dX1_strays_22 ?_
        refine y_ald_sty (pc := 23) C dX1_strays_23 (by omega) ?_
        refine j_top (b2i (decide (i < n ∧ rl txt i = 3))) (by rw [hB.2.2.2.1 i (by omega)]; unfold kq3; by_cases q1 : i < n <;> by_cases q2 : rl txt i = 3 <;> simp [q1, q2]) ?_
        refine j_ifB_eq (tgt := 30) (pc := 24) C dX1_strays_24 (by decide) (fun c24 => ?_) (fun c24 => ?_)
        · refine j_inc2 (pc := 30) C dX1_strays_30 ?_
          refine j_goto (tgt := 12) (pc := 33) C dX1_strays_33 (by decide) ?_
          rw [show cS txt n i = cS txt n (i + 1) by rw [cS, if_neg (of_decide_eq_false c24)]; rfl]
          exact ih (i + 1) (by omega) (by omega)
        · refine j_inc1 (pc := 27) C dX1_strays_27 ?_
          refine j_inc2 (pc := 30) C dX1_strays_30 ?_
          refine j_goto (tgt := 12) (pc := 33) C dX1_strays_33 (by decide) ?_
          rw [show cS txt n i + 1 = cS txt n (i + 1) by rw [cS, if_pos (of_decide_eq_true c24)]]
          exact ih (i + 1) (by omega) (by omega)
  refine j_iconst (pc := 8) C (nI 0) dX1_strays_8 (by decide) ?_
  refine j_istore1 (pc := 9) C dX1_strays_9 ?_
  refine j_iconst (pc := 10) C (nI 0) dX1_strays_10 (by decide) ?_
  refine j_istore2 (pc := 11) C dX1_strays_11 ?_
  exact loop 65 0 (by omega) (by omega)

set_option maxHeartbeats 4000000 in
set_option maxRecDepth 100000 in
theorem ym_forward {l : Launch} {D : va_G} {cI cZ : ClassId} {ad : Nat → Nat} {txt mds ess dps prs jns cls sty stk : Nat → Int32} {top : Int32} {n : Nat} (hn : n ≤ 64) {x : Int32} : MetI l yX1_forward cX1_forward 4 (some .int) 4 D cI cZ [.ref (ad 0), .int x] (YU ad cI cZ) (YW ad cI cZ txt mds ess dps prs jns cls sty stk (nI n) top) (fun (r : Int32) (u : YT) => YOK txt n u ∧ r = f_fwd txt n x) := by
  refine fun sz => j_start (Qc := fun A => (QI (fun (r : Int32) (u : YT) => YOK txt n u ∧ r = f_fwd txt n x) (YU ad cI cZ) D cI cZ A)) [some (.inr (ad 0)), some (.inl x), none, none] (by decide) (Nat.le_of_ble_eq_true rfl) rfl ?_ sz
  intro p e s m args below meth c A C
  have C : CC p s m args meth c D A cI cZ RX1 cX1_forward 4 (some .int) := C
  refine j_aload0 (pc := 0) C dX1_forward_0 ?_
  refine j_iload1 (pc := 1) C dX1_forward_1 ?_
  refine y_callI1 (pc := 2) C (ym_badGap hn) (lw_V q230 q232 qs12 q23 q233) (by decide +kernel) (by decide) (by decide) rfl (Nat.le_of_ble_eq_true rfl) dX1_forward_2 (fun r u hr => ?_)
  subst hr
  (try dsimp only)
  refine j_ifB_eq (tgt := 10) (pc := 5) C dX1_forward_5 (by decide) (fun c5 => ?_) (fun c5 => ?_)
  · have hgap := Decidable.of_not_not (of_decide_eq_false c5)
    obtain ⟨g, hg, rfl⟩ := gap_of hn hgap
    refine j_aload0 (pc := 10) C dX1_forward_10 ?_
    refine y_ag_len (pc := 11) C dX1_forward_11 dX1_forward_12 ?_
    refine y_callV1 (pc := 15) C (ym_read (g := n) (by omega)) (lw_V q258 q260 qs14 q23 q261) (by decide +kernel) (by decide) (by decide) rfl (Nat.le_of_ble_eq_true rfl) dX1_forward_15 (fun u hu => ?_)
    obtain ⟨mds, ess, dps, prs, jns, cls, sty, stk⟩ := u
    obtain ⟨hM, hB⟩ := hu
    dsimp only at hM hB ⊢
    have hf0 : f_fwd txt n (nI g) = fwd txt n (n + 1) g := by unfold f_fwd; rw [if_pos hgap, cl_n (by omega)]
    have loop : ∀ (f i : Nat) (v3 : Option jT), f_fwd txt n (nI g) = fwd txt n f i → n < i + f → i ≤ n → JJ p l e s m args below meth c D A 4 (QI (fun (r : Int32) (u : YT) => YOK txt n u ∧ r = f_fwd txt n (nI g)) (YU ad cI cZ) D cI cZ A) (YW ad cI cZ txt mds ess dps prs jns cls sty stk (nI n) (nI (sk txt n).length)) 20 [some (.inr (ad 0)), some (.inl (nI g)), some (.inl (nI i)), v3] [] := by
      intro f
      induction f with
      | zero => intro i v3 hf h1 h2; omega
      | succ f ih =>
        intro i v3 hf h1 h2
        refine j_iload2 (pc := 20) C dX1_forward_20 ?_
        refine y_ag_len (pc := 21) C dX1_forward_21 dX1_forward_22 ?_
        refine j_icmpN_ge (tgt := 66) (pc := 25) C dX1_forward_25 (by decide) (by omega) (by omega) (fun c25 => ?_) (fun c25 => ?_)
        · refine j_bipush (pc := 66) C (-2) dX1_forward_66 (by decide) ?_
          exact j_iret (WS := YU ad cI cZ) (txt, _, _, _, _, _, _, _, _, nI n, _) C dX1_forward_68 ⟨⟨rfl, hn, rfl⟩, by rw [hf, fwd, if_neg (by omega)]⟩
        · refine j_iload2 (pc := 28) C dX1_forward_28 ?_
          refine j_bipush (pc := 29) C (nI 64) dX1_forward_29 (by decide) ?_
          refine j_icmpN_ge (tgt := 66) (pc := 31) C dX1_forward_31 (by decide) (by omega) (by omega) (fun c31 => ?_) (fun c31 => ?_)
          · exact absurd c31 (by omega)
          · refine y_ag_cls (pc := 34) C dX1_forward_34 dX1_forward_35 ?_
            refine j_iload2 (pc := 38) C dX1_forward_38 ?_
            refine y_ald_cls (pc := 39) C dX1_forward_39 (by omega) ?_
            refine j_top (b2i (decide (rl txt i = 2 ∨ rl txt i = 3))) (by rw [hB.2.2.1 i (by omega), decide_eq_true (by omega)]; rfl) ?_
            refine j_ifB_eq (tgt := 46) (pc := 40) C dX1_forward_40 (by decide) (fun c40 => ?_) (fun c40 => ?_)
            · refine j_aload0 (pc := 46) C dX1_forward_46 ?_
              refine j_iload2 (pc := 47) C dX1_forward_47 ?_
              refine y_callI1 (pc := 48) C (ym_unitEnd (n := n) (i := i) hn (by omega) hM hB) (lw_V q290 q292 qs16 q23 q293) (by decide +kernel) (by decide) (by decide) rfl (Nat.le_of_ble_eq_true rfl) dX1_forward_48 (fun r u hr => ?_)
              subst hr
              (try dsimp only)
              cases hu : uE txt n i with
              | none =>
                refine j_top (-1) rfl ?_
                refine j_istore3 (pc := 51) C dX1_forward_51 ?_
                refine j_iload3 (pc := 52) C dX1_forward_52 ?_
                refine j_if_lt (tgt := 60) (pc := 53) C dX1_forward_53 (by decide) (fun c53 => ?_) (fun c53 => ?_)
                · refine j_inc2 (pc := 60) C dX1_forward_60 ?_
                  refine j_goto (tgt := 20) (pc := 63) C dX1_forward_63 (by decide) ?_
                  exact ih (i + 1) _ (by rw [hf, fwd, if_pos c25, if_neg (of_decide_eq_false c40), hu]) (by omega) (by omega)
                · exact absurd (by decide) c53
              | some e9 =>
                have he9 := (uE_uS (by omega) hu).2.1
                refine j_top (nI e9) rfl ?_
                refine j_istore3 (pc := 51) C dX1_forward_51 ?_
                refine j_iload3 (pc := 52) C dX1_forward_52 ?_
                refine j_ifN_lt (tgt := 60) (pc := 53) C dX1_forward_53 (by decide) (by omega) (fun c53 => ?_) (fun c53 => ?_)
                · exact absurd c53 (by omega)
                · refine j_iload3 (pc := 56) C dX1_forward_56 ?_
                  refine j_iconst (pc := 57) C (nI 1) dX1_forward_57 (by decide) ?_
                  refine j_iaddN (pc := 58) C dX1_forward_58 ?_
                  exact j_iret (WS := YU ad cI cZ) (txt, _, _, _, _, _, _, _, _, nI n, _) C dX1_forward_59 ⟨⟨rfl, hn, rfl⟩, by rw [hf, fwd, if_pos c25, if_neg (of_decide_eq_false c40), hu]⟩
            · refine j_bipush (pc := 43) C (-3) dX1_forward_43 (by decide) ?_
              exact j_iret (WS := YU ad cI cZ) (txt, _, _, _, _, _, _, _, _, nI n, _) C dX1_forward_45 ⟨⟨rfl, hn, rfl⟩, by rw [hf, fwd, if_pos c25, if_pos (of_decide_eq_true c40)]⟩
    refine j_iload1 (pc := 18) C dX1_forward_18 ?_
    refine j_istore2 (pc := 19) C dX1_forward_19 ?_
    exact loop (n + 1) g _ hf0 (by omega) (by omega)
  · refine j_iconst (pc := 8) C (-1) dX1_forward_8 (by decide) ?_
    exact j_iret (WS := YU ad cI cZ) (txt, _, _, _, _, _, _, _, _, nI n, _) C dX1_forward_9 ⟨⟨rfl, hn, rfl⟩, by unfold f_fwd; rw [if_neg (of_decide_eq_true c5)]⟩

set_option maxHeartbeats 4000000 in
set_option maxRecDepth 100000 in
theorem ym_backward {l : Launch} {D : va_G} {cI cZ : ClassId} {ad : Nat → Nat} {txt mds ess dps prs jns cls sty stk : Nat → Int32} {top : Int32} {n : Nat} (hn : n ≤ 64) {x : Int32} : MetI l yX1_backward cX1_backward 4 (some .int) 4 D cI cZ [.ref (ad 0), .int x] (YU ad cI cZ) (YW ad cI cZ txt mds ess dps prs jns cls sty stk (nI n) top) (fun (r : Int32) (u : YT) => YOK txt n u ∧ r = f_bwd txt n x) := by
  refine fun sz => j_start (Qc := fun A => (QI (fun (r : Int32) (u : YT) => YOK txt n u ∧ r = f_bwd txt n x) (YU ad cI cZ) D cI cZ A)) [some (.inr (ad 0)), some (.inl x), none, none] (by decide) (Nat.le_of_ble_eq_true rfl) rfl ?_ sz
  intro p e s m args below meth c A C
  have C : CC p s m args meth c D A cI cZ RX1 cX1_backward 4 (some .int) := C
  refine j_aload0 (pc := 0) C dX1_backward_0 ?_
  refine j_iload1 (pc := 1) C dX1_backward_1 ?_
  refine y_callI1 (pc := 2) C (ym_badGap hn) (lw_V q230 q232 qs12 q23 q233) (by decide +kernel) (by decide) (by decide) rfl (Nat.le_of_ble_eq_true rfl) dX1_backward_2 (fun r u hr => ?_)
  subst hr
  (try dsimp only)
  refine j_ifB_eq (tgt := 10) (pc := 5) C dX1_backward_5 (by decide) (fun c5 => ?_) (fun c5 => ?_)
  · have hgap := Decidable.of_not_not (of_decide_eq_false c5)
    obtain ⟨g, hg, rfl⟩ := gap_of hn hgap
    refine j_aload0 (pc := 10) C dX1_backward_10 ?_
    refine y_ag_len (pc := 11) C dX1_backward_11 dX1_backward_12 ?_
    refine y_callV1 (pc := 15) C (ym_read (g := n) (by omega)) (lw_V q258 q260 qs14 q23 q261) (by decide +kernel) (by decide) (by decide) rfl (Nat.le_of_ble_eq_true rfl) dX1_backward_15 (fun u hu => ?_)
    obtain ⟨mds, ess, dps, prs, jns, cls, sty, stk⟩ := u
    obtain ⟨hM, hB⟩ := hu
    dsimp only at hM hB ⊢
    have hf0 : f_bwd txt n (nI g) = bwd txt n g g := by unfold f_bwd; rw [if_pos hgap, cl_n (by omega)]
    have loop : ∀ (j : Nat) (v3 : Option jT), f_bwd txt n (nI g) = bwd txt n g j → j ≤ g → JJ p l e s m args below meth c D A 4 (QI (fun (r : Int32) (u : YT) => YOK txt n u ∧ r = f_bwd txt n (nI g)) (YU ad cI cZ) D cI cZ A) (YW ad cI cZ txt mds ess dps prs jns cls sty stk (nI n) (nI (sk txt n).length)) 22 [some (.inr (ad 0)), some (.inl (nI g)), some (.inl (nI j - nI 1)), v3] [] := by
      intro j
      induction j with
      | zero =>
        intro v3 hf h1
        refine j_iload2 (pc := 22) C dX1_backward_22 ?_
        refine j_if_lt (tgt := 75) (pc := 23) C dX1_backward_23 (by decide) (fun c23 => ?_) (fun c23 => ?_)
        · refine j_bipush (pc := 75) C (-2) dX1_backward_75 (by decide) ?_
          exact j_iret (WS := YU ad cI cZ) (txt, _, _, _, _, _, _, _, _, nI n, _) C dX1_backward_77 ⟨⟨rfl, hn, rfl⟩, by rw [hf]; rfl⟩
        · exact absurd m1_neg c23
      | succ j ih =>
        intro v3 hf h1
        rw [show nI (j + 1) - nI 1 = nI j from nI_pred j]
        have at57 : ¬ (rl txt j = 1 ∧ (pn txt n j = none ∨ ∃ c, pn txt n j = some c ∧ g ≤ c)) → JJ p l e s m args below meth c D A 4 (QI (fun (r : Int32) (u : YT) => YOK txt n u ∧ r = f_bwd txt n (nI g)) (YU ad cI cZ) D cI cZ A) (YW ad cI cZ txt mds ess dps prs jns cls sty stk (nI n) (nI (sk txt n).length)) 57 [some (.inr (ad 0)), some (.inl (nI g)), some (.inl (nI j)), v3] [] := by
          intro hno
          refine j_aload0 (pc := 57) C dX1_backward_57 ?_
          refine j_iload2 (pc := 58) C dX1_backward_58 ?_
          refine y_callI1 (pc := 59) C (ym_unitStart (n := n) (a := j) hn (by omega) hM hB) (lw_V q310 q312 qs20 q23 q313) (by decide +kernel) (by decide) (by decide) rfl (Nat.le_of_ble_eq_true rfl) dX1_backward_59 (fun r u hr => ?_)
          subst hr
          (try dsimp only)
          cases hu : uS txt n j with
          | none =>
            refine j_top (-1) rfl ?_
            refine j_istore3 (pc := 62) C dX1_backward_62 ?_
            refine j_iload3 (pc := 63) C dX1_backward_63 ?_
            refine j_if_lt (tgt := 69) (pc := 64) C dX1_backward_64 (by decide) (fun c64 => ?_) (fun c64 => ?_)
            · refine j_iinc2 (pc := 69) C (nI j - nI 1) dX1_backward_69 (dec_e _) ?_
              refine j_goto (tgt := 22) (pc := 72) C dX1_backward_72 (by decide) ?_
              exact ih _ (by rw [hf, bwd, if_neg hno, hu]) (by omega)
            · exact absurd (by decide) c64
          | some e9 =>
            have he9 := (uS_uE (by omega) hu).1
            refine j_top (nI e9) rfl ?_
            refine j_istore3 (pc := 62) C dX1_backward_62 ?_
            refine j_iload3 (pc := 63) C dX1_backward_63 ?_
            refine j_ifN_lt (tgt := 69) (pc := 64) C dX1_backward_64 (by decide) (by omega) (fun c64 => ?_) (fun c64 => ?_)
            · exact absurd c64 (by omega)
            · refine j_iload3 (pc := 67) C dX1_backward_67 ?_
              exact j_iret (WS := YU ad cI cZ) (txt, _, _, _, _, _, _, _, _, nI n, _) C dX1_backward_68 ⟨⟨rfl, hn, rfl⟩, by rw [hf, bwd, if_neg hno, hu]⟩
        refine j_iload2 (pc := 22) C dX1_backward_22 ?_
        refine j_ifN_lt (tgt := 75) (pc := 23) C dX1_backward_23 (by decide) (by omega) (fun c23 => ?_) (fun c23 => ?_)
        · exact absurd c23 (by omega)
        · refine y_ag_jns (pc := 26) C dX1_backward_26 dX1_backward_27 ?_
          refine j_iload2 (pc := 30) C dX1_backward_30 ?_
          refine y_ald_jns (pc := 31) C dX1_backward_31 (by omega) ?_
          refine j_top (b2i (decide (rl txt j = 1))) (by rw [hB.2.1 j (by omega), decide_eq_true (by omega)]; rfl) ?_
          refine j_ifB_eq (tgt := 57) (pc := 32) C dX1_backward_32 (by decide) (fun c32 => ?_) (fun c32 => ?_)
          · exact at57 (fun q => of_decide_eq_false c32 q.1)
          · cases hp : pn txt n j with
            | none =>
              refine y_ag_prs (pc := 35) C dX1_backward_35 dX1_backward_36 ?_
              refine j_iload2 (pc := 39) C dX1_backward_39 ?_
              refine y_ald_prs (pc := 40) C dX1_backward_40 (by omega) ?_
              refine j_top (-1) (by rw [hB.1 j (by omega), hp]; rfl) ?_
              refine j_if_lt (tgt := 54) (pc := 41) C dX1_backward_41 (by decide) (fun c41 => ?_) (fun c41 => ?_)
              · refine j_bipush (pc := 54) C (-3) dX1_backward_54 (by decide) ?_
                exact j_iret (WS := YU ad cI cZ) (txt, _, _, _, _, _, _, _, _, nI n, _) C dX1_backward_56 ⟨⟨rfl, hn, rfl⟩, by rw [hf, bwd, if_pos ⟨of_decide_eq_true c32, Or.inl hp⟩]⟩
              · exact absurd (by decide) c41
            | some q =>
              have hq := (pn_some n j q hp).1
              refine y_ag_prs (pc := 35) C dX1_backward_35 dX1_backward_36 ?_
              refine j_iload2 (pc := 39) C dX1_backward_39 ?_
              refine y_ald_prs (pc := 40) C dX1_backward_40 (by omega) ?_
              refine j_top (nI q) (by rw [hB.1 j (by omega), hp]; rfl) ?_
              refine j_ifN_lt (tgt := 54) (pc := 41) C dX1_backward_41 (by decide) (by omega) (fun c41 => ?_) (fun c41 => ?_)
              · exact absurd c41 (by omega)
              · refine y_ag_prs (pc := 44) C dX1_backward_44 dX1_backward_45 ?_
                refine j_iload2 (pc := 48) C dX1_backward_48 ?_
                refine y_ald_prs (pc := 49) C dX1_backward_49 (by omega) ?_
                refine j_top (nI q) (by rw [hB.1 j (by omega), hp]; rfl) ?_
                refine j_iload1 (pc := 50) C dX1_backward_50 ?_
                refine j_icmpN_lt (tgt := 57) (pc := 51) C dX1_backward_51 (by decide) (by omega) (by omega) (fun c51 => ?_) (fun c51 => ?_)
                · refine at57 (fun q2 => ?_)
                  rcases q2.2 with q3 | ⟨q4, q5, q6⟩
                  · rw [hp] at q3; cases q3
                  · rw [hp] at q5; cases q5; omega
                · refine j_bipush (pc := 54) C (-3) dX1_backward_54 (by decide) ?_
                  exact j_iret (WS := YU ad cI cZ) (txt, _, _, _, _, _, _, _, _, nI n, _) C dX1_backward_56 ⟨⟨rfl, hn, rfl⟩, by rw [hf, bwd, if_pos ⟨of_decide_eq_true c32, Or.inr ⟨q, hp, c51⟩⟩]⟩
    refine j_iload1 (pc := 18) C dX1_backward_18 ?_
    refine j_iconst (pc := 19) C (nI 1) dX1_backward_19 (by decide) ?_
    refine j_isub (pc := 20) C dX1_backward_20 ?_
    refine j_istore2 (pc := 21) C dX1_backward_21 ?_
    exact loop g _ hf0 (by omega)
  · refine j_iconst (pc := 8) C (-1) dX1_backward_8 (by decide) ?_
    exact j_iret (WS := YU ad cI cZ) (txt, _, _, _, _, _, _, _, _, nI n, _) C dX1_backward_9 ⟨⟨rfl, hn, rfl⟩, by unfold f_bwd; rw [if_neg (of_decide_eq_true c5)]⟩

set_option maxHeartbeats 4000000 in
set_option maxRecDepth 100000 in
theorem ym_down {l : Launch} {D : va_G} {cI cZ : ClassId} {ad : Nat → Nat} {txt mds ess dps prs jns cls sty stk : Nat → Int32} {top : Int32} {n : Nat} (hn : n ≤ 64) {x : Int32} : MetI l yX1_down cX1_down 4 (some .int) 4 D cI cZ [.ref (ad 0), .int x] (YU ad cI cZ) (YW ad cI cZ txt mds ess dps prs jns cls sty stk (nI n) top) (fun (r : Int32) (u : YT) => YOK txt n u ∧ r = f_dwn txt n x) := by
  refine fun sz => j_start (Qc := fun A => (QI (fun (r : Int32) (u : YT) => YOK txt n u ∧ r = f_dwn txt n x) (YU ad cI cZ) D cI cZ A)) [some (.inr (ad 0)), some (.inl x), none, none] (by decide) (Nat.le_of_ble_eq_true rfl) rfl ?_ sz
  intro p e s m args below meth c A C
  have C : CC p s m args meth c D A cI cZ RX1 cX1_down 4 (some .int) := C
  refine j_aload0 (pc := 0) C dX1_down_0 ?_
  refine j_iload1 (pc := 1) C dX1_down_1 ?_
  refine y_callI1 (pc := 2) C (ym_badGap hn) (lw_V q230 q232 qs12 q23 q233) (by decide +kernel) (by decide) (by decide) rfl (Nat.le_of_ble_eq_true rfl) dX1_down_2 (fun r u hr => ?_)
  subst hr
  (try dsimp only)
  refine j_ifB_eq (tgt := 10) (pc := 5) C dX1_down_5 (by decide) (fun c5 => ?_) (fun c5 => ?_)
  · have hgap := Decidable.of_not_not (of_decide_eq_false c5)
    obtain ⟨g, hg, rfl⟩ := gap_of hn hgap
    refine j_aload0 (pc := 10) C dX1_down_10 ?_
    refine y_ag_len (pc := 11) C dX1_down_11 dX1_down_12 ?_
    refine y_callV1 (pc := 15) C (ym_read (g := n) (by omega)) (lw_V q258 q260 qs14 q23 q261) (by decide +kernel) (by decide) (by decide) rfl (Nat.le_of_ble_eq_true rfl) dX1_down_15 (fun u hu => ?_)
    obtain ⟨mds, ess, dps, prs, jns, cls, sty, stk⟩ := u
    obtain ⟨hM, hB⟩ := hu
    dsimp only at hM hB ⊢
    have hf0 : f_dwn txt n (nI g) = dwn txt n (n + 1) g false := by unfold f_dwn; rw [if_pos hgap, cl_n (by omega)]
    have loop : ∀ (f i : Nat) (cc2 : Bool), f_dwn txt n (nI g) = dwn txt n f i cc2 → n < i + f → i ≤ n → JJ p l e s m args below meth c D A 4 (QI (fun (r : Int32) (u : YT) => YOK txt n u ∧ r = f_dwn txt n (nI g)) (YU ad cI cZ) D cI cZ A) (YW ad cI cZ txt mds ess dps prs jns cls sty stk (nI n) (nI (sk txt n).length)) 22 [some (.inr (ad 0)), some (.inl (nI g)), some (.inl (b2i cc2)), some (.inl (nI i))] [] := by
      intro f
      induction f with
      | zero => intro i cc2 hf h1 h2; omega
      | succ f ih =>
        intro i cc2 hf h1 h2
        refine j_iload3 (pc := 22) C dX1_down_22 ?_
        refine y_ag_len (pc := 23) C dX1_down_23 dX1_down_24 ?_
        refine j_icmpN_ge (tgt := 75) (pc := 27) C dX1_down_27 (by decide) (by omega) (by omega) (fun c27 => ?_) (fun c27 => ?_)
        · refine j_bipush (pc := 75) C (-2) dX1_down_75 (by decide) ?_
          exact j_iret (WS := YU ad cI cZ) (txt, _, _, _, _, _, _, _, _, nI n, _) C dX1_down_77 ⟨⟨rfl, hn, rfl⟩, by rw [hf, dwn, if_neg (by omega)]⟩
        · refine j_iload3 (pc := 30) C dX1_down_30 ?_
          refine j_bipush (pc := 31) C (nI 64) dX1_down_31 (by decide) ?_
          refine j_icmpN_ge (tgt := 75) (pc := 33) C dX1_down_33 (by decide) (by omega) (by omega) (fun c33 => ?_) (fun c33 => ?_)
          · exact absurd c33 (by omega)
          · refine y_ag_jns (pc := 36) C dX1_down_36 dX1_down_37 ?_
            refine j_iload3 (pc := 40) C dX1_down_40 ?_
            refine y_ald_jns (pc := 41) C dX1_down_41 (by omega) ?_
            refine j_top (b2i (decide (rl txt i = 1))) (by rw [hB.2.1 i (by omega), decide_eq_true (by omega)]; rfl) ?_
            refine j_ifB_eq (tgt := 58) (pc := 42) C dX1_down_42 (by decide) (fun c42 => ?_) (fun c42 => ?_)
            · refine y_ag_cls (pc := 58) C dX1_down_58 dX1_down_59 ?_
              refine j_iload3 (pc := 62) C dX1_down_62 ?_
              refine y_ald_cls (pc := 63) C dX1_down_63 (by omega) ?_
              refine j_top (b2i (decide (rl txt i = 2 ∨ rl txt i = 3))) (by rw [hB.2.2.1 i (by omega), decide_eq_true (by omega)]; rfl) ?_
              refine j_ifB_eq (tgt := 69) (pc := 64) C dX1_down_64 (by decide) (fun c64 => ?_) (fun c64 => ?_)
              · refine j_inc3 (pc := 69) C dX1_down_69 ?_
                refine j_goto (tgt := 22) (pc := 72) C dX1_down_72 (by decide) ?_
                exact ih (i + 1) cc2 (by rw [hf, dwn, if_pos c27, if_neg (of_decide_eq_false c42), c64]; simp) (by omega) (by omega)
              · refine j_iconst (pc := 67) C (nI 1) dX1_down_67 (by decide) ?_
                refine j_top (b2i true) rfl ?_
                refine j_istore2 (pc := 68) C dX1_down_68 ?_
                refine j_inc3 (pc := 69) C dX1_down_69 ?_
                refine j_goto (tgt := 22) (pc := 72) C dX1_down_72 (by decide) ?_
                exact ih (i + 1) true (by rw [hf, dwn, if_pos c27, if_neg (of_decide_eq_false c42), c64]; simp) (by omega) (by omega)
            · refine j_iload2 (pc := 45) C dX1_down_45 ?_
              refine j_ifB_eq (tgt := 54) (pc := 46) C dX1_down_46 (by decide) (fun c46 => ?_) (fun c46 => ?_)
              · refine j_iload3 (pc := 54) C dX1_down_54 ?_
                refine j_iconst (pc := 55) C (nI 1) dX1_down_55 (by decide) ?_
                refine j_iaddN (pc := 56) C dX1_down_56 ?_
                exact j_iret (WS := YU ad cI cZ) (txt, _, _, _, _, _, _, _, _, nI n, _) C dX1_down_57 ⟨⟨rfl, hn, rfl⟩, by rw [hf, dwn, if_pos c27, if_pos (of_decide_eq_true c42), if_neg (by rw [c46]; simp)]⟩
              · refine j_bipush (pc := 49) C (-3) dX1_down_49 (by decide) ?_
                refine j_goto (tgt := 57) (pc := 51) C dX1_down_51 (by decide) ?_
                exact j_iret (WS := YU ad cI cZ) (txt, _, _, _, _, _, _, _, _, nI n, _) C dX1_down_57 ⟨⟨rfl, hn, rfl⟩, by rw [hf, dwn, if_pos c27, if_pos (of_decide_eq_true c42), if_pos c46]⟩
    refine j_iconst (pc := 18) C (nI 0) dX1_down_18 (by decide) ?_
    refine j_top (b2i false) rfl ?_
    refine j_istore2 (pc := 19) C dX1_down_19 ?_
    refine j_iload1 (pc := 20) C dX1_down_20 ?_
    refine j_istore3 (pc := 21) C dX1_down_21 ?_
    exact loop (n + 1) g false hf0 (by omega) (by omega)
  · refine j_iconst (pc := 8) C (-1) dX1_down_8 (by decide) ?_
    exact j_iret (WS := YU ad cI cZ) (txt, _, _, _, _, _, _, _, _, nI n, _) C dX1_down_9 ⟨⟨rfl, hn, rfl⟩, by unfold f_dwn; rw [if_neg (of_decide_eq_true c5)]⟩

set_option maxHeartbeats 4000000 in
set_option maxRecDepth 100000 in
theorem ym_units {l : Launch} {D : va_G} {cI cZ : ClassId} {ad : Nat → Nat} {txt mds ess dps prs jns cls sty stk : Nat → Int32} {top : Int32} {n : Nat} (hn : n ≤ 64) : MetI l yX1_units cX1_units 4 (some .int) 4 D cI cZ [.ref (ad 0)] (YU ad cI cZ) (YW ad cI cZ txt mds ess dps prs jns cls sty stk (nI n) top) (fun (r : Int32) (u : YT) => YOK txt n u ∧ r = f_uni txt n) := by
  refine fun sz => j_start (Qc := fun A => (QI (fun (r : Int32) (u : YT) => YOK txt n u ∧ r = f_uni txt n) (YU ad cI cZ) D cI cZ A)) [some (.inr (ad 0)), none, none, none] (by decide) (Nat.le_of_ble_eq_true rfl) rfl ?_ sz
  intro p e s m args below meth c A C
  have C : CC p s m args meth c D A cI cZ RX1 cX1_units 4 (some .int) := C
  refine j_aload0 (pc := 0) C dX1_units_0 ?_
  refine y_ag_len (pc := 1) C dX1_units_1 dX1_units_2 ?_
  refine y_callV1 (pc := 5) C (ym_read (g := n) (by omega)) (lw_V q258 q260 qs14 q23 q261) (by decide +kernel) (by decide) (by decide) rfl (Nat.le_of_ble_eq_true rfl) dX1_units_5 (fun u hu => ?_)
  obtain ⟨mds, ess, dps, prs, jns, cls, sty, stk⟩ := u
  obtain ⟨hM, hB⟩ := hu
  dsimp only at hM hB ⊢
  have loop : ∀ (f i : Nat) (v3 : Option jT), n < i + f → i ≤ n → JJ p l e s m args below meth c D A 4 (QI (fun (r : Int32) (u : YT) => YOK txt n u ∧ r = f_uni txt n) (YU ad cI cZ) D cI cZ A) (YW ad cI cZ txt mds ess dps prs jns cls sty stk (nI n) (nI (sk txt n).length)) 12 [some (.inr (ad 0)), some (.inl (nI (cU txt n i))), some (.inl (nI i)), v3] [] := by
    intro f
    induction f with
    | zero => intro i v3 h1 h2; omega
    | succ f ih =>
      intro i v3 h1 h2
      refine j_iload2 (pc := 12) C dX1_units_12 ?_
      refine y_ag_len (pc := 13) C dX1_units_13 dX1_units_14 ?_
      refine j_icmpN_ge (tgt := 45) (pc := 17) C dX1_units_17 (by decide) (by omega) (by omega) (fun c17 => ?_) (fun c17 => ?_)
      · refine j_iload1 (pc := 45) C dX1_units_45 ?_
        exact j_iret (WS := YU ad cI cZ) (txt, _, _, _, _, _, _, _, _, nI n, _) C dX1_units_46 ⟨⟨rfl, hn, rfl⟩, by unfold f_uni; rw [show i = n by omega]⟩
      · refine j_iload2 (pc := 20) C dX1_units_20 ?_
        refine j_bipush (pc := 21) C (nI 64) dX1_units_21 (by decide) ?_
        refine j_icmpN_ge (tgt := 45) (pc := 23) C dX1_units_23 (by decide) (by omega) (by omega) (fun c23 => ?_) (fun c23 => ?_)
        · exact absurd c23 (by omega)
        · refine j_aload0 (pc := 26) C dX1_units_26 ?_
          refine j_iload2 (pc := 27) C dX1_units_27 ?_
          refine y_callI1 (pc := 28) C (ym_unitEnd (n := n) (i := i) hn (by omega) hM hB) (lw_V q290 q292 qs16 q23 q293) (by decide +kernel) (by decide) (by decide) rfl (Nat.le_of_ble_eq_true rfl) dX1_units_28 (fun r u hr => ?_)
          subst hr
          (try dsimp only)
          cases hu : uE txt n i with
          | none =>
            refine j_top (-1) rfl ?_
            refine j_istore3 (pc := 31) C dX1_units_31 ?_
            refine j_iload3 (pc := 32) C dX1_units_32 ?_
            refine j_if_lt (tgt := 39) (pc := 33) C dX1_units_33 (by decide) (fun c33 => ?_) (fun c33 => ?_)
            · refine j_inc2 (pc := 39) C dX1_units_39 ?_
              refine j_goto (tgt := 12) (pc := 42) C dX1_units_42 (by decide) ?_
              rw [show cU txt n i = cU txt n (i + 1) by rw [cU, if_pos hu]; rfl]
              exact ih (i + 1) _ (by omega) (by omega)
            · exact absurd (by decide) c33
          | some e9 =>
            have he9 := (uE_uS (by omega) hu).2.1
            refine j_top (nI e9) rfl ?_
            refine j_istore3 (pc := 31) C dX1_units_31 ?_
            refine j_iload3 (pc := 32) C dX1_units_32 ?_
            refine j_ifN_lt (tgt := 39) (pc := 33) C dX1_units_33 (by decide) (by omega) (fun c33 => ?_) (fun c33 => ?_)
            · exact absurd c33 (by omega)
            · refine j_inc1 (pc := 36) C dX1_units_36 ?_
              refine j_inc2 (pc := 39) C dX1_units_39 ?_
              refine j_goto (tgt := 12) (pc := 42) C dX1_units_42 (by decide) ?_
              rw [show cU txt n i + 1 = cU txt n (i + 1) by rw [cU, if_neg (by rw [hu]; simp)]]
              exact ih (i + 1) _ (by omega) (by omega)
  refine j_iconst (pc := 8) C (nI 0) dX1_units_8 (by decide) ?_
  refine j_istore1 (pc := 9) C dX1_units_9 ?_
  refine j_iconst (pc := 10) C (nI 0) dX1_units_10 (by decide) ?_
  refine j_istore2 (pc := 11) C dX1_units_11 ?_
  exact loop (n + 1) 0 _ (by omega) (by omega)

set_option maxHeartbeats 4000000 in
set_option maxRecDepth 100000 in
theorem ym_insert {l : Launch} {D : va_G} {cI cZ : ClassId} {ad : Nat → Nat} {txt mds ess dps prs jns cls sty stk : Nat → Int32} {top : Int32} {n : Nat} (hn : n ≤ 64) {x y : Int32} : MetI l yX1_insert cX1_insert 4 (some .int) 4 D cI cZ [.ref (ad 0), .int x, .int y] (YU ad cI cZ) (YW ad cI cZ txt mds ess dps prs jns cls sty stk (nI n) top) (fun (r : Int32) (u : YT) => YOK (f_ins txt n x y).2.1 (f_ins txt n x y).2.2 u ∧ r = (f_ins txt n x y).1) := by
  refine fun sz => j_start (Qc := fun A => (QI (fun (r : Int32) (u : YT) => YOK (f_ins txt n x y).2.1 (f_ins txt n x y).2.2 u ∧ r = (f_ins txt n x y).1) (YU ad cI cZ) D cI cZ A)) [some (.inr (ad 0)), some (.inl x), some (.inl y), none] (by decide) (Nat.le_of_ble_eq_true rfl) rfl ?_ sz
  intro p e s m args below meth c A C
  have C : CC p s m args meth c D A cI cZ RX1 cX1_insert 4 (some .int) := C
  refine j_aload0 (pc := 0) C dX1_insert_0 ?_
  refine j_iload1 (pc := 1) C dX1_insert_1 ?_
  refine y_callI1 (pc := 2) C (ym_badGap hn) (lw_V q230 q232 qs12 q23 q233) (by decide +kernel) (by decide) (by decide) rfl (Nat.le_of_ble_eq_true rfl) dX1_insert_2 (fun r u hr => ?_)
  subst hr
  (try dsimp only)
  refine j_ifB_eq (tgt := 10) (pc := 5) C dX1_insert_5 (by decide) (fun c5 => ?_) (fun c5 => ?_)
  · have hgap := Decidable.of_not_not (of_decide_eq_false c5)
    obtain ⟨g, hg, rfl⟩ := gap_of hn hgap
    refine j_iload2 (pc := 10) C dX1_insert_10 ?_
    refine j_if_lt (tgt := 20) (pc := 11) C dX1_insert_11 (by decide) (fun c11 => ?_) (fun c11 => ?_)
    · refine j_bipush (pc := 20) C (-2) dX1_insert_20 (by decide) ?_
      have hf : f_ins txt n (nI g) y = (-2, txt, n) := by unfold f_ins; rw [if_pos hgap, if_neg (fun q => q.1 c11)]
      exact j_iret (WS := YU ad cI cZ) (txt, _, _, _, _, _, _, _, _, nI (n), _) C dX1_insert_22 ⟨by rw [hf]; dsimp only; exact ⟨rfl, hn, rfl⟩, by rw [hf]⟩
    · refine j_iload2 (pc := 14) C dX1_insert_14 ?_
      refine j_bipush (pc := 15) C (nI 7) dX1_insert_15 (by decide) ?_
      refine j_icmp_le (tgt := 23) (pc := 17) C dX1_insert_17 (by decide) (fun c17 => ?_) (fun c17 => ?_)
      · refine y_ag_len (pc := 23) C dX1_insert_23 dX1_insert_24 ?_
        refine j_bipush (pc := 27) C (nI 64) dX1_insert_27 (by decide) ?_
        refine j_icmpN_lt (tgt := 35) (pc := 29) C dX1_insert_29 (by decide) (by omega) (by omega) (fun c29 => ?_) (fun c29 => ?_)
        · have hf : f_ins txt n (nI g) y = (nI (n + 1), insF txt g n y, n + 1) := by unfold f_ins; rw [if_pos hgap, if_pos ⟨c11, Int32.not_lt.mpr c17⟩, if_neg (by omega), cl_n (by omega)]
          have loop : ∀ (f i : Nat), i = g + f → i ≤ n → JJ p l e s m args below meth c D A 4 (QI (fun (r : Int32) (u : YT) => YOK (f_ins txt n (nI g) y).2.1 (f_ins txt n (nI g) y).2.2 u ∧ r = (f_ins txt n (nI g) y).1) (YU ad cI cZ) D cI cZ A) (YW ad cI cZ (insL txt i n) mds ess dps prs jns cls sty stk (nI n) top) 40 [some (.inr (ad 0)), some (.inl (nI g)), some (.inl y), some (.inl (nI i))] [] := by
            intro f
            induction f with
            | zero =>
              intro i h1 h2
              refine j_iload3 (pc := 40) C dX1_insert_40 ?_
              refine j_iload1 (pc := 41) C dX1_insert_41 ?_
              refine j_icmpN_le (tgt := 65) (pc := 42) C dX1_insert_42 (by decide) (by omega) (by omega) (fun c42 => ?_) (fun c42 => ?_)
              · obtain rfl : i = g := by omega
                refine y_ag_txt (pc := 65) C dX1_insert_65 dX1_insert_66 ?_
                refine j_iload1 (pc := 69) C dX1_insert_69 ?_
                refine j_iload2 (pc := 70) C dX1_insert_70 ?_
                refine y_ast_txt (pc := 71) C dX1_insert_71 (by omega) ?_
                refine j_aload0 (pc := 72) C dX1_insert_72 ?_
                refine j_dupr (pc := 73) C dX1_insert_73 ?_
                refine y_get_len (pc := 74) C dX1_insert_74 ?_
                refine j_iconst (pc := 77) C (nI 1) dX1_insert_77 (by decide) ?_
                refine j_iaddN (pc := 78) C dX1_insert_78 ?_
                refine y_put_len (pc := 79) C dX1_insert_79 ?_
                refine y_ag_len (pc := 82) C dX1_insert_82 dX1_insert_83 ?_
                exact j_iret (WS := YU ad cI cZ) (insF txt i n y, _, _, _, _, _, _, _, _, nI (n + 1), _) C dX1_insert_86 ⟨by rw [hf]; dsimp only; exact ⟨rfl, by omega, rfl⟩, by rw [hf]⟩
              · exact absurd c42 (by omega)
            | succ f ih =>
              intro i h1 h2
              refine j_iload3 (pc := 40) C dX1_insert_40 ?_
              refine j_iload1 (pc := 41) C dX1_insert_41 ?_
              refine j_icmpN_le (tgt := 65) (pc := 42) C dX1_insert_42 (by decide) (by omega) (by omega) (fun c42 => ?_) (fun c42 => ?_)
              · exact absurd c42 (by omega)
              · refine y_ag_txt (pc := 45) C dX1_insert_45 dX1_insert_46 ?_
                refine j_iload3 (pc := 49) C dX1_insert_49 ?_
                refine y_ag_txt (pc := 50) C dX1_insert_50 dX1_insert_51 ?_
                refine j_iload3 (pc := 54) C dX1_insert_54 ?_
                refine j_iconst (pc := 55) C (nI 1) dX1_insert_55 (by decide) ?_
                refine j_isubN (pc := 56) C dX1_insert_56 (by omega) ?_
                refine y_ald_txt (pc := 57) C dX1_insert_57 (by omega) ?_
                refine y_ast_txt (pc := 58) C dX1_insert_58 (by omega) ?_
                rw [insL_s (by omega) (by omega)]
                refine j_dec3 (pc := 59) C dX1_insert_59 (by omega) ?_
                refine j_goto (tgt := 40) (pc := 62) C dX1_insert_62 (by decide) ?_
                exact ih (i - 1) (by omega) (by omega)
          refine y_ag_len (pc := 35) C dX1_insert_35 dX1_insert_36 ?_
          refine j_istore3 (pc := 39) C dX1_insert_39 ?_
          have h9 := loop (n - g) n (by omega) (Nat.le_refl n)
          rw [insL_0] at h9
          exact h9
        · refine j_bipush (pc := 32) C (-3) dX1_insert_32 (by decide) ?_
          have hf : f_ins txt n (nI g) y = (-3, txt, n) := by unfold f_ins; rw [if_pos hgap, if_pos ⟨c11, Int32.not_lt.mpr c17⟩, if_pos (by omega)]
          exact j_iret (WS := YU ad cI cZ) (txt, _, _, _, _, _, _, _, _, nI (n), _) C dX1_insert_34 ⟨by rw [hf]; dsimp only; exact ⟨rfl, hn, rfl⟩, by rw [hf]⟩
      · refine j_bipush (pc := 20) C (-2) dX1_insert_20 (by decide) ?_
        have hf : f_ins txt n (nI g) y = (-2, txt, n) := by unfold f_ins; rw [if_pos hgap, if_neg (fun q => c17 (Int32.not_lt.mp q.2))]
        exact j_iret (WS := YU ad cI cZ) (txt, _, _, _, _, _, _, _, _, nI (n), _) C dX1_insert_22 ⟨by rw [hf]; dsimp only; exact ⟨rfl, hn, rfl⟩, by rw [hf]⟩
  · refine j_iconst (pc := 8) C (-1) dX1_insert_8 (by decide) ?_
    have hf : f_ins txt n x y = (-1, txt, n) := by unfold f_ins; rw [if_neg (of_decide_eq_true c5)]
    exact j_iret (WS := YU ad cI cZ) (txt, _, _, _, _, _, _, _, _, nI (n), _) C dX1_insert_9 ⟨by rw [hf]; dsimp only; exact ⟨rfl, hn, rfl⟩, by rw [hf]⟩

set_option maxHeartbeats 4000000 in
set_option maxRecDepth 100000 in
theorem ym_set {l : Launch} {D : va_G} {cI cZ : ClassId} {ad : Nat → Nat} {txt mds ess dps prs jns cls sty stk : Nat → Int32} {top : Int32} {n : Nat} (hn : n ≤ 64) {x y : Int32} : MetI l yX1_set cX1_set 4 (some .int) 4 D cI cZ [.ref (ad 0), .int x, .int y] (YU ad cI cZ) (YW ad cI cZ txt mds ess dps prs jns cls sty stk (nI n) top) (fun (r : Int32) (u : YT) => YOK (f_set txt n x y).2.1 (f_set txt n x y).2.2 u ∧ r = (f_set txt n x y).1) := by
  refine fun sz => j_start (Qc := fun A => (QI (fun (r : Int32) (u : YT) => YOK (f_set txt n x y).2.1 (f_set txt n x y).2.2 u ∧ r = (f_set txt n x y).1) (YU ad cI cZ) D cI cZ A)) [some (.inr (ad 0)), some (.inl x), some (.inl y), none] (by decide) (Nat.le_of_ble_eq_true rfl) rfl ?_ sz
  intro p e s m args below meth c A C
  have C : CC p s m args meth c D A cI cZ RX1 cX1_set 4 (some .int) := C
  refine j_aload0 (pc := 0) C dX1_set_0 ?_
  refine j_iload1 (pc := 1) C dX1_set_1 ?_
  refine y_callI1 (pc := 2) C (ym_badPosition hn) (lw_V q242 q244 qs13 q23 q245) (by decide +kernel) (by decide) (by decide) rfl (Nat.le_of_ble_eq_true rfl) dX1_set_2 (fun r u hr => ?_)
  subst hr
  (try dsimp only)
  refine j_ifB_eq (tgt := 10) (pc := 5) C dX1_set_5 (by decide) (fun c5 => ?_) (fun c5 => ?_)
  · have hpl := Decidable.of_not_not (of_decide_eq_false c5)
    obtain ⟨g, hg, rfl⟩ := place_of hn hpl
    refine j_iload2 (pc := 10) C dX1_set_10 ?_
    refine j_if_lt (tgt := 20) (pc := 11) C dX1_set_11 (by decide) (fun c11 => ?_) (fun c11 => ?_)
    · refine j_bipush (pc := 20) C (-2) dX1_set_20 (by decide) ?_
      have hf : f_set txt n (nI g) y = (-2, txt, n) := by unfold f_set; rw [if_pos hpl, if_neg (fun q => q.1 c11)]
      exact j_iret (WS := YU ad cI cZ) (txt, _, _, _, _, _, _, _, _, nI (n), _) C dX1_set_22 ⟨by rw [hf]; dsimp only; exact ⟨rfl, hn, rfl⟩, by rw [hf]⟩
    · refine j_iload2 (pc := 14) C dX1_set_14 ?_
      refine j_bipush (pc := 15) C (nI 7) dX1_set_15 (by decide) ?_
      refine j_icmp_le (tgt := 23) (pc := 17) C dX1_set_17 (by decide) (fun c17 => ?_) (fun c17 => ?_)
      · refine y_ag_txt (pc := 23) C dX1_set_23 dX1_set_24 ?_
        refine j_iload1 (pc := 27) C dX1_set_27 ?_
        refine y_ald_txt (pc := 28) C dX1_set_28 (by omega) ?_
        refine j_istore3 (pc := 29) C dX1_set_29 ?_
        refine y_ag_txt (pc := 30) C dX1_set_30 dX1_set_31 ?_
        refine j_iload1 (pc := 34) C dX1_set_34 ?_
        refine j_iload2 (pc := 35) C dX1_set_35 ?_
        refine y_ast_txt (pc := 36) C dX1_set_36 (by omega) ?_
        refine j_iload3 (pc := 37) C dX1_set_37 ?_
        have hf : f_set txt n (nI g) y = (txt g, upd txt g y, n) := by unfold f_set; rw [if_pos hpl, if_pos ⟨c11, Int32.not_lt.mpr c17⟩, cl_n (by omega)]
        exact j_iret (WS := YU ad cI cZ) (upd txt g y, _, _, _, _, _, _, _, _, nI (n), _) C dX1_set_38 ⟨by rw [hf]; dsimp only; exact ⟨rfl, hn, rfl⟩, by rw [hf]⟩
      · refine j_bipush (pc := 20) C (-2) dX1_set_20 (by decide) ?_
        have hf : f_set txt n (nI g) y = (-2, txt, n) := by unfold f_set; rw [if_pos hpl, if_neg (fun q => c17 (Int32.not_lt.mp q.2))]
        exact j_iret (WS := YU ad cI cZ) (txt, _, _, _, _, _, _, _, _, nI (n), _) C dX1_set_22 ⟨by rw [hf]; dsimp only; exact ⟨rfl, hn, rfl⟩, by rw [hf]⟩
  · refine j_iconst (pc := 8) C (-1) dX1_set_8 (by decide) ?_
    have hf : f_set txt n x y = (-1, txt, n) := by unfold f_set; rw [if_neg (of_decide_eq_true c5)]
    exact j_iret (WS := YU ad cI cZ) (txt, _, _, _, _, _, _, _, _, nI (n), _) C dX1_set_9 ⟨by rw [hf]; dsimp only; exact ⟨rfl, hn, rfl⟩, by rw [hf]⟩

set_option maxHeartbeats 4000000 in
set_option maxRecDepth 100000 in
theorem ym_delete {l : Launch} {D : va_G} {cI cZ : ClassId} {ad : Nat → Nat} {txt mds ess dps prs jns cls sty stk : Nat → Int32} {top : Int32} {n : Nat} (hn : n ≤ 64) {x y : Int32} : MetI l yX1_delete cX1_delete 5 (some .int) 4 D cI cZ [.ref (ad 0), .int x, .int y] (YU ad cI cZ) (YW ad cI cZ txt mds ess dps prs jns cls sty stk (nI n) top) (fun (r : Int32) (u : YT) => YOK (f_del txt n x y).2.1 (f_del txt n x y).2.2 u ∧ r = (f_del txt n x y).1) := by
  refine fun sz => j_start (Qc := fun A => (QI (fun (r : Int32) (u : YT) => YOK (f_del txt n x y).2.1 (f_del txt n x y).2.2 u ∧ r = (f_del txt n x y).1) (YU ad cI cZ) D cI cZ A)) [some (.inr (ad 0)), some (.inl x), some (.inl y), none, none] (by decide) (Nat.le_of_ble_eq_true rfl) rfl ?_ sz
  intro p e s m args below meth c A C
  have C : CC p s m args meth c D A cI cZ RX1 cX1_delete 5 (some .int) := C
  refine j_iload1 (pc := 0) C dX1_delete_0 ?_
  refine j_if_lt (tgt := 17) (pc := 1) C dX1_delete_1 (by decide) (fun c1 => ?_) (fun c1 => ?_)
  · refine j_iconst (pc := 17) C (-1) dX1_delete_17 (by decide) ?_
    have hf : f_del txt n x y = (-1, txt, n) := by unfold f_del; rw [if_neg (fun q => q.1 c1)]
    exact j_iret (WS := YU ad cI cZ) (txt, _, _, _, _, _, _, _, _, nI (n), _) C dX1_delete_18 ⟨by rw [hf]; dsimp only; exact ⟨rfl, hn, rfl⟩, by rw [hf]⟩
  · refine j_iload1 (pc := 4) C dX1_delete_4 ?_
    refine j_iload2 (pc := 5) C dX1_delete_5 ?_
    refine j_icmp_gt (tgt := 17) (pc := 6) C dX1_delete_6 (by decide) (fun c6 => ?_) (fun c6 => ?_)
    · refine j_iconst (pc := 17) C (-1) dX1_delete_17 (by decide) ?_
      have hf : f_del txt n x y = (-1, txt, n) := by unfold f_del; rw [if_neg (fun q => q.2.1 c6)]
      exact j_iret (WS := YU ad cI cZ) (txt, _, _, _, _, _, _, _, _, nI (n), _) C dX1_delete_18 ⟨by rw [hf]; dsimp only; exact ⟨rfl, hn, rfl⟩, by rw [hf]⟩
    · refine j_iload2 (pc := 9) C dX1_delete_9 ?_
      refine y_ag_len (pc := 10) C dX1_delete_10 dX1_delete_11 ?_
      refine j_icmp_le (tgt := 19) (pc := 14) C dX1_delete_14 (by decide) (fun c14 => ?_) (fun c14 => ?_)
      · obtain ⟨a, b, ha, hb, rfl, rfl⟩ := del_of hn c1 c6 (Int32.not_lt.mpr c14)
        have hab : ¬ nI a < 0 ∧ ¬ nI b < nI a ∧ ¬ nI n < nI b := del_is hn ha hb
        have hf : f_del txt n (nI a) (nI b) = (nI (n - (b - a)), delL txt a (b - a) n, n - (b - a)) := by unfold f_del; rw [if_pos hab, cl_n (by omega), cl_n (by omega)]
        have loop : ∀ (f i : Nat), n < i + (b - a) + f → i + (b - a) ≤ n → a ≤ i → JJ p l e s m args below meth c D A 4 (QI (fun (r : Int32) (u : YT) => YOK (f_del txt n (nI a) (nI b)).2.1 (f_del txt n (nI a) (nI b)).2.2 u ∧ r = (f_del txt n (nI a) (nI b)).1) (YU ad cI cZ) D cI cZ A) (YW ad cI cZ (delL txt a (b - a) (i + (b - a))) mds ess dps prs jns cls sty stk (nI n) top) 26 [some (.inr (ad 0)), some (.inl (nI a)), some (.inl (nI b)), some (.inl (nI (b - a))), some (.inl (nI i))] [] := by
          intro f
          induction f with
          | zero => intro i h1 h2 h3; omega
          | succ f ih =>
            intro i h1 h2 h3
            refine j_iload4 (pc := 26) C dX1_delete_26 ?_
            refine j_iload3 (pc := 28) C dX1_delete_28 ?_
            refine j_iaddN (pc := 29) C dX1_delete_29 ?_
            refine y_ag_len (pc := 30) C dX1_delete_30 dX1_delete_31 ?_
            refine j_icmpN_ge (tgt := 68) (pc := 34) C dX1_delete_34 (by decide) (by omega) (by omega) (fun c34 => ?_) (fun c34 => ?_)
            · refine j_aload0 (pc := 68) C dX1_delete_68 ?_
              refine j_dupr (pc := 69) C dX1_delete_69 ?_
              refine y_get_len (pc := 70) C dX1_delete_70 ?_
              refine j_iload3 (pc := 73) C dX1_delete_73 ?_
              refine j_isubN (pc := 74) C dX1_delete_74 (by omega) ?_
              refine y_put_len (pc := 75) C dX1_delete_75 ?_
              refine y_ag_len (pc := 78) C dX1_delete_78 dX1_delete_79 ?_
              have en : i + (b - a) = n := by omega
              rw [en]
              exact j_iret (WS := YU ad cI cZ) (delL txt a (b - a) n, _, _, _, _, _, _, _, _, nI (n - (b - a)), _) C dX1_delete_82 ⟨by rw [hf]; dsimp only; exact ⟨rfl, by omega, rfl⟩, by rw [hf]⟩
            · refine j_iload4 (pc := 37) C dX1_delete_37 ?_
              refine j_iload3 (pc := 39) C dX1_delete_39 ?_
              refine j_iaddN (pc := 40) C dX1_delete_40 ?_
              refine j_bipush (pc := 41) C (nI 64) dX1_delete_41 (by decide) ?_
              refine j_icmpN_ge (tgt := 68) (pc := 43) C dX1_delete_43 (by decide) (by omega) (by omega) (fun c43 => ?_) (fun c43 => ?_)
              · exact absurd c43 (by omega)
              · refine y_ag_txt (pc := 46) C dX1_delete_46 dX1_delete_47 ?_
                refine j_iload4 (pc := 50) C dX1_delete_50 ?_
                refine y_ag_txt (pc := 52) C dX1_delete_52 dX1_delete_53 ?_
                refine j_iload4 (pc := 56) C dX1_delete_56 ?_
                refine j_iload3 (pc := 58) C dX1_delete_58 ?_
                refine j_iaddN (pc := 59) C dX1_delete_59 ?_
                refine y_ald_txt (pc := 60) C dX1_delete_60 (by omega) ?_
                refine j_top (txt (i + (b - a))) delL_at ?_
                refine y_ast_txt (pc := 61) C dX1_delete_61 (by omega) ?_
                have es9 := delL_s (t := txt) (a := a) (d := b - a) (i := i + (b - a)) (by omega)
                rw [show i + (b - a) - (b - a) = i by omega] at es9
                rw [es9, show i + (b - a) + 1 = i + 1 + (b - a) by omega]
                refine j_inc4 (pc := 62) C dX1_delete_62 ?_
                refine j_goto (tgt := 26) (pc := 65) C dX1_delete_65 (by decide) ?_
                exact ih (i + 1) (by omega) (by omega) (by omega)
        refine j_iload2 (pc := 19) C dX1_delete_19 ?_
        refine j_iload1 (pc := 20) C dX1_delete_20 ?_
        refine j_isubN (pc := 21) C dX1_delete_21 (by omega) ?_
        refine j_istore3 (pc := 22) C dX1_delete_22 ?_
        refine j_iload1 (pc := 23) C dX1_delete_23 ?_
        refine j_istore4 (pc := 24) C dX1_delete_24 ?_
        have h9 := loop (n + 1) a (by omega) (by omega) (Nat.le_refl a)
        rw [delL_0] at h9
        exact h9
      · refine j_iconst (pc := 17) C (-1) dX1_delete_17 (by decide) ?_
        have hf : f_del txt n x y = (-1, txt, n) := by unfold f_del; rw [if_neg (fun q => c14 (Int32.not_lt.mp q.2.2))]
        exact j_iret (WS := YU ad cI cZ) (txt, _, _, _, _, _, _, _, _, nI (n), _) C dX1_delete_18 ⟨by rw [hf]; dsimp only; exact ⟨rfl, hn, rfl⟩, by rw [hf]⟩
end
section
def zf : Nat → Int32 := fun _ => 0
theorem ra_int {s : State} {cA cB : ClassId} (h1 : va_RA s cA .int) (h2 : va_RA s cB .int) : cB = cA := Option.some.inj ((show s.vm.findClass ("[" ++ FieldType.int.toString) = some cB from h2).symm.trans h1)
theorem ra_bool {s : State} {cA cB : ClassId} (h1 : va_RA s cA .boolean) (h2 : va_RA s cB .boolean) : cB = cA := Option.some.inj ((show s.vm.findClass ("[" ++ FieldType.boolean.toString) = some cB from h2).symm.trans h1)

abbrev xw0 (h0 : Nat) : va_W := [(h0, .inr (0, [.null, .null, .null, .null, .null, .null, .null, .int 0, .int 0, .int 0, .int 0, .int 0]))]
set_option maxHeartbeats 4000000 in
set_option maxRecDepth 100000 in
theorem xm_init (l : Launch) (D : va_G) (cI cZ : ClassId) (h0 sz : Nat) : Met l yX0_init (ws_ yX0_init cX0_init 1 none) ({ frames := 1, cells := 7, slots := 271, locals := 12 }) (PW [.ref h0] (xw0 h0) D cI cZ sz) (va_Qv (fun ad : Nat → Nat => ad 0 = h0) (fun ad t => va_P D vwCl (XW ad cI cZ zf zf zf zf zf zf (upd zf 0 (-2)) 0 0 0 0 0) t.heap ∧ va_K D vwCl [(cI, .int), (cZ, .boolean)] t ∧ va_D (va_A (xw0 h0) sz) (XW ad cI cZ zf zf zf zf zf zf (upd zf 0 (-2)) 0 0 0 0 0)) (va_A (xw0 h0) sz)) 7 271 (va_A (xw0 h0) sz) := by
  refine Met.ofW (cc := cX0_init) (maxL := 1) (ret := none) (by decide) rfl ?_
  intro p e s m args below meth c s₁ B hml hv
  obtain ⟨rfl, hsz, hP, hK, hD0⟩ := hv
  have hx := B.exec
  have hb := B.bytes
  have hr := B.returns
  have hts := atoms_spec (ws := ws_ yX0_init cX0_init 1 none) B.pre
  have hts : ∀ w ∈ lw_all, w.before _ s = true := fun w h => hts w (List.mem_cons_of_mem _ h)
  have hown : s.vm.findClass RX0 = some m.cls := findClass_of_methodNamed B.named
  have hlocks := B.notSynchronized
  have hin : meth.name = "<init>" := (name_of_methodNamed B.named B.method).1
  subst hsz
  have hD := hD0.self (sz := s.heap.size)
  generalize hAe : va_A (xw0 h0) s.heap.size = A at hD ⊢
  have hA : ∀ q : Nat, s.heap.size ≤ q → A q := fun q h => by rw [← hAe]; exact Or.inr h
  have hS : va_S A s.heap s.heap [] := va_S.rf
  have hP : va_P D vwCl [(h0, .inr (0, [.null, .null, .null, .null, .null, .null, .null, .int 0, .int 0, .int 0, .int 0, .int 0]))] s.heap := hP
  have hl := lv_entry ([.ref h0]) (n := 1) (Nat.le_of_ble_eq_true rfl)
  rw [lg_entry_eq]
  generalize (lg_sl ([.ref h0]) ++ List.replicate (1 - (lg_sl ([.ref h0])).length) Slot.unset).toArray = ls at hl ⊢
  have hl : lv_has ls 1 [(0, .ref h0)] := hl
  refine lv_aload_n hx hb dX0_init_0 rfl (lv_at hl 0 rfl) ?_
  refine W.objInit hx hb hown (hts _ q29) (hts _ q30) (hts _ q31) rfl (by rw [hml]; exact hl.1) rfl dX0_init_1 (Nat.le_of_ble_eq_true rfl) (Nat.le_of_ble_eq_true rfl) ?_
  refine W.eq (g2 := F0 m 4 ls []) rfl ?_
  refine lv_aload_n hx hb dX0_init_4 rfl (lv_at hl 0 rfl) ?_
  refine lv_bipush (v := 64) hx hb dX0_init_5 (by decide) ?_
  refine va_newa (atype := .int) (ty := .int) (N' := 64) (a0 := (64, .inl zf)) hx hb (hts _ q69) rfl hK hP hD hS hA (fun _ => rfl) (by decide) (by decide) (by decide) (Nat.le_of_ble_eq_true rfl) (Nat.le_of_ble_eq_true rfl) dX0_init_7 (fun a1 cA H hK2 hP hD hS => ?_)
  have ec : cI = cA := ra_int (hK2.2 2 _ rfl).2 (hK.2 0 _ rfl).2
  subst ec
  clear hK2
  have hP : va_P D vwCl [(h0, .inr (0, [.null, .null, .null, .null, .null, .null, .null, .int 0, .int 0, .int 0, .int 0, .int 0])), (a1, .inl (cI, 64, .inl zf))] H := hP
  have hD : va_D A [(h0, .inr (0, [.null, .null, .null, .null, .null, .null, .null, .int 0, .int 0, .int 0, .int 0, .int 0])), (a1, .inl (cI, 64, .inl zf))] := hD
  refine W.widen (k := 1) (n := 64) (by omega) (by omega) ?_
  refine va_putF (D := D) (ci := 0) (v := .ref a1) (ty := .array .int) (C := RX0) (T := TX0) (N := 12) hx hb hts in_X0 tyX0 tyX0_ok nmX0 hown hK hP hD hS 0 rfl rfl 0 (by decide) (hts _ q32) (fun _ h9 => h9) rfl hin rfl (by decide +kernel) rfl rfl (Nat.le_of_ble_eq_true rfl) dX0_init_9 (fun H locs hP hD hS => ?_)
  have hP : va_P D vwCl [(h0, .inr (0, [.ref a1, .null, .null, .null, .null, .null, .null, .int 0, .int 0, .int 0, .int 0, .int 0])), (a1, .inl (cI, 64, .inl zf))] H := hP
  have hD : va_D A [(h0, .inr (0, [.ref a1, .null, .null, .null, .null, .null, .null, .int 0, .int 0, .int 0, .int 0, .int 0])), (a1, .inl (cI, 64, .inl zf))] := hD
  refine lv_aload_n hx hb dX0_init_12 rfl (lv_at hl 0 rfl) ?_
  refine lv_bipush (v := 64) hx hb dX0_init_13 (by decide) ?_
  refine va_newa (atype := .int) (ty := .int) (N' := 64) (a0 := (64, .inl zf)) hx hb (hts _ q69) rfl hK hP hD hS hA (fun _ => rfl) (by decide) (by decide) (by decide) (Nat.le_of_ble_eq_true rfl) (Nat.le_of_ble_eq_true rfl) dX0_init_15 (fun a2 cA H hK2 hP hD hS => ?_)
  have ec : cI = cA := ra_int (hK2.2 2 _ rfl).2 (hK.2 0 _ rfl).2
  subst ec
  clear hK2
  have hP : va_P D vwCl [(h0, .inr (0, [.ref a1, .null, .null, .null, .null, .null, .null, .int 0, .int 0, .int 0, .int 0, .int 0])), (a1, .inl (cI, 64, .inl zf)), (a2, .inl (cI, 64, .inl zf))] H := hP
  have hD : va_D A [(h0, .inr (0, [.ref a1, .null, .null, .null, .null, .null, .null, .int 0, .int 0, .int 0, .int 0, .int 0])), (a1, .inl (cI, 64, .inl zf)), (a2, .inl (cI, 64, .inl zf))] := hD
  refine W.widen (k := 2) (n := 128) (by omega) (by omega) ?_
  refine va_putF (D := D) (ci := 0) (v := .ref a2) (ty := .array .int) (C := RX0) (T := TX0) (N := 12) hx hb hts in_X0 tyX0 tyX0_ok nmX0 hown hK hP hD hS 0 rfl rfl 1 (by decide) (hts _ q33) (fun _ h9 => h9) rfl hin rfl (by decide +kernel) rfl rfl (Nat.le_of_ble_eq_true rfl) dX0_init_17 (fun H locs hP hD hS => ?_)
  have hP : va_P D vwCl [(h0, .inr (0, [.ref a1, .ref a2, .null, .null, .null, .null, .null, .int 0, .int 0, .int 0, .int 0, .int 0])), (a1, .inl (cI, 64, .inl zf)), (a2, .inl (cI, 64, .inl zf))] H := hP
  have hD : va_D A [(h0, .inr (0, [.ref a1, .ref a2, .null, .null, .null, .null, .null, .int 0, .int 0, .int 0, .int 0, .int 0])), (a1, .inl (cI, 64, .inl zf)), (a2, .inl (cI, 64, .inl zf))] := hD
  refine lv_aload_n hx hb dX0_init_20 rfl (lv_at hl 0 rfl) ?_
  refine lv_bipush (v := 64) hx hb dX0_init_21 (by decide) ?_
  refine va_newa (atype := .int) (ty := .int) (N' := 64) (a0 := (64, .inl zf)) hx hb (hts _ q69) rfl hK hP hD hS hA (fun _ => rfl) (by decide) (by decide) (by decide) (Nat.le_of_ble_eq_true rfl) (Nat.le_of_ble_eq_true rfl) dX0_init_23 (fun a3 cA H hK2 hP hD hS => ?_)
  have ec : cI = cA := ra_int (hK2.2 2 _ rfl).2 (hK.2 0 _ rfl).2
  subst ec
  clear hK2
  have hP : va_P D vwCl [(h0, .inr (0, [.ref a1, .ref a2, .null, .null, .null, .null, .null, .int 0, .int 0, .int 0, .int 0, .int 0])), (a1, .inl (cI, 64, .inl zf)), (a2, .inl (cI, 64, .inl zf)), (a3, .inl (cI, 64, .inl zf))] H := hP
  have hD : va_D A [(h0, .inr (0, [.ref a1, .ref a2, .null, .null, .null, .null, .null, .int 0, .int 0, .int 0, .int 0, .int 0])), (a1, .inl (cI, 64, .inl zf)), (a2, .inl (cI, 64, .inl zf)), (a3, .inl (cI, 64, .inl zf))] := hD
  refine W.widen (k := 3) (n := 192) (by omega) (by omega) ?_
  refine va_putF (D := D) (ci := 0) (v := .ref a3) (ty := .array .int) (C := RX0) (T := TX0) (N := 12) hx hb hts in_X0 tyX0 tyX0_ok nmX0 hown hK hP hD hS 0 rfl rfl 2 (by decide) (hts _ q34) (fun _ h9 => h9) rfl hin rfl (by decide +kernel) rfl rfl (Nat.le_of_ble_eq_true rfl) dX0_init_25 (fun H locs hP hD hS => ?_)
  have hP : va_P D vwCl [(h0, .inr (0, [.ref a1, .ref a2, .ref a3, .null, .null, .null, .null, .int 0, .int 0, .int 0, .int 0, .int 0])), (a1, .inl (cI, 64, .inl zf)), (a2, .inl (cI, 64, .inl zf)), (a3, .inl (cI, 64, .inl zf))] H := hP
  have hD : va_D A [(h0, .inr (0, [.ref a1, .ref a2, .ref a3, .null, .null, .null, .null, .int 0, .int 0, .int 0, .int 0, .int 0])), (a1, .inl (cI, 64, .inl zf)), (a2, .inl (cI, 64, .inl zf)), (a3, .inl (cI, 64, .inl zf))] := hD
  refine lv_aload_n hx hb dX0_init_28 rfl (lv_at hl 0 rfl) ?_
  refine lv_bipush (v := 64) hx hb dX0_init_29 (by decide) ?_
  refine va_newa (atype := .int) (ty := .int) (N' := 64) (a0 := (64, .inl zf)) hx hb (hts _ q69) rfl hK hP hD hS hA (fun _ => rfl) (by decide) (by decide) (by decide) (Nat.le_of_ble_eq_true rfl) (Nat.le_of_ble_eq_true rfl) dX0_init_31 (fun a4 cA H hK2 hP hD hS => ?_)
  have ec : cI = cA := ra_int (hK2.2 2 _ rfl).2 (hK.2 0 _ rfl).2
  subst ec
  clear hK2
  have hP : va_P D vwCl [(h0, .inr (0, [.ref a1, .ref a2, .ref a3, .null, .null, .null, .null, .int 0, .int 0, .int 0, .int 0, .int 0])), (a1, .inl (cI, 64, .inl zf)), (a2, .inl (cI, 64, .inl zf)), (a3, .inl (cI, 64, .inl zf)), (a4, .inl (cI, 64, .inl zf))] H := hP
  have hD : va_D A [(h0, .inr (0, [.ref a1, .ref a2, .ref a3, .null, .null, .null, .null, .int 0, .int 0, .int 0, .int 0, .int 0])), (a1, .inl (cI, 64, .inl zf)), (a2, .inl (cI, 64, .inl zf)), (a3, .inl (cI, 64, .inl zf)), (a4, .inl (cI, 64, .inl zf))] := hD
  refine W.widen (k := 4) (n := 256) (by omega) (by omega) ?_
  refine va_putF (D := D) (ci := 0) (v := .ref a4) (ty := .array .int) (C := RX0) (T := TX0) (N := 12) hx hb hts in_X0 tyX0 tyX0_ok nmX0 hown hK hP hD hS 0 rfl rfl 3 (by decide) (hts _ q35) (fun _ h9 => h9) rfl hin rfl (by decide +kernel) rfl rfl (Nat.le_of_ble_eq_true rfl) dX0_init_33 (fun H locs hP hD hS => ?_)
  have hP : va_P D vwCl [(h0, .inr (0, [.ref a1, .ref a2, .ref a3, .ref a4, .null, .null, .null, .int 0, .int 0, .int 0, .int 0, .int 0])), (a1, .inl (cI, 64, .inl zf)), (a2, .inl (cI, 64, .inl zf)), (a3, .inl (cI, 64, .inl zf)), (a4, .inl (cI, 64, .inl zf))] H := hP
  have hD : va_D A [(h0, .inr (0, [.ref a1, .ref a2, .ref a3, .ref a4, .null, .null, .null, .int 0, .int 0, .int 0, .int 0, .int 0])), (a1, .inl (cI, 64, .inl zf)), (a2, .inl (cI, 64, .inl zf)), (a3, .inl (cI, 64, .inl zf)), (a4, .inl (cI, 64, .inl zf))] := hD
  refine lv_aload_n hx hb dX0_init_36 rfl (lv_at hl 0 rfl) ?_
  refine lv_iconst (v := 5) hx hb dX0_init_37 (by decide) ?_
  refine va_newa (atype := .int) (ty := .int) (N' := 5) (a0 := (5, .inl zf)) hx hb (hts _ q69) rfl hK hP hD hS hA (fun _ => rfl) (by decide) (by decide) (by decide) (Nat.le_of_ble_eq_true rfl) (Nat.le_of_ble_eq_true rfl) dX0_init_38 (fun a5 cA H hK2 hP hD hS => ?_)
  have ec : cI = cA := ra_int (hK2.2 2 _ rfl).2 (hK.2 0 _ rfl).2
  subst ec
  clear hK2
  have hP : va_P D vwCl [(h0, .inr (0, [.ref a1, .ref a2, .ref a3, .ref a4, .null, .null, .null, .int 0, .int 0, .int 0, .int 0, .int 0])), (a1, .inl (cI, 64, .inl zf)), (a2, .inl (cI, 64, .inl zf)), (a3, .inl (cI, 64, .inl zf)), (a4, .inl (cI, 64, .inl zf)), (a5, .inl (cI, 5, .inl zf))] H := hP
  have hD : va_D A [(h0, .inr (0, [.ref a1, .ref a2, .ref a3, .ref a4, .null, .null, .null, .int 0, .int 0, .int 0, .int 0, .int 0])), (a1, .inl (cI, 64, .inl zf)), (a2, .inl (cI, 64, .inl zf)), (a3, .inl (cI, 64, .inl zf)), (a4, .inl (cI, 64, .inl zf)), (a5, .inl (cI, 5, .inl zf))] := hD
  refine W.widen (k := 5) (n := 261) (by omega) (by omega) ?_
  refine va_putF (D := D) (ci := 0) (v := .ref a5) (ty := .array .int) (C := RX0) (T := TX0) (N := 12) hx hb hts in_X0 tyX0 tyX0_ok nmX0 hown hK hP hD hS 0 rfl rfl 4 (by decide) (hts _ q36) (fun _ h9 => h9) rfl hin rfl (by decide +kernel) rfl rfl (Nat.le_of_ble_eq_true rfl) dX0_init_40 (fun H locs hP hD hS => ?_)
  have hP : va_P D vwCl [(h0, .inr (0, [.ref a1, .ref a2, .ref a3, .ref a4, .ref a5, .null, .null, .int 0, .int 0, .int 0, .int 0, .int 0])), (a1, .inl (cI, 64, .inl zf)), (a2, .inl (cI, 64, .inl zf)), (a3, .inl (cI, 64, .inl zf)), (a4, .inl (cI, 64, .inl zf)), (a5, .inl (cI, 5, .inl zf))] H := hP
  have hD : va_D A [(h0, .inr (0, [.ref a1, .ref a2, .ref a3, .ref a4, .ref a5, .null, .null, .int 0, .int 0, .int 0, .int 0, .int 0])), (a1, .inl (cI, 64, .inl zf)), (a2, .inl (cI, 64, .inl zf)), (a3, .inl (cI, 64, .inl zf)), (a4, .inl (cI, 64, .inl zf)), (a5, .inl (cI, 5, .inl zf))] := hD
  refine lv_aload_n hx hb dX0_init_43 rfl (lv_at hl 0 rfl) ?_
  refine lv_iconst (v := 5) hx hb dX0_init_44 (by decide) ?_
  refine va_newa (atype := .boolean) (ty := .boolean) (N' := 5) (a0 := (5, .inl zf)) hx hb (hts _ q70) rfl hK hP hD hS hA (fun _ => rfl) (by decide) (by decide) (by decide) (Nat.le_of_ble_eq_true rfl) (Nat.le_of_ble_eq_true rfl) dX0_init_45 (fun a6 cA H hK2 hP hD hS => ?_)
  have ec : cZ = cA := ra_bool (hK2.2 2 _ rfl).2 (hK.2 1 _ rfl).2
  subst ec
  clear hK2
  have hP : va_P D vwCl [(h0, .inr (0, [.ref a1, .ref a2, .ref a3, .ref a4, .ref a5, .null, .null, .int 0, .int 0, .int 0, .int 0, .int 0])), (a1, .inl (cI, 64, .inl zf)), (a2, .inl (cI, 64, .inl zf)), (a3, .inl (cI, 64, .inl zf)), (a4, .inl (cI, 64, .inl zf)), (a5, .inl (cI, 5, .inl zf)), (a6, .inl (cZ, 5, .inl zf))] H := hP
  have hD : va_D A [(h0, .inr (0, [.ref a1, .ref a2, .ref a3, .ref a4, .ref a5, .null, .null, .int 0, .int 0, .int 0, .int 0, .int 0])), (a1, .inl (cI, 64, .inl zf)), (a2, .inl (cI, 64, .inl zf)), (a3, .inl (cI, 64, .inl zf)), (a4, .inl (cI, 64, .inl zf)), (a5, .inl (cI, 5, .inl zf)), (a6, .inl (cZ, 5, .inl zf))] := hD
  refine W.widen (k := 6) (n := 266) (by omega) (by omega) ?_
  refine va_putF (D := D) (ci := 0) (v := .ref a6) (ty := .array .boolean) (C := RX0) (T := TX0) (N := 12) hx hb hts in_X0 tyX0 tyX0_ok nmX0 hown hK hP hD hS 0 rfl rfl 5 (by decide) (hts _ q37) (fun _ h9 => h9) rfl hin rfl (by decide +kernel) rfl rfl (Nat.le_of_ble_eq_true rfl) dX0_init_47 (fun H locs hP hD hS => ?_)
  have hP : va_P D vwCl [(h0, .inr (0, [.ref a1, .ref a2, .ref a3, .ref a4, .ref a5, .ref a6, .null, .int 0, .int 0, .int 0, .int 0, .int 0])), (a1, .inl (cI, 64, .inl zf)), (a2, .inl (cI, 64, .inl zf)), (a3, .inl (cI, 64, .inl zf)), (a4, .inl (cI, 64, .inl zf)), (a5, .inl (cI, 5, .inl zf)), (a6, .inl (cZ, 5, .inl zf))] H := hP
  have hD : va_D A [(h0, .inr (0, [.ref a1, .ref a2, .ref a3, .ref a4, .ref a5, .ref a6, .null, .int 0, .int 0, .int 0, .int 0, .int 0])), (a1, .inl (cI, 64, .inl zf)), (a2, .inl (cI, 64, .inl zf)), (a3, .inl (cI, 64, .inl zf)), (a4, .inl (cI, 64, .inl zf)), (a5, .inl (cI, 5, .inl zf)), (a6, .inl (cZ, 5, .inl zf))] := hD
  refine lv_aload_n hx hb dX0_init_50 rfl (lv_at hl 0 rfl) ?_
  refine lv_iconst (v := 5) hx hb dX0_init_51 (by decide) ?_
  refine va_newa (atype := .int) (ty := .int) (N' := 5) (a0 := (5, .inl zf)) hx hb (hts _ q69) rfl hK hP hD hS hA (fun _ => rfl) (by decide) (by decide) (by decide) (Nat.le_of_ble_eq_true rfl) (Nat.le_of_ble_eq_true rfl) dX0_init_52 (fun a7 cA H hK2 hP hD hS => ?_)
  have ec : cI = cA := ra_int (hK2.2 2 _ rfl).2 (hK.2 0 _ rfl).2
  subst ec
  clear hK2
  have hP : va_P D vwCl [(h0, .inr (0, [.ref a1, .ref a2, .ref a3, .ref a4, .ref a5, .ref a6, .null, .int 0, .int 0, .int 0, .int 0, .int 0])), (a1, .inl (cI, 64, .inl zf)), (a2, .inl (cI, 64, .inl zf)), (a3, .inl (cI, 64, .inl zf)), (a4, .inl (cI, 64, .inl zf)), (a5, .inl (cI, 5, .inl zf)), (a6, .inl (cZ, 5, .inl zf)), (a7, .inl (cI, 5, .inl zf))] H := hP
  have hD : va_D A [(h0, .inr (0, [.ref a1, .ref a2, .ref a3, .ref a4, .ref a5, .ref a6, .null, .int 0, .int 0, .int 0, .int 0, .int 0])), (a1, .inl (cI, 64, .inl zf)), (a2, .inl (cI, 64, .inl zf)), (a3, .inl (cI, 64, .inl zf)), (a4, .inl (cI, 64, .inl zf)), (a5, .inl (cI, 5, .inl zf)), (a6, .inl (cZ, 5, .inl zf)), (a7, .inl (cI, 5, .inl zf))] := hD
  refine W.widen (k := 7) (n := 271) (by omega) (by omega) ?_
  refine va_putF (D := D) (ci := 0) (v := .ref a7) (ty := .array .int) (C := RX0) (T := TX0) (N := 12) hx hb hts in_X0 tyX0 tyX0_ok nmX0 hown hK hP hD hS 0 rfl rfl 6 (by decide) (hts _ q38) (fun _ h9 => h9) rfl hin rfl (by decide +kernel) rfl rfl (Nat.le_of_ble_eq_true rfl) dX0_init_54 (fun H locs hP hD hS => ?_)
  have hP : va_P D vwCl [(h0, .inr (0, [.ref a1, .ref a2, .ref a3, .ref a4, .ref a5, .ref a6, .ref a7, .int 0, .int 0, .int 0, .int 0, .int 0])), (a1, .inl (cI, 64, .inl zf)), (a2, .inl (cI, 64, .inl zf)), (a3, .inl (cI, 64, .inl zf)), (a4, .inl (cI, 64, .inl zf)), (a5, .inl (cI, 5, .inl zf)), (a6, .inl (cZ, 5, .inl zf)), (a7, .inl (cI, 5, .inl zf))] H := hP
  have hD : va_D A [(h0, .inr (0, [.ref a1, .ref a2, .ref a3, .ref a4, .ref a5, .ref a6, .ref a7, .int 0, .int 0, .int 0, .int 0, .int 0])), (a1, .inl (cI, 64, .inl zf)), (a2, .inl (cI, 64, .inl zf)), (a3, .inl (cI, 64, .inl zf)), (a4, .inl (cI, 64, .inl zf)), (a5, .inl (cI, 5, .inl zf)), (a6, .inl (cZ, 5, .inl zf)), (a7, .inl (cI, 5, .inl zf))] := hD
  refine lv_aload_n hx hb dX0_init_57 rfl (lv_at hl 0 rfl) ?_
  refine va_get (D := D) (ci := 0) (v := .ref a7) (C := RX0) (T := TX0) (N := 12) hx hb hts in_X0 hown hK hP 0 rfl rfl 6 (by decide) (hts _ q38) (fun _ h9 => h9) rfl dX0_init_58 ?_
  refine lv_iconst (v := 0) hx hb dX0_init_61 (by decide) ?_
  refine lv_bipush (v := (-2)) hx hb dX0_init_62 (by decide) ?_
  refine va_iast hx hb hK hP hD hS 7 0 rfl rfl (by unfold vp_in; decide) dX0_init_64 (fun H locs hP hD hS => ?_)
  have hP : va_P D vwCl [(h0, .inr (0, [.ref a1, .ref a2, .ref a3, .ref a4, .ref a5, .ref a6, .ref a7, .int 0, .int 0, .int 0, .int 0, .int 0])), (a1, .inl (cI, 64, .inl zf)), (a2, .inl (cI, 64, .inl zf)), (a3, .inl (cI, 64, .inl zf)), (a4, .inl (cI, 64, .inl zf)), (a5, .inl (cI, 5, .inl zf)), (a6, .inl (cZ, 5, .inl zf)), (a7, .inl (cI, 5, .inl (upd zf 0 (-2))))] H := hP
  have hD : va_D A [(h0, .inr (0, [.ref a1, .ref a2, .ref a3, .ref a4, .ref a5, .ref a6, .ref a7, .int 0, .int 0, .int 0, .int 0, .int 0])), (a1, .inl (cI, 64, .inl zf)), (a2, .inl (cI, 64, .inl zf)), (a3, .inl (cI, 64, .inl zf)), (a4, .inl (cI, 64, .inl zf)), (a5, .inl (cI, 5, .inl zf)), (a6, .inl (cZ, 5, .inl zf)), (a7, .inl (cI, 5, .inl (upd zf 0 (-2))))] := hD
  exact W.vret hx hb hr (fun t ht hW => ⟨⟨(fun k => match k with | 0 => h0 | 1 => a1 | 2 => a2 | 3 => a3 | 4 => a4 | 5 => a5 | 6 => a6 | _ => a7), rfl, rfl, by rw [ht]; exact hP, va_K.moved hW.alike hK, hD⟩, hS.F ht⟩) hS.2.2 dX0_init_65

abbrev yw0 (h0 : Nat) : va_W := [(h0, .inr (1, [.int 0, .null, .null, .null, .null, .null, .null, .null, .null, .null, .int 0]))]
set_option maxHeartbeats 4000000 in
set_option maxRecDepth 100000 in
theorem ym_init (l : Launch) (D : va_G) (cI cZ : ClassId) (h0 sz : Nat) : Met l yX1_init (ws_ yX1_init cX1_init 1 none) ({ frames := 1, cells := 9, slots := 579, locals := 12 }) (PW [.ref h0] (yw0 h0) D cI cZ sz) (va_Qv (fun ad : Nat → Nat => ad 0 = h0) (fun ad t => va_P D vwCl (YW ad cI cZ zf zf zf zf zf zf zf zf zf 0 0) t.heap ∧ va_K D vwCl [(cI, .int), (cZ, .boolean)] t ∧ va_D (va_A (yw0 h0) sz) (YW ad cI cZ zf zf zf zf zf zf zf zf zf 0 0)) (va_A (yw0 h0) sz)) 9 579 (va_A (yw0 h0) sz) := by
  refine Met.ofW (cc := cX1_init) (maxL := 1) (ret := none) (by decide) rfl ?_
  intro p e s m args below meth c s₁ B hml hv
  obtain ⟨rfl, hsz, hP, hK, hD0⟩ := hv
  have hx := B.exec
  have hb := B.bytes
  have hr := B.returns
  have hts := atoms_spec (ws := ws_ yX1_init cX1_init 1 none) B.pre
  have hts : ∀ w ∈ lw_all, w.before _ s = true := fun w h => hts w (List.mem_cons_of_mem _ h)
  have hown : s.vm.findClass RX1 = some m.cls := findClass_of_methodNamed B.named
  have hlocks := B.notSynchronized
  have hin : meth.name = "<init>" := (name_of_methodNamed B.named B.method).1
  subst hsz
  have hD := hD0.self (sz := s.heap.size)
  generalize hAe : va_A (yw0 h0) s.heap.size = A at hD ⊢
  have hA : ∀ q : Nat, s.heap.size ≤ q → A q := fun q h => by rw [← hAe]; exact Or.inr h
  have hS : va_S A s.heap s.heap [] := va_S.rf
  have hP : va_P D vwCl [(h0, .inr (1, [.int 0, .null, .null, .null, .null, .null, .null, .null, .null, .null, .int 0]))] s.heap := hP
  have hl := lv_entry ([.ref h0]) (n := 1) (Nat.le_of_ble_eq_true rfl)
  rw [lg_entry_eq]
  generalize (lg_sl ([.ref h0]) ++ List.replicate (1 - (lg_sl ([.ref h0])).length) Slot.unset).toArray = ls at hl ⊢
  have hl : lv_has ls 1 [(0, .ref h0)] := hl
  refine lv_aload_n hx hb dX1_init_0 rfl (lv_at hl 0 rfl) ?_
  refine W.objInit hx hb hown (hts _ q191) (hts _ q30) (hts _ q31) rfl (by rw [hml]; exact hl.1) rfl dX1_init_1 (Nat.le_of_ble_eq_true rfl) (Nat.le_of_ble_eq_true rfl) ?_
  refine W.eq (g2 := F0 m 4 ls []) rfl ?_
  refine lv_aload_n hx hb dX1_init_4 rfl (lv_at hl 0 rfl) ?_
  refine lv_bipush (v := 64) hx hb dX1_init_5 (by decide) ?_
  refine va_newa (atype := .int) (ty := .int) (N' := 64) (a0 := (64, .inl zf)) hx hb (hts _ q69) rfl hK hP hD hS hA (fun _ => rfl) (by decide) (by decide) (by decide) (Nat.le_of_ble_eq_true rfl) (Nat.le_of_ble_eq_true rfl) dX1_init_7 (fun a1 cA H hK2 hP hD hS => ?_)
  have ec : cI = cA := ra_int (hK2.2 2 _ rfl).2 (hK.2 0 _ rfl).2
  subst ec
  clear hK2
  have hP : va_P D vwCl [(h0, .inr (1, [.int 0, .null, .null, .null, .null, .null, .null, .null, .null, .null, .int 0])), (a1, .inl (cI, 64, .inl zf))] H := hP
  have hD : va_D A [(h0, .inr (1, [.int 0, .null, .null, .null, .null, .null, .null, .null, .null, .null, .int 0])), (a1, .inl (cI, 64, .inl zf))] := hD
  refine W.widen (k := 1) (n := 64) (by omega) (by omega) ?_
  refine va_put (D := D) (ci := 1) (v := .ref a1) (ty := .array .int) (C := RX1) (T := TX1) (N := 11) hx hb hts in_X1 tyX1 tyX1_ok nmX1 hown hK hP hD hS 0 rfl rfl 1 (by decide) (hts _ q193) (fun _ h9 => h9) rfl (by decide +kernel) rfl rfl (Nat.le_of_ble_eq_true rfl) dX1_init_9 (fun H locs hP hD hS => ?_)
  have hP : va_P D vwCl [(h0, .inr (1, [.int 0, .ref a1, .null, .null, .null, .null, .null, .null, .null, .null, .int 0])), (a1, .inl (cI, 64, .inl zf))] H := hP
  have hD : va_D A [(h0, .inr (1, [.int 0, .ref a1, .null, .null, .null, .null, .null, .null, .null, .null, .int 0])), (a1, .inl (cI, 64, .inl zf))] := hD
  refine lv_aload_n hx hb dX1_init_12 rfl (lv_at hl 0 rfl) ?_
  refine lv_bipush (v := 65) hx hb dX1_init_13 (by decide) ?_
  refine va_newa (atype := .int) (ty := .int) (N' := 65) (a0 := (65, .inl zf)) hx hb (hts _ q69) rfl hK hP hD hS hA (fun _ => rfl) (by decide) (by decide) (by decide) (Nat.le_of_ble_eq_true rfl) (Nat.le_of_ble_eq_true rfl) dX1_init_15 (fun a2 cA H hK2 hP hD hS => ?_)
  have ec : cI = cA := ra_int (hK2.2 2 _ rfl).2 (hK.2 0 _ rfl).2
  subst ec
  clear hK2
  have hP : va_P D vwCl [(h0, .inr (1, [.int 0, .ref a1, .null, .null, .null, .null, .null, .null, .null, .null, .int 0])), (a1, .inl (cI, 64, .inl zf)), (a2, .inl (cI, 65, .inl zf))] H := hP
  have hD : va_D A [(h0, .inr (1, [.int 0, .ref a1, .null, .null, .null, .null, .null, .null, .null, .null, .int 0])), (a1, .inl (cI, 64, .inl zf)), (a2, .inl (cI, 65, .inl zf))] := hD
  refine W.widen (k := 2) (n := 129) (by omega) (by omega) ?_
  refine va_put (D := D) (ci := 1) (v := .ref a2) (ty := .array .int) (C := RX1) (T := TX1) (N := 11) hx hb hts in_X1 tyX1 tyX1_ok nmX1 hown hK hP hD hS 0 rfl rfl 2 (by decide) (hts _ q194) (fun _ h9 => h9) rfl (by decide +kernel) rfl rfl (Nat.le_of_ble_eq_true rfl) dX1_init_17 (fun H locs hP hD hS => ?_)
  have hP : va_P D vwCl [(h0, .inr (1, [.int 0, .ref a1, .ref a2, .null, .null, .null, .null, .null, .null, .null, .int 0])), (a1, .inl (cI, 64, .inl zf)), (a2, .inl (cI, 65, .inl zf))] H := hP
  have hD : va_D A [(h0, .inr (1, [.int 0, .ref a1, .ref a2, .null, .null, .null, .null, .null, .null, .null, .int 0])), (a1, .inl (cI, 64, .inl zf)), (a2, .inl (cI, 65, .inl zf))] := hD
  refine lv_aload_n hx hb dX1_init_20 rfl (lv_at hl 0 rfl) ?_
  refine lv_bipush (v := 65) hx hb dX1_init_21 (by decide) ?_
  refine va_newa (atype := .boolean) (ty := .boolean) (N' := 65) (a0 := (65, .inl zf)) hx hb (hts _ q70) rfl hK hP hD hS hA (fun _ => rfl) (by decide) (by decide) (by decide) (Nat.le_of_ble_eq_true rfl) (Nat.le_of_ble_eq_true rfl) dX1_init_23 (fun a3 cA H hK2 hP hD hS => ?_)
  have ec : cZ = cA := ra_bool (hK2.2 2 _ rfl).2 (hK.2 1 _ rfl).2
  subst ec
  clear hK2
  have hP : va_P D vwCl [(h0, .inr (1, [.int 0, .ref a1, .ref a2, .null, .null, .null, .null, .null, .null, .null, .int 0])), (a1, .inl (cI, 64, .inl zf)), (a2, .inl (cI, 65, .inl zf)), (a3, .inl (cZ, 65, .inl zf))] H := hP
  have hD : va_D A [(h0, .inr (1, [.int 0, .ref a1, .ref a2, .null, .null, .null, .null, .null, .null, .null, .int 0])), (a1, .inl (cI, 64, .inl zf)), (a2, .inl (cI, 65, .inl zf)), (a3, .inl (cZ, 65, .inl zf))] := hD
  refine W.widen (k := 3) (n := 194) (by omega) (by omega) ?_
  refine va_put (D := D) (ci := 1) (v := .ref a3) (ty := .array .boolean) (C := RX1) (T := TX1) (N := 11) hx hb hts in_X1 tyX1 tyX1_ok nmX1 hown hK hP hD hS 0 rfl rfl 3 (by decide) (hts _ q195) (fun _ h9 => h9) rfl (by decide +kernel) rfl rfl (Nat.le_of_ble_eq_true rfl) dX1_init_25 (fun H locs hP hD hS => ?_)
  have hP : va_P D vwCl [(h0, .inr (1, [.int 0, .ref a1, .ref a2, .ref a3, .null, .null, .null, .null, .null, .null, .int 0])), (a1, .inl (cI, 64, .inl zf)), (a2, .inl (cI, 65, .inl zf)), (a3, .inl (cZ, 65, .inl zf))] H := hP
  have hD : va_D A [(h0, .inr (1, [.int 0, .ref a1, .ref a2, .ref a3, .null, .null, .null, .null, .null, .null, .int 0])), (a1, .inl (cI, 64, .inl zf)), (a2, .inl (cI, 65, .inl zf)), (a3, .inl (cZ, 65, .inl zf))] := hD
  refine lv_aload_n hx hb dX1_init_28 rfl (lv_at hl 0 rfl) ?_
  refine lv_bipush (v := 65) hx hb dX1_init_29 (by decide) ?_
  refine va_newa (atype := .int) (ty := .int) (N' := 65) (a0 := (65, .inl zf)) hx hb (hts _ q69) rfl hK hP hD hS hA (fun _ => rfl) (by decide) (by decide) (by decide) (Nat.le_of_ble_eq_true rfl) (Nat.le_of_ble_eq_true rfl) dX1_init_31 (fun a4 cA H hK2 hP hD hS => ?_)
  have ec : cI = cA := ra_int (hK2.2 2 _ rfl).2 (hK.2 0 _ rfl).2
  subst ec
  clear hK2
  have hP : va_P D vwCl [(h0, .inr (1, [.int 0, .ref a1, .ref a2, .ref a3, .null, .null, .null, .null, .null, .null, .int 0])), (a1, .inl (cI, 64, .inl zf)), (a2, .inl (cI, 65, .inl zf)), (a3, .inl (cZ, 65, .inl zf)), (a4, .inl (cI, 65, .inl zf))] H := hP
  have hD : va_D A [(h0, .inr (1, [.int 0, .ref a1, .ref a2, .ref a3, .null, .null, .null, .null, .null, .null, .int 0])), (a1, .inl (cI, 64, .inl zf)), (a2, .inl (cI, 65, .inl zf)), (a3, .inl (cZ, 65, .inl zf)), (a4, .inl (cI, 65, .inl zf))] := hD
  refine W.widen (k := 4) (n := 259) (by omega) (by omega) ?_
  refine va_put (D := D) (ci := 1) (v := .ref a4) (ty := .array .int) (C := RX1) (T := TX1) (N := 11) hx hb hts in_X1 tyX1 tyX1_ok nmX1 hown hK hP hD hS 0 rfl rfl 4 (by decide) (hts _ q196) (fun _ h9 => h9) rfl (by decide +kernel) rfl rfl (Nat.le_of_ble_eq_true rfl) dX1_init_33 (fun H locs hP hD hS => ?_)
  have hP : va_P D vwCl [(h0, .inr (1, [.int 0, .ref a1, .ref a2, .ref a3, .ref a4, .null, .null, .null, .null, .null, .int 0])), (a1, .inl (cI, 64, .inl zf)), (a2, .inl (cI, 65, .inl zf)), (a3, .inl (cZ, 65, .inl zf)), (a4, .inl (cI, 65, .inl zf))] H := hP
  have hD : va_D A [(h0, .inr (1, [.int 0, .ref a1, .ref a2, .ref a3, .ref a4, .null, .null, .null, .null, .null, .int 0])), (a1, .inl (cI, 64, .inl zf)), (a2, .inl (cI, 65, .inl zf)), (a3, .inl (cZ, 65, .inl zf)), (a4, .inl (cI, 65, .inl zf))] := hD
  refine lv_aload_n hx hb dX1_init_36 rfl (lv_at hl 0 rfl) ?_
  refine lv_bipush (v := 64) hx hb dX1_init_37 (by decide) ?_
  refine va_newa (atype := .int) (ty := .int) (N' := 64) (a0 := (64, .inl zf)) hx hb (hts _ q69) rfl hK hP hD hS hA (fun _ => rfl) (by decide) (by decide) (by decide) (Nat.le_of_ble_eq_true rfl) (Nat.le_of_ble_eq_true rfl) dX1_init_39 (fun a5 cA H hK2 hP hD hS => ?_)
  have ec : cI = cA := ra_int (hK2.2 2 _ rfl).2 (hK.2 0 _ rfl).2
  subst ec
  clear hK2
  have hP : va_P D vwCl [(h0, .inr (1, [.int 0, .ref a1, .ref a2, .ref a3, .ref a4, .null, .null, .null, .null, .null, .int 0])), (a1, .inl (cI, 64, .inl zf)), (a2, .inl (cI, 65, .inl zf)), (a3, .inl (cZ, 65, .inl zf)), (a4, .inl (cI, 65, .inl zf)), (a5, .inl (cI, 64, .inl zf))] H := hP
  have hD : va_D A [(h0, .inr (1, [.int 0, .ref a1, .ref a2, .ref a3, .ref a4, .null, .null, .null, .null, .null, .int 0])), (a1, .inl (cI, 64, .inl zf)), (a2, .inl (cI, 65, .inl zf)), (a3, .inl (cZ, 65, .inl zf)), (a4, .inl (cI, 65, .inl zf)), (a5, .inl (cI, 64, .inl zf))] := hD
  refine W.widen (k := 5) (n := 323) (by omega) (by omega) ?_
  refine va_put (D := D) (ci := 1) (v := .ref a5) (ty := .array .int) (C := RX1) (T := TX1) (N := 11) hx hb hts in_X1 tyX1 tyX1_ok nmX1 hown hK hP hD hS 0 rfl rfl 5 (by decide) (hts _ q197) (fun _ h9 => h9) rfl (by decide +kernel) rfl rfl (Nat.le_of_ble_eq_true rfl) dX1_init_41 (fun H locs hP hD hS => ?_)
  have hP : va_P D vwCl [(h0, .inr (1, [.int 0, .ref a1, .ref a2, .ref a3, .ref a4, .ref a5, .null, .null, .null, .null, .int 0])), (a1, .inl (cI, 64, .inl zf)), (a2, .inl (cI, 65, .inl zf)), (a3, .inl (cZ, 65, .inl zf)), (a4, .inl (cI, 65, .inl zf)), (a5, .inl (cI, 64, .inl zf))] H := hP
  have hD : va_D A [(h0, .inr (1, [.int 0, .ref a1, .ref a2, .ref a3, .ref a4, .ref a5, .null, .null, .null, .null, .int 0])), (a1, .inl (cI, 64, .inl zf)), (a2, .inl (cI, 65, .inl zf)), (a3, .inl (cZ, 65, .inl zf)), (a4, .inl (cI, 65, .inl zf)), (a5, .inl (cI, 64, .inl zf))] := hD
  refine lv_aload_n hx hb dX1_init_44 rfl (lv_at hl 0 rfl) ?_
  refine lv_bipush (v := 64) hx hb dX1_init_45 (by decide) ?_
  refine va_newa (atype := .boolean) (ty := .boolean) (N' := 64) (a0 := (64, .inl zf)) hx hb (hts _ q70) rfl hK hP hD hS hA (fun _ => rfl) (by decide) (by decide) (by decide) (Nat.le_of_ble_eq_true rfl) (Nat.le_of_ble_eq_true rfl) dX1_init_47 (fun a6 cA H hK2 hP hD hS => ?_)
  have ec : cZ = cA := ra_bool (hK2.2 2 _ rfl).2 (hK.2 1 _ rfl).2
  subst ec
  clear hK2
  have hP : va_P D vwCl [(h0, .inr (1, [.int 0, .ref a1, .ref a2, .ref a3, .ref a4, .ref a5, .null, .null, .null, .null, .int 0])), (a1, .inl (cI, 64, .inl zf)), (a2, .inl (cI, 65, .inl zf)), (a3, .inl (cZ, 65, .inl zf)), (a4, .inl (cI, 65, .inl zf)), (a5, .inl (cI, 64, .inl zf)), (a6, .inl (cZ, 64, .inl zf))] H := hP
  have hD : va_D A [(h0, .inr (1, [.int 0, .ref a1, .ref a2, .ref a3, .ref a4, .ref a5, .null, .null, .null, .null, .int 0])), (a1, .inl (cI, 64, .inl zf)), (a2, .inl (cI, 65, .inl zf)), (a3, .inl (cZ, 65, .inl zf)), (a4, .inl (cI, 65, .inl zf)), (a5, .inl (cI, 64, .inl zf)), (a6, .inl (cZ, 64, .inl zf))] := hD
  refine W.widen (k := 6) (n := 387) (by omega) (by omega) ?_
  refine va_put (D := D) (ci := 1) (v := .ref a6) (ty := .array .boolean) (C := RX1) (T := TX1) (N := 11) hx hb hts in_X1 tyX1 tyX1_ok nmX1 hown hK hP hD hS 0 rfl rfl 6 (by decide) (hts _ q198) (fun _ h9 => h9) rfl (by decide +kernel) rfl rfl (Nat.le_of_ble_eq_true rfl) dX1_init_49 (fun H locs hP hD hS => ?_)
  have hP : va_P D vwCl [(h0, .inr (1, [.int 0, .ref a1, .ref a2, .ref a3, .ref a4, .ref a5, .ref a6, .null, .null, .null, .int 0])), (a1, .inl (cI, 64, .inl zf)), (a2, .inl (cI, 65, .inl zf)), (a3, .inl (cZ, 65, .inl zf)), (a4, .inl (cI, 65, .inl zf)), (a5, .inl (cI, 64, .inl zf)), (a6, .inl (cZ, 64, .inl zf))] H := hP
  have hD : va_D A [(h0, .inr (1, [.int 0, .ref a1, .ref a2, .ref a3, .ref a4, .ref a5, .ref a6, .null, .null, .null, .int 0])), (a1, .inl (cI, 64, .inl zf)), (a2, .inl (cI, 65, .inl zf)), (a3, .inl (cZ, 65, .inl zf)), (a4, .inl (cI, 65, .inl zf)), (a5, .inl (cI, 64, .inl zf)), (a6, .inl (cZ, 64, .inl zf))] := hD
  refine lv_aload_n hx hb dX1_init_52 rfl (lv_at hl 0 rfl) ?_
  refine lv_bipush (v := 64) hx hb dX1_init_53 (by decide) ?_
  refine va_newa (atype := .boolean) (ty := .boolean) (N' := 64) (a0 := (64, .inl zf)) hx hb (hts _ q70) rfl hK hP hD hS hA (fun _ => rfl) (by decide) (by decide) (by decide) (Nat.le_of_ble_eq_true rfl) (Nat.le_of_ble_eq_true rfl) dX1_init_55 (fun a7 cA H hK2 hP hD hS => ?_)
  have ec : cZ = cA := ra_bool (hK2.2 2 _ rfl).2 (hK.2 1 _ rfl).2
  subst ec
  clear hK2
  have hP : va_P D vwCl [(h0, .inr (1, [.int 0, .ref a1, .ref a2, .ref a3, .ref a4, .ref a5, .ref a6, .null, .null, .null, .int 0])), (a1, .inl (cI, 64, .inl zf)), (a2, .inl (cI, 65, .inl zf)), (a3, .inl (cZ, 65, .inl zf)), (a4, .inl (cI, 65, .inl zf)), (a5, .inl (cI, 64, .inl zf)), (a6, .inl (cZ, 64, .inl zf)), (a7, .inl (cZ, 64, .inl zf))] H := hP
  have hD : va_D A [(h0, .inr (1, [.int 0, .ref a1, .ref a2, .ref a3, .ref a4, .ref a5, .ref a6, .null, .null, .null, .int 0])), (a1, .inl (cI, 64, .inl zf)), (a2, .inl (cI, 65, .inl zf)), (a3, .inl (cZ, 65, .inl zf)), (a4, .inl (cI, 65, .inl zf)), (a5, .inl (cI, 64, .inl zf)), (a6, .inl (cZ, 64, .inl zf)), (a7, .inl (cZ, 64, .inl zf))] := hD
  refine W.widen (k := 7) (n := 451) (by omega) (by omega) ?_
  refine va_put (D := D) (ci := 1) (v := .ref a7) (ty := .array .boolean) (C := RX1) (T := TX1) (N := 11) hx hb hts in_X1 tyX1 tyX1_ok nmX1 hown hK hP hD hS 0 rfl rfl 7 (by decide) (hts _ q199) (fun _ h9 => h9) rfl (by decide +kernel) rfl rfl (Nat.le_of_ble_eq_true rfl) dX1_init_57 (fun H locs hP hD hS => ?_)
  have hP : va_P D vwCl [(h0, .inr (1, [.int 0, .ref a1, .ref a2, .ref a3, .ref a4, .ref a5, .ref a6, .ref a7, .null, .null, .int 0])), (a1, .inl (cI, 64, .inl zf)), (a2, .inl (cI, 65, .inl zf)), (a3, .inl (cZ, 65, .inl zf)), (a4, .inl (cI, 65, .inl zf)), (a5, .inl (cI, 64, .inl zf)), (a6, .inl (cZ, 64, .inl zf)), (a7, .inl (cZ, 64, .inl zf))] H := hP
  have hD : va_D A [(h0, .inr (1, [.int 0, .ref a1, .ref a2, .ref a3, .ref a4, .ref a5, .ref a6, .ref a7, .null, .null, .int 0])), (a1, .inl (cI, 64, .inl zf)), (a2, .inl (cI, 65, .inl zf)), (a3, .inl (cZ, 65, .inl zf)), (a4, .inl (cI, 65, .inl zf)), (a5, .inl (cI, 64, .inl zf)), (a6, .inl (cZ, 64, .inl zf)), (a7, .inl (cZ, 64, .inl zf))] := hD
  refine lv_aload_n hx hb dX1_init_60 rfl (lv_at hl 0 rfl) ?_
  refine lv_bipush (v := 64) hx hb dX1_init_61 (by decide) ?_
  refine va_newa (atype := .boolean) (ty := .boolean) (N' := 64) (a0 := (64, .inl zf)) hx hb (hts _ q70) rfl hK hP hD hS hA (fun _ => rfl) (by decide) (by decide) (by decide) (Nat.le_of_ble_eq_true rfl) (Nat.le_of_ble_eq_true rfl) dX1_init_63 (fun a8 cA H hK2 hP hD hS => ?_)
  have ec : cZ = cA := ra_bool (hK2.2 2 _ rfl).2 (hK.2 1 _ rfl).2
  subst ec
  clear hK2
  have hP : va_P D vwCl [(h0, .inr (1, [.int 0, .ref a1, .ref a2, .ref a3, .ref a4, .ref a5, .ref a6, .ref a7, .null, .null, .int 0])), (a1, .inl (cI, 64, .inl zf)), (a2, .inl (cI, 65, .inl zf)), (a3, .inl (cZ, 65, .inl zf)), (a4, .inl (cI, 65, .inl zf)), (a5, .inl (cI, 64, .inl zf)), (a6, .inl (cZ, 64, .inl zf)), (a7, .inl (cZ, 64, .inl zf)), (a8, .inl (cZ, 64, .inl zf))] H := hP
  have hD : va_D A [(h0, .inr (1, [.int 0, .ref a1, .ref a2, .ref a3, .ref a4, .ref a5, .ref a6, .ref a7, .null, .null, .int 0])), (a1, .inl (cI, 64, .inl zf)), (a2, .inl (cI, 65, .inl zf)), (a3, .inl (cZ, 65, .inl zf)), (a4, .inl (cI, 65, .inl zf)), (a5, .inl (cI, 64, .inl zf)), (a6, .inl (cZ, 64, .inl zf)), (a7, .inl (cZ, 64, .inl zf)), (a8, .inl (cZ, 64, .inl zf))] := hD
  refine W.widen (k := 8) (n := 515) (by omega) (by omega) ?_
  refine va_put (D := D) (ci := 1) (v := .ref a8) (ty := .array .boolean) (C := RX1) (T := TX1) (N := 11) hx hb hts in_X1 tyX1 tyX1_ok nmX1 hown hK hP hD hS 0 rfl rfl 8 (by decide) (hts _ q200) (fun _ h9 => h9) rfl (by decide +kernel) rfl rfl (Nat.le_of_ble_eq_true rfl) dX1_init_65 (fun H locs hP hD hS => ?_)
  have hP : va_P D vwCl [(h0, .inr (1, [.int 0, .ref a1, .ref a2, .ref a3, .ref a4, .ref a5, .ref a6, .ref a7, .ref a8, .null, .int 0])), (a1, .inl (cI, 64, .inl zf)), (a2, .inl (cI, 65, .inl zf)), (a3, .inl (cZ, 65, .inl zf)), (a4, .inl (cI, 65, .inl zf)), (a5, .inl (cI, 64, .inl zf)), (a6, .inl (cZ, 64, .inl zf)), (a7, .inl (cZ, 64, .inl zf)), (a8, .inl (cZ, 64, .inl zf))] H := hP
  have hD : va_D A [(h0, .inr (1, [.int 0, .ref a1, .ref a2, .ref a3, .ref a4, .ref a5, .ref a6, .ref a7, .ref a8, .null, .int 0])), (a1, .inl (cI, 64, .inl zf)), (a2, .inl (cI, 65, .inl zf)), (a3, .inl (cZ, 65, .inl zf)), (a4, .inl (cI, 65, .inl zf)), (a5, .inl (cI, 64, .inl zf)), (a6, .inl (cZ, 64, .inl zf)), (a7, .inl (cZ, 64, .inl zf)), (a8, .inl (cZ, 64, .inl zf))] := hD
  refine lv_aload_n hx hb dX1_init_68 rfl (lv_at hl 0 rfl) ?_
  refine lv_bipush (v := 64) hx hb dX1_init_69 (by decide) ?_
  refine va_newa (atype := .int) (ty := .int) (N' := 64) (a0 := (64, .inl zf)) hx hb (hts _ q69) rfl hK hP hD hS hA (fun _ => rfl) (by decide) (by decide) (by decide) (Nat.le_of_ble_eq_true rfl) (Nat.le_of_ble_eq_true rfl) dX1_init_71 (fun a9 cA H hK2 hP hD hS => ?_)
  have ec : cI = cA := ra_int (hK2.2 2 _ rfl).2 (hK.2 0 _ rfl).2
  subst ec
  clear hK2
  have hP : va_P D vwCl [(h0, .inr (1, [.int 0, .ref a1, .ref a2, .ref a3, .ref a4, .ref a5, .ref a6, .ref a7, .ref a8, .null, .int 0])), (a1, .inl (cI, 64, .inl zf)), (a2, .inl (cI, 65, .inl zf)), (a3, .inl (cZ, 65, .inl zf)), (a4, .inl (cI, 65, .inl zf)), (a5, .inl (cI, 64, .inl zf)), (a6, .inl (cZ, 64, .inl zf)), (a7, .inl (cZ, 64, .inl zf)), (a8, .inl (cZ, 64, .inl zf)), (a9, .inl (cI, 64, .inl zf))] H := hP
  have hD : va_D A [(h0, .inr (1, [.int 0, .ref a1, .ref a2, .ref a3, .ref a4, .ref a5, .ref a6, .ref a7, .ref a8, .null, .int 0])), (a1, .inl (cI, 64, .inl zf)), (a2, .inl (cI, 65, .inl zf)), (a3, .inl (cZ, 65, .inl zf)), (a4, .inl (cI, 65, .inl zf)), (a5, .inl (cI, 64, .inl zf)), (a6, .inl (cZ, 64, .inl zf)), (a7, .inl (cZ, 64, .inl zf)), (a8, .inl (cZ, 64, .inl zf)), (a9, .inl (cI, 64, .inl zf))] := hD
  refine W.widen (k := 9) (n := 579) (by omega) (by omega) ?_
  refine va_put (D := D) (ci := 1) (v := .ref a9) (ty := .array .int) (C := RX1) (T := TX1) (N := 11) hx hb hts in_X1 tyX1 tyX1_ok nmX1 hown hK hP hD hS 0 rfl rfl 9 (by decide) (hts _ q201) (fun _ h9 => h9) rfl (by decide +kernel) rfl rfl (Nat.le_of_ble_eq_true rfl) dX1_init_73 (fun H locs hP hD hS => ?_)
  have hP : va_P D vwCl [(h0, .inr (1, [.int 0, .ref a1, .ref a2, .ref a3, .ref a4, .ref a5, .ref a6, .ref a7, .ref a8, .ref a9, .int 0])), (a1, .inl (cI, 64, .inl zf)), (a2, .inl (cI, 65, .inl zf)), (a3, .inl (cZ, 65, .inl zf)), (a4, .inl (cI, 65, .inl zf)), (a5, .inl (cI, 64, .inl zf)), (a6, .inl (cZ, 64, .inl zf)), (a7, .inl (cZ, 64, .inl zf)), (a8, .inl (cZ, 64, .inl zf)), (a9, .inl (cI, 64, .inl zf))] H := hP
  have hD : va_D A [(h0, .inr (1, [.int 0, .ref a1, .ref a2, .ref a3, .ref a4, .ref a5, .ref a6, .ref a7, .ref a8, .ref a9, .int 0])), (a1, .inl (cI, 64, .inl zf)), (a2, .inl (cI, 65, .inl zf)), (a3, .inl (cZ, 65, .inl zf)), (a4, .inl (cI, 65, .inl zf)), (a5, .inl (cI, 64, .inl zf)), (a6, .inl (cZ, 64, .inl zf)), (a7, .inl (cZ, 64, .inl zf)), (a8, .inl (cZ, 64, .inl zf)), (a9, .inl (cI, 64, .inl zf))] := hD
  exact W.vret hx hb hr (fun t ht hW => ⟨⟨(fun k => match k with | 0 => h0 | 1 => a1 | 2 => a2 | 3 => a3 | 4 => a4 | 5 => a5 | 6 => a6 | 7 => a7 | 8 => a8 | _ => a9), rfl, rfl, by rw [ht]; exact hP, va_K.moved hW.alike hK, hD⟩, hS.F ht⟩) hS.2.2 dX1_init_76
end
section
set_option maxRecDepth 100000
-- ===== end of PART A; then your names; then what follows =====
/-! THE CLAIM OUT OF ONE WALK OF THE LAW'S BODY. Your part is whole_start (and what it stands on); all else here is the same for every law, but numbers. -/
def R_law : String := "SexpMotionLaw"
def lw_P (b : Addr) (xs : List Int32) (args : Array Value) (s : State) : Prop := args = #[.ref b] ∧ s.IntsAt b xs ∧ xs.length ≤ 192 ∧ (Jvm.Cond.and given_1 narrow_1).before args s = true
def lw_Q (_ : Array Value) (s : State) (o : Outcome) (t : State) : Prop := o = .returned (some (.int 1)) ∧ Framed s o t [] 600000 7290000
def lw_Z (below : List Frame) (a : Array Value) (s : State) : State → Prop := fun t => ∃ o, t.status = .running ∧ Ended t below o ∧ lw_Q a s o t
/-- the law's own end, with 1 on the stack, nothing written that was there before, its room as the claim has it -/
theorem lw_ret {p : Program} {l : Launch} {e : Env} {s : State} {m : MethodId} {below : List Frame} {meth : Method} {c : Code} {b : Nat} (hx : p.tables.exec = Jvm.exec) (hb : c.code = code) (hr : meth.sig.returnType = ret) (hlocks : meth.locks = false) {pc : Nat} {H : Heap} {ls : Array Slot} (hdg : decode code pc = .ok (.ireturn, 1)) : W p l e room_1 s m #[Value.ref b] below meth c H [] 600000 7290000 (lw_Z below #[Value.ref b] s) (F0 m pc ls [.int 1]) := by
  intro T hT X
  obtain ⟨fs, hret, hrun, hended, hW, hframe⟩ := X.leave (v := some (.int 1)) (hlocks := hlocks) (fun h => by rw [hr] at h; cases h)
  have hmeth' : T.vm.method? m = some meth := X.method'
  refine ⟨T.setFrames fs, ?_, .returned (some (.int 1)), hrun, hended, rfl, ⟨_, rfl⟩, hW, hframe⟩
  jvm_step X.here [X.here.top, hx, hb, hdg, hmeth', hr, ret, narrow_b1]
  (try refine ⟨rfl, ?_⟩); (try refine ⟨rfl, ?_⟩)
  first | (intro acts; rw [hret _ acts rfl rfl rfl]) | rw [hret _ _ rfl rfl rfl]
  exact Steps.refl _
/-- what holds at the law's entry: the machine, the code, the tables' words (any of lw_tbl by 'hts w (by decide +kernel)'), the script of L ints xs at the cell b, what the Statement gives of the start (any of its parts by flat_of_before) -/
def lw_At (p : Program) (s : State) (m : MethodId) (meth : Method) (c : Code) (b L : Nat) (xs : Nat → Int32) : Prop :=
  p.tables.exec = Jvm.exec ∧ c.code = code ∧ meth.sig.returnType = ret ∧ c.maxLocals = 4 ∧ s.vm.findClass R_law = some m.cls ∧ (∀ w ∈ lw_tbl, w.before #[Value.ref b] s = true) ∧ va_X b L xs s s.heap ∧ b < s.heap.size ∧ meth.locks = false ∧ (Jvm.Cond.and given_1 narrow_1).before #[Value.ref b] s = true
end
section
theorem xu_insert {l : Launch} {D : va_G} {cI cZ : ClassId} {ad : Nat → Nat} {t : Nat → Int32} {n : Nat} {u : XT} {x y : Int32} (h : XOK t n u) : MetI l yX0_insert cX0_insert 4 (some .int) 4 D cI cZ [.ref (ad 0), .int x, .int y] (XU ad cI cZ) (XU ad cI cZ u) (fun (r : Int32) (u : XT) => XOK (f_ins t n x y).2.1 (f_ins t n x y).2.2 u ∧ r = (f_ins t n x y).1) := by
  obtain ⟨kind, role, par, aro, kM, kE, kI, len, kno, mo, esc, inn⟩ := u
  obtain ⟨h1, hn, h2, k, hk, h3, hX⟩ := h
  dsimp only at h1 h2 h3 hX
  subst h1; subst h2; subst h3
  exact xm_insert hn hk hX
theorem xu_delete {l : Launch} {D : va_G} {cI cZ : ClassId} {ad : Nat → Nat} {t : Nat → Int32} {n : Nat} {u : XT} {x y : Int32} (h : XOK t n u) : MetI l yX0_delete cX0_delete 5 (some .int) 4 D cI cZ [.ref (ad 0), .int x, .int y] (XU ad cI cZ) (XU ad cI cZ u) (fun (r : Int32) (u : XT) => XOK (f_del t n x y).2.1 (f_del t n x y).2.2 u ∧ r = (f_del t n x y).1) := by
  obtain ⟨kind, role, par, aro, kM, kE, kI, len, kno, mo, esc, inn⟩ := u
  obtain ⟨h1, hn, h2, k, hk, h3, hX⟩ := h
  dsimp only at h1 h2 h3 hX
  subst h1; subst h2; subst h3
  exact xm_delete hn hk hX
theorem xu_set {l : Launch} {D : va_G} {cI cZ : ClassId} {ad : Nat → Nat} {t : Nat → Int32} {n : Nat} {u : XT} {x y : Int32} (h : XOK t n u) : MetI l yX0_set cX0_set 4 (some .int) 4 D cI cZ [.ref (ad 0), .int x, .int y] (XU ad cI cZ) (XU ad cI cZ u) (fun (r : Int32) (u : XT) => XOK (f_set t n x y).2.1 (f_set t n x y).2.2 u ∧ r = (f_set t n x y).1) := by
  obtain ⟨kind, role, par, aro, kM, kE, kI, len, kno, mo, esc, inn⟩ := u
  obtain ⟨h1, hn, h2, k, hk, h3, hX⟩ := h
  dsimp only at h1 h2 h3 hX
  subst h1; subst h2; subst h3
  exact xm_set hn hk hX
theorem xu_length {l : Launch} {D : va_G} {cI cZ : ClassId} {ad : Nat → Nat} {t : Nat → Int32} {n : Nat} {u : XT} (h : XOK t n u) : MetI l yX0_length cX0_length 1 (some .int) 4 D cI cZ [.ref (ad 0)] (XU ad cI cZ) (XU ad cI cZ u) (fun (r : Int32) (u : XT) => XOK t n u ∧ r = nI n) := by
  obtain ⟨kind, role, par, aro, kM, kE, kI, len, kno, mo, esc, inn⟩ := u
  obtain ⟨h1, hn, h2, k, hk, h3, hX⟩ := h
  dsimp only at h1 h2 h3 hX
  subst h1; subst h2; subst h3
  exact xm_length hn hk hX
theorem xu_kindAt {l : Launch} {D : va_G} {cI cZ : ClassId} {ad : Nat → Nat} {t : Nat → Int32} {n : Nat} {u : XT} {x : Int32} (h : XOK t n u) : MetI l yX0_kindAt cX0_kindAt 2 (some .int) 4 D cI cZ [.ref (ad 0), .int x] (XU ad cI cZ) (XU ad cI cZ u) (fun (r : Int32) (u : XT) => XOK t n u ∧ r = f_kin t n x) := by
  obtain ⟨kind, role, par, aro, kM, kE, kI, len, kno, mo, esc, inn⟩ := u
  obtain ⟨h1, hn, h2, k, hk, h3, hX⟩ := h
  dsimp only at h1 h2 h3 hX
  subst h1; subst h2; subst h3
  exact xm_kindAt hn hk hX
theorem xu_mode {l : Launch} {D : va_G} {cI cZ : ClassId} {ad : Nat → Nat} {t : Nat → Int32} {n : Nat} {u : XT} {x : Int32} (h : XOK t n u) : MetI l yX0_mode cX0_mode 2 (some .int) 4 D cI cZ [.ref (ad 0), .int x] (XU ad cI cZ) (XU ad cI cZ u) (fun (r : Int32) (u : XT) => XOK t n u ∧ r = f_mod t n x) := by
  obtain ⟨kind, role, par, aro, kM, kE, kI, len, kno, mo, esc, inn⟩ := u
  obtain ⟨h1, hn, h2, k, hk, h3, hX⟩ := h
  dsimp only at h1 h2 h3 hX
  subst h1; subst h2; subst h3
  exact xm_mode hn hk hX
theorem xu_escaped {l : Launch} {D : va_G} {cI cZ : ClassId} {ad : Nat → Nat} {t : Nat → Int32} {n : Nat} {u : XT} {x : Int32} (h : XOK t n u) : MetI l yX0_escaped cX0_escaped 2 (some .int) 4 D cI cZ [.ref (ad 0), .int x] (XU ad cI cZ) (XU ad cI cZ u) (fun (r : Int32) (u : XT) => XOK t n u ∧ r = f_esc t n x) := by
  obtain ⟨kind, role, par, aro, kM, kE, kI, len, kno, mo, esc, inn⟩ := u
  obtain ⟨h1, hn, h2, k, hk, h3, hX⟩ := h
  dsimp only at h1 h2 h3 hX
  subst h1; subst h2; subst h3
  exact xm_escaped hn hk hX
theorem xu_depth {l : Launch} {D : va_G} {cI cZ : ClassId} {ad : Nat → Nat} {t : Nat → Int32} {n : Nat} {u : XT} {x : Int32} (h : XOK t n u) : MetI l yX0_depth cX0_depth 2 (some .int) 4 D cI cZ [.ref (ad 0), .int x] (XU ad cI cZ) (XU ad cI cZ u) (fun (r : Int32) (u : XT) => XOK t n u ∧ r = f_dep t n x) := by
  obtain ⟨kind, role, par, aro, kM, kE, kI, len, kno, mo, esc, inn⟩ := u
  obtain ⟨h1, hn, h2, k, hk, h3, hX⟩ := h
  dsimp only at h1 h2 h3 hX
  subst h1; subst h2; subst h3
  exact xm_depth hn hk hX
theorem xu_bracketAt {l : Launch} {D : va_G} {cI cZ : ClassId} {ad : Nat → Nat} {t : Nat → Int32} {n : Nat} {u : XT} {x y : Int32} (h : XOK t n u) : MetI l yX0_bracketAt cX0_bracketAt 6 (some .int) 4 D cI cZ [.ref (ad 0), .int x, .int y] (XU ad cI cZ) (XU ad cI cZ u) (fun (r : Int32) (u : XT) => XOK t n u ∧ r = f_brk t n x y) := by
  obtain ⟨kind, role, par, aro, kM, kE, kI, len, kno, mo, esc, inn⟩ := u
  obtain ⟨h1, hn, h2, k, hk, h3, hX⟩ := h
  dsimp only at h1 h2 h3 hX
  subst h1; subst h2; subst h3
  exact xm_bracketAt hn hk hX
theorem xu_partner {l : Launch} {D : va_G} {cI cZ : ClassId} {ad : Nat → Nat} {t : Nat → Int32} {n : Nat} {u : XT} {x : Int32} (h : XOK t n u) : MetI l yX0_partner cX0_partner 2 (some .int) 4 D cI cZ [.ref (ad 0), .int x] (XU ad cI cZ) (XU ad cI cZ u) (fun (r : Int32) (u : XT) => XOK t n u ∧ r = f_par t n x) := by
  obtain ⟨kind, role, par, aro, kM, kE, kI, len, kno, mo, esc, inn⟩ := u
  obtain ⟨h1, hn, h2, k, hk, h3, hX⟩ := h
  dsimp only at h1 h2 h3 hX
  subst h1; subst h2; subst h3
  exact xm_partner hn hk hX
theorem xu_strays {l : Launch} {D : va_G} {cI cZ : ClassId} {ad : Nat → Nat} {t : Nat → Int32} {n : Nat} {u : XT} (h : XOK t n u) : MetI l yX0_strays cX0_strays 3 (some .int) 4 D cI cZ [.ref (ad 0)] (XU ad cI cZ) (XU ad cI cZ u) (fun (r : Int32) (u : XT) => XOK t n u ∧ r = f_str t n) := by
  obtain ⟨kind, role, par, aro, kM, kE, kI, len, kno, mo, esc, inn⟩ := u
  obtain ⟨h1, hn, h2, k, hk, h3, hX⟩ := h
  dsimp only at h1 h2 h3 hX
  subst h1; subst h2; subst h3
  exact xm_strays hn hk hX
theorem xu_forward {l : Launch} {D : va_G} {cI cZ : ClassId} {ad : Nat → Nat} {t : Nat → Int32} {n : Nat} {u : XT} {x : Int32} (h : XOK t n u) : MetI l yX0_forward cX0_forward 4 (some .int) 4 D cI cZ [.ref (ad 0), .int x] (XU ad cI cZ) (XU ad cI cZ u) (fun (r : Int32) (u : XT) => XOK t n u ∧ r = f_fwd t n x) := by
  obtain ⟨kind, role, par, aro, kM, kE, kI, len, kno, mo, esc, inn⟩ := u
  obtain ⟨h1, hn, h2, k, hk, h3, hX⟩ := h
  dsimp only at h1 h2 h3 hX
  subst h1; subst h2; subst h3
  exact xm_forward hn hk hX
theorem xu_backward {l : Launch} {D : va_G} {cI cZ : ClassId} {ad : Nat → Nat} {t : Nat → Int32} {n : Nat} {u : XT} {x : Int32} (h : XOK t n u) : MetI l yX0_backward cX0_backward 4 (some .int) 4 D cI cZ [.ref (ad 0), .int x] (XU ad cI cZ) (XU ad cI cZ u) (fun (r : Int32) (u : XT) => XOK t n u ∧ r = f_bwd t n x) := by
  obtain ⟨kind, role, par, aro, kM, kE, kI, len, kno, mo, esc, inn⟩ := u
  obtain ⟨h1, hn, h2, k, hk, h3, hX⟩ := h
  dsimp only at h1 h2 h3 hX
  subst h1; subst h2; subst h3
  exact xm_backward hn hk hX
theorem xu_up {l : Launch} {D : va_G} {cI cZ : ClassId} {ad : Nat → Nat} {t : Nat → Int32} {n : Nat} {u : XT} {x : Int32} (h : XOK t n u) : MetI l yX0_up cX0_up 2 (some .int) 4 D cI cZ [.ref (ad 0), .int x] (XU ad cI cZ) (XU ad cI cZ u) (fun (r : Int32) (u : XT) => XOK t n u ∧ r = f_up t n x) := by
  obtain ⟨kind, role, par, aro, kM, kE, kI, len, kno, mo, esc, inn⟩ := u
  obtain ⟨h1, hn, h2, k, hk, h3, hX⟩ := h
  dsimp only at h1 h2 h3 hX
  subst h1; subst h2; subst h3
  exact xm_up hn hk hX
theorem xu_down {l : Launch} {D : va_G} {cI cZ : ClassId} {ad : Nat → Nat} {t : Nat → Int32} {n : Nat} {u : XT} {x : Int32} (h : XOK t n u) : MetI l yX0_down cX0_down 4 (some .int) 4 D cI cZ [.ref (ad 0), .int x] (XU ad cI cZ) (XU ad cI cZ u) (fun (r : Int32) (u : XT) => XOK t n u ∧ r = f_dwn t n x) := by
  obtain ⟨kind, role, par, aro, kM, kE, kI, len, kno, mo, esc, inn⟩ := u
  obtain ⟨h1, hn, h2, k, hk, h3, hX⟩ := h
  dsimp only at h1 h2 h3 hX
  subst h1; subst h2; subst h3
  exact xm_down hn hk hX
theorem xu_units {l : Launch} {D : va_G} {cI cZ : ClassId} {ad : Nat → Nat} {t : Nat → Int32} {n : Nat} {u : XT} (h : XOK t n u) : MetI l yX0_units cX0_units 4 (some .int) 4 D cI cZ [.ref (ad 0)] (XU ad cI cZ) (XU ad cI cZ u) (fun (r : Int32) (u : XT) => XOK t n u ∧ r = f_uni t n) := by
  obtain ⟨kind, role, par, aro, kM, kE, kI, len, kno, mo, esc, inn⟩ := u
  obtain ⟨h1, hn, h2, k, hk, h3, hX⟩ := h
  dsimp only at h1 h2 h3 hX
  subst h1; subst h2; subst h3
  exact xm_units hn hk hX
theorem yu_insert {l : Launch} {D : va_G} {cI cZ : ClassId} {ad : Nat → Nat} {t : Nat → Int32} {n : Nat} {v : YT} {x y : Int32} (h : YOK t n v) : MetI l yX1_insert cX1_insert 4 (some .int) 4 D cI cZ [.ref (ad 0), .int x, .int y] (YU ad cI cZ) (YU ad cI cZ v) (fun (r : Int32) (u : YT) => YOK (f_ins t n x y).2.1 (f_ins t n x y).2.2 u ∧ r = (f_ins t n x y).1) := by
  obtain ⟨txt, mds, ess, dps, prs, jns, cls, sty, stk, len, top⟩ := v
  obtain ⟨h1, hn, h2⟩ := h
  dsimp only at h1 h2
  subst h1; subst h2
  exact ym_insert hn
theorem yu_delete {l : Launch} {D : va_G} {cI cZ : ClassId} {ad : Nat → Nat} {t : Nat → Int32} {n : Nat} {v : YT} {x y : Int32} (h : YOK t n v) : MetI l yX1_delete cX1_delete 5 (some .int) 4 D cI cZ [.ref (ad 0), .int x, .int y] (YU ad cI cZ) (YU ad cI cZ v) (fun (r : Int32) (u : YT) => YOK (f_del t n x y).2.1 (f_del t n x y).2.2 u ∧ r = (f_del t n x y).1) := by
  obtain ⟨txt, mds, ess, dps, prs, jns, cls, sty, stk, len, top⟩ := v
  obtain ⟨h1, hn, h2⟩ := h
  dsimp only at h1 h2
  subst h1; subst h2
  exact ym_delete hn
theorem yu_set {l : Launch} {D : va_G} {cI cZ : ClassId} {ad : Nat → Nat} {t : Nat → Int32} {n : Nat} {v : YT} {x y : Int32} (h : YOK t n v) : MetI l yX1_set cX1_set 4 (some .int) 4 D cI cZ [.ref (ad 0), .int x, .int y] (YU ad cI cZ) (YU ad cI cZ v) (fun (r : Int32) (u : YT) => YOK (f_set t n x y).2.1 (f_set t n x y).2.2 u ∧ r = (f_set t n x y).1) := by
  obtain ⟨txt, mds, ess, dps, prs, jns, cls, sty, stk, len, top⟩ := v
  obtain ⟨h1, hn, h2⟩ := h
  dsimp only at h1 h2
  subst h1; subst h2
  exact ym_set hn
theorem yu_length {l : Launch} {D : va_G} {cI cZ : ClassId} {ad : Nat → Nat} {t : Nat → Int32} {n : Nat} {v : YT} (h : YOK t n v) : MetI l yX1_length cX1_length 1 (some .int) 4 D cI cZ [.ref (ad 0)] (YU ad cI cZ) (YU ad cI cZ v) (fun (r : Int32) (u : YT) => YOK t n u ∧ r = nI n) := by
  obtain ⟨txt, mds, ess, dps, prs, jns, cls, sty, stk, len, top⟩ := v
  obtain ⟨h1, hn, h2⟩ := h
  dsimp only at h1 h2
  subst h1; subst h2
  exact ym_length hn
theorem yu_kindAt {l : Launch} {D : va_G} {cI cZ : ClassId} {ad : Nat → Nat} {t : Nat → Int32} {n : Nat} {v : YT} {x : Int32} (h : YOK t n v) : MetI l yX1_kindAt cX1_kindAt 2 (some .int) 4 D cI cZ [.ref (ad 0), .int x] (YU ad cI cZ) (YU ad cI cZ v) (fun (r : Int32) (u : YT) => YOK t n u ∧ r = f_kin t n x) := by
  obtain ⟨txt, mds, ess, dps, prs, jns, cls, sty, stk, len, top⟩ := v
  obtain ⟨h1, hn, h2⟩ := h
  dsimp only at h1 h2
  subst h1; subst h2
  exact ym_kindAt hn
theorem yu_mode {l : Launch} {D : va_G} {cI cZ : ClassId} {ad : Nat → Nat} {t : Nat → Int32} {n : Nat} {v : YT} {x : Int32} (h : YOK t n v) : MetI l yX1_mode cX1_mode 2 (some .int) 4 D cI cZ [.ref (ad 0), .int x] (YU ad cI cZ) (YU ad cI cZ v) (fun (r : Int32) (u : YT) => YOK t n u ∧ r = f_mod t n x) := by
  obtain ⟨txt, mds, ess, dps, prs, jns, cls, sty, stk, len, top⟩ := v
  obtain ⟨h1, hn, h2⟩ := h
  dsimp only at h1 h2
  subst h1; subst h2
  exact ym_mode hn
theorem yu_escaped {l : Launch} {D : va_G} {cI cZ : ClassId} {ad : Nat → Nat} {t : Nat → Int32} {n : Nat} {v : YT} {x : Int32} (h : YOK t n v) : MetI l yX1_escaped cX1_escaped 2 (some .int) 4 D cI cZ [.ref (ad 0), .int x] (YU ad cI cZ) (YU ad cI cZ v) (fun (r : Int32) (u : YT) => YOK t n u ∧ r = f_esc t n x) := by
  obtain ⟨txt, mds, ess, dps, prs, jns, cls, sty, stk, len, top⟩ := v
  obtain ⟨h1, hn, h2⟩ := h
  dsimp only at h1 h2
  subst h1; subst h2
  exact ym_escaped hn
theorem yu_depth {l : Launch} {D : va_G} {cI cZ : ClassId} {ad : Nat → Nat} {t : Nat → Int32} {n : Nat} {v : YT} {x : Int32} (h : YOK t n v) : MetI l yX1_depth cX1_depth 2 (some .int) 4 D cI cZ [.ref (ad 0), .int x] (YU ad cI cZ) (YU ad cI cZ v) (fun (r : Int32) (u : YT) => YOK t n u ∧ r = f_dep t n x) := by
  obtain ⟨txt, mds, ess, dps, prs, jns, cls, sty, stk, len, top⟩ := v
  obtain ⟨h1, hn, h2⟩ := h
  dsimp only at h1 h2
  subst h1; subst h2
  exact ym_depth hn
theorem yu_bracketAt {l : Launch} {D : va_G} {cI cZ : ClassId} {ad : Nat → Nat} {t : Nat → Int32} {n : Nat} {v : YT} {x y : Int32} (h : YOK t n v) : MetI l yX1_bracketAt cX1_bracketAt 3 (some .int) 4 D cI cZ [.ref (ad 0), .int x, .int y] (YU ad cI cZ) (YU ad cI cZ v) (fun (r : Int32) (u : YT) => YOK t n u ∧ r = f_brk t n x y) := by
  obtain ⟨txt, mds, ess, dps, prs, jns, cls, sty, stk, len, top⟩ := v
  obtain ⟨h1, hn, h2⟩ := h
  dsimp only at h1 h2
  subst h1; subst h2
  exact ym_bracketAt hn
theorem yu_partner {l : Launch} {D : va_G} {cI cZ : ClassId} {ad : Nat → Nat} {t : Nat → Int32} {n : Nat} {v : YT} {x : Int32} (h : YOK t n v) : MetI l yX1_partner cX1_partner 2 (some .int) 4 D cI cZ [.ref (ad 0), .int x] (YU ad cI cZ) (YU ad cI cZ v) (fun (r : Int32) (u : YT) => YOK t n u ∧ r = f_par t n x) := by
  obtain ⟨txt, mds, ess, dps, prs, jns, cls, sty, stk, len, top⟩ := v
  obtain ⟨h1, hn, h2⟩ := h
  dsimp only at h1 h2
  subst h1; subst h2
  exact ym_partner hn
theorem yu_strays {l : Launch} {D : va_G} {cI cZ : ClassId} {ad : Nat → Nat} {t : Nat → Int32} {n : Nat} {v : YT} (h : YOK t n v) : MetI l yX1_strays cX1_strays 3 (some .int) 4 D cI cZ [.ref (ad 0)] (YU ad cI cZ) (YU ad cI cZ v) (fun (r : Int32) (u : YT) => YOK t n u ∧ r = f_str t n) := by
  obtain ⟨txt, mds, ess, dps, prs, jns, cls, sty, stk, len, top⟩ := v
  obtain ⟨h1, hn, h2⟩ := h
  dsimp only at h1 h2
  subst h1; subst h2
  exact ym_strays hn
theorem yu_forward {l : Launch} {D : va_G} {cI cZ : ClassId} {ad : Nat → Nat} {t : Nat → Int32} {n : Nat} {v : YT} {x : Int32} (h : YOK t n v) : MetI l yX1_forward cX1_forward 4 (some .int) 4 D cI cZ [.ref (ad 0), .int x] (YU ad cI cZ) (YU ad cI cZ v) (fun (r : Int32) (u : YT) => YOK t n u ∧ r = f_fwd t n x) := by
  obtain ⟨txt, mds, ess, dps, prs, jns, cls, sty, stk, len, top⟩ := v
  obtain ⟨h1, hn, h2⟩ := h
  dsimp only at h1 h2
  subst h1; subst h2
  exact ym_forward hn
theorem yu_backward {l : Launch} {D : va_G} {cI cZ : ClassId} {ad : Nat → Nat} {t : Nat → Int32} {n : Nat} {v : YT} {x : Int32} (h : YOK t n v) : MetI l yX1_backward cX1_backward 4 (some .int) 4 D cI cZ [.ref (ad 0), .int x] (YU ad cI cZ) (YU ad cI cZ v) (fun (r : Int32) (u : YT) => YOK t n u ∧ r = f_bwd t n x) := by
  obtain ⟨txt, mds, ess, dps, prs, jns, cls, sty, stk, len, top⟩ := v
  obtain ⟨h1, hn, h2⟩ := h
  dsimp only at h1 h2
  subst h1; subst h2
  exact ym_backward hn
theorem yu_up {l : Launch} {D : va_G} {cI cZ : ClassId} {ad : Nat → Nat} {t : Nat → Int32} {n : Nat} {v : YT} {x : Int32} (h : YOK t n v) : MetI l yX1_up cX1_up 2 (some .int) 4 D cI cZ [.ref (ad 0), .int x] (YU ad cI cZ) (YU ad cI cZ v) (fun (r : Int32) (u : YT) => YOK t n u ∧ r = f_up t n x) := by
  obtain ⟨txt, mds, ess, dps, prs, jns, cls, sty, stk, len, top⟩ := v
  obtain ⟨h1, hn, h2⟩ := h
  dsimp only at h1 h2
  subst h1; subst h2
  exact ym_up hn
theorem yu_down {l : Launch} {D : va_G} {cI cZ : ClassId} {ad : Nat → Nat} {t : Nat → Int32} {n : Nat} {v : YT} {x : Int32} (h : YOK t n v) : MetI l yX1_down cX1_down 4 (some .int) 4 D cI cZ [.ref (ad 0), .int x] (YU ad cI cZ) (YU ad cI cZ v) (fun (r : Int32) (u : YT) => YOK t n u ∧ r = f_dwn t n x) := by
  obtain ⟨txt, mds, ess, dps, prs, jns, cls, sty, stk, len, top⟩ := v
  obtain ⟨h1, hn, h2⟩ := h
  dsimp only at h1 h2
  subst h1; subst h2
  exact ym_down hn
theorem yu_units {l : Launch} {D : va_G} {cI cZ : ClassId} {ad : Nat → Nat} {t : Nat → Int32} {n : Nat} {v : YT} (h : YOK t n v) : MetI l yX1_units cX1_units 4 (some .int) 4 D cI cZ [.ref (ad 0)] (YU ad cI cZ) (YU ad cI cZ v) (fun (r : Int32) (u : YT) => YOK t n u ∧ r = f_uni t n) := by
  obtain ⟨txt, mds, ess, dps, prs, jns, cls, sty, stk, len, top⟩ := v
  obtain ⟨h1, hn, h2⟩ := h
  dsimp only at h1 h2
  subst h1; subst h2
  exact ym_units hn
abbrev lA (s : State) : Nat → Prop := fun q : Nat => s.heap.size ≤ q
def CL (p : Program) (s : State) (m : MethodId) (meth : Method) (c : Code) (D : va_G) (cI cZ : ClassId) (b L : Nat) (xs : Nat → Int32) : Prop := lw_At p s m meth c b L xs ∧ va_K D vwCl [(cI, .int), (cZ, .boolean)] s ∧ L ≤ 192
/-- the law at pc: whatever heap holds the two objects u, v -/
def JW (p : Program) (l : Launch) (e : Env) (s : State) (m : MethodId) (below : List Frame) (meth : Method) (c : Code) (D : va_G) (cI cZ : ClassId) (adx ady : Nat → Nat) (b : Nat) (u : XT) (v : YT) (i pc : Nat) (st : List Value) : Prop :=
  ∀ (H : Heap) (locs : List Loc) (ls : Array Slot), va_P D vwCl (XU adx cI cZ u ++ YU ady cI cZ v) H → va_D (lA s) (XU adx cI cZ u ++ YU ady cI cZ v) → va_S (lA s) s.heap H locs → lv_has ls 4 [(0, .ref b), (1, .ref (adx 0)), (2, .ref (ady 0)), (3, .int (nI i))] → W p l e room_1 s m #[Value.ref b] below meth c H locs 600000 7290000 (lw_Z below #[Value.ref b] s) (F0 m pc ls st)
section LWr
variable {p : Program} {l : Launch} {e : Env} {s : State} {m : MethodId} {below : List Frame} {meth : Method} {c : Code} {D : va_G} {cI cZ : ClassId} {adx ady : Nat → Nat} {b L i pc : Nat} {xs : Nat → Int32} {u : XT} {v : YT} {st : List Value} {y : MethodName} {bytes : ByteArray} {maxL index n : Nat} {As : List Value}
theorem w_x (C : CL p s m meth c D cI cZ b L xs) (hd : decode cL_law pc = .ok (.aload_n 1, 1)) (k : JW p l e s m below meth c D cI cZ adx ady b u v i (pc + 1) (.ref (adx 0) :: st)) : JW p l e s m below meth c D cI cZ adx ady b u v i pc st := by
  obtain ⟨⟨hx, hb, hr, hml, hown, hts, hX, hbl, hlocks, hgv⟩, hK, hL⟩ := C
  intro H locs ls hP hD hS hl
  exact lv_aload_n hx hb hd rfl (lv_at hl 1 rfl) (k H locs ls hP hD hS hl)
theorem w_y (C : CL p s m meth c D cI cZ b L xs) (hd : decode cL_law pc = .ok (.aload_n 2, 1)) (k : JW p l e s m below meth c D cI cZ adx ady b u v i (pc + 1) (.ref (ady 0) :: st)) : JW p l e s m below meth c D cI cZ adx ady b u v i pc st := by
  obtain ⟨⟨hx, hb, hr, hml, hown, hts, hX, hbl, hlocks, hgv⟩, hK, hL⟩ := C
  intro H locs ls hP hD hS hl
  exact lv_aload_n hx hb hd rfl (lv_at hl 2 rfl) (k H locs ls hP hD hS hl)
theorem w_arg (k : Nat) (C : CL p s m meth c D cI cZ b L xs) {z : Int} (h0 : decode cL_law pc = .ok (.aload_n 0, 1)) (h1 : decode cL_law (pc + 1) = .ok (.iload_n 3, 1)) (h2 : decode cL_law (pc + 2) = .ok (.iconst z, 1)) (hz : Int32.ofInt z = nI k) (h3 : decode cL_law (pc + 3) = .ok (.iadd, 1)) (h4 : decode cL_law (pc + 4) = .ok (.iaload, 1)) (hk : i + k < L) (kk : JW p l e s m below meth c D cI cZ adx ady b u v i (pc + 5) (.int (xs (i + k)) :: st)) : JW p l e s m below meth c D cI cZ adx ady b u v i pc st := by
  obtain ⟨⟨hx, hb, hr, hml, hown, hts, hX, hbl, hlocks, hgv⟩, hK, hL⟩ := C
  intro H locs ls hP hD hS hl
  refine lv_aload_n hx hb h0 rfl (lv_at hl 0 rfl) ?_
  refine lv_iload_n hx hb h1 rfl (lv_at hl 3 rfl) ?_
  refine lv_iconst (v := nI k) hx hb h2 hz ?_
  refine lv_iadd hx hb h3 ?_
  rw [nI_add]
  refine va_sld hx hb hX hbl (Nat.not_le.mpr hbl) hS (vp_in_nI hk (by omega)) h4 ?_
  rw [nI_clamp (by omega)]
  exact kk H locs ls hP hD hS hl
theorem w_eq {r1 r2 : Int32} {off : Int} (C : CL p s m meth c D cI cZ b L xs) (hd : decode cL_law pc = .ok (.if_icmp .eq off, 3)) (ht : (pc : Int) + off = ((490 : Nat) : Int)) (h : r1 = r2) (k : JW p l e s m below meth c D cI cZ adx ady b u v i 490 []) : JW p l e s m below meth c D cI cZ adx ady b u v i pc [.int r2, .int r1] := by
  obtain ⟨⟨hx, hb, hr, hml, hown, hts, hX, hbl, hlocks, hgv⟩, hK, hL⟩ := C
  intro H locs ls hP hD hS hl
  exact lv_icmp_eq hx hb hd ht (fun _ => k H locs ls hP hD hS hl) (fun q => absurd h q)
theorem w_next (C : CL p s m meth c D cI cZ b L xs) (k : JW p l e s m below meth c D cI cZ adx ady b u v (i + 3) 18 []) : JW p l e s m below meth c D cI cZ adx ady b u v i 490 [] := by
  obtain ⟨⟨hx, hb, hr, hml, hown, hts, hX, hbl, hlocks, hgv⟩, hK, hL⟩ := C
  intro H locs ls hP hD hS hl
  refine lv_iinc (v := nI (i + 3)) (lv' := [(3, .int (nI (i + 3))), (0, .ref b), (1, .ref (adx 0)), (2, .ref (ady 0))]) hx hb dL_law_490 hl (k := 3) rfl (nI_add i 3) (by decide) rfl (fun ls hl => ?_)
  refine lv_goto (tgt := 18) hx hb dL_law_493 (by decide) ?_
  exact k H locs ls hP hD hS (lv_sub hl [1, 2, 3, 0] rfl)
theorem w_callx {post : Int32 → XT → Prop} (C : CL p s m meth c D cI cZ b L xs) (hM : MetI l y bytes maxL (some .int) 4 D cI cZ (.ref (adx 0) :: As) (XU adx cI cZ) (XU adx cI cZ u) post) (hG : GoodIn lw_all (wsV R_law index RX0 y (ws_ y bytes maxL (some .int))))
    (hy : y.cls = RX0 ∧ y.cls ≠ "java/lang/invoke/MethodHandle" ∧ y.cls ≠ "java/lang/invoke/VarHandle" ∧ (parseMethodDescriptor y.desc).map (fun d => d.parameters.length) = some n) (hn : As.length = n) (hm : maxL ≤ 7) (hst : (st.map fun v => v.category).sum ≤ 8) (hd : decode cL_law pc = .ok (.invokevirtual index, 3))
    (kk : ∀ (r : Int32) (u' : XT), post r u' → JW p l e s m below meth c D cI cZ adx ady b u' v i (pc + 3) (.int r :: st)) : JW p l e s m below meth c D cI cZ adx ady b u v i pc (As.reverse ++ .ref (adx 0) :: st) := by
  obtain ⟨⟨hx, hb, hr, hml, hown, hts, hX, hbl, hlocks, hgv⟩, hK, hL⟩ := C
  intro H locs ls hP hD hS hl
  have hta : ∀ w ∈ lw_all, w.before #[Value.ref b] s = true := fun w h => hts w (lw_all_tbl h)
  have hPc := hP.sub (ws' := XU adx cI cZ u) [0, 1, 2, 3, 4, 5, 6, 7] rfl
  have hDc := hD.sub (ws' := XU adx cI cZ u) [0, 1, 2, 3, 4, 5, 6, 7] (by decide) rfl
  have hF := va_free (wc := XU adx cI cZ u) hD hS (fun q h => h) [0, 1, 2, 3, 4, 5, 6, 7] rfl
  refine va_calli (va_runV (As := As) (rest := st) ⟨hx, hb, hml, hown, hta⟩ (hM H.size) (cwV n hta hG rfl rfl rfl hy ⟨Nat.le_of_ble_eq_true rfl, by show 8 + (maxL + 11) + 26 * 4 ≤ 222; omega⟩) ⟨PW_blind, va_recv hK hPc (ci := 0) (q0 := 0) rfl rfl, fun U hU hW => ⟨rfl, by rw [hU], by rw [hU]; exact hPc, va_K.moved hW.alike hK, hDc.weaken (fun _ _ _ _ => trivial)⟩⟩ rfl hn hl.1 rfl (lv_room hst) hd ⟨Nat.le_refl _, Nat.le_refl _⟩) hS (fun q _ h => hF q h) hF (fun r u' t H1 locs1 ht hvm hw hB hz1 hk1 hS1 => ?_)
  obtain ⟨hP1, hK1, hD1⟩ := hB
  rw [ht] at hP1
  obtain ⟨hP2, hD2⟩ := va_join (wr := YU ady cI cZ v) (w1 := XU adx cI cZ u') hP hD [0, 1, 2, 3, 4, 5, 6, 7] [8, 9, 10, 11, 12, 13, 14, 15, 16, 17] rfl rfl (by decide) (by decide) hk1 hF hP1 hD1
  exact kk r u' hw H1 locs1 ls (hP2.sub [10, 11, 12, 13, 14, 15, 16, 17, 0, 1, 2, 3, 4, 5, 6, 7, 8, 9] rfl) (hD2.sub [10, 11, 12, 13, 14, 15, 16, 17, 0, 1, 2, 3, 4, 5, 6, 7, 8, 9] (by decide) rfl) hS1 hl
theorem w_cally {post : Int32 → YT → Prop} (C : CL p s m meth c D cI cZ b L xs) (hM : MetI l y bytes maxL (some .int) 4 D cI cZ (.ref (ady 0) :: As) (YU ady cI cZ) (YU ady cI cZ v) post) (hG : GoodIn lw_all (wsV R_law index RX1 y (ws_ y bytes maxL (some .int))))
    (hy : y.cls = RX1 ∧ y.cls ≠ "java/lang/invoke/MethodHandle" ∧ y.cls ≠ "java/lang/invoke/VarHandle" ∧ (parseMethodDescriptor y.desc).map (fun d => d.parameters.length) = some n) (hn : As.length = n) (hm : maxL ≤ 7) (hst : (st.map fun v => v.category).sum ≤ 8) (hd : decode cL_law pc = .ok (.invokevirtual index, 3))
    (kk : ∀ (r : Int32) (u' : YT), post r u' → JW p l e s m below meth c D cI cZ adx ady b u u' i (pc + 3) (.int r :: st)) : JW p l e s m below meth c D cI cZ adx ady b u v i pc (As.reverse ++ .ref (ady 0) :: st) := by
  obtain ⟨⟨hx, hb, hr, hml, hown, hts, hX, hbl, hlocks, hgv⟩, hK, hL⟩ := C
  intro H locs ls hP hD hS hl
  have hta : ∀ w ∈ lw_all, w.before #[Value.ref b] s = true := fun w h => hts w (lw_all_tbl h)
  have hPc := hP.sub (ws' := YU ady cI cZ v) [8, 9, 10, 11, 12, 13, 14, 15, 16, 17] rfl
  have hDc := hD.sub (ws' := YU ady cI cZ v) [8, 9, 10, 11, 12, 13, 14, 15, 16, 17] (by decide) rfl
  have hF := va_free (wc := YU ady cI cZ v) hD hS (fun q h => h) [8, 9, 10, 11, 12, 13, 14, 15, 16, 17] rfl
  refine va_calli (va_runV (As := As) (rest := st) ⟨hx, hb, hml, hown, hta⟩ (hM H.size) (cwV n hta hG rfl rfl rfl hy ⟨Nat.le_of_ble_eq_true rfl, by show 8 + (maxL + 11) + 26 * 4 ≤ 222; omega⟩) ⟨PW_blind, va_recv hK hPc (ci := 1) (q0 := 0) rfl rfl, fun U hU hW => ⟨rfl, by rw [hU], by rw [hU]; exact hPc, va_K.moved hW.alike hK, hDc.weaken (fun _ _ _ _ => trivial)⟩⟩ rfl hn hl.1 rfl (lv_room hst) hd ⟨Nat.le_refl _, Nat.le_refl _⟩) hS (fun q _ h => hF q h) hF (fun r u' t H1 locs1 ht hvm hw hB hz1 hk1 hS1 => ?_)
  obtain ⟨hP1, hK1, hD1⟩ := hB
  rw [ht] at hP1
  obtain ⟨hP2, hD2⟩ := va_join (wr := XU adx cI cZ u) (w1 := YU ady cI cZ u') hP hD [8, 9, 10, 11, 12, 13, 14, 15, 16, 17] [0, 1, 2, 3, 4, 5, 6, 7] rfl rfl (by decide) (by decide) hk1 hF hP1 hD1
  exact kk r u' hw H1 locs1 ls hP2 hD2 hS1 hl
theorem w_callx0 {post : Int32 → XT → Prop} (C : CL p s m meth c D cI cZ b L xs) (hM : MetI l y bytes maxL (some .int) 4 D cI cZ [.ref (adx 0)] (XU adx cI cZ) (XU adx cI cZ u) post) (hG : GoodIn lw_all (wsV R_law index RX0 y (ws_ y bytes maxL (some .int))))
    (hy : y.cls = RX0 ∧ y.cls ≠ "java/lang/invoke/MethodHandle" ∧ y.cls ≠ "java/lang/invoke/VarHandle" ∧ (parseMethodDescriptor y.desc).map (fun d => d.parameters.length) = some 0) (hm : maxL ≤ 7) (hst : (st.map fun v => v.category).sum ≤ 8) (hd : decode cL_law pc = .ok (.invokevirtual index, 3))
    (kk : ∀ (r : Int32) (u' : XT), post r u' → JW p l e s m below meth c D cI cZ adx ady b u' v i (pc + 3) (.int r :: st)) : JW p l e s m below meth c D cI cZ adx ady b u v i pc (.ref (adx 0) :: st) := w_callx (As := []) C hM hG hy rfl hm hst hd kk
theorem w_callx1 {post : Int32 → XT → Prop} {x : Int32} (C : CL p s m meth c D cI cZ b L xs) (hM : MetI l y bytes maxL (some .int) 4 D cI cZ [.ref (adx 0), .int x] (XU adx cI cZ) (XU adx cI cZ u) post) (hG : GoodIn lw_all (wsV R_law index RX0 y (ws_ y bytes maxL (some .int))))
    (hy : y.cls = RX0 ∧ y.cls ≠ "java/lang/invoke/MethodHandle" ∧ y.cls ≠ "java/lang/invoke/VarHandle" ∧ (parseMethodDescriptor y.desc).map (fun d => d.parameters.length) = some 1) (hm : maxL ≤ 7) (hst : (st.map fun v => v.category).sum ≤ 8) (hd : decode cL_law pc = .ok (.invokevirtual index, 3))
    (kk : ∀ (r : Int32) (u' : XT), post r u' → JW p l e s m below meth c D cI cZ adx ady b u' v i (pc + 3) (.int r :: st)) : JW p l e s m below meth c D cI cZ adx ady b u v i pc (.int x :: .ref (adx 0) :: st) := w_callx (As := [.int x]) C hM hG hy rfl hm hst hd kk
theorem w_callx2 {post : Int32 → XT → Prop} {x z : Int32} (C : CL p s m meth c D cI cZ b L xs) (hM : MetI l y bytes maxL (some .int) 4 D cI cZ [.ref (adx 0), .int x, .int z] (XU adx cI cZ) (XU adx cI cZ u) post) (hG : GoodIn lw_all (wsV R_law index RX0 y (ws_ y bytes maxL (some .int))))
    (hy : y.cls = RX0 ∧ y.cls ≠ "java/lang/invoke/MethodHandle" ∧ y.cls ≠ "java/lang/invoke/VarHandle" ∧ (parseMethodDescriptor y.desc).map (fun d => d.parameters.length) = some 2) (hm : maxL ≤ 7) (hst : (st.map fun v => v.category).sum ≤ 8) (hd : decode cL_law pc = .ok (.invokevirtual index, 3))
    (kk : ∀ (r : Int32) (u' : XT), post r u' → JW p l e s m below meth c D cI cZ adx ady b u' v i (pc + 3) (.int r :: st)) : JW p l e s m below meth c D cI cZ adx ady b u v i pc (.int z :: .int x :: .ref (adx 0) :: st) := w_callx (As := [.int x, .int z]) C hM hG hy rfl hm hst hd kk
theorem w_cally0 {post : Int32 → YT → Prop} (C : CL p s m meth c D cI cZ b L xs) (hM : MetI l y bytes maxL (some .int) 4 D cI cZ [.ref (ady 0)] (YU ady cI cZ) (YU ady cI cZ v) post) (hG : GoodIn lw_all (wsV R_law index RX1 y (ws_ y bytes maxL (some .int))))
    (hy : y.cls = RX1 ∧ y.cls ≠ "java/lang/invoke/MethodHandle" ∧ y.cls ≠ "java/lang/invoke/VarHandle" ∧ (parseMethodDescriptor y.desc).map (fun d => d.parameters.length) = some 0) (hm : maxL ≤ 7) (hst : (st.map fun v => v.category).sum ≤ 8) (hd : decode cL_law pc = .ok (.invokevirtual index, 3))
    (kk : ∀ (r : Int32) (u' : YT), post r u' → JW p l e s m below meth c D cI cZ adx ady b u u' i (pc + 3) (.int r :: st)) : JW p l e s m below meth c D cI cZ adx ady b u v i pc (.ref (ady 0) :: st) := w_cally (As := []) C hM hG hy rfl hm hst hd kk
theorem w_cally1 {post : Int32 → YT → Prop} {x : Int32} (C : CL p s m meth c D cI cZ b L xs) (hM : MetI l y bytes maxL (some .int) 4 D cI cZ [.ref (ady 0), .int x] (YU ady cI cZ) (YU ady cI cZ v) post) (hG : GoodIn lw_all (wsV R_law index RX1 y (ws_ y bytes maxL (some .int))))
    (hy : y.cls = RX1 ∧ y.cls ≠ "java/lang/invoke/MethodHandle" ∧ y.cls ≠ "java/lang/invoke/VarHandle" ∧ (parseMethodDescriptor y.desc).map (fun d => d.parameters.length) = some 1) (hm : maxL ≤ 7) (hst : (st.map fun v => v.category).sum ≤ 8) (hd : decode cL_law pc = .ok (.invokevirtual index, 3))
    (kk : ∀ (r : Int32) (u' : YT), post r u' → JW p l e s m below meth c D cI cZ adx ady b u u' i (pc + 3) (.int r :: st)) : JW p l e s m below meth c D cI cZ adx ady b u v i pc (.int x :: .ref (ady 0) :: st) := w_cally (As := [.int x]) C hM hG hy rfl hm hst hd kk
theorem w_cally2 {post : Int32 → YT → Prop} {x z : Int32} (C : CL p s m meth c D cI cZ b L xs) (hM : MetI l y bytes maxL (some .int) 4 D cI cZ [.ref (ady 0), .int x, .int z] (YU ady cI cZ) (YU ady cI cZ v) post) (hG : GoodIn lw_all (wsV R_law index RX1 y (ws_ y bytes maxL (some .int))))
    (hy : y.cls = RX1 ∧ y.cls ≠ "java/lang/invoke/MethodHandle" ∧ y.cls ≠ "java/lang/invoke/VarHandle" ∧ (parseMethodDescriptor y.desc).map (fun d => d.parameters.length) = some 2) (hm : maxL ≤ 7) (hst : (st.map fun v => v.category).sum ≤ 8) (hd : decode cL_law pc = .ok (.invokevirtual index, 3))
    (kk : ∀ (r : Int32) (u' : YT), post r u' → JW p l e s m below meth c D cI cZ adx ady b u u' i (pc + 3) (.int r :: st)) : JW p l e s m below meth c D cI cZ adx ady b u v i pc (.int z :: .int x :: .ref (ady 0) :: st) := w_cally (As := [.int x, .int z]) C hM hG hy rfl hm hst hd kk
end LWr
theorem law_cmp {L i : Nat} (hL : L ≤ 192) (hi : i ≤ 192) (h : ¬ nI L - nI 3 < nI i) : i + 3 ≤ L := by
  rw [Int32.lt_iff_toInt_lt, pk_sub_toInt (by omega) (by omega), nI_toInt (by omega)] at h
  omega
set_option maxHeartbeats 4000000 in
set_option maxRecDepth 100000 in
/-- THE LAW'S LOOP: at its head both objects hold the same text -/
theorem law_loop {p : Program} {l : Launch} {e : Env} {s : State} {m : MethodId} {below : List Frame} {meth : Method} {c : Code} {D : va_G} {cI cZ : ClassId} {adx ady : Nat → Nat} {b L : Nat} {xs : Nat → Int32} (C : CL p s m meth c D cI cZ b L xs) :
    ∀ (f i : Nat) (t : Nat → Int32) (n : Nat) (u : XT) (v : YT), L < i + f → i ≤ L → XOK t n u → YOK t n v → JW p l e s m below meth c D cI cZ adx ady b u v i 18 [] := by
  intro f
  induction f with
  | zero => intro i t n u v h1 h2; omega
  | succ f ih =>
    intro i t n u v h1 h2 hX hY
    have hL := C.2.2
    have hend : i + 3 ≤ L → JW p l e s m below meth c D cI cZ adx ady b u v i 26 [] := by
      intro hlt
      have k112 : JW p l e s m below meth c D cI cZ adx ady b u v i 112 [] := by
        refine w_x (pc := 112) C dL_law_112 ?_
        refine w_arg (pc := 113) 1 C dL_law_113 dL_law_114 dL_law_115 (by decide) dL_law_116 dL_law_117 (by omega) ?_
        refine w_arg (pc := 118) 2 C dL_law_118 dL_law_119 dL_law_120 (by decide) dL_law_121 dL_law_122 (by omega) ?_
        refine w_callx2 (pc := 123) C (xu_insert hX) (lw_V q71 q72 q73 q22 q74) (by decide +kernel) (by decide) (Nat.le_of_ble_eq_true rfl) dL_law_123 (fun rx u1 hx => ?_)
        refine w_y (pc := 126) C dL_law_126 ?_
        refine w_arg (pc := 127) 1 C dL_law_127 dL_law_128 dL_law_129 (by decide) dL_law_130 dL_law_131 (by omega) ?_
        refine w_arg (pc := 132) 2 C dL_law_132 dL_law_133 dL_law_134 (by decide) dL_law_135 dL_law_136 (by omega) ?_
        refine w_cally2 (pc := 137) C (yu_insert hY) (lw_V q226 q227 q228 q23 q229) (by decide +kernel) (by decide) (Nat.le_of_ble_eq_true rfl) dL_law_137 (fun ry v1 hy => ?_)
        refine w_eq (pc := 140) C dL_law_140 (by decide) (by rw [hx.2, hy.2]) ?_
        exact w_next C (ih (i + 3) (f_ins t n (xs (i + 1)) (xs (i + 2))).2.1 (f_ins t n (xs (i + 1)) (xs (i + 2))).2.2 u1 v1 (by omega) (by omega) hx.1 hy.1)
      have k145 : JW p l e s m below meth c D cI cZ adx ady b u v i 145 [] := by
        refine w_x (pc := 145) C dL_law_145 ?_
        refine w_arg (pc := 146) 1 C dL_law_146 dL_law_147 dL_law_148 (by decide) dL_law_149 dL_law_150 (by omega) ?_
        refine w_arg (pc := 151) 2 C dL_law_151 dL_law_152 dL_law_153 (by decide) dL_law_154 dL_law_155 (by omega) ?_
        refine w_callx2 (pc := 156) C (xu_delete hX) (lw_V q86 q87 q88 q22 q89) (by decide +kernel) (by decide) (Nat.le_of_ble_eq_true rfl) dL_law_156 (fun rx u1 hx => ?_)
        refine w_y (pc := 159) C dL_law_159 ?_
        refine w_arg (pc := 160) 1 C dL_law_160 dL_law_161 dL_law_162 (by decide) dL_law_163 dL_law_164 (by omega) ?_
        refine w_arg (pc := 165) 2 C dL_law_165 dL_law_166 dL_law_167 (by decide) dL_law_168 dL_law_169 (by omega) ?_
        refine w_cally2 (pc := 170) C (yu_delete hY) (lw_V q234 q235 q236 q23 q237) (by decide +kernel) (by decide) (Nat.le_of_ble_eq_true rfl) dL_law_170 (fun ry v1 hy => ?_)
        refine w_eq (pc := 173) C dL_law_173 (by decide) (by rw [hx.2, hy.2]) ?_
        exact w_next C (ih (i + 3) (f_del t n (xs (i + 1)) (xs (i + 2))).2.1 (f_del t n (xs (i + 1)) (xs (i + 2))).2.2 u1 v1 (by omega) (by omega) hx.1 hy.1)
      have k178 : JW p l e s m below meth c D cI cZ adx ady b u v i 178 [] := by
        refine w_x (pc := 178) C dL_law_178 ?_
        refine w_arg (pc := 179) 1 C dL_law_179 dL_law_180 dL_law_181 (by decide) dL_law_182 dL_law_183 (by omega) ?_
        refine w_arg (pc := 184) 2 C dL_law_184 dL_law_185 dL_law_186 (by decide) dL_law_187 dL_law_188 (by omega) ?_
        refine w_callx2 (pc := 189) C (xu_set hX) (lw_V q90 q91 q92 q22 q93) (by decide +kernel) (by decide) (Nat.le_of_ble_eq_true rfl) dL_law_189 (fun rx u1 hx => ?_)
        refine w_y (pc := 192) C dL_law_192 ?_
        refine w_arg (pc := 193) 1 C dL_law_193 dL_law_194 dL_law_195 (by decide) dL_law_196 dL_law_197 (by omega) ?_
        refine w_arg (pc := 198) 2 C dL_law_198 dL_law_199 dL_law_200 (by decide) dL_law_201 dL_law_202 (by omega) ?_
        refine w_cally2 (pc := 203) C (yu_set hY) (lw_V q238 q239 q240 q23 q241) (by decide +kernel) (by decide) (Nat.le_of_ble_eq_true rfl) dL_law_203 (fun ry v1 hy => ?_)
        refine w_eq (pc := 206) C dL_law_206 (by decide) (by rw [hx.2, hy.2]) ?_
        exact w_next C (ih (i + 3) (f_set t n (xs (i + 1)) (xs (i + 2))).2.1 (f_set t n (xs (i + 1)) (xs (i + 2))).2.2 u1 v1 (by omega) (by omega) hx.1 hy.1)
      have k211 : JW p l e s m below meth c D cI cZ adx ady b u v i 211 [] := by
        refine w_x (pc := 211) C dL_law_211 ?_
        refine w_callx0 (pc := 212) C (xu_length hX) (lw_V q98 q99 q100 q22 q101) (by decide +kernel) (by decide) (Nat.le_of_ble_eq_true rfl) dL_law_212 (fun rx u1 hx => ?_)
        refine w_y (pc := 215) C dL_law_215 ?_
        refine w_cally0 (pc := 216) C (yu_length hY) (lw_V q246 q247 q248 q23 q249) (by decide +kernel) (by decide) (Nat.le_of_ble_eq_true rfl) dL_law_216 (fun ry v1 hy => ?_)
        refine w_eq (pc := 219) C dL_law_219 (by decide) (by rw [hx.2, hy.2]) ?_
        exact w_next C (ih (i + 3) t n u1 v1 (by omega) (by omega) hx.1 hy.1)
      have k224 : JW p l e s m below meth c D cI cZ adx ady b u v i 224 [] := by
        refine w_x (pc := 224) C dL_law_224 ?_
        refine w_arg (pc := 225) 1 C dL_law_225 dL_law_226 dL_law_227 (by decide) dL_law_228 dL_law_229 (by omega) ?_
        refine w_callx1 (pc := 230) C (xu_kindAt hX) (lw_V q102 q103 q104 q22 q105) (by decide +kernel) (by decide) (Nat.le_of_ble_eq_true rfl) dL_law_230 (fun rx u1 hx => ?_)
        refine w_y (pc := 233) C dL_law_233 ?_
        refine w_arg (pc := 234) 1 C dL_law_234 dL_law_235 dL_law_236 (by decide) dL_law_237 dL_law_238 (by omega) ?_
        refine w_cally1 (pc := 239) C (yu_kindAt hY) (lw_V q250 q251 q252 q23 q253) (by decide +kernel) (by decide) (Nat.le_of_ble_eq_true rfl) dL_law_239 (fun ry v1 hy => ?_)
        refine w_eq (pc := 242) C dL_law_242 (by decide) (by rw [hx.2, hy.2]) ?_
        exact w_next C (ih (i + 3) t n u1 v1 (by omega) (by omega) hx.1 hy.1)
      have k247 : JW p l e s m below meth c D cI cZ adx ady b u v i 247 [] := by
        refine w_x (pc := 247) C dL_law_247 ?_
        refine w_arg (pc := 248) 1 C dL_law_248 dL_law_249 dL_law_250 (by decide) dL_law_251 dL_law_252 (by omega) ?_
        refine w_callx1 (pc := 253) C (xu_mode hX) (lw_V q106 q107 q108 q22 q109) (by decide +kernel) (by decide) (Nat.le_of_ble_eq_true rfl) dL_law_253 (fun rx u1 hx => ?_)
        refine w_y (pc := 256) C dL_law_256 ?_
        refine w_arg (pc := 257) 1 C dL_law_257 dL_law_258 dL_law_259 (by decide) dL_law_260 dL_law_261 (by omega) ?_
        refine w_cally1 (pc := 262) C (yu_mode hY) (lw_V q254 q255 q256 q23 q257) (by decide +kernel) (by decide) (Nat.le_of_ble_eq_true rfl) dL_law_262 (fun ry v1 hy => ?_)
        refine w_eq (pc := 265) C dL_law_265 (by decide) (by rw [hx.2, hy.2]) ?_
        exact w_next C (ih (i + 3) t n u1 v1 (by omega) (by omega) hx.1 hy.1)
      have k270 : JW p l e s m below meth c D cI cZ adx ady b u v i 270 [] := by
        refine w_x (pc := 270) C dL_law_270 ?_
        refine w_arg (pc := 271) 1 C dL_law_271 dL_law_272 dL_law_273 (by decide) dL_law_274 dL_law_275 (by omega) ?_
        refine w_callx1 (pc := 276) C (xu_escaped hX) (lw_V q134 q135 q136 q22 q137) (by decide +kernel) (by decide) (Nat.le_of_ble_eq_true rfl) dL_law_276 (fun rx u1 hx => ?_)
        refine w_y (pc := 279) C dL_law_279 ?_
        refine w_arg (pc := 280) 1 C dL_law_280 dL_law_281 dL_law_282 (by decide) dL_law_283 dL_law_284 (by omega) ?_
        refine w_cally1 (pc := 285) C (yu_escaped hY) (lw_V q266 q267 q268 q23 q269) (by decide +kernel) (by decide) (Nat.le_of_ble_eq_true rfl) dL_law_285 (fun ry v1 hy => ?_)
        refine w_eq (pc := 288) C dL_law_288 (by decide) (by rw [hx.2, hy.2]) ?_
        exact w_next C (ih (i + 3) t n u1 v1 (by omega) (by omega) hx.1 hy.1)
      have k293 : JW p l e s m below meth c D cI cZ adx ady b u v i 293 [] := by
        refine w_x (pc := 293) C dL_law_293 ?_
        refine w_arg (pc := 294) 1 C dL_law_294 dL_law_295 dL_law_296 (by decide) dL_law_297 dL_law_298 (by omega) ?_
        refine w_callx1 (pc := 299) C (xu_depth hX) (lw_V q138 q139 q140 q22 q141) (by decide +kernel) (by decide) (Nat.le_of_ble_eq_true rfl) dL_law_299 (fun rx u1 hx => ?_)
        refine w_y (pc := 302) C dL_law_302 ?_
        refine w_arg (pc := 303) 1 C dL_law_303 dL_law_304 dL_law_305 (by decide) dL_law_306 dL_law_307 (by omega) ?_
        refine w_cally1 (pc := 308) C (yu_depth hY) (lw_V q270 q271 q272 q23 q273) (by decide +kernel) (by decide) (Nat.le_of_ble_eq_true rfl) dL_law_308 (fun ry v1 hy => ?_)
        refine w_eq (pc := 311) C dL_law_311 (by decide) (by rw [hx.2, hy.2]) ?_
        exact w_next C (ih (i + 3) t n u1 v1 (by omega) (by omega) hx.1 hy.1)
      have k316 : JW p l e s m below meth c D cI cZ adx ady b u v i 316 [] := by
        refine w_x (pc := 316) C dL_law_316 ?_
        refine w_arg (pc := 317) 1 C dL_law_317 dL_law_318 dL_law_319 (by decide) dL_law_320 dL_law_321 (by omega) ?_
        refine w_arg (pc := 322) 2 C dL_law_322 dL_law_323 dL_law_324 (by decide) dL_law_325 dL_law_326 (by omega) ?_
        refine w_callx2 (pc := 327) C (xu_bracketAt hX) (lw_V q146 q147 q148 q22 q149) (by decide +kernel) (by decide) (Nat.le_of_ble_eq_true rfl) dL_law_327 (fun rx u1 hx => ?_)
        refine w_y (pc := 330) C dL_law_330 ?_
        refine w_arg (pc := 331) 1 C dL_law_331 dL_law_332 dL_law_333 (by decide) dL_law_334 dL_law_335 (by omega) ?_
        refine w_arg (pc := 336) 2 C dL_law_336 dL_law_337 dL_law_338 (by decide) dL_law_339 dL_law_340 (by omega) ?_
        refine w_cally2 (pc := 341) C (yu_bracketAt hY) (lw_V q274 q275 q276 q23 q277) (by decide +kernel) (by decide) (Nat.le_of_ble_eq_true rfl) dL_law_341 (fun ry v1 hy => ?_)
        refine w_eq (pc := 344) C dL_law_344 (by decide) (by rw [hx.2, hy.2]) ?_
        exact w_next C (ih (i + 3) t n u1 v1 (by omega) (by omega) hx.1 hy.1)
      have k349 : JW p l e s m below meth c D cI cZ adx ady b u v i 349 [] := by
        refine w_x (pc := 349) C dL_law_349 ?_
        refine w_arg (pc := 350) 1 C dL_law_350 dL_law_351 dL_law_352 (by decide) dL_law_353 dL_law_354 (by omega) ?_
        refine w_callx1 (pc := 355) C (xu_partner hX) (lw_V q150 q151 q152 q22 q153) (by decide +kernel) (by decide) (Nat.le_of_ble_eq_true rfl) dL_law_355 (fun rx u1 hx => ?_)
        refine w_y (pc := 358) C dL_law_358 ?_
        refine w_arg (pc := 359) 1 C dL_law_359 dL_law_360 dL_law_361 (by decide) dL_law_362 dL_law_363 (by omega) ?_
        refine w_cally1 (pc := 364) C (yu_partner hY) (lw_V q278 q279 q280 q23 q281) (by decide +kernel) (by decide) (Nat.le_of_ble_eq_true rfl) dL_law_364 (fun ry v1 hy => ?_)
        refine w_eq (pc := 367) C dL_law_367 (by decide) (by rw [hx.2, hy.2]) ?_
        exact w_next C (ih (i + 3) t n u1 v1 (by omega) (by omega) hx.1 hy.1)
      have k372 : JW p l e s m below meth c D cI cZ adx ady b u v i 372 [] := by
        refine w_x (pc := 372) C dL_law_372 ?_
        refine w_callx0 (pc := 373) C (xu_strays hX) (lw_V q154 q155 q156 q22 q157) (by decide +kernel) (by decide) (Nat.le_of_ble_eq_true rfl) dL_law_373 (fun rx u1 hx => ?_)
        refine w_y (pc := 376) C dL_law_376 ?_
        refine w_cally0 (pc := 377) C (yu_strays hY) (lw_V q282 q283 q284 q23 q285) (by decide +kernel) (by decide) (Nat.le_of_ble_eq_true rfl) dL_law_377 (fun ry v1 hy => ?_)
        refine w_eq (pc := 380) C dL_law_380 (by decide) (by rw [hx.2, hy.2]) ?_
        exact w_next C (ih (i + 3) t n u1 v1 (by omega) (by omega) hx.1 hy.1)
      have k385 : JW p l e s m below meth c D cI cZ adx ady b u v i 385 [] := by
        refine w_x (pc := 385) C dL_law_385 ?_
        refine w_arg (pc := 386) 1 C dL_law_386 dL_law_387 dL_law_388 (by decide) dL_law_389 dL_law_390 (by omega) ?_
        refine w_callx1 (pc := 391) C (xu_forward hX) (lw_V q158 q159 q160 q22 q161) (by decide +kernel) (by decide) (Nat.le_of_ble_eq_true rfl) dL_law_391 (fun rx u1 hx => ?_)
        refine w_y (pc := 394) C dL_law_394 ?_
        refine w_arg (pc := 395) 1 C dL_law_395 dL_law_396 dL_law_397 (by decide) dL_law_398 dL_law_399 (by omega) ?_
        refine w_cally1 (pc := 400) C (yu_forward hY) (lw_V q286 q287 q288 q23 q289) (by decide +kernel) (by decide) (Nat.le_of_ble_eq_true rfl) dL_law_400 (fun ry v1 hy => ?_)
        refine w_eq (pc := 403) C dL_law_403 (by decide) (by rw [hx.2, hy.2]) ?_
        exact w_next C (ih (i + 3) t n u1 v1 (by omega) (by omega) hx.1 hy.1)
      have k408 : JW p l e s m below meth c D cI cZ adx ady b u v i 408 [] := by
        refine w_x (pc := 408) C dL_law_408 ?_
        refine w_arg (pc := 409) 1 C dL_law_409 dL_law_410 dL_law_411 (by decide) dL_law_412 dL_law_413 (by omega) ?_
        refine w_callx1 (pc := 414) C (xu_backward hX) (lw_V q166 q167 q168 q22 q169) (by decide +kernel) (by decide) (Nat.le_of_ble_eq_true rfl) dL_law_414 (fun rx u1 hx => ?_)
        refine w_y (pc := 417) C dL_law_417 ?_
        refine w_arg (pc := 418) 1 C dL_law_418 dL_law_419 dL_law_420 (by decide) dL_law_421 dL_law_422 (by omega) ?_
        refine w_cally1 (pc := 423) C (yu_backward hY) (lw_V q306 q307 q308 q23 q309) (by decide +kernel) (by decide) (Nat.le_of_ble_eq_true rfl) dL_law_423 (fun ry v1 hy => ?_)
        refine w_eq (pc := 426) C dL_law_426 (by decide) (by rw [hx.2, hy.2]) ?_
        exact w_next C (ih (i + 3) t n u1 v1 (by omega) (by omega) hx.1 hy.1)
      have k431 : JW p l e s m below meth c D cI cZ adx ady b u v i 431 [] := by
        refine w_x (pc := 431) C dL_law_431 ?_
        refine w_arg (pc := 432) 1 C dL_law_432 dL_law_433 dL_law_434 (by decide) dL_law_435 dL_law_436 (by omega) ?_
        refine w_callx1 (pc := 437) C (xu_up hX) (lw_V q174 q175 q176 q22 q177) (by decide +kernel) (by decide) (Nat.le_of_ble_eq_true rfl) dL_law_437 (fun rx u1 hx => ?_)
        refine w_y (pc := 440) C dL_law_440 ?_
        refine w_arg (pc := 441) 1 C dL_law_441 dL_law_442 dL_law_443 (by decide) dL_law_444 dL_law_445 (by omega) ?_
        refine w_cally1 (pc := 446) C (yu_up hY) (lw_V q314 q315 q316 q23 q317) (by decide +kernel) (by decide) (Nat.le_of_ble_eq_true rfl) dL_law_446 (fun ry v1 hy => ?_)
        refine w_eq (pc := 449) C dL_law_449 (by decide) (by rw [hx.2, hy.2]) ?_
        exact w_next C (ih (i + 3) t n u1 v1 (by omega) (by omega) hx.1 hy.1)
      have k454 : JW p l e s m below meth c D cI cZ adx ady b u v i 454 [] := by
        refine w_x (pc := 454) C dL_law_454 ?_
        refine w_arg (pc := 455) 1 C dL_law_455 dL_law_456 dL_law_457 (by decide) dL_law_458 dL_law_459 (by omega) ?_
        refine w_callx1 (pc := 460) C (xu_down hX) (lw_V q178 q179 q180 q22 q181) (by decide +kernel) (by decide) (Nat.le_of_ble_eq_true rfl) dL_law_460 (fun rx u1 hx => ?_)
        refine w_y (pc := 463) C dL_law_463 ?_
        refine w_arg (pc := 464) 1 C dL_law_464 dL_law_465 dL_law_466 (by decide) dL_law_467 dL_law_468 (by omega) ?_
        refine w_cally1 (pc := 469) C (yu_down hY) (lw_V q318 q319 q320 q23 q321) (by decide +kernel) (by decide) (Nat.le_of_ble_eq_true rfl) dL_law_469 (fun ry v1 hy => ?_)
        refine w_eq (pc := 472) C dL_law_472 (by decide) (by rw [hx.2, hy.2]) ?_
        exact w_next C (ih (i + 3) t n u1 v1 (by omega) (by omega) hx.1 hy.1)
      have k477 : JW p l e s m below meth c D cI cZ adx ady b u v i 477 [] := by
        refine w_x (pc := 477) C dL_law_477 ?_
        refine w_callx0 (pc := 478) C (xu_units hX) (lw_V q182 q183 q184 q22 q185) (by decide +kernel) (by decide) (Nat.le_of_ble_eq_true rfl) dL_law_478 (fun rx u1 hx => ?_)
        refine w_y (pc := 481) C dL_law_481 ?_
        refine w_cally0 (pc := 482) C (yu_units hY) (lw_V q322 q323 q324 q23 q325) (by decide +kernel) (by decide) (Nat.le_of_ble_eq_true rfl) dL_law_482 (fun ry v1 hy => ?_)
        refine w_eq (pc := 485) C dL_law_485 (by decide) (by rw [hx.2, hy.2]) ?_
        exact w_next C (ih (i + 3) t n u1 v1 (by omega) (by omega) hx.1 hy.1)
      intro H locs ls hP hD hS hl
      obtain ⟨⟨hx, hb, hr, hml, hown, hts, hXs, hbl, hlocks, hgv⟩, hK, -⟩ := C
      refine lv_aload_n hx hb dL_law_26 rfl (lv_at hl 0 rfl) ?_
      refine lv_iload_n hx hb dL_law_27 rfl (lv_at hl 3 rfl) ?_
      refine va_sld hx hb hXs hbl (Nat.not_le.mpr hbl) hS (vp_in_nI (by omega) (by omega)) dL_law_28 ?_
      refine lv_bipush (v := 15) hx hb dL_law_29 (by decide) ?_
      refine lv_iand hx hb dL_law_31 ?_
      obtain ⟨j, hj, ej⟩ := pk_andE (xs (nI i).toNatClampNeg) (m := 15) 4 (by decide)
      rw [ej]
      rcases (show j = 0 ∨ j = 1 ∨ j = 2 ∨ j = 3 ∨ j = 4 ∨ j = 5 ∨ j = 6 ∨ j = 7 ∨ j = 8 ∨ j = 9 ∨ j = 10 ∨ j = 11 ∨ j = 12 ∨ j = 13 ∨ j = 14 ∨ j = 15 by omega) with rfl | rfl | rfl | rfl | rfl | rfl | rfl | rfl | rfl | rfl | rfl | rfl | rfl | rfl | rfl | rfl
      · exact lv_tableIn (x := nI 0) (off := 80) (tgt := 112) hx hb dL_law_32 (by decide) (by decide) (by decide) (by decide) (k112 H locs ls hP hD hS hl)
      · exact lv_tableIn (x := nI 1) (off := 113) (tgt := 145) hx hb dL_law_32 (by decide) (by decide) (by decide) (by decide) (k145 H locs ls hP hD hS hl)
      · exact lv_tableIn (x := nI 2) (off := 146) (tgt := 178) hx hb dL_law_32 (by decide) (by decide) (by decide) (by decide) (k178 H locs ls hP hD hS hl)
      · exact lv_tableIn (x := nI 3) (off := 179) (tgt := 211) hx hb dL_law_32 (by decide) (by decide) (by decide) (by decide) (k211 H locs ls hP hD hS hl)
      · exact lv_tableIn (x := nI 4) (off := 192) (tgt := 224) hx hb dL_law_32 (by decide) (by decide) (by decide) (by decide) (k224 H locs ls hP hD hS hl)
      · exact lv_tableIn (x := nI 5) (off := 215) (tgt := 247) hx hb dL_law_32 (by decide) (by decide) (by decide) (by decide) (k247 H locs ls hP hD hS hl)
      · exact lv_tableIn (x := nI 6) (off := 238) (tgt := 270) hx hb dL_law_32 (by decide) (by decide) (by decide) (by decide) (k270 H locs ls hP hD hS hl)
      · exact lv_tableIn (x := nI 7) (off := 261) (tgt := 293) hx hb dL_law_32 (by decide) (by decide) (by decide) (by decide) (k293 H locs ls hP hD hS hl)
      · exact lv_tableIn (x := nI 8) (off := 284) (tgt := 316) hx hb dL_law_32 (by decide) (by decide) (by decide) (by decide) (k316 H locs ls hP hD hS hl)
      · exact lv_tableIn (x := nI 9) (off := 317) (tgt := 349) hx hb dL_law_32 (by decide) (by decide) (by decide) (by decide) (k349 H locs ls hP hD hS hl)
      · exact lv_tableIn (x := nI 10) (off := 340) (tgt := 372) hx hb dL_law_32 (by decide) (by decide) (by decide) (by decide) (k372 H locs ls hP hD hS hl)
      · exact lv_tableIn (x := nI 11) (off := 353) (tgt := 385) hx hb dL_law_32 (by decide) (by decide) (by decide) (by decide) (k385 H locs ls hP hD hS hl)
      · exact lv_tableIn (x := nI 12) (off := 376) (tgt := 408) hx hb dL_law_32 (by decide) (by decide) (by decide) (by decide) (k408 H locs ls hP hD hS hl)
      · exact lv_tableIn (x := nI 13) (off := 399) (tgt := 431) hx hb dL_law_32 (by decide) (by decide) (by decide) (by decide) (k431 H locs ls hP hD hS hl)
      · exact lv_tableIn (x := nI 14) (off := 422) (tgt := 454) hx hb dL_law_32 (by decide) (by decide) (by decide) (by decide) (k454 H locs ls hP hD hS hl)
      · exact lv_tableIn (x := nI 15) (off := 445) (tgt := 477) hx hb dL_law_32 (by decide) (by decide) (by decide) (by decide) (k477 H locs ls hP hD hS hl)
    obtain ⟨⟨hx, hb, hr, hml, hown, hts, hXs, hbl, hlocks, hgv⟩, hK, -⟩ := id C
    intro H locs ls hP hD hS hl
    refine lv_iload_n hx hb dL_law_18 rfl (lv_at hl 3 rfl) ?_
    refine lv_aload_n hx hb dL_law_19 rfl (lv_at hl 0 rfl) ?_
    refine va_slen hx hb hXs hbl (Nat.not_le.mpr hbl) hS dL_law_20 ?_
    refine lv_iconst (v := nI 3) hx hb dL_law_21 (by decide) ?_
    refine lv_isub hx hb dL_law_22 ?_
    refine lv_icmp_gt (tgt := 496) hx hb dL_law_23 (by decide) (fun c23 => ?_) (fun c23 => ?_)
    · refine lv_iconst (v := 1) hx hb dL_law_496 (by decide) ?_
      refine va_forget (fun q hq => hS.2.2 q hq) ?_
      exact lw_ret hx hb hr hlocks dL_law_497
    · exact hend (law_cmp hL (by omega) c23) H locs ls hP hD hS hl
theorem XOK_0 (mo esc inn : Int32) : XOK zf 0 (zf, zf, zf, zf, zf, zf, upd zf 0 (-2), 0, 0, mo, esc, inn) := by
  refine ⟨rfl, by omega, rfl, 0, Nat.le_refl 0, rfl, fun i hi => by omega, fun i hi => by omega, fun i hi => by omega, fun j hj => ?_⟩
  obtain rfl : j = 0 := by omega
  exact ⟨rfl, rfl, rfl⟩
theorem arr_known {ty : FieldType} {s : State} {args : Array Value} (h : (Cond.arrayClass ty).before args s = true) : ∃ cA : ClassId, ArrOfT s cA ty ∧ s.vm.findClass ("[" ++ ty.toString) = some cA := by
  obtain ⟨cA, kA, comp, h1, h2, h3⟩ := Cond.arrayClass_spec h
  exact ⟨cA, fun n z => ⟨fun k h => (by cases h), kA, h2, comp, h3⟩, h1⟩
set_option maxHeartbeats 4000000 in
set_option maxRecDepth 100000 in
/-- THE LAW, from its entry -/
theorem whole_start {p : Program} {e : Env} {s : State} {m : MethodId} {below : List Frame} {meth : Method} {c : Code} (l : Launch) {b L : Nat} {xs : Nat → Int32} (hL : L ≤ 192) (C0 : lw_At p s m meth c b L xs) : W p l e room_1 s m #[Value.ref b] below meth c s.heap [] 0 0 (lw_Z below #[Value.ref b] s) (entryFrame m ([Value.ref b] : List Value).toArray 4) := by
  obtain ⟨hx, hb, hr, hml, hown, hts0, hX, hbl, hlocks, hgv⟩ := id C0
  have hts : ∀ w ∈ lw_all, w.before #[Value.ref b] s = true := fun w h => hts0 w (lw_all_tbl h)
  have hA : ∀ q : Nat, s.heap.size ≤ q → lA s q := fun _ h => h
  obtain ⟨c0, iS0, hKn0⟩ := u_known (C := RX0) (T := TX0) (N := 12) (n := 12) hts in_X0 (hts _ q25)
  obtain ⟨c1, iS1, hKn1⟩ := u_known (C := RX1) (T := TX1) (N := 11) (n := 11) hts in_X1 (hts _ q187)
  obtain ⟨dC, dI, hKc⟩ : ∃ (dC : Nat → ClassId) (dI : Nat → Nat → Nat), ∀ (k : Nat) (q : vw_C), vwCl[k]? = some q → u_Kn s q.1 q.2.1 q.2.2 (dC k) (dI k) := by
    refine ⟨fun k => if k = 0 then c0 else c1, fun k => if k = 0 then iS0 else iS1, ?_⟩
    intro k q hq
    match k, hq with
    | 0, hq => cases hq; exact hKn0
    | 1, hq => cases hq; exact hKn1
    | k + 2, hq => simp [vwCl] at hq
  obtain ⟨cI, hI1, hI2⟩ := arr_known (hts _ q69)
  obtain ⟨cZ, hZ1, hZ2⟩ := arr_known (hts _ q70)
  have hK : va_K (dC, dI) vwCl [(cI, .int), (cZ, .boolean)] s := by
    refine ⟨hKc, fun k q hq => ?_⟩
    match k, hq with
    | 0, hq => cases hq; exact ⟨hI1, hI2⟩
    | 1, hq => cases hq; exact ⟨hZ1, hZ2⟩
    | k + 2, hq => simp at hq
  have hS : va_S (lA s) s.heap s.heap [] := va_S.rf
  have hP : va_P (dC, dI) vwCl [] s.heap := fun k q h => by simp at h
  have hD : va_D (lA s) [] := ⟨fun i j p q h => by simp at h, fun k q h => by simp at h⟩
  have hl := lv_entry ([.ref b]) (n := 4) (Nat.le_of_ble_eq_true rfl)
  rw [lg_entry_eq]
  generalize (lg_sl ([.ref b]) ++ List.replicate (4 - (lg_sl ([.ref b])).length) Slot.unset).toArray = ls at hl ⊢
  have hl : lv_has ls 4 [(0, .ref b)] := hl
  refine va_new (ci := 0) (fs := [.null, .null, .null, .null, .null, .null, .null, .int 0, .int 0, .int 0, .int 0, .int 0]) (C := RX0) (T := TX0) (N := 12) hx hb hts in_X0 tyX0 tyX0_ok hown (hts _ q24) (hts _ q25) (hts _ q22) hK hP hD hS hA rfl (fun j hj => by rcases (show j = 0 ∨ j = 1 ∨ j = 2 ∨ j = 3 ∨ j = 4 ∨ j = 5 ∨ j = 6 ∨ j = 7 ∨ j = 8 ∨ j = 9 ∨ j = 10 ∨ j = 11 by omega) with rfl | rfl | rfl | rfl | rfl | rfl | rfl | rfl | rfl | rfl | rfl | rfl <;> rfl) (Nat.le_of_ble_eq_true rfl) (Nat.le_of_ble_eq_true rfl) dL_law_0 (fun q0v H hP hD hS => ?_)
  have hP : va_P (dC, dI) vwCl (xw0 q0v) H := hP
  have hD : va_D (lA s) (xw0 q0v) := hD
  refine W.widen (k := 1) (n := 12) (by omega) (by omega) ?_
  refine lv_dup hx hb dL_law_3 rfl ?_
  have hFc := va_free (wc := xw0 q0v) hD hS hA [0] rfl
  refine va_callv (va_runI (As := []) (rest := [.ref q0v]) ⟨hx, hb, hml, hown, hts⟩ (xm_init l (dC, dI) cI cZ q0v H.size) (cwI 0 hts (lw_meth q28) rfl rfl rfl (hts _ q22) (hts _ q26) (hts _ q27) rfl (by decide +kernel) ⟨Nat.le_of_ble_eq_true rfl, Nat.le_of_ble_eq_true rfl⟩) ⟨PW_blind, fun U hU hW => ⟨rfl, by rw [hU], by rw [hU]; exact hP, va_K.moved hW.alike hK, hD.weaken (fun _ _ _ _ => trivial)⟩⟩ rfl rfl hl.1 rfl (lv_room (Nat.le_of_ble_eq_true rfl)) dL_law_4 ⟨Nat.le_of_ble_eq_true rfl, Nat.le_of_ble_eq_true rfl⟩) hS (fun q _ h => hFc q h) hFc (fun adx t H1 locs ht hvm hw hB hz1 hk1 hS => ?_)
  obtain ⟨hP1, hK1, hD1⟩ := hB
  rw [ht] at hP1
  have hPn : va_P (dC, dI) vwCl (XW adx cI cZ zf zf zf zf zf zf (upd zf 0 (-2)) 0 0 0 0 0) H1 := hP1
  have hDn : va_D (lA s) (XW adx cI cZ zf zf zf zf zf zf (upd zf 0 (-2)) 0 0 0 0 0) := hD1.weaken (fun k q _ h => hFc q.1 h)
  clear hP hD hP1 hK1 hD1 hk1 hz1 hFc
  subst hw
  refine W.widen (k := 8) (n := 283) (by omega) (by omega) ?_
  refine lv_astore_n (lv' := [(1, .ref (adx 0)), (0, .ref b)]) hx hb dL_law_7 rfl hl (by decide) rfl (fun ls hl => ?_)
  refine va_new (ci := 1) (fs := [.int 0, .null, .null, .null, .null, .null, .null, .null, .null, .null, .int 0]) (C := RX1) (T := TX1) (N := 11) hx hb hts in_X1 tyX1 tyX1_ok hown (hts _ q186) (hts _ q187) (hts _ q23) hK hPn hDn hS hA rfl (fun j hj => by rcases (show j = 0 ∨ j = 1 ∨ j = 2 ∨ j = 3 ∨ j = 4 ∨ j = 5 ∨ j = 6 ∨ j = 7 ∨ j = 8 ∨ j = 9 ∨ j = 10 by omega) with rfl | rfl | rfl | rfl | rfl | rfl | rfl | rfl | rfl | rfl | rfl <;> rfl) (Nat.le_of_ble_eq_true rfl) (Nat.le_of_ble_eq_true rfl) dL_law_8 (fun q1v H hP hD hS => ?_)
  have hP : va_P (dC, dI) vwCl (XW adx cI cZ zf zf zf zf zf zf (upd zf 0 (-2)) 0 0 0 0 0 ++ yw0 q1v) H := hP
  have hD : va_D (lA s) (XW adx cI cZ zf zf zf zf zf zf (upd zf 0 (-2)) 0 0 0 0 0 ++ yw0 q1v) := hD
  refine W.widen (k := 9) (n := 294) (by omega) (by omega) ?_
  refine lv_dup hx hb dL_law_11 rfl ?_
  have hPc := hP.sub (ws' := yw0 q1v) [8] rfl
  have hDc := hD.sub (ws' := yw0 q1v) [8] (by decide) rfl
  have hFc := va_free (wc := yw0 q1v) hD hS hA [8] rfl
  refine va_callv (va_runI (As := []) (rest := [.ref q1v]) ⟨hx, hb, hml, hown, hts⟩ (ym_init l (dC, dI) cI cZ q1v H.size) (cwI 0 hts (lw_meth q190) rfl rfl rfl (hts _ q23) (hts _ q188) (hts _ q189) rfl (by decide +kernel) ⟨Nat.le_of_ble_eq_true rfl, Nat.le_of_ble_eq_true rfl⟩) ⟨PW_blind, fun U hU hW => ⟨rfl, by rw [hU], by rw [hU]; exact hPc, va_K.moved hW.alike hK, hDc.weaken (fun _ _ _ _ => trivial)⟩⟩ rfl rfl hl.1 rfl (lv_room (Nat.le_of_ble_eq_true rfl)) dL_law_12 ⟨Nat.le_of_ble_eq_true rfl, Nat.le_of_ble_eq_true rfl⟩) hS (fun q _ h => hFc q h) hFc (fun ady t H1 locs ht hvm hw hB hz1 hk1 hS => ?_)
  obtain ⟨hP1, hK1, hD1⟩ := hB
  rw [ht] at hP1
  obtain ⟨hP2, hD2⟩ := va_join (wr := XW adx cI cZ zf zf zf zf zf zf (upd zf 0 (-2)) 0 0 0 0 0) (w1 := YW ady cI cZ zf zf zf zf zf zf zf zf zf 0 0) hP hD [8] [0, 1, 2, 3, 4, 5, 6, 7] rfl rfl (by decide) (by decide) hk1 hFc hP1 hD1
  generalize H1 = H at hP2 hS ⊢
  subst hw
  refine lv_astore_n (lv' := [(2, .ref (ady 0)), (1, .ref (adx 0)), (0, .ref b)]) hx hb dL_law_15 rfl hl (by decide) rfl (fun ls hl => ?_)
  refine lv_iconst (v := nI 0) hx hb dL_law_16 (by decide) ?_
  refine lv_istore_n (lv' := [(3, .int (nI 0)), (2, .ref (ady 0)), (1, .ref (adx 0)), (0, .ref b)]) hx hb dL_law_17 rfl hl (by decide) rfl (fun ls hl => ?_)
  refine W.widen (k := 600000) (n := 7290000) (Nat.le_of_ble_eq_true rfl) (Nat.le_of_ble_eq_true rfl) ?_
  exact law_loop (D := (dC, dI)) (cI := cI) (cZ := cZ) (adx := adx) (ady := ady) ⟨C0, hK, hL⟩ (L + 1) 0 zf 0 (zf, zf, zf, zf, zf, zf, upd zf 0 (-2), 0, 0, 0, 0, 0) (zf, zf, zf, zf, zf, zf, zf, zf, zf, 0, 0) (by omega) (Nat.zero_le L) (XOK_0 0 0 0) ⟨rfl, by omega, rfl⟩ H _ ls hP2 hD2 hS (lv_sub hl [3, 2, 1, 0] rfl)
end
section
set_option maxRecDepth 100000
-- ===== YOUR PART ENDS =====
set_option maxHeartbeats 4000000 in
theorem lw_walk (l : Launch) (b : Addr) (xs : List Int32) : MetFree l x (headSpec (Jvm.Cond.code x code maxLocals ret :: tables_1) room_1) (lw_P b xs) (fun _ _ _ _ _ => True) lw_Q := by
  refine MetFree.of_bodyS (code := code) (maxLocals := maxLocals) (ret := ret) (by decide) ?_ ?_
  · intro args s m h hn
    obtain ⟨meth, c, h1, h2, h3, h4, h5, h6, -, -⟩ := Cond.code_spec hn (atoms_spec (ws := Jvm.Cond.code x code maxLocals ret :: tables_1) h _ List.mem_cons_self)
    exact ⟨meth, c, h1, h2, h3, h4, h5, h6⟩
  · intro p e s m args below meth c s₁ B hml0 hP _
    obtain ⟨rfl, hx, hbd, hgv⟩ := hP
    obtain ⟨scr, harrAt, hlist, hof, hsmall⟩ := hx
    obtain ⟨hcb, hkn, -, -⟩ := State.arrayAt?_spec harrAt
    have hown : s.vm.findClass R_law = some m.cls := findClass_of_methodNamed B.named
    have hts0 : ∀ c ∈ (Jvm.Cond.code x code maxLocals ret :: tables_1), c.before #[Value.ref b] s = true := atoms_spec (ws := Jvm.Cond.code x code maxLocals ret :: tables_1) B.pre
    have hts : ∀ w ∈ lw_tbl, w.before #[Value.ref b] s = true := k2_hts_sels lw_privs (fun w hw => hts0 w (List.mem_cons_of_mem _ hw)) lw_privs_ok
    have hml : c.maxLocals = 4 := B.maxLocals_eq (hts0 _ List.mem_cons_self)
    have X₀ : Stand p l e room_1 s m #[Value.ref b] below meth c s₁ [] 0 0 := Stand.of_body B
    have hh0 : s₁.heap = s.heap := by rw [B.state]; rfl
    have hsz : scr.slots.size = xs.length := by rw [← Array.length_toList, hlist, List.length_map]
    have hval : ∀ j : Nat, j < xs.length → scr.slots[j]? = some (.int (xs.getD j 0)) := fun j hj => by
      rw [← Array.getElem?_toList, hlist]
      simp [hj]
    have hbl : b < s.heap.size := (Array.getElem?_eq_some_iff.mp hcb).1
    have hX : va_X b xs.length (fun j => xs.getD j 0) s s.heap := ⟨scr, hcb, hof, hkn, hsz, hval⟩
    have K : W p l e room_1 s m #[Value.ref b] below meth c s₁.heap [] 0 0 (lw_Z below #[Value.ref b] s) (entryFrame m ([Value.ref b] : List Value).toArray 4) := by
      rw [hh0]
      exact whole_start l hbd ⟨B.exec, B.bytes, B.returns, hml, hown, hts, hX, hbl, B.notSynchronized, hgv⟩
    obtain ⟨t, a1, o, b1, b2, b3⟩ := K s₁ rfl X₀
    exact ⟨t, o, a1, b1, b2, b3⟩
theorem lw_pre_spec {args : Array Value} {s : State} (h : (Jvm.Cond.and given_1 narrow_1).before args s = true) (hr : rest_1_c.before args s = true) : ∃ (b : Addr) (xs : List Int32), lw_P b xs args s := by
  have hs := flat_of_before _ h
  have hq := flat_of_before _ hr
  have hc : (Cond.count 1).before args s = true := hs _ (by decide +kernel)
  have harr : (Cond.arrayOf (.arg 0) .int).before args s = true := hs _ (by decide +kernel)
  have hle : (Cond.le (.length (.arg 0)) (.int 192)).before args s = true := hs _ (by decide +kernel)
  have hlen : (Cond.isInt (.length (.arg 0))).before args s = true := hq _ (by decide +kernel)
  have hall : (Cond.all (.arg 0) (.isInt (.elem (.arg 0) (.index 0)))).before args s = true := hq _ (by decide +kernel)
  obtain ⟨b, xs, hb, hx⟩ := State.ints_of_pre rfl harr hlen hall
  have hsm : xs.length < 2 ^ 31 := hx.choose_spec.2.2.2
  have hev : (Term.length (.arg 0)).eval args s none [] s = some (.int xs.length.toInt32) := hx.length_eval hb
  have hv := Cond.le_ints hev (show (Term.int 192).eval args s none [] s = some (.int 192) from rfl)
  have hd : xs.length.toInt32 ≤ 192 := by
    simpa [Cond.before, Cond.holds, hv] using hle
  have hN : xs.length ≤ 192 := (Int32.ofNat_le_ofNat hsm (by decide)).mp (show Int32.ofNat xs.length ≤ Int32.ofNat 192 from hd)
  exact ⟨b, xs, Cond.one_arg hc (show args[0]? = some (.ref b) from hb), hx, hN, h⟩
theorem lw_comes (l : Launch) : Comes l x (Jvm.Cond.code x code maxLocals ret :: tables_1) room_1 (fun tb e args s => Calls_1 tb e args s ∧ rest_1 tb e args s ∧ Pre_1 tb e args s)
    (fun _ _ args s o t => lw_Q args s o t) := by
  intro p e ha hc hk s m args below hf hfit hheap happ hpre
  obtain ⟨b, xs, hP⟩ := lw_pre_spec hpre.2.2 hpre.2.1
  obtain ⟨k, o, h1, h2, h3, hQ⟩ := lw_walk l b xs p e ha hc hk s m args below hf ((Spec.applies_iff_loose hf).mp happ).1 hP trivial
  exact ⟨k, o, h1, h2, h3, hQ⟩
theorem lw_frame {s t : State} {o : Outcome} {args : Array Value} (h : Framed s o t [] 600000 7290000) :
    Framed s o t (fieldLocs frame_1_writes args s ++ arrayLocs frame_1_arrays args s ++ staticLocs frame_1_statics s) 600000 7290000 := h
theorem lw_limb (L : Cond) (hL : ∀ (args : Array Value) (s t : State), L.after args s (.returned (some (.int 1))) t = true) :
    ArmFor flags0 classFile x code maxLocals ret World_1 tables_1 room_1 Calls_1 rest_1 Pre_1
      (fun tb e a s o t => postC L tb e a s o t ∧ Framed s o t (fieldLocs frame_1_writes a s ++ arrayLocs frame_1_arrays a s ++ staticLocs frame_1_statics s) 600000 7290000) := by
  intro l _ _ _ p e ha hc hk s m args below hf hfit hheap happ hpre
  obtain ⟨k, o, h1, h2, h3, rfl, hF⟩ := lw_comes l p e ha hc hk s m args below hf hfit hheap happ hpre
  exact ⟨k, _, h1, h2, h3, hL args s _, lw_frame hF⟩
theorem i_vc : Claimed_1_1 ∧ Claimed_1_2 := ⟨lw_limb limb_1_1 (fun args s t => by simp [limb_1_1, Cond.after, Cond.holds, Cond.value]), lw_limb limb_1_2 (fun args s t => Cond.after_iff.mpr (by
  first | (rw [show limb_1_2 = Cond.eq .result (.int 1) from rfl, Cond.eq_ints (x := 1) (y := 1) rfl rfl]; simp; done) | (simp [limb_1_2, Cond.value, Term.eval]; done)))⟩
end
