section
-- ===== PART A: goes FIRST, ahead of the names: the tables' words, and 'selects' of the private methods out of them =====
/-- a private method of a class that the tables say can be made, by its rows of tables_1 -/
def lw_okq (q : MethodName × Nat) : Prop := (q.1.cls ≠ "java/lang/invoke/MethodHandle" ∧ q.1.cls ≠ "java/lang/invoke/VarHandle") ∧ Cond.instantiable q.1.cls q.2 ∈ tables_1 ∧ Cond.privateMethod q.1 ∈ tables_1 ∧ Cond.instanceMethod q.1 ∈ tables_1
set_option maxRecDepth 100000
theorem lw_t1 {w : Cond} (h : w ∈ tables_1_1) : w ∈ tables_1 := List.mem_append_left _ h
theorem lw_t2 {w : Cond} (h : w ∈ tables_1_2) : w ∈ tables_1 := List.mem_append_right _ h
theorem lw_p0 : lw_okq (⟨"WatchpointUnit", "refused", "(I)I"⟩, 24) := ⟨⟨by decide +kernel, by decide +kernel⟩, lw_t1 (List.mem_of_getElem? (i := 4) rfl), lw_t1 (List.mem_of_getElem? (i := 98) rfl), lw_t1 (List.mem_of_getElem? (i := 99) rfl)⟩
theorem lw_p1 : lw_okq (⟨"WatchpointUnit", "valueAt", "(II)I"⟩, 24) := ⟨⟨by decide +kernel, by decide +kernel⟩, lw_t1 (List.mem_of_getElem? (i := 4) rfl), lw_t1 (List.mem_of_getElem? (i := 120) rfl), lw_t1 (List.mem_of_getElem? (i := 121) rfl)⟩
theorem lw_p2 : lw_okq (⟨"WatchpointUnit", "remember", "(II)V"⟩, 24) := ⟨⟨by decide +kernel, by decide +kernel⟩, lw_t1 (List.mem_of_getElem? (i := 4) rfl), lw_t1 (List.mem_of_getElem? (i := 124) rfl), lw_t1 (List.mem_of_getElem? (i := 125) rfl)⟩
theorem lw_p3 : lw_okq (⟨"WatchpointUnit", "finish", "(IIZ)I"⟩, 24) := ⟨⟨by decide +kernel, by decide +kernel⟩, lw_t1 (List.mem_of_getElem? (i := 4) rfl), lw_t1 (List.mem_of_getElem? (i := 128) rfl), lw_t1 (List.mem_of_getElem? (i := 129) rfl)⟩
theorem lw_p4 : lw_okq (⟨"WatchpointUnit", "loadRegisters", "()V"⟩, 24) := ⟨⟨by decide +kernel, by decide +kernel⟩, lw_t1 (List.mem_of_getElem? (i := 4) rfl), lw_t1 (List.mem_of_getElem? (i := 132) rfl), lw_t1 (List.mem_of_getElem? (i := 133) rfl)⟩
theorem lw_p5 : lw_okq (⟨"WatchpointUnit", "split", "(I)V"⟩, 24) := ⟨⟨by decide +kernel, by decide +kernel⟩, lw_t1 (List.mem_of_getElem? (i := 4) rfl), lw_t1 (List.mem_of_getElem? (i := 136) rfl), lw_t1 (List.mem_of_getElem? (i := 137) rfl)⟩
theorem lw_p6 : lw_okq (⟨"WatchpointUnit", "occupy", "(III)V"⟩, 24) := ⟨⟨by decide +kernel, by decide +kernel⟩, lw_t1 (List.mem_of_getElem? (i := 4) rfl), lw_t1 (List.mem_of_getElem? (i := 140) rfl), lw_t1 (List.mem_of_getElem? (i := 141) rfl)⟩
theorem lw_p7 : lw_okq (⟨"WatchpointUnit", "suspects", "(III)I"⟩, 24) := ⟨⟨by decide +kernel, by decide +kernel⟩, lw_t1 (List.mem_of_getElem? (i := 4) rfl), lw_t1 (List.mem_of_getElem? (i := 144) rfl), lw_t1 (List.mem_of_getElem? (i := 145) rfl)⟩
theorem lw_p8 : lw_okq (⟨"WatchpointUnit", "isHit", "(IIIZ)Z"⟩, 24) := ⟨⟨by decide +kernel, by decide +kernel⟩, lw_t1 (List.mem_of_getElem? (i := 4) rfl), lw_t1 (List.mem_of_getElem? (i := 148) rfl), lw_t1 (List.mem_of_getElem? (i := 149) rfl)⟩
theorem lw_p9 : lw_okq (⟨"WatchpointUnit", "oldValue", "(I)I"⟩, 24) := ⟨⟨by decide +kernel, by decide +kernel⟩, lw_t1 (List.mem_of_getElem? (i := 4) rfl), lw_t1 (List.mem_of_getElem? (i := 152) rfl), lw_t1 (List.mem_of_getElem? (i := 153) rfl)⟩
theorem lw_p10 : lw_okq (⟨"WatchpointUnit", "isKept", "(I)Z"⟩, 24) := ⟨⟨by decide +kernel, by decide +kernel⟩, lw_t1 (List.mem_of_getElem? (i := 4) rfl), lw_t1 (List.mem_of_getElem? (i := 192) rfl), lw_t1 (List.mem_of_getElem? (i := 193) rfl)⟩
theorem lw_p11 : lw_okq (⟨"WatchpointUnit", "cellOf", "(I)I"⟩, 24) := ⟨⟨by decide +kernel, by decide +kernel⟩, lw_t1 (List.mem_of_getElem? (i := 4) rfl), lw_t1 (List.mem_of_getElem? (i := 196) rfl), lw_t1 (List.mem_of_getElem? (i := 197) rfl)⟩
theorem lw_p12 : lw_okq (⟨"WatchpointUnitModel", "bad", "(I)Z"⟩, 17) := ⟨⟨by decide +kernel, by decide +kernel⟩, lw_t1 (List.mem_of_getElem? (i := 220) rfl), lw_t2 (List.mem_of_getElem? (i := 42) rfl), lw_t2 (List.mem_of_getElem? (i := 43) rfl)⟩
theorem lw_p13 : lw_okq (⟨"WatchpointUnitModel", "badSize", "(I)Z"⟩, 17) := ⟨⟨by decide +kernel, by decide +kernel⟩, lw_t1 (List.mem_of_getElem? (i := 220) rfl), lw_t2 (List.mem_of_getElem? (i := 62) rfl), lw_t2 (List.mem_of_getElem? (i := 63) rfl)⟩
theorem lw_p14 : lw_okq (⟨"WatchpointUnitModel", "access", "(IIZI)I"⟩, 17) := ⟨⟨by decide +kernel, by decide +kernel⟩, lw_t1 (List.mem_of_getElem? (i := 220) rfl), lw_t2 (List.mem_of_getElem? (i := 66) rfl), lw_t2 (List.mem_of_getElem? (i := 67) rfl)⟩
theorem lw_p15 : lw_okq (⟨"WatchpointUnitModel", "hit", "(IIIZ)Z"⟩, 17) := ⟨⟨by decide +kernel, by decide +kernel⟩, lw_t1 (List.mem_of_getElem? (i := 220) rfl), lw_t2 (List.mem_of_getElem? (i := 70) rfl), lw_t2 (List.mem_of_getElem? (i := 71) rfl)⟩
def lw_privs_1 : List (MethodName × Nat) := [(⟨"WatchpointUnit", "refused", "(I)I"⟩, 24), (⟨"WatchpointUnit", "valueAt", "(II)I"⟩, 24), (⟨"WatchpointUnit", "remember", "(II)V"⟩, 24), (⟨"WatchpointUnit", "finish", "(IIZ)I"⟩, 24), (⟨"WatchpointUnit", "loadRegisters", "()V"⟩, 24), (⟨"WatchpointUnit", "split", "(I)V"⟩, 24), (⟨"WatchpointUnit", "occupy", "(III)V"⟩, 24), (⟨"WatchpointUnit", "suspects", "(III)I"⟩, 24), (⟨"WatchpointUnit", "isHit", "(IIIZ)Z"⟩, 24), (⟨"WatchpointUnit", "oldValue", "(I)I"⟩, 24), (⟨"WatchpointUnit", "isKept", "(I)Z"⟩, 24), (⟨"WatchpointUnit", "cellOf", "(I)I"⟩, 24), (⟨"WatchpointUnitModel", "bad", "(I)Z"⟩, 17), (⟨"WatchpointUnitModel", "badSize", "(I)Z"⟩, 17), (⟨"WatchpointUnitModel", "access", "(IIZI)I"⟩, 17), (⟨"WatchpointUnitModel", "hit", "(IIIZ)Z"⟩, 17)]
theorem lw_r1 : ∀ q ∈ lw_privs_1, lw_okq q := List.forall_mem_cons.mpr ⟨lw_p0, List.forall_mem_cons.mpr ⟨lw_p1, List.forall_mem_cons.mpr ⟨lw_p2, List.forall_mem_cons.mpr ⟨lw_p3, List.forall_mem_cons.mpr ⟨lw_p4, List.forall_mem_cons.mpr ⟨lw_p5, List.forall_mem_cons.mpr ⟨lw_p6, List.forall_mem_cons.mpr ⟨lw_p7, List.forall_mem_cons.mpr ⟨lw_p8, List.forall_mem_cons.mpr ⟨lw_p9, List.forall_mem_cons.mpr ⟨lw_p10, List.forall_mem_cons.mpr ⟨lw_p11, List.forall_mem_cons.mpr ⟨lw_p12, List.forall_mem_cons.mpr ⟨lw_p13, List.forall_mem_cons.mpr ⟨lw_p14, List.forall_mem_cons.mpr ⟨lw_p15, fun _ h => absurd h List.not_mem_nil⟩⟩⟩⟩⟩⟩⟩⟩⟩⟩⟩⟩⟩⟩⟩⟩
theorem lw_p16 : lw_okq (⟨"WatchpointUnitModel", "inRange", "(II)Z"⟩, 17) := ⟨⟨by decide +kernel, by decide +kernel⟩, lw_t1 (List.mem_of_getElem? (i := 220) rfl), lw_t2 (List.mem_of_getElem? (i := 74) rfl), lw_t2 (List.mem_of_getElem? (i := 75) rfl)⟩
theorem lw_p17 : lw_okq (⟨"WatchpointUnitModel", "keep", "(III)V"⟩, 17) := ⟨⟨by decide +kernel, by decide +kernel⟩, lw_t1 (List.mem_of_getElem? (i := 220) rfl), lw_t2 (List.mem_of_getElem? (i := 78) rfl), lw_t2 (List.mem_of_getElem? (i := 79) rfl)⟩
theorem lw_p18 : lw_okq (⟨"WatchpointUnitModel", "number", "(IIZ)I"⟩, 17) := ⟨⟨by decide +kernel, by decide +kernel⟩, lw_t1 (List.mem_of_getElem? (i := 220) rfl), lw_t2 (List.mem_of_getElem? (i := 82) rfl), lw_t2 (List.mem_of_getElem? (i := 83) rfl)⟩
theorem lw_p19 : lw_okq (⟨"WatchpointUnitModel", "noStop", "(I)Z"⟩, 17) := ⟨⟨by decide +kernel, by decide +kernel⟩, lw_t1 (List.mem_of_getElem? (i := 220) rfl), lw_t2 (List.mem_of_getElem? (i := 122) rfl), lw_t2 (List.mem_of_getElem? (i := 123) rfl)⟩
def lw_privs_2 : List (MethodName × Nat) := [(⟨"WatchpointUnitModel", "inRange", "(II)Z"⟩, 17), (⟨"WatchpointUnitModel", "keep", "(III)V"⟩, 17), (⟨"WatchpointUnitModel", "number", "(IIZ)I"⟩, 17), (⟨"WatchpointUnitModel", "noStop", "(I)Z"⟩, 17)]
theorem lw_r2 : ∀ q ∈ lw_privs_2, lw_okq q := List.forall_mem_cons.mpr ⟨lw_p16, List.forall_mem_cons.mpr ⟨lw_p17, List.forall_mem_cons.mpr ⟨lw_p18, List.forall_mem_cons.mpr ⟨lw_p19, fun _ h => absurd h List.not_mem_nil⟩⟩⟩⟩
def lw_privs : List (MethodName × Nat) := lw_privs_1 ++ (lw_privs_2)
def lw_tbl : List Cond := k2_sels lw_privs ++ tables_1
theorem lw_privs_ok : ∀ q ∈ lw_privs, lw_okq q := by
  show ∀ q ∈ lw_privs_1 ++ (lw_privs_2), lw_okq q
  exact List.forall_mem_append.mpr ⟨lw_r1, lw_r2⟩
-- ===== ONE list of words for every method: the tables' words that hold all through a run =====
def lw_all : List Cond := lw_tbl.filter goodWord
/-- a word of the tables by its place: claim/WORDS.tsv -/
theorem lw_w {w : Cond} (i : Nat) (h : lw_tbl[i]? = some w) (g : goodWord w = true) : w ∈ lw_all := List.mem_filter.mpr ⟨List.mem_of_getElem? h, g⟩
theorem lw_all_tbl {w : Cond} (h : w ∈ lw_all) : w ∈ lw_tbl := (List.mem_filter.mp h).1
theorem lw_self : GoodIn lw_all lw_all := fun w h => ⟨h, good_of_word (List.mem_filter.mp h).2⟩
/-- a class's field words, by their places -/
theorem lw_in (ws : List Cond) (ps : List Nat) (hp : ws = ps.filterMap (fun i => lw_tbl[i]?)) (hg : ws.all goodWord = true) : ∀ w ∈ ws, w ∈ lw_all := by
  intro w h
  have h1 := List.all_eq_true.mp hg w h
  rw [hp] at h
  obtain ⟨i, -, hi⟩ := List.mem_filterMap.mp h
  exact lw_w i hi h1
/-- the words of a contract for the method y with code b, L locals, answer r -/
abbrev ws_ (y : MethodName) (b : ByteArray) (L : Nat) (r : Option FieldType) : List Cond := Cond.code y b L r :: lw_all
theorem lw_meth {y : MethodName} {b : ByteArray} {L : Nat} {r : Option FieldType} (h : Cond.code y b L r ∈ lw_all) : GoodIn lw_all (ws_ y b L r) := by
  intro w hw
  rcases List.mem_cons.mp hw with e | e
  · rw [e]
    exact lw_self _ h
  · exact lw_self _ e
theorem lw_app {a c : List Cond} (ha : ∀ w ∈ a, w ∈ lw_all) (hc : GoodIn lw_all c) : GoodIn lw_all (a ++ c) := by
  intro w hw
  rcases List.mem_append.mp hw with e | e
  · exact lw_self w (ha w e)
  · exact hc w e
/-- what a call through an object asks: cwV n hts (lw_V ..) -/
theorem lw_V {own : String} {idx : Nat} {C : String} {y : MethodName} {b : ByteArray} {L : Nat} {r : Option FieldType} (h1 : Cond.methodLink own idx y ∈ lw_all) (h2 : Cond.instanceMethod y ∈ lw_all) (h3 : Cond.selects C y y ∈ lw_all) (h4 : Cond.initialized C ∈ lw_all) (h5 : Cond.code y b L r ∈ lw_all) : GoodIn lw_all (wsV own idx C y (ws_ y b L r)) := by
  refine lw_app ?_ (lw_meth h5)
  intro w hw
  simp only [List.mem_cons, List.not_mem_nil, or_false] at hw
  rcases hw with e | e | e | e
  · rw [e]; exact h1
  · rw [e]; exact h2
  · rw [e]; exact h3
  · rw [e]; exact h4
/-- what a static call asks: va_cwS n hts (lw_S ..) -/
theorem lw_S {own : String} {idx : Nat} {y : MethodName} {b : ByteArray} {L : Nat} {r : Option FieldType} (h1 : Cond.methodLink own idx y ∈ lw_all) (h2 : Cond.static y ∈ lw_all) (h3 : Cond.initialized y.cls ∈ lw_all) (h4 : Cond.code y b L r ∈ lw_all) : GoodIn lw_all (va_wsS own idx y (ws_ y b L r)) := by
  refine lw_app ?_ (lw_meth h4)
  intro w hw
  simp only [List.mem_cons, List.not_mem_nil, or_false] at hw
  rcases hw with e | e | e
  · rw [e]; exact h1
  · rw [e]; exact h2
  · rw [e]; exact h3
/-- the words of a contract for a method WITH HANDLERS (hh: its table) -/
abbrev wsW_ (y : MethodName) (b : ByteArray) (L : Nat) (r : Option FieldType) (hh : List (Nat × Nat × Nat × Nat)) : List Cond := Cond.codeWith y b L r hh :: lw_all
theorem lw_methW {y : MethodName} {b : ByteArray} {L : Nat} {r : Option FieldType} {hh : List (Nat × Nat × Nat × Nat)} (h : Cond.codeWith y b L r hh ∈ lw_all) : GoodIn lw_all (wsW_ y b L r hh) := by
  intro w hw
  rcases List.mem_cons.mp hw with e | e
  · rw [e]
    exact lw_self _ h
  · exact lw_self _ e
/-- any list of words by their places (lw_in), good -/
theorem lw_good {ws : List Cond} (h : ∀ w ∈ ws, w ∈ lw_all) : GoodIn lw_all ws := fun w hw => lw_self w (h w hw)
/-- what a call of a method with handlers asks: vx_cwVW n hts (lw_VW ..), vx_cwSW n hts (lw_SW ..) -/
theorem lw_VW {own : String} {idx : Nat} {C : String} {y : MethodName} {b : ByteArray} {L : Nat} {r : Option FieldType} {hh : List (Nat × Nat × Nat × Nat)} (h1 : Cond.methodLink own idx y ∈ lw_all) (h2 : Cond.instanceMethod y ∈ lw_all) (h3 : Cond.selects C y y ∈ lw_all) (h4 : Cond.initialized C ∈ lw_all) (h5 : Cond.codeWith y b L r hh ∈ lw_all) : GoodIn lw_all (wsV own idx C y (wsW_ y b L r hh)) := by
  refine lw_app ?_ (lw_methW h5)
  intro w hw
  simp only [List.mem_cons, List.not_mem_nil, or_false] at hw
  rcases hw with e | e | e | e
  · rw [e]; exact h1
  · rw [e]; exact h2
  · rw [e]; exact h3
  · rw [e]; exact h4
theorem lw_SW {own : String} {idx : Nat} {y : MethodName} {b : ByteArray} {L : Nat} {r : Option FieldType} {hh : List (Nat × Nat × Nat × Nat)} (h1 : Cond.methodLink own idx y ∈ lw_all) (h2 : Cond.static y ∈ lw_all) (h3 : Cond.initialized y.cls ∈ lw_all) (h4 : Cond.codeWith y b L r hh ∈ lw_all) : GoodIn lw_all (va_wsS own idx y (wsW_ y b L r hh)) := by
  refine lw_app ?_ (lw_methW h4)
  intro w hw
  simp only [List.mem_cons, List.not_mem_nil, or_false] at hw
  rcases hw with e | e | e
  · rw [e]; exact h1
  · rw [e]; exact h2
  · rw [e]; exact h3
/-- a word by its place in its run of the tables -/
theorem lw_at {r : List Cond} (hr : ∀ w ∈ r, w ∈ lw_tbl) {w : Cond} (i : Nat) (h : r[i]? = some w) : w ∈ lw_tbl := hr w (List.mem_of_getElem? h)
theorem lw_g {w : Cond} (h : w ∈ lw_tbl) (g : goodWord w = true) : w ∈ lw_all := List.mem_filter.mpr ⟨h, g⟩
theorem lw_ms : ∀ w ∈ k2_sels lw_privs, w ∈ lw_tbl := fun w h => show w ∈ k2_sels lw_privs ++ tables_1 from List.mem_append_left _ h
theorem lw_m1 : ∀ w ∈ tables_1_1, w ∈ lw_tbl := fun w h => show w ∈ k2_sels lw_privs ++ tables_1 from List.mem_append_right (k2_sels lw_privs) (show w ∈ tables_1 from List.mem_append_left _ h)
theorem lw_m2 : ∀ w ∈ tables_1_2, w ∈ lw_tbl := fun w h => show w ∈ k2_sels lw_privs ++ tables_1 from List.mem_append_right (k2_sels lw_privs) (show w ∈ tables_1 from List.mem_append_right _ h)
theorem qs0 : (Cond.selects "WatchpointUnit" ⟨"WatchpointUnit", "refused", "(I)I"⟩ ⟨"WatchpointUnit", "refused", "(I)I"⟩) ∈ lw_all := lw_g (lw_at lw_ms 0 rfl) rfl
theorem qs1 : (Cond.selects "WatchpointUnit" ⟨"WatchpointUnit", "valueAt", "(II)I"⟩ ⟨"WatchpointUnit", "valueAt", "(II)I"⟩) ∈ lw_all := lw_g (lw_at lw_ms 1 rfl) rfl
theorem qs2 : (Cond.selects "WatchpointUnit" ⟨"WatchpointUnit", "remember", "(II)V"⟩ ⟨"WatchpointUnit", "remember", "(II)V"⟩) ∈ lw_all := lw_g (lw_at lw_ms 2 rfl) rfl
theorem qs3 : (Cond.selects "WatchpointUnit" ⟨"WatchpointUnit", "finish", "(IIZ)I"⟩ ⟨"WatchpointUnit", "finish", "(IIZ)I"⟩) ∈ lw_all := lw_g (lw_at lw_ms 3 rfl) rfl
theorem qs4 : (Cond.selects "WatchpointUnit" ⟨"WatchpointUnit", "loadRegisters", "()V"⟩ ⟨"WatchpointUnit", "loadRegisters", "()V"⟩) ∈ lw_all := lw_g (lw_at lw_ms 4 rfl) rfl
theorem qs5 : (Cond.selects "WatchpointUnit" ⟨"WatchpointUnit", "split", "(I)V"⟩ ⟨"WatchpointUnit", "split", "(I)V"⟩) ∈ lw_all := lw_g (lw_at lw_ms 5 rfl) rfl
theorem qs6 : (Cond.selects "WatchpointUnit" ⟨"WatchpointUnit", "occupy", "(III)V"⟩ ⟨"WatchpointUnit", "occupy", "(III)V"⟩) ∈ lw_all := lw_g (lw_at lw_ms 6 rfl) rfl
theorem qs7 : (Cond.selects "WatchpointUnit" ⟨"WatchpointUnit", "suspects", "(III)I"⟩ ⟨"WatchpointUnit", "suspects", "(III)I"⟩) ∈ lw_all := lw_g (lw_at lw_ms 7 rfl) rfl
theorem qs8 : (Cond.selects "WatchpointUnit" ⟨"WatchpointUnit", "isHit", "(IIIZ)Z"⟩ ⟨"WatchpointUnit", "isHit", "(IIIZ)Z"⟩) ∈ lw_all := lw_g (lw_at lw_ms 8 rfl) rfl
theorem qs9 : (Cond.selects "WatchpointUnit" ⟨"WatchpointUnit", "oldValue", "(I)I"⟩ ⟨"WatchpointUnit", "oldValue", "(I)I"⟩) ∈ lw_all := lw_g (lw_at lw_ms 9 rfl) rfl
theorem qs10 : (Cond.selects "WatchpointUnit" ⟨"WatchpointUnit", "isKept", "(I)Z"⟩ ⟨"WatchpointUnit", "isKept", "(I)Z"⟩) ∈ lw_all := lw_g (lw_at lw_ms 10 rfl) rfl
theorem qs11 : (Cond.selects "WatchpointUnit" ⟨"WatchpointUnit", "cellOf", "(I)I"⟩ ⟨"WatchpointUnit", "cellOf", "(I)I"⟩) ∈ lw_all := lw_g (lw_at lw_ms 11 rfl) rfl
theorem qs12 : (Cond.selects "WatchpointUnitModel" ⟨"WatchpointUnitModel", "bad", "(I)Z"⟩ ⟨"WatchpointUnitModel", "bad", "(I)Z"⟩) ∈ lw_all := lw_g (lw_at lw_ms 12 rfl) rfl
theorem qs13 : (Cond.selects "WatchpointUnitModel" ⟨"WatchpointUnitModel", "badSize", "(I)Z"⟩ ⟨"WatchpointUnitModel", "badSize", "(I)Z"⟩) ∈ lw_all := lw_g (lw_at lw_ms 13 rfl) rfl
theorem qs14 : (Cond.selects "WatchpointUnitModel" ⟨"WatchpointUnitModel", "access", "(IIZI)I"⟩ ⟨"WatchpointUnitModel", "access", "(IIZI)I"⟩) ∈ lw_all := lw_g (lw_at lw_ms 14 rfl) rfl
theorem qs15 : (Cond.selects "WatchpointUnitModel" ⟨"WatchpointUnitModel", "hit", "(IIIZ)Z"⟩ ⟨"WatchpointUnitModel", "hit", "(IIIZ)Z"⟩) ∈ lw_all := lw_g (lw_at lw_ms 15 rfl) rfl
theorem qs16 : (Cond.selects "WatchpointUnitModel" ⟨"WatchpointUnitModel", "inRange", "(II)Z"⟩ ⟨"WatchpointUnitModel", "inRange", "(II)Z"⟩) ∈ lw_all := lw_g (lw_at lw_ms 16 rfl) rfl
theorem qs17 : (Cond.selects "WatchpointUnitModel" ⟨"WatchpointUnitModel", "keep", "(III)V"⟩ ⟨"WatchpointUnitModel", "keep", "(III)V"⟩) ∈ lw_all := lw_g (lw_at lw_ms 17 rfl) rfl
theorem qs18 : (Cond.selects "WatchpointUnitModel" ⟨"WatchpointUnitModel", "number", "(IIZ)I"⟩ ⟨"WatchpointUnitModel", "number", "(IIZ)I"⟩) ∈ lw_all := lw_g (lw_at lw_ms 18 rfl) rfl
theorem qs19 : (Cond.selects "WatchpointUnitModel" ⟨"WatchpointUnitModel", "noStop", "(I)Z"⟩ ⟨"WatchpointUnitModel", "noStop", "(I)Z"⟩) ∈ lw_all := lw_g (lw_at lw_ms 19 rfl) rfl
end
section
set_option maxRecDepth 100000
/-! WatchpointUnit -/
def RX0 : String := "WatchpointUnit"
def TX0 : u_T := fun k => match k with
  | 0 => ("WatchpointUnit", "memory", "[I", true)
  | 1 => ("WatchpointUnit", "isSet", "[Z", true)
  | 2 => ("WatchpointUnit", "paused", "[Z", true)
  | 3 => ("WatchpointUnit", "firsts", "[I", true)
  | 4 => ("WatchpointUnit", "lasts", "[I", true)
  | 5 => ("WatchpointUnit", "kinds", "[I", true)
  | 6 => ("WatchpointUnit", "skipped", "[I", true)
  | 7 => ("WatchpointUnit", "hitCounts", "[I", true)
  | 8 => ("WatchpointUnit", "blockStart", "[I", true)
  | 9 => ("WatchpointUnit", "blockSize", "[I", true)
  | 10 => ("WatchpointUnit", "blockWays", "[I", true)
  | 11 => ("WatchpointUnit", "blockWatches", "[I", true)
  | 12 => ("WatchpointUnit", "keptMask", "[I", true)
  | 13 => ("WatchpointUnit", "keptAddress", "[I", true)
  | 14 => ("WatchpointUnit", "keptNumber", "[I", true)
  | 15 => ("WatchpointUnit", "keptBefore", "[I", true)
  | 16 => ("WatchpointUnit", "keptAfter", "[I", true)
  | 17 => ("WatchpointUnit", "oldBytes", "[I", true)
  | 18 => ("WatchpointUnit", "blocks", "I", false)
  | 19 => ("WatchpointUnit", "stepping", "Z", false)
  | 20 => ("WatchpointUnit", "loaded", "Z", false)
  | 21 => ("WatchpointUnit", "running", "I", false)
  | 22 => ("WatchpointUnit", "accessCount", "I", false)
  | _ => ("WatchpointUnit", "stopCount", "I", false)
def tyX0 : Nat → FieldType := fun k => match k with
  | 0 => .array .int
  | 1 => .array .boolean
  | 2 => .array .boolean
  | 3 => .array .int
  | 4 => .array .int
  | 5 => .array .int
  | 6 => .array .int
  | 7 => .array .int
  | 8 => .array .int
  | 9 => .array .int
  | 10 => .array .int
  | 11 => .array .int
  | 12 => .array .int
  | 13 => .array .int
  | 14 => .array .int
  | 15 => .array .int
  | 16 => .array .int
  | 17 => .array .int
  | 18 => .int
  | 19 => .boolean
  | 20 => .boolean
  | 21 => .int
  | 22 => .int
  | _ => .int
abbrev wsX00 : List Cond := u_ws RX0 TX0 24
set_option maxRecDepth 100000 in
theorem nmX0 : ∀ a, a < 24 → ∀ b, b < 24 → a ≠ b → (TX0 a).2.1 ≠ (TX0 b).2.1 := by decide +kernel
set_option maxRecDepth 100000 in
theorem tyX0_ok : ∀ k, k < 24 → parseFieldDescriptor (TX0 k).2.2.1 = some (tyX0 k) := by decide +kernel
abbrev cX0_init : ByteArray := prog_1_method_1_code
def yX0_init : MethodName := ⟨RX0, "<init>", "()V"⟩
abbrev cX0_set : ByteArray := prog_1_method_2_code
def yX0_set : MethodName := ⟨RX0, "set", "(IIII)I"⟩
abbrev cX0_isWatch : ByteArray := prog_1_method_21_code
def yX0_isWatch : MethodName := ⟨RX0, "isWatch", "(I)Z"⟩
abbrev cX0_clear : ByteArray := prog_1_method_3_code
def yX0_clear : MethodName := ⟨RX0, "clear", "(I)I"⟩
abbrev cX0_refused : ByteArray := prog_1_method_24_code
def yX0_refused : MethodName := ⟨RX0, "refused", "(I)I"⟩
abbrev cX0_pause : ByteArray := prog_1_method_4_code
def yX0_pause : MethodName := ⟨RX0, "pause", "(II)I"⟩
abbrev cX0_skip : ByteArray := prog_1_method_5_code
def yX0_skip : MethodName := ⟨RX0, "skip", "(II)I"⟩
abbrev cX0_load : ByteArray := prog_1_method_6_code
def yX0_load : MethodName := ⟨RX0, "load", "(II)I"⟩
abbrev cX0_isSize : ByteArray := prog_1_method_22_code
def yX0_isSize : MethodName := ⟨RX0, "isSize", "(I)Z"⟩
abbrev cX0_fits : ByteArray := prog_1_method_23_code
def yX0_fits : MethodName := ⟨RX0, "fits", "(II)Z"⟩
abbrev cX0_valueAt : ByteArray := prog_1_method_27_code
def yX0_valueAt : MethodName := ⟨RX0, "valueAt", "(II)I"⟩
abbrev cX0_remember : ByteArray := prog_1_method_28_code
def yX0_remember : MethodName := ⟨RX0, "remember", "(II)V"⟩
abbrev cX0_finish : ByteArray := prog_1_method_35_code
def yX0_finish : MethodName := ⟨RX0, "finish", "(IIZ)I"⟩
abbrev cX0_loadRegisters : ByteArray := prog_1_method_30_code
def yX0_loadRegisters : MethodName := ⟨RX0, "loadRegisters", "()V"⟩
abbrev cX0_split : ByteArray := prog_1_method_31_code
def yX0_split : MethodName := ⟨RX0, "split", "(I)V"⟩
abbrev cX0_occupy : ByteArray := prog_1_method_32_code
def yX0_occupy : MethodName := ⟨RX0, "occupy", "(III)V"⟩
abbrev cX0_suspects : ByteArray := prog_1_method_33_code
def yX0_suspects : MethodName := ⟨RX0, "suspects", "(III)I"⟩
abbrev cX0_isHit : ByteArray := prog_1_method_34_code
def yX0_isHit : MethodName := ⟨RX0, "isHit", "(IIIZ)Z"⟩
abbrev cX0_oldValue : ByteArray := prog_1_method_29_code
def yX0_oldValue : MethodName := ⟨RX0, "oldValue", "(I)I"⟩
abbrev cX0_store : ByteArray := prog_1_method_7_code
def yX0_store : MethodName := ⟨RX0, "store", "(III)I"⟩
abbrev cX0_sweep : ByteArray := prog_1_method_8_code
def yX0_sweep : MethodName := ⟨RX0, "sweep", "(II)I"⟩
abbrev cX0_peek : ByteArray := prog_1_method_9_code
def yX0_peek : MethodName := ⟨RX0, "peek", "(I)I"⟩
abbrev cX0_hits : ByteArray := prog_1_method_10_code
def yX0_hits : MethodName := ⟨RX0, "hits", "(I)I"⟩
abbrev cX0_skips : ByteArray := prog_1_method_11_code
def yX0_skips : MethodName := ⟨RX0, "skips", "(I)I"⟩
abbrev cX0_stops : ByteArray := prog_1_method_12_code
def yX0_stops : MethodName := ⟨RX0, "stops", "()I"⟩
abbrev cX0_accesses : ByteArray := prog_1_method_13_code
def yX0_accesses : MethodName := ⟨RX0, "accesses", "()I"⟩
abbrev cX0_kept : ByteArray := prog_1_method_14_code
def yX0_kept : MethodName := ⟨RX0, "kept", "()I"⟩
abbrev cX0_stopMask : ByteArray := prog_1_method_15_code
def yX0_stopMask : MethodName := ⟨RX0, "stopMask", "(I)I"⟩
abbrev cX0_isKept : ByteArray := prog_1_method_25_code
def yX0_isKept : MethodName := ⟨RX0, "isKept", "(I)Z"⟩
abbrev cX0_cellOf : ByteArray := prog_1_method_26_code
def yX0_cellOf : MethodName := ⟨RX0, "cellOf", "(I)I"⟩
abbrev cX0_stopAddress : ByteArray := prog_1_method_16_code
def yX0_stopAddress : MethodName := ⟨RX0, "stopAddress", "(I)I"⟩
abbrev cX0_stopNumber : ByteArray := prog_1_method_17_code
def yX0_stopNumber : MethodName := ⟨RX0, "stopNumber", "(I)I"⟩
abbrev cX0_before : ByteArray := prog_1_method_18_code
def yX0_before : MethodName := ⟨RX0, "before", "(I)I"⟩
abbrev cX0_after : ByteArray := prog_1_method_19_code
def yX0_after : MethodName := ⟨RX0, "after", "(I)I"⟩
abbrev cX0_watched : ByteArray := prog_1_method_20_code
def yX0_watched : MethodName := ⟨RX0, "watched", "()I"⟩
theorem q21 : (Jvm.Cond.initialized "WatchpointUnit") ∈ lw_all := lw_g (lw_at lw_m1 1 rfl) rfl
theorem q24 : (Jvm.Cond.instantiable "WatchpointUnit" (24 : Nat)) ∈ lw_all := lw_g (lw_at lw_m1 4 rfl) rfl
theorem q26 : (Jvm.Cond.instanceMethod ({ cls := "WatchpointUnit", name := "<init>", desc := "()V" } : Jvm.MethodName)) ∈ lw_all := lw_g (lw_at lw_m1 6 rfl) rfl
theorem q27 : (Jvm.Cond.code ({ cls := "WatchpointUnit", name := "<init>", desc := "()V" } : Jvm.MethodName) prog_1_method_1_code (1 : Nat) (Option.none : Option Jvm.ClassFile.FieldType)) ∈ lw_all := lw_g (lw_at lw_m1 7 rfl) rfl
theorem q28 : (Jvm.Cond.methodLink "WatchpointUnit" (1 : Nat) ({ cls := "java/lang/Object", name := "<init>", desc := "()V" } : Jvm.MethodName)) ∈ lw_all := lw_g (lw_at lw_m1 8 rfl) rfl
theorem q31 : (Jvm.Cond.fieldLink "WatchpointUnit" (7 : Nat) "WatchpointUnit" "memory" "[I") ∈ lw_all := lw_g (lw_at lw_m1 11 rfl) rfl
theorem q32 : (Jvm.Cond.fieldLink "WatchpointUnit" (13 : Nat) "WatchpointUnit" "isSet" "[Z") ∈ lw_all := lw_g (lw_at lw_m1 12 rfl) rfl
theorem q33 : (Jvm.Cond.fieldLink "WatchpointUnit" (17 : Nat) "WatchpointUnit" "paused" "[Z") ∈ lw_all := lw_g (lw_at lw_m1 13 rfl) rfl
theorem q34 : (Jvm.Cond.fieldLink "WatchpointUnit" (20 : Nat) "WatchpointUnit" "firsts" "[I") ∈ lw_all := lw_g (lw_at lw_m1 14 rfl) rfl
theorem q35 : (Jvm.Cond.fieldLink "WatchpointUnit" (23 : Nat) "WatchpointUnit" "lasts" "[I") ∈ lw_all := lw_g (lw_at lw_m1 15 rfl) rfl
theorem q36 : (Jvm.Cond.fieldLink "WatchpointUnit" (26 : Nat) "WatchpointUnit" "kinds" "[I") ∈ lw_all := lw_g (lw_at lw_m1 16 rfl) rfl
theorem q37 : (Jvm.Cond.fieldLink "WatchpointUnit" (29 : Nat) "WatchpointUnit" "skipped" "[I") ∈ lw_all := lw_g (lw_at lw_m1 17 rfl) rfl
theorem q38 : (Jvm.Cond.fieldLink "WatchpointUnit" (32 : Nat) "WatchpointUnit" "hitCounts" "[I") ∈ lw_all := lw_g (lw_at lw_m1 18 rfl) rfl
theorem q39 : (Jvm.Cond.fieldLink "WatchpointUnit" (35 : Nat) "WatchpointUnit" "blockStart" "[I") ∈ lw_all := lw_g (lw_at lw_m1 19 rfl) rfl
theorem q40 : (Jvm.Cond.fieldLink "WatchpointUnit" (38 : Nat) "WatchpointUnit" "blockSize" "[I") ∈ lw_all := lw_g (lw_at lw_m1 20 rfl) rfl
theorem q41 : (Jvm.Cond.fieldLink "WatchpointUnit" (41 : Nat) "WatchpointUnit" "blockWays" "[I") ∈ lw_all := lw_g (lw_at lw_m1 21 rfl) rfl
theorem q42 : (Jvm.Cond.fieldLink "WatchpointUnit" (44 : Nat) "WatchpointUnit" "blockWatches" "[I") ∈ lw_all := lw_g (lw_at lw_m1 22 rfl) rfl
theorem q43 : (Jvm.Cond.fieldLink "WatchpointUnit" (47 : Nat) "WatchpointUnit" "keptMask" "[I") ∈ lw_all := lw_g (lw_at lw_m1 23 rfl) rfl
theorem q44 : (Jvm.Cond.fieldLink "WatchpointUnit" (50 : Nat) "WatchpointUnit" "keptAddress" "[I") ∈ lw_all := lw_g (lw_at lw_m1 24 rfl) rfl
theorem q45 : (Jvm.Cond.fieldLink "WatchpointUnit" (53 : Nat) "WatchpointUnit" "keptNumber" "[I") ∈ lw_all := lw_g (lw_at lw_m1 25 rfl) rfl
theorem q46 : (Jvm.Cond.fieldLink "WatchpointUnit" (56 : Nat) "WatchpointUnit" "keptBefore" "[I") ∈ lw_all := lw_g (lw_at lw_m1 26 rfl) rfl
theorem q47 : (Jvm.Cond.fieldLink "WatchpointUnit" (59 : Nat) "WatchpointUnit" "keptAfter" "[I") ∈ lw_all := lw_g (lw_at lw_m1 27 rfl) rfl
theorem q48 : (Jvm.Cond.fieldLink "WatchpointUnit" (62 : Nat) "WatchpointUnit" "oldBytes" "[I") ∈ lw_all := lw_g (lw_at lw_m1 28 rfl) rfl
theorem q49 : (Jvm.Cond.fieldLink "WatchpointUnit" (112 : Nat) "WatchpointUnit" "blocks" "I") ∈ lw_all := lw_g (lw_at lw_m1 29 rfl) rfl
theorem q50 : (Jvm.Cond.fieldLink "WatchpointUnit" (109 : Nat) "WatchpointUnit" "stepping" "Z") ∈ lw_all := lw_g (lw_at lw_m1 30 rfl) rfl
theorem q51 : (Jvm.Cond.fieldLink "WatchpointUnit" (65 : Nat) "WatchpointUnit" "loaded" "Z") ∈ lw_all := lw_g (lw_at lw_m1 31 rfl) rfl
theorem q52 : (Jvm.Cond.fieldLink "WatchpointUnit" (115 : Nat) "WatchpointUnit" "running" "I") ∈ lw_all := lw_g (lw_at lw_m1 32 rfl) rfl
theorem q53 : (Jvm.Cond.fieldLink "WatchpointUnit" (100 : Nat) "WatchpointUnit" "accessCount" "I") ∈ lw_all := lw_g (lw_at lw_m1 33 rfl) rfl
theorem q54 : (Jvm.Cond.fieldLink "WatchpointUnit" (96 : Nat) "WatchpointUnit" "stopCount" "I") ∈ lw_all := lw_g (lw_at lw_m1 34 rfl) rfl
theorem q55 : (Jvm.Cond.laysFinal "WatchpointUnit" "WatchpointUnit" "memory" "[I") ∈ lw_all := lw_g (lw_at lw_m1 35 rfl) rfl
theorem q56 : (Jvm.Cond.soleField "WatchpointUnit" "memory") ∈ lw_all := lw_g (lw_at lw_m1 36 rfl) rfl
theorem q57 : (Jvm.Cond.laysFinal "WatchpointUnit" "WatchpointUnit" "isSet" "[Z") ∈ lw_all := lw_g (lw_at lw_m1 37 rfl) rfl
theorem q58 : (Jvm.Cond.soleField "WatchpointUnit" "isSet") ∈ lw_all := lw_g (lw_at lw_m1 38 rfl) rfl
theorem q59 : (Jvm.Cond.laysFinal "WatchpointUnit" "WatchpointUnit" "paused" "[Z") ∈ lw_all := lw_g (lw_at lw_m1 39 rfl) rfl
theorem q60 : (Jvm.Cond.soleField "WatchpointUnit" "paused") ∈ lw_all := lw_g (lw_at lw_m1 40 rfl) rfl
theorem q61 : (Jvm.Cond.laysFinal "WatchpointUnit" "WatchpointUnit" "firsts" "[I") ∈ lw_all := lw_g (lw_at lw_m1 41 rfl) rfl
theorem q62 : (Jvm.Cond.soleField "WatchpointUnit" "firsts") ∈ lw_all := lw_g (lw_at lw_m1 42 rfl) rfl
theorem q63 : (Jvm.Cond.laysFinal "WatchpointUnit" "WatchpointUnit" "lasts" "[I") ∈ lw_all := lw_g (lw_at lw_m1 43 rfl) rfl
theorem q64 : (Jvm.Cond.soleField "WatchpointUnit" "lasts") ∈ lw_all := lw_g (lw_at lw_m1 44 rfl) rfl
theorem q65 : (Jvm.Cond.laysFinal "WatchpointUnit" "WatchpointUnit" "kinds" "[I") ∈ lw_all := lw_g (lw_at lw_m1 45 rfl) rfl
theorem q66 : (Jvm.Cond.soleField "WatchpointUnit" "kinds") ∈ lw_all := lw_g (lw_at lw_m1 46 rfl) rfl
theorem q67 : (Jvm.Cond.laysFinal "WatchpointUnit" "WatchpointUnit" "skipped" "[I") ∈ lw_all := lw_g (lw_at lw_m1 47 rfl) rfl
theorem q68 : (Jvm.Cond.soleField "WatchpointUnit" "skipped") ∈ lw_all := lw_g (lw_at lw_m1 48 rfl) rfl
theorem q69 : (Jvm.Cond.laysFinal "WatchpointUnit" "WatchpointUnit" "hitCounts" "[I") ∈ lw_all := lw_g (lw_at lw_m1 49 rfl) rfl
theorem q70 : (Jvm.Cond.soleField "WatchpointUnit" "hitCounts") ∈ lw_all := lw_g (lw_at lw_m1 50 rfl) rfl
theorem q71 : (Jvm.Cond.laysFinal "WatchpointUnit" "WatchpointUnit" "blockStart" "[I") ∈ lw_all := lw_g (lw_at lw_m1 51 rfl) rfl
theorem q72 : (Jvm.Cond.soleField "WatchpointUnit" "blockStart") ∈ lw_all := lw_g (lw_at lw_m1 52 rfl) rfl
theorem q73 : (Jvm.Cond.laysFinal "WatchpointUnit" "WatchpointUnit" "blockSize" "[I") ∈ lw_all := lw_g (lw_at lw_m1 53 rfl) rfl
theorem q74 : (Jvm.Cond.soleField "WatchpointUnit" "blockSize") ∈ lw_all := lw_g (lw_at lw_m1 54 rfl) rfl
theorem q75 : (Jvm.Cond.laysFinal "WatchpointUnit" "WatchpointUnit" "blockWays" "[I") ∈ lw_all := lw_g (lw_at lw_m1 55 rfl) rfl
theorem q76 : (Jvm.Cond.soleField "WatchpointUnit" "blockWays") ∈ lw_all := lw_g (lw_at lw_m1 56 rfl) rfl
theorem q77 : (Jvm.Cond.laysFinal "WatchpointUnit" "WatchpointUnit" "blockWatches" "[I") ∈ lw_all := lw_g (lw_at lw_m1 57 rfl) rfl
theorem q78 : (Jvm.Cond.soleField "WatchpointUnit" "blockWatches") ∈ lw_all := lw_g (lw_at lw_m1 58 rfl) rfl
theorem q79 : (Jvm.Cond.laysFinal "WatchpointUnit" "WatchpointUnit" "keptMask" "[I") ∈ lw_all := lw_g (lw_at lw_m1 59 rfl) rfl
theorem q80 : (Jvm.Cond.soleField "WatchpointUnit" "keptMask") ∈ lw_all := lw_g (lw_at lw_m1 60 rfl) rfl
theorem q81 : (Jvm.Cond.laysFinal "WatchpointUnit" "WatchpointUnit" "keptAddress" "[I") ∈ lw_all := lw_g (lw_at lw_m1 61 rfl) rfl
theorem q82 : (Jvm.Cond.soleField "WatchpointUnit" "keptAddress") ∈ lw_all := lw_g (lw_at lw_m1 62 rfl) rfl
theorem q83 : (Jvm.Cond.laysFinal "WatchpointUnit" "WatchpointUnit" "keptNumber" "[I") ∈ lw_all := lw_g (lw_at lw_m1 63 rfl) rfl
theorem q84 : (Jvm.Cond.soleField "WatchpointUnit" "keptNumber") ∈ lw_all := lw_g (lw_at lw_m1 64 rfl) rfl
theorem q85 : (Jvm.Cond.laysFinal "WatchpointUnit" "WatchpointUnit" "keptBefore" "[I") ∈ lw_all := lw_g (lw_at lw_m1 65 rfl) rfl
theorem q86 : (Jvm.Cond.soleField "WatchpointUnit" "keptBefore") ∈ lw_all := lw_g (lw_at lw_m1 66 rfl) rfl
theorem q87 : (Jvm.Cond.laysFinal "WatchpointUnit" "WatchpointUnit" "keptAfter" "[I") ∈ lw_all := lw_g (lw_at lw_m1 67 rfl) rfl
theorem q88 : (Jvm.Cond.soleField "WatchpointUnit" "keptAfter") ∈ lw_all := lw_g (lw_at lw_m1 68 rfl) rfl
theorem q89 : (Jvm.Cond.laysFinal "WatchpointUnit" "WatchpointUnit" "oldBytes" "[I") ∈ lw_all := lw_g (lw_at lw_m1 69 rfl) rfl
theorem q90 : (Jvm.Cond.soleField "WatchpointUnit" "oldBytes") ∈ lw_all := lw_g (lw_at lw_m1 70 rfl) rfl
theorem q91 : (Jvm.Cond.lays "WatchpointUnit" "WatchpointUnit" "blocks" "I") ∈ lw_all := lw_g (lw_at lw_m1 71 rfl) rfl
theorem q92 : (Jvm.Cond.soleField "WatchpointUnit" "blocks") ∈ lw_all := lw_g (lw_at lw_m1 72 rfl) rfl
theorem q93 : (Jvm.Cond.lays "WatchpointUnit" "WatchpointUnit" "stepping" "Z") ∈ lw_all := lw_g (lw_at lw_m1 73 rfl) rfl
theorem q94 : (Jvm.Cond.soleField "WatchpointUnit" "stepping") ∈ lw_all := lw_g (lw_at lw_m1 74 rfl) rfl
theorem q95 : (Jvm.Cond.lays "WatchpointUnit" "WatchpointUnit" "loaded" "Z") ∈ lw_all := lw_g (lw_at lw_m1 75 rfl) rfl
theorem q96 : (Jvm.Cond.soleField "WatchpointUnit" "loaded") ∈ lw_all := lw_g (lw_at lw_m1 76 rfl) rfl
theorem q97 : (Jvm.Cond.lays "WatchpointUnit" "WatchpointUnit" "running" "I") ∈ lw_all := lw_g (lw_at lw_m1 77 rfl) rfl
theorem q98 : (Jvm.Cond.soleField "WatchpointUnit" "running") ∈ lw_all := lw_g (lw_at lw_m1 78 rfl) rfl
theorem q99 : (Jvm.Cond.lays "WatchpointUnit" "WatchpointUnit" "accessCount" "I") ∈ lw_all := lw_g (lw_at lw_m1 79 rfl) rfl
theorem q100 : (Jvm.Cond.soleField "WatchpointUnit" "accessCount") ∈ lw_all := lw_g (lw_at lw_m1 80 rfl) rfl
theorem q101 : (Jvm.Cond.lays "WatchpointUnit" "WatchpointUnit" "stopCount" "I") ∈ lw_all := lw_g (lw_at lw_m1 81 rfl) rfl
theorem q102 : (Jvm.Cond.soleField "WatchpointUnit" "stopCount") ∈ lw_all := lw_g (lw_at lw_m1 82 rfl) rfl
theorem q103 : (Jvm.Cond.superclass "WatchpointUnit" "java/lang/Object") ∈ lw_all := lw_g (lw_at lw_m1 83 rfl) rfl
theorem q107 : (Jvm.Cond.instanceMethod ({ cls := "WatchpointUnit", name := "set", desc := "(IIII)I" } : Jvm.MethodName)) ∈ lw_all := lw_g (lw_at lw_m1 87 rfl) rfl
theorem q108 : (Jvm.Cond.selects "WatchpointUnit" ({ cls := "WatchpointUnit", name := "set", desc := "(IIII)I" } : Jvm.MethodName) ({ cls := "WatchpointUnit", name := "set", desc := "(IIII)I" } : Jvm.MethodName)) ∈ lw_all := lw_g (lw_at lw_m1 88 rfl) rfl
theorem q109 : (Jvm.Cond.code ({ cls := "WatchpointUnit", name := "set", desc := "(IIII)I" } : Jvm.MethodName) prog_1_method_2_code (6 : Nat) (Option.some Jvm.ClassFile.FieldType.int)) ∈ lw_all := lw_g (lw_at lw_m1 89 rfl) rfl
theorem q110 : (Jvm.Cond.methodLink "WatchpointUnit" (69 : Nat) ({ cls := "WatchpointUnit", name := "isWatch", desc := "(I)Z" } : Jvm.MethodName)) ∈ lw_all := lw_g (lw_at lw_m1 90 rfl) rfl
theorem q111 : (Jvm.Cond.static ({ cls := "WatchpointUnit", name := "isWatch", desc := "(I)Z" } : Jvm.MethodName)) ∈ lw_all := lw_g (lw_at lw_m1 91 rfl) rfl
theorem q112 : (Jvm.Cond.code ({ cls := "WatchpointUnit", name := "isWatch", desc := "(I)Z" } : Jvm.MethodName) prog_1_method_21_code (1 : Nat) (Option.some Jvm.ClassFile.FieldType.boolean)) ∈ lw_all := lw_g (lw_at lw_m1 92 rfl) rfl
theorem q114 : (Jvm.Cond.instanceMethod ({ cls := "WatchpointUnit", name := "clear", desc := "(I)I" } : Jvm.MethodName)) ∈ lw_all := lw_g (lw_at lw_m1 94 rfl) rfl
theorem q115 : (Jvm.Cond.selects "WatchpointUnit" ({ cls := "WatchpointUnit", name := "clear", desc := "(I)I" } : Jvm.MethodName) ({ cls := "WatchpointUnit", name := "clear", desc := "(I)I" } : Jvm.MethodName)) ∈ lw_all := lw_g (lw_at lw_m1 95 rfl) rfl
theorem q116 : (Jvm.Cond.code ({ cls := "WatchpointUnit", name := "clear", desc := "(I)I" } : Jvm.MethodName) prog_1_method_3_code (3 : Nat) (Option.some Jvm.ClassFile.FieldType.int)) ∈ lw_all := lw_g (lw_at lw_m1 96 rfl) rfl
theorem q117 : (Jvm.Cond.methodLink "WatchpointUnit" (73 : Nat) ({ cls := "WatchpointUnit", name := "refused", desc := "(I)I" } : Jvm.MethodName)) ∈ lw_all := lw_g (lw_at lw_m1 97 rfl) rfl
theorem q118 : (Jvm.Cond.privateMethod ({ cls := "WatchpointUnit", name := "refused", desc := "(I)I" } : Jvm.MethodName)) ∈ lw_tbl := lw_at lw_m1 98 rfl
theorem q119 : (Jvm.Cond.instanceMethod ({ cls := "WatchpointUnit", name := "refused", desc := "(I)I" } : Jvm.MethodName)) ∈ lw_all := lw_g (lw_at lw_m1 99 rfl) rfl
theorem q120 : (Jvm.Cond.code ({ cls := "WatchpointUnit", name := "refused", desc := "(I)I" } : Jvm.MethodName) prog_1_method_24_code (2 : Nat) (Option.some Jvm.ClassFile.FieldType.int)) ∈ lw_all := lw_g (lw_at lw_m1 100 rfl) rfl
theorem q122 : (Jvm.Cond.instanceMethod ({ cls := "WatchpointUnit", name := "pause", desc := "(II)I" } : Jvm.MethodName)) ∈ lw_all := lw_g (lw_at lw_m1 102 rfl) rfl
theorem q123 : (Jvm.Cond.selects "WatchpointUnit" ({ cls := "WatchpointUnit", name := "pause", desc := "(II)I" } : Jvm.MethodName) ({ cls := "WatchpointUnit", name := "pause", desc := "(II)I" } : Jvm.MethodName)) ∈ lw_all := lw_g (lw_at lw_m1 103 rfl) rfl
theorem q124 : (Jvm.Cond.code ({ cls := "WatchpointUnit", name := "pause", desc := "(II)I" } : Jvm.MethodName) prog_1_method_4_code (5 : Nat) (Option.some Jvm.ClassFile.FieldType.int)) ∈ lw_all := lw_g (lw_at lw_m1 104 rfl) rfl
theorem q126 : (Jvm.Cond.instanceMethod ({ cls := "WatchpointUnit", name := "skip", desc := "(II)I" } : Jvm.MethodName)) ∈ lw_all := lw_g (lw_at lw_m1 106 rfl) rfl
theorem q127 : (Jvm.Cond.selects "WatchpointUnit" ({ cls := "WatchpointUnit", name := "skip", desc := "(II)I" } : Jvm.MethodName) ({ cls := "WatchpointUnit", name := "skip", desc := "(II)I" } : Jvm.MethodName)) ∈ lw_all := lw_g (lw_at lw_m1 107 rfl) rfl
theorem q128 : (Jvm.Cond.code ({ cls := "WatchpointUnit", name := "skip", desc := "(II)I" } : Jvm.MethodName) prog_1_method_5_code (5 : Nat) (Option.some Jvm.ClassFile.FieldType.int)) ∈ lw_all := lw_g (lw_at lw_m1 108 rfl) rfl
theorem q130 : (Jvm.Cond.instanceMethod ({ cls := "WatchpointUnit", name := "load", desc := "(II)I" } : Jvm.MethodName)) ∈ lw_all := lw_g (lw_at lw_m1 110 rfl) rfl
theorem q131 : (Jvm.Cond.selects "WatchpointUnit" ({ cls := "WatchpointUnit", name := "load", desc := "(II)I" } : Jvm.MethodName) ({ cls := "WatchpointUnit", name := "load", desc := "(II)I" } : Jvm.MethodName)) ∈ lw_all := lw_g (lw_at lw_m1 111 rfl) rfl
theorem q132 : (Jvm.Cond.code ({ cls := "WatchpointUnit", name := "load", desc := "(II)I" } : Jvm.MethodName) prog_1_method_6_code (4 : Nat) (Option.some Jvm.ClassFile.FieldType.int)) ∈ lw_all := lw_g (lw_at lw_m1 112 rfl) rfl
theorem q133 : (Jvm.Cond.methodLink "WatchpointUnit" (77 : Nat) ({ cls := "WatchpointUnit", name := "isSize", desc := "(I)Z" } : Jvm.MethodName)) ∈ lw_all := lw_g (lw_at lw_m1 113 rfl) rfl
theorem q134 : (Jvm.Cond.static ({ cls := "WatchpointUnit", name := "isSize", desc := "(I)Z" } : Jvm.MethodName)) ∈ lw_all := lw_g (lw_at lw_m1 114 rfl) rfl
theorem q135 : (Jvm.Cond.code ({ cls := "WatchpointUnit", name := "isSize", desc := "(I)Z" } : Jvm.MethodName) prog_1_method_22_code (1 : Nat) (Option.some Jvm.ClassFile.FieldType.boolean)) ∈ lw_all := lw_g (lw_at lw_m1 115 rfl) rfl
theorem q136 : (Jvm.Cond.methodLink "WatchpointUnit" (80 : Nat) ({ cls := "WatchpointUnit", name := "fits", desc := "(II)Z" } : Jvm.MethodName)) ∈ lw_all := lw_g (lw_at lw_m1 116 rfl) rfl
theorem q137 : (Jvm.Cond.static ({ cls := "WatchpointUnit", name := "fits", desc := "(II)Z" } : Jvm.MethodName)) ∈ lw_all := lw_g (lw_at lw_m1 117 rfl) rfl
theorem q138 : (Jvm.Cond.code ({ cls := "WatchpointUnit", name := "fits", desc := "(II)Z" } : Jvm.MethodName) prog_1_method_23_code (2 : Nat) (Option.some Jvm.ClassFile.FieldType.boolean)) ∈ lw_all := lw_g (lw_at lw_m1 118 rfl) rfl
theorem q139 : (Jvm.Cond.methodLink "WatchpointUnit" (84 : Nat) ({ cls := "WatchpointUnit", name := "valueAt", desc := "(II)I" } : Jvm.MethodName)) ∈ lw_all := lw_g (lw_at lw_m1 119 rfl) rfl
theorem q140 : (Jvm.Cond.privateMethod ({ cls := "WatchpointUnit", name := "valueAt", desc := "(II)I" } : Jvm.MethodName)) ∈ lw_tbl := lw_at lw_m1 120 rfl
theorem q141 : (Jvm.Cond.instanceMethod ({ cls := "WatchpointUnit", name := "valueAt", desc := "(II)I" } : Jvm.MethodName)) ∈ lw_all := lw_g (lw_at lw_m1 121 rfl) rfl
theorem q142 : (Jvm.Cond.code ({ cls := "WatchpointUnit", name := "valueAt", desc := "(II)I" } : Jvm.MethodName) prog_1_method_27_code (5 : Nat) (Option.some Jvm.ClassFile.FieldType.int)) ∈ lw_all := lw_g (lw_at lw_m1 122 rfl) rfl
theorem q143 : (Jvm.Cond.methodLink "WatchpointUnit" (88 : Nat) ({ cls := "WatchpointUnit", name := "remember", desc := "(II)V" } : Jvm.MethodName)) ∈ lw_all := lw_g (lw_at lw_m1 123 rfl) rfl
theorem q144 : (Jvm.Cond.privateMethod ({ cls := "WatchpointUnit", name := "remember", desc := "(II)V" } : Jvm.MethodName)) ∈ lw_tbl := lw_at lw_m1 124 rfl
theorem q145 : (Jvm.Cond.instanceMethod ({ cls := "WatchpointUnit", name := "remember", desc := "(II)V" } : Jvm.MethodName)) ∈ lw_all := lw_g (lw_at lw_m1 125 rfl) rfl
theorem q146 : (Jvm.Cond.code ({ cls := "WatchpointUnit", name := "remember", desc := "(II)V" } : Jvm.MethodName) prog_1_method_28_code (4 : Nat) (Option.none : Option Jvm.ClassFile.FieldType)) ∈ lw_all := lw_g (lw_at lw_m1 126 rfl) rfl
theorem q147 : (Jvm.Cond.methodLink "WatchpointUnit" (92 : Nat) ({ cls := "WatchpointUnit", name := "finish", desc := "(IIZ)I" } : Jvm.MethodName)) ∈ lw_all := lw_g (lw_at lw_m1 127 rfl) rfl
theorem q148 : (Jvm.Cond.privateMethod ({ cls := "WatchpointUnit", name := "finish", desc := "(IIZ)I" } : Jvm.MethodName)) ∈ lw_tbl := lw_at lw_m1 128 rfl
theorem q149 : (Jvm.Cond.instanceMethod ({ cls := "WatchpointUnit", name := "finish", desc := "(IIZ)I" } : Jvm.MethodName)) ∈ lw_all := lw_g (lw_at lw_m1 129 rfl) rfl
theorem q150 : (Jvm.Cond.code ({ cls := "WatchpointUnit", name := "finish", desc := "(IIZ)I" } : Jvm.MethodName) prog_1_method_35_code (8 : Nat) (Option.some Jvm.ClassFile.FieldType.int)) ∈ lw_all := lw_g (lw_at lw_m1 130 rfl) rfl
theorem q151 : (Jvm.Cond.methodLink "WatchpointUnit" (126 : Nat) ({ cls := "WatchpointUnit", name := "loadRegisters", desc := "()V" } : Jvm.MethodName)) ∈ lw_all := lw_g (lw_at lw_m1 131 rfl) rfl
theorem q152 : (Jvm.Cond.privateMethod ({ cls := "WatchpointUnit", name := "loadRegisters", desc := "()V" } : Jvm.MethodName)) ∈ lw_tbl := lw_at lw_m1 132 rfl
theorem q153 : (Jvm.Cond.instanceMethod ({ cls := "WatchpointUnit", name := "loadRegisters", desc := "()V" } : Jvm.MethodName)) ∈ lw_all := lw_g (lw_at lw_m1 133 rfl) rfl
theorem q154 : (Jvm.Cond.code ({ cls := "WatchpointUnit", name := "loadRegisters", desc := "()V" } : Jvm.MethodName) prog_1_method_30_code (2 : Nat) (Option.none : Option Jvm.ClassFile.FieldType)) ∈ lw_all := lw_g (lw_at lw_m1 134 rfl) rfl
theorem q155 : (Jvm.Cond.methodLink "WatchpointUnit" (118 : Nat) ({ cls := "WatchpointUnit", name := "split", desc := "(I)V" } : Jvm.MethodName)) ∈ lw_all := lw_g (lw_at lw_m1 135 rfl) rfl
theorem q156 : (Jvm.Cond.privateMethod ({ cls := "WatchpointUnit", name := "split", desc := "(I)V" } : Jvm.MethodName)) ∈ lw_tbl := lw_at lw_m1 136 rfl
theorem q157 : (Jvm.Cond.instanceMethod ({ cls := "WatchpointUnit", name := "split", desc := "(I)V" } : Jvm.MethodName)) ∈ lw_all := lw_g (lw_at lw_m1 137 rfl) rfl
theorem q158 : (Jvm.Cond.code ({ cls := "WatchpointUnit", name := "split", desc := "(I)V" } : Jvm.MethodName) prog_1_method_31_code (5 : Nat) (Option.none : Option Jvm.ClassFile.FieldType)) ∈ lw_all := lw_g (lw_at lw_m1 138 rfl) rfl
theorem q159 : (Jvm.Cond.methodLink "WatchpointUnit" (122 : Nat) ({ cls := "WatchpointUnit", name := "occupy", desc := "(III)V" } : Jvm.MethodName)) ∈ lw_all := lw_g (lw_at lw_m1 139 rfl) rfl
theorem q160 : (Jvm.Cond.privateMethod ({ cls := "WatchpointUnit", name := "occupy", desc := "(III)V" } : Jvm.MethodName)) ∈ lw_tbl := lw_at lw_m1 140 rfl
theorem q161 : (Jvm.Cond.instanceMethod ({ cls := "WatchpointUnit", name := "occupy", desc := "(III)V" } : Jvm.MethodName)) ∈ lw_all := lw_g (lw_at lw_m1 141 rfl) rfl
theorem q162 : (Jvm.Cond.code ({ cls := "WatchpointUnit", name := "occupy", desc := "(III)V" } : Jvm.MethodName) prog_1_method_32_code (6 : Nat) (Option.none : Option Jvm.ClassFile.FieldType)) ∈ lw_all := lw_g (lw_at lw_m1 142 rfl) rfl
theorem q163 : (Jvm.Cond.methodLink "WatchpointUnit" (129 : Nat) ({ cls := "WatchpointUnit", name := "suspects", desc := "(III)I" } : Jvm.MethodName)) ∈ lw_all := lw_g (lw_at lw_m1 143 rfl) rfl
theorem q164 : (Jvm.Cond.privateMethod ({ cls := "WatchpointUnit", name := "suspects", desc := "(III)I" } : Jvm.MethodName)) ∈ lw_tbl := lw_at lw_m1 144 rfl
theorem q165 : (Jvm.Cond.instanceMethod ({ cls := "WatchpointUnit", name := "suspects", desc := "(III)I" } : Jvm.MethodName)) ∈ lw_all := lw_g (lw_at lw_m1 145 rfl) rfl
theorem q166 : (Jvm.Cond.code ({ cls := "WatchpointUnit", name := "suspects", desc := "(III)I" } : Jvm.MethodName) prog_1_method_33_code (7 : Nat) (Option.some Jvm.ClassFile.FieldType.int)) ∈ lw_all := lw_g (lw_at lw_m1 146 rfl) rfl
theorem q167 : (Jvm.Cond.methodLink "WatchpointUnit" (133 : Nat) ({ cls := "WatchpointUnit", name := "isHit", desc := "(IIIZ)Z" } : Jvm.MethodName)) ∈ lw_all := lw_g (lw_at lw_m1 147 rfl) rfl
theorem q168 : (Jvm.Cond.privateMethod ({ cls := "WatchpointUnit", name := "isHit", desc := "(IIIZ)Z" } : Jvm.MethodName)) ∈ lw_tbl := lw_at lw_m1 148 rfl
theorem q169 : (Jvm.Cond.instanceMethod ({ cls := "WatchpointUnit", name := "isHit", desc := "(IIIZ)Z" } : Jvm.MethodName)) ∈ lw_all := lw_g (lw_at lw_m1 149 rfl) rfl
theorem q170 : (Jvm.Cond.code ({ cls := "WatchpointUnit", name := "isHit", desc := "(IIIZ)Z" } : Jvm.MethodName) prog_1_method_34_code (8 : Nat) (Option.some Jvm.ClassFile.FieldType.boolean)) ∈ lw_all := lw_g (lw_at lw_m1 150 rfl) rfl
theorem q171 : (Jvm.Cond.methodLink "WatchpointUnit" (137 : Nat) ({ cls := "WatchpointUnit", name := "oldValue", desc := "(I)I" } : Jvm.MethodName)) ∈ lw_all := lw_g (lw_at lw_m1 151 rfl) rfl
theorem q172 : (Jvm.Cond.privateMethod ({ cls := "WatchpointUnit", name := "oldValue", desc := "(I)I" } : Jvm.MethodName)) ∈ lw_tbl := lw_at lw_m1 152 rfl
theorem q173 : (Jvm.Cond.instanceMethod ({ cls := "WatchpointUnit", name := "oldValue", desc := "(I)I" } : Jvm.MethodName)) ∈ lw_all := lw_g (lw_at lw_m1 153 rfl) rfl
theorem q174 : (Jvm.Cond.code ({ cls := "WatchpointUnit", name := "oldValue", desc := "(I)I" } : Jvm.MethodName) prog_1_method_29_code (4 : Nat) (Option.some Jvm.ClassFile.FieldType.int)) ∈ lw_all := lw_g (lw_at lw_m1 154 rfl) rfl
theorem q176 : (Jvm.Cond.instanceMethod ({ cls := "WatchpointUnit", name := "store", desc := "(III)I" } : Jvm.MethodName)) ∈ lw_all := lw_g (lw_at lw_m1 156 rfl) rfl
theorem q177 : (Jvm.Cond.selects "WatchpointUnit" ({ cls := "WatchpointUnit", name := "store", desc := "(III)I" } : Jvm.MethodName) ({ cls := "WatchpointUnit", name := "store", desc := "(III)I" } : Jvm.MethodName)) ∈ lw_all := lw_g (lw_at lw_m1 157 rfl) rfl
theorem q178 : (Jvm.Cond.code ({ cls := "WatchpointUnit", name := "store", desc := "(III)I" } : Jvm.MethodName) prog_1_method_7_code (5 : Nat) (Option.some Jvm.ClassFile.FieldType.int)) ∈ lw_all := lw_g (lw_at lw_m1 158 rfl) rfl
theorem q180 : (Jvm.Cond.instanceMethod ({ cls := "WatchpointUnit", name := "sweep", desc := "(II)I" } : Jvm.MethodName)) ∈ lw_all := lw_g (lw_at lw_m1 160 rfl) rfl
theorem q181 : (Jvm.Cond.selects "WatchpointUnit" ({ cls := "WatchpointUnit", name := "sweep", desc := "(II)I" } : Jvm.MethodName) ({ cls := "WatchpointUnit", name := "sweep", desc := "(II)I" } : Jvm.MethodName)) ∈ lw_all := lw_g (lw_at lw_m1 161 rfl) rfl
theorem q182 : (Jvm.Cond.code ({ cls := "WatchpointUnit", name := "sweep", desc := "(II)I" } : Jvm.MethodName) prog_1_method_8_code (5 : Nat) (Option.some Jvm.ClassFile.FieldType.int)) ∈ lw_all := lw_g (lw_at lw_m1 162 rfl) rfl
theorem q184 : (Jvm.Cond.instanceMethod ({ cls := "WatchpointUnit", name := "peek", desc := "(I)I" } : Jvm.MethodName)) ∈ lw_all := lw_g (lw_at lw_m1 164 rfl) rfl
theorem q185 : (Jvm.Cond.selects "WatchpointUnit" ({ cls := "WatchpointUnit", name := "peek", desc := "(I)I" } : Jvm.MethodName) ({ cls := "WatchpointUnit", name := "peek", desc := "(I)I" } : Jvm.MethodName)) ∈ lw_all := lw_g (lw_at lw_m1 165 rfl) rfl
theorem q186 : (Jvm.Cond.code ({ cls := "WatchpointUnit", name := "peek", desc := "(I)I" } : Jvm.MethodName) prog_1_method_9_code (2 : Nat) (Option.some Jvm.ClassFile.FieldType.int)) ∈ lw_all := lw_g (lw_at lw_m1 166 rfl) rfl
theorem q188 : (Jvm.Cond.instanceMethod ({ cls := "WatchpointUnit", name := "hits", desc := "(I)I" } : Jvm.MethodName)) ∈ lw_all := lw_g (lw_at lw_m1 168 rfl) rfl
theorem q189 : (Jvm.Cond.selects "WatchpointUnit" ({ cls := "WatchpointUnit", name := "hits", desc := "(I)I" } : Jvm.MethodName) ({ cls := "WatchpointUnit", name := "hits", desc := "(I)I" } : Jvm.MethodName)) ∈ lw_all := lw_g (lw_at lw_m1 169 rfl) rfl
theorem q190 : (Jvm.Cond.code ({ cls := "WatchpointUnit", name := "hits", desc := "(I)I" } : Jvm.MethodName) prog_1_method_10_code (3 : Nat) (Option.some Jvm.ClassFile.FieldType.int)) ∈ lw_all := lw_g (lw_at lw_m1 170 rfl) rfl
theorem q192 : (Jvm.Cond.instanceMethod ({ cls := "WatchpointUnit", name := "skips", desc := "(I)I" } : Jvm.MethodName)) ∈ lw_all := lw_g (lw_at lw_m1 172 rfl) rfl
theorem q193 : (Jvm.Cond.selects "WatchpointUnit" ({ cls := "WatchpointUnit", name := "skips", desc := "(I)I" } : Jvm.MethodName) ({ cls := "WatchpointUnit", name := "skips", desc := "(I)I" } : Jvm.MethodName)) ∈ lw_all := lw_g (lw_at lw_m1 173 rfl) rfl
theorem q194 : (Jvm.Cond.code ({ cls := "WatchpointUnit", name := "skips", desc := "(I)I" } : Jvm.MethodName) prog_1_method_11_code (3 : Nat) (Option.some Jvm.ClassFile.FieldType.int)) ∈ lw_all := lw_g (lw_at lw_m1 174 rfl) rfl
theorem q196 : (Jvm.Cond.instanceMethod ({ cls := "WatchpointUnit", name := "stops", desc := "()I" } : Jvm.MethodName)) ∈ lw_all := lw_g (lw_at lw_m1 176 rfl) rfl
theorem q197 : (Jvm.Cond.selects "WatchpointUnit" ({ cls := "WatchpointUnit", name := "stops", desc := "()I" } : Jvm.MethodName) ({ cls := "WatchpointUnit", name := "stops", desc := "()I" } : Jvm.MethodName)) ∈ lw_all := lw_g (lw_at lw_m1 177 rfl) rfl
theorem q198 : (Jvm.Cond.code ({ cls := "WatchpointUnit", name := "stops", desc := "()I" } : Jvm.MethodName) prog_1_method_12_code (1 : Nat) (Option.some Jvm.ClassFile.FieldType.int)) ∈ lw_all := lw_g (lw_at lw_m1 178 rfl) rfl
theorem q200 : (Jvm.Cond.instanceMethod ({ cls := "WatchpointUnit", name := "accesses", desc := "()I" } : Jvm.MethodName)) ∈ lw_all := lw_g (lw_at lw_m1 180 rfl) rfl
theorem q201 : (Jvm.Cond.selects "WatchpointUnit" ({ cls := "WatchpointUnit", name := "accesses", desc := "()I" } : Jvm.MethodName) ({ cls := "WatchpointUnit", name := "accesses", desc := "()I" } : Jvm.MethodName)) ∈ lw_all := lw_g (lw_at lw_m1 181 rfl) rfl
theorem q202 : (Jvm.Cond.code ({ cls := "WatchpointUnit", name := "accesses", desc := "()I" } : Jvm.MethodName) prog_1_method_13_code (1 : Nat) (Option.some Jvm.ClassFile.FieldType.int)) ∈ lw_all := lw_g (lw_at lw_m1 182 rfl) rfl
theorem q204 : (Jvm.Cond.instanceMethod ({ cls := "WatchpointUnit", name := "kept", desc := "()I" } : Jvm.MethodName)) ∈ lw_all := lw_g (lw_at lw_m1 184 rfl) rfl
theorem q205 : (Jvm.Cond.selects "WatchpointUnit" ({ cls := "WatchpointUnit", name := "kept", desc := "()I" } : Jvm.MethodName) ({ cls := "WatchpointUnit", name := "kept", desc := "()I" } : Jvm.MethodName)) ∈ lw_all := lw_g (lw_at lw_m1 185 rfl) rfl
theorem q206 : (Jvm.Cond.code ({ cls := "WatchpointUnit", name := "kept", desc := "()I" } : Jvm.MethodName) prog_1_method_14_code (1 : Nat) (Option.some Jvm.ClassFile.FieldType.int)) ∈ lw_all := lw_g (lw_at lw_m1 186 rfl) rfl
theorem q208 : (Jvm.Cond.instanceMethod ({ cls := "WatchpointUnit", name := "stopMask", desc := "(I)I" } : Jvm.MethodName)) ∈ lw_all := lw_g (lw_at lw_m1 188 rfl) rfl
theorem q209 : (Jvm.Cond.selects "WatchpointUnit" ({ cls := "WatchpointUnit", name := "stopMask", desc := "(I)I" } : Jvm.MethodName) ({ cls := "WatchpointUnit", name := "stopMask", desc := "(I)I" } : Jvm.MethodName)) ∈ lw_all := lw_g (lw_at lw_m1 189 rfl) rfl
theorem q210 : (Jvm.Cond.code ({ cls := "WatchpointUnit", name := "stopMask", desc := "(I)I" } : Jvm.MethodName) prog_1_method_15_code (2 : Nat) (Option.some Jvm.ClassFile.FieldType.int)) ∈ lw_all := lw_g (lw_at lw_m1 190 rfl) rfl
theorem q211 : (Jvm.Cond.methodLink "WatchpointUnit" (103 : Nat) ({ cls := "WatchpointUnit", name := "isKept", desc := "(I)Z" } : Jvm.MethodName)) ∈ lw_all := lw_g (lw_at lw_m1 191 rfl) rfl
theorem q212 : (Jvm.Cond.privateMethod ({ cls := "WatchpointUnit", name := "isKept", desc := "(I)Z" } : Jvm.MethodName)) ∈ lw_tbl := lw_at lw_m1 192 rfl
theorem q213 : (Jvm.Cond.instanceMethod ({ cls := "WatchpointUnit", name := "isKept", desc := "(I)Z" } : Jvm.MethodName)) ∈ lw_all := lw_g (lw_at lw_m1 193 rfl) rfl
theorem q214 : (Jvm.Cond.code ({ cls := "WatchpointUnit", name := "isKept", desc := "(I)Z" } : Jvm.MethodName) prog_1_method_25_code (2 : Nat) (Option.some Jvm.ClassFile.FieldType.boolean)) ∈ lw_all := lw_g (lw_at lw_m1 194 rfl) rfl
theorem q215 : (Jvm.Cond.methodLink "WatchpointUnit" (106 : Nat) ({ cls := "WatchpointUnit", name := "cellOf", desc := "(I)I" } : Jvm.MethodName)) ∈ lw_all := lw_g (lw_at lw_m1 195 rfl) rfl
theorem q216 : (Jvm.Cond.privateMethod ({ cls := "WatchpointUnit", name := "cellOf", desc := "(I)I" } : Jvm.MethodName)) ∈ lw_tbl := lw_at lw_m1 196 rfl
theorem q217 : (Jvm.Cond.instanceMethod ({ cls := "WatchpointUnit", name := "cellOf", desc := "(I)I" } : Jvm.MethodName)) ∈ lw_all := lw_g (lw_at lw_m1 197 rfl) rfl
theorem q218 : (Jvm.Cond.code ({ cls := "WatchpointUnit", name := "cellOf", desc := "(I)I" } : Jvm.MethodName) prog_1_method_26_code (2 : Nat) (Option.some Jvm.ClassFile.FieldType.int)) ∈ lw_all := lw_g (lw_at lw_m1 198 rfl) rfl
theorem q220 : (Jvm.Cond.instanceMethod ({ cls := "WatchpointUnit", name := "stopAddress", desc := "(I)I" } : Jvm.MethodName)) ∈ lw_all := lw_g (lw_at lw_m1 200 rfl) rfl
theorem q221 : (Jvm.Cond.selects "WatchpointUnit" ({ cls := "WatchpointUnit", name := "stopAddress", desc := "(I)I" } : Jvm.MethodName) ({ cls := "WatchpointUnit", name := "stopAddress", desc := "(I)I" } : Jvm.MethodName)) ∈ lw_all := lw_g (lw_at lw_m1 201 rfl) rfl
theorem q222 : (Jvm.Cond.code ({ cls := "WatchpointUnit", name := "stopAddress", desc := "(I)I" } : Jvm.MethodName) prog_1_method_16_code (2 : Nat) (Option.some Jvm.ClassFile.FieldType.int)) ∈ lw_all := lw_g (lw_at lw_m1 202 rfl) rfl
theorem q224 : (Jvm.Cond.instanceMethod ({ cls := "WatchpointUnit", name := "stopNumber", desc := "(I)I" } : Jvm.MethodName)) ∈ lw_all := lw_g (lw_at lw_m1 204 rfl) rfl
theorem q225 : (Jvm.Cond.selects "WatchpointUnit" ({ cls := "WatchpointUnit", name := "stopNumber", desc := "(I)I" } : Jvm.MethodName) ({ cls := "WatchpointUnit", name := "stopNumber", desc := "(I)I" } : Jvm.MethodName)) ∈ lw_all := lw_g (lw_at lw_m1 205 rfl) rfl
theorem q226 : (Jvm.Cond.code ({ cls := "WatchpointUnit", name := "stopNumber", desc := "(I)I" } : Jvm.MethodName) prog_1_method_17_code (2 : Nat) (Option.some Jvm.ClassFile.FieldType.int)) ∈ lw_all := lw_g (lw_at lw_m1 206 rfl) rfl
theorem q228 : (Jvm.Cond.instanceMethod ({ cls := "WatchpointUnit", name := "before", desc := "(I)I" } : Jvm.MethodName)) ∈ lw_all := lw_g (lw_at lw_m1 208 rfl) rfl
theorem q229 : (Jvm.Cond.selects "WatchpointUnit" ({ cls := "WatchpointUnit", name := "before", desc := "(I)I" } : Jvm.MethodName) ({ cls := "WatchpointUnit", name := "before", desc := "(I)I" } : Jvm.MethodName)) ∈ lw_all := lw_g (lw_at lw_m1 209 rfl) rfl
theorem q230 : (Jvm.Cond.code ({ cls := "WatchpointUnit", name := "before", desc := "(I)I" } : Jvm.MethodName) prog_1_method_18_code (2 : Nat) (Option.some Jvm.ClassFile.FieldType.int)) ∈ lw_all := lw_g (lw_at lw_m1 210 rfl) rfl
theorem q232 : (Jvm.Cond.instanceMethod ({ cls := "WatchpointUnit", name := "after", desc := "(I)I" } : Jvm.MethodName)) ∈ lw_all := lw_g (lw_at lw_m1 212 rfl) rfl
theorem q233 : (Jvm.Cond.selects "WatchpointUnit" ({ cls := "WatchpointUnit", name := "after", desc := "(I)I" } : Jvm.MethodName) ({ cls := "WatchpointUnit", name := "after", desc := "(I)I" } : Jvm.MethodName)) ∈ lw_all := lw_g (lw_at lw_m1 213 rfl) rfl
theorem q234 : (Jvm.Cond.code ({ cls := "WatchpointUnit", name := "after", desc := "(I)I" } : Jvm.MethodName) prog_1_method_19_code (2 : Nat) (Option.some Jvm.ClassFile.FieldType.int)) ∈ lw_all := lw_g (lw_at lw_m1 214 rfl) rfl
theorem q236 : (Jvm.Cond.instanceMethod ({ cls := "WatchpointUnit", name := "watched", desc := "()I" } : Jvm.MethodName)) ∈ lw_all := lw_g (lw_at lw_m1 216 rfl) rfl
theorem q237 : (Jvm.Cond.selects "WatchpointUnit" ({ cls := "WatchpointUnit", name := "watched", desc := "()I" } : Jvm.MethodName) ({ cls := "WatchpointUnit", name := "watched", desc := "()I" } : Jvm.MethodName)) ∈ lw_all := lw_g (lw_at lw_m1 217 rfl) rfl
theorem q238 : (Jvm.Cond.code ({ cls := "WatchpointUnit", name := "watched", desc := "()I" } : Jvm.MethodName) prog_1_method_20_code (5 : Nat) (Option.some Jvm.ClassFile.FieldType.int)) ∈ lw_all := lw_g (lw_at lw_m1 218 rfl) rfl
theorem in_X0 : ∀ w ∈ wsX00, w ∈ lw_all := lw_in wsX00 [55, 57, 59, 61, 63, 65, 67, 69, 71, 73, 75, 77, 79, 81, 83, 85, 87, 89, 91, 93, 95, 97, 99, 101] (by decide +kernel) (by decide +kernel)
/-! WatchpointUnitModel -/
def RX1 : String := "WatchpointUnitModel"
def TX1 : u_T := fun k => match k with
  | 0 => ("WatchpointUnitModel", "memory", "[I", false)
  | 1 => ("WatchpointUnitModel", "old", "[I", false)
  | 2 => ("WatchpointUnitModel", "on", "[Z", false)
  | 3 => ("WatchpointUnitModel", "first", "[I", false)
  | 4 => ("WatchpointUnitModel", "length", "[I", false)
  | 5 => ("WatchpointUnitModel", "kind", "[I", false)
  | 6 => ("WatchpointUnitModel", "paused", "[Z", false)
  | 7 => ("WatchpointUnitModel", "skips", "[I", false)
  | 8 => ("WatchpointUnitModel", "hits", "[I", false)
  | 9 => ("WatchpointUnitModel", "accesses", "I", false)
  | 10 => ("WatchpointUnitModel", "stops", "I", false)
  | 11 => ("WatchpointUnitModel", "kept", "I", false)
  | 12 => ("WatchpointUnitModel", "masks", "[I", false)
  | 13 => ("WatchpointUnitModel", "addresses", "[I", false)
  | 14 => ("WatchpointUnitModel", "numbers", "[I", false)
  | 15 => ("WatchpointUnitModel", "befores", "[I", false)
  | _ => ("WatchpointUnitModel", "afters", "[I", false)
def tyX1 : Nat → FieldType := fun k => match k with
  | 0 => .array .int
  | 1 => .array .int
  | 2 => .array .boolean
  | 3 => .array .int
  | 4 => .array .int
  | 5 => .array .int
  | 6 => .array .boolean
  | 7 => .array .int
  | 8 => .array .int
  | 9 => .int
  | 10 => .int
  | 11 => .int
  | 12 => .array .int
  | 13 => .array .int
  | 14 => .array .int
  | 15 => .array .int
  | _ => .array .int
abbrev wsX10 : List Cond := u_ws RX1 TX1 17
set_option maxRecDepth 100000 in
theorem nmX1 : ∀ a, a < 17 → ∀ b, b < 17 → a ≠ b → (TX1 a).2.1 ≠ (TX1 b).2.1 := by decide +kernel
set_option maxRecDepth 100000 in
theorem tyX1_ok : ∀ k, k < 17 → parseFieldDescriptor (TX1 k).2.2.1 = some (tyX1 k) := by decide +kernel
abbrev cX1_init : ByteArray := prog_3_method_1_code
def yX1_init : MethodName := ⟨RX1, "<init>", "()V"⟩
abbrev cX1_set : ByteArray := prog_3_method_3_code
def yX1_set : MethodName := ⟨RX1, "set", "(IIII)I"⟩
abbrev cX1_bad : ByteArray := prog_3_method_2_code
def yX1_bad : MethodName := ⟨RX1, "bad", "(I)Z"⟩
abbrev cX1_clear : ByteArray := prog_3_method_4_code
def yX1_clear : MethodName := ⟨RX1, "clear", "(I)I"⟩
abbrev cX1_pause : ByteArray := prog_3_method_5_code
def yX1_pause : MethodName := ⟨RX1, "pause", "(II)I"⟩
abbrev cX1_skip : ByteArray := prog_3_method_6_code
def yX1_skip : MethodName := ⟨RX1, "skip", "(II)I"⟩
abbrev cX1_load : ByteArray := prog_3_method_13_code
def yX1_load : MethodName := ⟨RX1, "load", "(II)I"⟩
abbrev cX1_badSize : ByteArray := prog_3_method_12_code
def yX1_badSize : MethodName := ⟨RX1, "badSize", "(I)Z"⟩
abbrev cX1_access : ByteArray := prog_3_method_11_code
def yX1_access : MethodName := ⟨RX1, "access", "(IIZI)I"⟩
abbrev cX1_hit : ByteArray := prog_3_method_8_code
def yX1_hit : MethodName := ⟨RX1, "hit", "(IIIZ)Z"⟩
abbrev cX1_inRange : ByteArray := prog_3_method_7_code
def yX1_inRange : MethodName := ⟨RX1, "inRange", "(II)Z"⟩
abbrev cX1_keep : ByteArray := prog_3_method_10_code
def yX1_keep : MethodName := ⟨RX1, "keep", "(III)V"⟩
abbrev cX1_number : ByteArray := prog_3_method_9_code
def yX1_number : MethodName := ⟨RX1, "number", "(IIZ)I"⟩
abbrev cX1_store : ByteArray := prog_3_method_14_code
def yX1_store : MethodName := ⟨RX1, "store", "(III)I"⟩
abbrev cX1_sweep : ByteArray := prog_3_method_15_code
def yX1_sweep : MethodName := ⟨RX1, "sweep", "(II)I"⟩
abbrev cX1_peek : ByteArray := prog_3_method_16_code
def yX1_peek : MethodName := ⟨RX1, "peek", "(I)I"⟩
abbrev cX1_hits : ByteArray := prog_3_method_17_code
def yX1_hits : MethodName := ⟨RX1, "hits", "(I)I"⟩
abbrev cX1_skips : ByteArray := prog_3_method_18_code
def yX1_skips : MethodName := ⟨RX1, "skips", "(I)I"⟩
abbrev cX1_stops : ByteArray := prog_3_method_19_code
def yX1_stops : MethodName := ⟨RX1, "stops", "()I"⟩
abbrev cX1_accesses : ByteArray := prog_3_method_20_code
def yX1_accesses : MethodName := ⟨RX1, "accesses", "()I"⟩
abbrev cX1_kept : ByteArray := prog_3_method_21_code
def yX1_kept : MethodName := ⟨RX1, "kept", "()I"⟩
abbrev cX1_stopMask : ByteArray := prog_3_method_23_code
def yX1_stopMask : MethodName := ⟨RX1, "stopMask", "(I)I"⟩
abbrev cX1_noStop : ByteArray := prog_3_method_22_code
def yX1_noStop : MethodName := ⟨RX1, "noStop", "(I)Z"⟩
abbrev cX1_stopAddress : ByteArray := prog_3_method_24_code
def yX1_stopAddress : MethodName := ⟨RX1, "stopAddress", "(I)I"⟩
abbrev cX1_stopNumber : ByteArray := prog_3_method_25_code
def yX1_stopNumber : MethodName := ⟨RX1, "stopNumber", "(I)I"⟩
abbrev cX1_before : ByteArray := prog_3_method_26_code
def yX1_before : MethodName := ⟨RX1, "before", "(I)I"⟩
abbrev cX1_after : ByteArray := prog_3_method_27_code
def yX1_after : MethodName := ⟨RX1, "after", "(I)I"⟩
abbrev cX1_watched : ByteArray := prog_3_method_28_code
def yX1_watched : MethodName := ⟨RX1, "watched", "()I"⟩
theorem q22 : (Jvm.Cond.initialized "WatchpointUnitModel") ∈ lw_all := lw_g (lw_at lw_m1 2 rfl) rfl
theorem q240 : (Jvm.Cond.instantiable "WatchpointUnitModel" (17 : Nat)) ∈ lw_all := lw_g (lw_at lw_m1 220 rfl) rfl
theorem q242 : (Jvm.Cond.instanceMethod ({ cls := "WatchpointUnitModel", name := "<init>", desc := "()V" } : Jvm.MethodName)) ∈ lw_all := lw_g (lw_at lw_m1 222 rfl) rfl
theorem q243 : (Jvm.Cond.code ({ cls := "WatchpointUnitModel", name := "<init>", desc := "()V" } : Jvm.MethodName) prog_3_method_1_code (1 : Nat) (Option.none : Option Jvm.ClassFile.FieldType)) ∈ lw_all := lw_g (lw_at lw_m1 223 rfl) rfl
theorem q244 : (Jvm.Cond.methodLink "WatchpointUnitModel" (1 : Nat) ({ cls := "java/lang/Object", name := "<init>", desc := "()V" } : Jvm.MethodName)) ∈ lw_all := lw_g (lw_at lw_m1 224 rfl) rfl
theorem q245 : (Jvm.Cond.fieldLink "WatchpointUnitModel" (7 : Nat) "WatchpointUnitModel" "memory" "[I") ∈ lw_all := lw_g (lw_at lw_m1 225 rfl) rfl
theorem q246 : (Jvm.Cond.fieldLink "WatchpointUnitModel" (13 : Nat) "WatchpointUnitModel" "old" "[I") ∈ lw_all := lw_g (lw_at lw_m1 226 rfl) rfl
theorem q247 : (Jvm.Cond.fieldLink "WatchpointUnitModel" (16 : Nat) "WatchpointUnitModel" "on" "[Z") ∈ lw_all := lw_g (lw_at lw_m1 227 rfl) rfl
theorem q248 : (Jvm.Cond.fieldLink "WatchpointUnitModel" (20 : Nat) "WatchpointUnitModel" "first" "[I") ∈ lw_all := lw_g (lw_at lw_m1 228 rfl) rfl
theorem q249 : (Jvm.Cond.fieldLink "WatchpointUnitModel" (23 : Nat) "WatchpointUnitModel" "length" "[I") ∈ lw_all := lw_g (lw_at lw_m1 229 rfl) rfl
theorem q250 : (Jvm.Cond.fieldLink "WatchpointUnitModel" (26 : Nat) "WatchpointUnitModel" "kind" "[I") ∈ lw_all := lw_g (lw_at lw_m1 230 rfl) rfl
theorem q251 : (Jvm.Cond.fieldLink "WatchpointUnitModel" (29 : Nat) "WatchpointUnitModel" "paused" "[Z") ∈ lw_all := lw_g (lw_at lw_m1 231 rfl) rfl
theorem q252 : (Jvm.Cond.fieldLink "WatchpointUnitModel" (32 : Nat) "WatchpointUnitModel" "skips" "[I") ∈ lw_all := lw_g (lw_at lw_m1 232 rfl) rfl
theorem q253 : (Jvm.Cond.fieldLink "WatchpointUnitModel" (35 : Nat) "WatchpointUnitModel" "hits" "[I") ∈ lw_all := lw_g (lw_at lw_m1 233 rfl) rfl
theorem q254 : (Jvm.Cond.fieldLink "WatchpointUnitModel" (61 : Nat) "WatchpointUnitModel" "accesses" "I") ∈ lw_all := lw_g (lw_at lw_m1 234 rfl) rfl
theorem q255 : (Jvm.Cond.fieldLink "WatchpointUnitModel" (69 : Nat) "WatchpointUnitModel" "stops" "I") ∈ lw_all := lw_g (lw_at lw_m1 235 rfl) rfl
theorem q256 : (Jvm.Cond.fieldLink "WatchpointUnitModel" (72 : Nat) "WatchpointUnitModel" "kept" "I") ∈ lw_all := lw_g (lw_at lw_m1 236 rfl) rfl
theorem q257 : (Jvm.Cond.fieldLink "WatchpointUnitModel" (38 : Nat) "WatchpointUnitModel" "masks" "[I") ∈ lw_all := lw_g (lw_at lw_m1 237 rfl) rfl
theorem q258 : (Jvm.Cond.fieldLink "WatchpointUnitModel" (41 : Nat) "WatchpointUnitModel" "addresses" "[I") ∈ lw_all := lw_g (lw_at lw_m1 238 rfl) rfl
theorem q259 : (Jvm.Cond.fieldLink "WatchpointUnitModel" (44 : Nat) "WatchpointUnitModel" "numbers" "[I") ∈ lw_all := lw_g (lw_at lw_m1 239 rfl) rfl
theorem q260 : (Jvm.Cond.fieldLink "WatchpointUnitModel" (47 : Nat) "WatchpointUnitModel" "befores" "[I") ∈ lw_all := lw_g (lw_at lw_m2 0 rfl) rfl
theorem q261 : (Jvm.Cond.fieldLink "WatchpointUnitModel" (50 : Nat) "WatchpointUnitModel" "afters" "[I") ∈ lw_all := lw_g (lw_at lw_m2 1 rfl) rfl
theorem q262 : (Jvm.Cond.lays "WatchpointUnitModel" "WatchpointUnitModel" "memory" "[I") ∈ lw_all := lw_g (lw_at lw_m2 2 rfl) rfl
theorem q263 : (Jvm.Cond.soleField "WatchpointUnitModel" "memory") ∈ lw_all := lw_g (lw_at lw_m2 3 rfl) rfl
theorem q264 : (Jvm.Cond.lays "WatchpointUnitModel" "WatchpointUnitModel" "old" "[I") ∈ lw_all := lw_g (lw_at lw_m2 4 rfl) rfl
theorem q265 : (Jvm.Cond.soleField "WatchpointUnitModel" "old") ∈ lw_all := lw_g (lw_at lw_m2 5 rfl) rfl
theorem q266 : (Jvm.Cond.lays "WatchpointUnitModel" "WatchpointUnitModel" "on" "[Z") ∈ lw_all := lw_g (lw_at lw_m2 6 rfl) rfl
theorem q267 : (Jvm.Cond.soleField "WatchpointUnitModel" "on") ∈ lw_all := lw_g (lw_at lw_m2 7 rfl) rfl
theorem q268 : (Jvm.Cond.lays "WatchpointUnitModel" "WatchpointUnitModel" "first" "[I") ∈ lw_all := lw_g (lw_at lw_m2 8 rfl) rfl
theorem q269 : (Jvm.Cond.soleField "WatchpointUnitModel" "first") ∈ lw_all := lw_g (lw_at lw_m2 9 rfl) rfl
theorem q270 : (Jvm.Cond.lays "WatchpointUnitModel" "WatchpointUnitModel" "length" "[I") ∈ lw_all := lw_g (lw_at lw_m2 10 rfl) rfl
theorem q271 : (Jvm.Cond.soleField "WatchpointUnitModel" "length") ∈ lw_all := lw_g (lw_at lw_m2 11 rfl) rfl
theorem q272 : (Jvm.Cond.lays "WatchpointUnitModel" "WatchpointUnitModel" "kind" "[I") ∈ lw_all := lw_g (lw_at lw_m2 12 rfl) rfl
theorem q273 : (Jvm.Cond.soleField "WatchpointUnitModel" "kind") ∈ lw_all := lw_g (lw_at lw_m2 13 rfl) rfl
theorem q274 : (Jvm.Cond.lays "WatchpointUnitModel" "WatchpointUnitModel" "paused" "[Z") ∈ lw_all := lw_g (lw_at lw_m2 14 rfl) rfl
theorem q275 : (Jvm.Cond.soleField "WatchpointUnitModel" "paused") ∈ lw_all := lw_g (lw_at lw_m2 15 rfl) rfl
theorem q276 : (Jvm.Cond.lays "WatchpointUnitModel" "WatchpointUnitModel" "skips" "[I") ∈ lw_all := lw_g (lw_at lw_m2 16 rfl) rfl
theorem q277 : (Jvm.Cond.soleField "WatchpointUnitModel" "skips") ∈ lw_all := lw_g (lw_at lw_m2 17 rfl) rfl
theorem q278 : (Jvm.Cond.lays "WatchpointUnitModel" "WatchpointUnitModel" "hits" "[I") ∈ lw_all := lw_g (lw_at lw_m2 18 rfl) rfl
theorem q279 : (Jvm.Cond.soleField "WatchpointUnitModel" "hits") ∈ lw_all := lw_g (lw_at lw_m2 19 rfl) rfl
theorem q280 : (Jvm.Cond.lays "WatchpointUnitModel" "WatchpointUnitModel" "accesses" "I") ∈ lw_all := lw_g (lw_at lw_m2 20 rfl) rfl
theorem q281 : (Jvm.Cond.soleField "WatchpointUnitModel" "accesses") ∈ lw_all := lw_g (lw_at lw_m2 21 rfl) rfl
theorem q282 : (Jvm.Cond.lays "WatchpointUnitModel" "WatchpointUnitModel" "stops" "I") ∈ lw_all := lw_g (lw_at lw_m2 22 rfl) rfl
theorem q283 : (Jvm.Cond.soleField "WatchpointUnitModel" "stops") ∈ lw_all := lw_g (lw_at lw_m2 23 rfl) rfl
theorem q284 : (Jvm.Cond.lays "WatchpointUnitModel" "WatchpointUnitModel" "kept" "I") ∈ lw_all := lw_g (lw_at lw_m2 24 rfl) rfl
theorem q285 : (Jvm.Cond.soleField "WatchpointUnitModel" "kept") ∈ lw_all := lw_g (lw_at lw_m2 25 rfl) rfl
theorem q286 : (Jvm.Cond.lays "WatchpointUnitModel" "WatchpointUnitModel" "masks" "[I") ∈ lw_all := lw_g (lw_at lw_m2 26 rfl) rfl
theorem q287 : (Jvm.Cond.soleField "WatchpointUnitModel" "masks") ∈ lw_all := lw_g (lw_at lw_m2 27 rfl) rfl
theorem q288 : (Jvm.Cond.lays "WatchpointUnitModel" "WatchpointUnitModel" "addresses" "[I") ∈ lw_all := lw_g (lw_at lw_m2 28 rfl) rfl
theorem q289 : (Jvm.Cond.soleField "WatchpointUnitModel" "addresses") ∈ lw_all := lw_g (lw_at lw_m2 29 rfl) rfl
theorem q290 : (Jvm.Cond.lays "WatchpointUnitModel" "WatchpointUnitModel" "numbers" "[I") ∈ lw_all := lw_g (lw_at lw_m2 30 rfl) rfl
theorem q291 : (Jvm.Cond.soleField "WatchpointUnitModel" "numbers") ∈ lw_all := lw_g (lw_at lw_m2 31 rfl) rfl
theorem q292 : (Jvm.Cond.lays "WatchpointUnitModel" "WatchpointUnitModel" "befores" "[I") ∈ lw_all := lw_g (lw_at lw_m2 32 rfl) rfl
theorem q293 : (Jvm.Cond.soleField "WatchpointUnitModel" "befores") ∈ lw_all := lw_g (lw_at lw_m2 33 rfl) rfl
theorem q294 : (Jvm.Cond.lays "WatchpointUnitModel" "WatchpointUnitModel" "afters" "[I") ∈ lw_all := lw_g (lw_at lw_m2 34 rfl) rfl
theorem q295 : (Jvm.Cond.soleField "WatchpointUnitModel" "afters") ∈ lw_all := lw_g (lw_at lw_m2 35 rfl) rfl
theorem q296 : (Jvm.Cond.superclass "WatchpointUnitModel" "java/lang/Object") ∈ lw_all := lw_g (lw_at lw_m2 36 rfl) rfl
theorem q298 : (Jvm.Cond.instanceMethod ({ cls := "WatchpointUnitModel", name := "set", desc := "(IIII)I" } : Jvm.MethodName)) ∈ lw_all := lw_g (lw_at lw_m2 38 rfl) rfl
theorem q299 : (Jvm.Cond.selects "WatchpointUnitModel" ({ cls := "WatchpointUnitModel", name := "set", desc := "(IIII)I" } : Jvm.MethodName) ({ cls := "WatchpointUnitModel", name := "set", desc := "(IIII)I" } : Jvm.MethodName)) ∈ lw_all := lw_g (lw_at lw_m2 39 rfl) rfl
theorem q300 : (Jvm.Cond.code ({ cls := "WatchpointUnitModel", name := "set", desc := "(IIII)I" } : Jvm.MethodName) prog_3_method_3_code (6 : Nat) (Option.some Jvm.ClassFile.FieldType.int)) ∈ lw_all := lw_g (lw_at lw_m2 40 rfl) rfl
theorem q301 : (Jvm.Cond.methodLink "WatchpointUnitModel" (53 : Nat) ({ cls := "WatchpointUnitModel", name := "bad", desc := "(I)Z" } : Jvm.MethodName)) ∈ lw_all := lw_g (lw_at lw_m2 41 rfl) rfl
theorem q302 : (Jvm.Cond.privateMethod ({ cls := "WatchpointUnitModel", name := "bad", desc := "(I)Z" } : Jvm.MethodName)) ∈ lw_tbl := lw_at lw_m2 42 rfl
theorem q303 : (Jvm.Cond.instanceMethod ({ cls := "WatchpointUnitModel", name := "bad", desc := "(I)Z" } : Jvm.MethodName)) ∈ lw_all := lw_g (lw_at lw_m2 43 rfl) rfl
theorem q304 : (Jvm.Cond.code ({ cls := "WatchpointUnitModel", name := "bad", desc := "(I)Z" } : Jvm.MethodName) prog_3_method_2_code (2 : Nat) (Option.some Jvm.ClassFile.FieldType.boolean)) ∈ lw_all := lw_g (lw_at lw_m2 44 rfl) rfl
theorem q306 : (Jvm.Cond.instanceMethod ({ cls := "WatchpointUnitModel", name := "clear", desc := "(I)I" } : Jvm.MethodName)) ∈ lw_all := lw_g (lw_at lw_m2 46 rfl) rfl
theorem q307 : (Jvm.Cond.selects "WatchpointUnitModel" ({ cls := "WatchpointUnitModel", name := "clear", desc := "(I)I" } : Jvm.MethodName) ({ cls := "WatchpointUnitModel", name := "clear", desc := "(I)I" } : Jvm.MethodName)) ∈ lw_all := lw_g (lw_at lw_m2 47 rfl) rfl
theorem q308 : (Jvm.Cond.code ({ cls := "WatchpointUnitModel", name := "clear", desc := "(I)I" } : Jvm.MethodName) prog_3_method_4_code (2 : Nat) (Option.some Jvm.ClassFile.FieldType.int)) ∈ lw_all := lw_g (lw_at lw_m2 48 rfl) rfl
theorem q310 : (Jvm.Cond.instanceMethod ({ cls := "WatchpointUnitModel", name := "pause", desc := "(II)I" } : Jvm.MethodName)) ∈ lw_all := lw_g (lw_at lw_m2 50 rfl) rfl
theorem q311 : (Jvm.Cond.selects "WatchpointUnitModel" ({ cls := "WatchpointUnitModel", name := "pause", desc := "(II)I" } : Jvm.MethodName) ({ cls := "WatchpointUnitModel", name := "pause", desc := "(II)I" } : Jvm.MethodName)) ∈ lw_all := lw_g (lw_at lw_m2 51 rfl) rfl
theorem q312 : (Jvm.Cond.code ({ cls := "WatchpointUnitModel", name := "pause", desc := "(II)I" } : Jvm.MethodName) prog_3_method_5_code (4 : Nat) (Option.some Jvm.ClassFile.FieldType.int)) ∈ lw_all := lw_g (lw_at lw_m2 52 rfl) rfl
theorem q314 : (Jvm.Cond.instanceMethod ({ cls := "WatchpointUnitModel", name := "skip", desc := "(II)I" } : Jvm.MethodName)) ∈ lw_all := lw_g (lw_at lw_m2 54 rfl) rfl
theorem q315 : (Jvm.Cond.selects "WatchpointUnitModel" ({ cls := "WatchpointUnitModel", name := "skip", desc := "(II)I" } : Jvm.MethodName) ({ cls := "WatchpointUnitModel", name := "skip", desc := "(II)I" } : Jvm.MethodName)) ∈ lw_all := lw_g (lw_at lw_m2 55 rfl) rfl
theorem q316 : (Jvm.Cond.code ({ cls := "WatchpointUnitModel", name := "skip", desc := "(II)I" } : Jvm.MethodName) prog_3_method_6_code (4 : Nat) (Option.some Jvm.ClassFile.FieldType.int)) ∈ lw_all := lw_g (lw_at lw_m2 56 rfl) rfl
theorem q318 : (Jvm.Cond.instanceMethod ({ cls := "WatchpointUnitModel", name := "load", desc := "(II)I" } : Jvm.MethodName)) ∈ lw_all := lw_g (lw_at lw_m2 58 rfl) rfl
theorem q319 : (Jvm.Cond.selects "WatchpointUnitModel" ({ cls := "WatchpointUnitModel", name := "load", desc := "(II)I" } : Jvm.MethodName) ({ cls := "WatchpointUnitModel", name := "load", desc := "(II)I" } : Jvm.MethodName)) ∈ lw_all := lw_g (lw_at lw_m2 59 rfl) rfl
theorem q320 : (Jvm.Cond.code ({ cls := "WatchpointUnitModel", name := "load", desc := "(II)I" } : Jvm.MethodName) prog_3_method_13_code (3 : Nat) (Option.some Jvm.ClassFile.FieldType.int)) ∈ lw_all := lw_g (lw_at lw_m2 60 rfl) rfl
theorem q321 : (Jvm.Cond.methodLink "WatchpointUnitModel" (83 : Nat) ({ cls := "WatchpointUnitModel", name := "badSize", desc := "(I)Z" } : Jvm.MethodName)) ∈ lw_all := lw_g (lw_at lw_m2 61 rfl) rfl
theorem q322 : (Jvm.Cond.privateMethod ({ cls := "WatchpointUnitModel", name := "badSize", desc := "(I)Z" } : Jvm.MethodName)) ∈ lw_tbl := lw_at lw_m2 62 rfl
theorem q323 : (Jvm.Cond.instanceMethod ({ cls := "WatchpointUnitModel", name := "badSize", desc := "(I)Z" } : Jvm.MethodName)) ∈ lw_all := lw_g (lw_at lw_m2 63 rfl) rfl
theorem q324 : (Jvm.Cond.code ({ cls := "WatchpointUnitModel", name := "badSize", desc := "(I)Z" } : Jvm.MethodName) prog_3_method_12_code (2 : Nat) (Option.some Jvm.ClassFile.FieldType.boolean)) ∈ lw_all := lw_g (lw_at lw_m2 64 rfl) rfl
theorem q325 : (Jvm.Cond.methodLink "WatchpointUnitModel" (86 : Nat) ({ cls := "WatchpointUnitModel", name := "access", desc := "(IIZI)I" } : Jvm.MethodName)) ∈ lw_all := lw_g (lw_at lw_m2 65 rfl) rfl
theorem q326 : (Jvm.Cond.privateMethod ({ cls := "WatchpointUnitModel", name := "access", desc := "(IIZI)I" } : Jvm.MethodName)) ∈ lw_tbl := lw_at lw_m2 66 rfl
theorem q327 : (Jvm.Cond.instanceMethod ({ cls := "WatchpointUnitModel", name := "access", desc := "(IIZI)I" } : Jvm.MethodName)) ∈ lw_all := lw_g (lw_at lw_m2 67 rfl) rfl
theorem q328 : (Jvm.Cond.code ({ cls := "WatchpointUnitModel", name := "access", desc := "(IIZI)I" } : Jvm.MethodName) prog_3_method_11_code (7 : Nat) (Option.some Jvm.ClassFile.FieldType.int)) ∈ lw_all := lw_g (lw_at lw_m2 68 rfl) rfl
theorem q329 : (Jvm.Cond.methodLink "WatchpointUnitModel" (75 : Nat) ({ cls := "WatchpointUnitModel", name := "hit", desc := "(IIIZ)Z" } : Jvm.MethodName)) ∈ lw_all := lw_g (lw_at lw_m2 69 rfl) rfl
theorem q330 : (Jvm.Cond.privateMethod ({ cls := "WatchpointUnitModel", name := "hit", desc := "(IIIZ)Z" } : Jvm.MethodName)) ∈ lw_tbl := lw_at lw_m2 70 rfl
theorem q331 : (Jvm.Cond.instanceMethod ({ cls := "WatchpointUnitModel", name := "hit", desc := "(IIIZ)Z" } : Jvm.MethodName)) ∈ lw_all := lw_g (lw_at lw_m2 71 rfl) rfl
theorem q332 : (Jvm.Cond.code ({ cls := "WatchpointUnitModel", name := "hit", desc := "(IIIZ)Z" } : Jvm.MethodName) prog_3_method_8_code (8 : Nat) (Option.some Jvm.ClassFile.FieldType.boolean)) ∈ lw_all := lw_g (lw_at lw_m2 72 rfl) rfl
theorem q333 : (Jvm.Cond.methodLink "WatchpointUnitModel" (57 : Nat) ({ cls := "WatchpointUnitModel", name := "inRange", desc := "(II)Z" } : Jvm.MethodName)) ∈ lw_all := lw_g (lw_at lw_m2 73 rfl) rfl
theorem q334 : (Jvm.Cond.privateMethod ({ cls := "WatchpointUnitModel", name := "inRange", desc := "(II)Z" } : Jvm.MethodName)) ∈ lw_tbl := lw_at lw_m2 74 rfl
theorem q335 : (Jvm.Cond.instanceMethod ({ cls := "WatchpointUnitModel", name := "inRange", desc := "(II)Z" } : Jvm.MethodName)) ∈ lw_all := lw_g (lw_at lw_m2 75 rfl) rfl
theorem q336 : (Jvm.Cond.code ({ cls := "WatchpointUnitModel", name := "inRange", desc := "(II)Z" } : Jvm.MethodName) prog_3_method_7_code (3 : Nat) (Option.some Jvm.ClassFile.FieldType.boolean)) ∈ lw_all := lw_g (lw_at lw_m2 76 rfl) rfl
theorem q337 : (Jvm.Cond.methodLink "WatchpointUnitModel" (79 : Nat) ({ cls := "WatchpointUnitModel", name := "keep", desc := "(III)V" } : Jvm.MethodName)) ∈ lw_all := lw_g (lw_at lw_m2 77 rfl) rfl
theorem q338 : (Jvm.Cond.privateMethod ({ cls := "WatchpointUnitModel", name := "keep", desc := "(III)V" } : Jvm.MethodName)) ∈ lw_tbl := lw_at lw_m2 78 rfl
theorem q339 : (Jvm.Cond.instanceMethod ({ cls := "WatchpointUnitModel", name := "keep", desc := "(III)V" } : Jvm.MethodName)) ∈ lw_all := lw_g (lw_at lw_m2 79 rfl) rfl
theorem q340 : (Jvm.Cond.code ({ cls := "WatchpointUnitModel", name := "keep", desc := "(III)V" } : Jvm.MethodName) prog_3_method_10_code (5 : Nat) (Option.none : Option Jvm.ClassFile.FieldType)) ∈ lw_all := lw_g (lw_at lw_m2 80 rfl) rfl
theorem q341 : (Jvm.Cond.methodLink "WatchpointUnitModel" (65 : Nat) ({ cls := "WatchpointUnitModel", name := "number", desc := "(IIZ)I" } : Jvm.MethodName)) ∈ lw_all := lw_g (lw_at lw_m2 81 rfl) rfl
theorem q342 : (Jvm.Cond.privateMethod ({ cls := "WatchpointUnitModel", name := "number", desc := "(IIZ)I" } : Jvm.MethodName)) ∈ lw_tbl := lw_at lw_m2 82 rfl
theorem q343 : (Jvm.Cond.instanceMethod ({ cls := "WatchpointUnitModel", name := "number", desc := "(IIZ)I" } : Jvm.MethodName)) ∈ lw_all := lw_g (lw_at lw_m2 83 rfl) rfl
theorem q344 : (Jvm.Cond.code ({ cls := "WatchpointUnitModel", name := "number", desc := "(IIZ)I" } : Jvm.MethodName) prog_3_method_9_code (7 : Nat) (Option.some Jvm.ClassFile.FieldType.int)) ∈ lw_all := lw_g (lw_at lw_m2 84 rfl) rfl
theorem q346 : (Jvm.Cond.instanceMethod ({ cls := "WatchpointUnitModel", name := "store", desc := "(III)I" } : Jvm.MethodName)) ∈ lw_all := lw_g (lw_at lw_m2 86 rfl) rfl
theorem q347 : (Jvm.Cond.selects "WatchpointUnitModel" ({ cls := "WatchpointUnitModel", name := "store", desc := "(III)I" } : Jvm.MethodName) ({ cls := "WatchpointUnitModel", name := "store", desc := "(III)I" } : Jvm.MethodName)) ∈ lw_all := lw_g (lw_at lw_m2 87 rfl) rfl
theorem q348 : (Jvm.Cond.code ({ cls := "WatchpointUnitModel", name := "store", desc := "(III)I" } : Jvm.MethodName) prog_3_method_14_code (7 : Nat) (Option.some Jvm.ClassFile.FieldType.int)) ∈ lw_all := lw_g (lw_at lw_m2 88 rfl) rfl
theorem q350 : (Jvm.Cond.instanceMethod ({ cls := "WatchpointUnitModel", name := "sweep", desc := "(II)I" } : Jvm.MethodName)) ∈ lw_all := lw_g (lw_at lw_m2 90 rfl) rfl
theorem q351 : (Jvm.Cond.selects "WatchpointUnitModel" ({ cls := "WatchpointUnitModel", name := "sweep", desc := "(II)I" } : Jvm.MethodName) ({ cls := "WatchpointUnitModel", name := "sweep", desc := "(II)I" } : Jvm.MethodName)) ∈ lw_all := lw_g (lw_at lw_m2 91 rfl) rfl
theorem q352 : (Jvm.Cond.code ({ cls := "WatchpointUnitModel", name := "sweep", desc := "(II)I" } : Jvm.MethodName) prog_3_method_15_code (6 : Nat) (Option.some Jvm.ClassFile.FieldType.int)) ∈ lw_all := lw_g (lw_at lw_m2 92 rfl) rfl
theorem q354 : (Jvm.Cond.instanceMethod ({ cls := "WatchpointUnitModel", name := "peek", desc := "(I)I" } : Jvm.MethodName)) ∈ lw_all := lw_g (lw_at lw_m2 94 rfl) rfl
theorem q355 : (Jvm.Cond.selects "WatchpointUnitModel" ({ cls := "WatchpointUnitModel", name := "peek", desc := "(I)I" } : Jvm.MethodName) ({ cls := "WatchpointUnitModel", name := "peek", desc := "(I)I" } : Jvm.MethodName)) ∈ lw_all := lw_g (lw_at lw_m2 95 rfl) rfl
theorem q356 : (Jvm.Cond.code ({ cls := "WatchpointUnitModel", name := "peek", desc := "(I)I" } : Jvm.MethodName) prog_3_method_16_code (2 : Nat) (Option.some Jvm.ClassFile.FieldType.int)) ∈ lw_all := lw_g (lw_at lw_m2 96 rfl) rfl
theorem q358 : (Jvm.Cond.instanceMethod ({ cls := "WatchpointUnitModel", name := "hits", desc := "(I)I" } : Jvm.MethodName)) ∈ lw_all := lw_g (lw_at lw_m2 98 rfl) rfl
theorem q359 : (Jvm.Cond.selects "WatchpointUnitModel" ({ cls := "WatchpointUnitModel", name := "hits", desc := "(I)I" } : Jvm.MethodName) ({ cls := "WatchpointUnitModel", name := "hits", desc := "(I)I" } : Jvm.MethodName)) ∈ lw_all := lw_g (lw_at lw_m2 99 rfl) rfl
theorem q360 : (Jvm.Cond.code ({ cls := "WatchpointUnitModel", name := "hits", desc := "(I)I" } : Jvm.MethodName) prog_3_method_17_code (2 : Nat) (Option.some Jvm.ClassFile.FieldType.int)) ∈ lw_all := lw_g (lw_at lw_m2 100 rfl) rfl
theorem q362 : (Jvm.Cond.instanceMethod ({ cls := "WatchpointUnitModel", name := "skips", desc := "(I)I" } : Jvm.MethodName)) ∈ lw_all := lw_g (lw_at lw_m2 102 rfl) rfl
theorem q363 : (Jvm.Cond.selects "WatchpointUnitModel" ({ cls := "WatchpointUnitModel", name := "skips", desc := "(I)I" } : Jvm.MethodName) ({ cls := "WatchpointUnitModel", name := "skips", desc := "(I)I" } : Jvm.MethodName)) ∈ lw_all := lw_g (lw_at lw_m2 103 rfl) rfl
theorem q364 : (Jvm.Cond.code ({ cls := "WatchpointUnitModel", name := "skips", desc := "(I)I" } : Jvm.MethodName) prog_3_method_18_code (2 : Nat) (Option.some Jvm.ClassFile.FieldType.int)) ∈ lw_all := lw_g (lw_at lw_m2 104 rfl) rfl
theorem q366 : (Jvm.Cond.instanceMethod ({ cls := "WatchpointUnitModel", name := "stops", desc := "()I" } : Jvm.MethodName)) ∈ lw_all := lw_g (lw_at lw_m2 106 rfl) rfl
theorem q367 : (Jvm.Cond.selects "WatchpointUnitModel" ({ cls := "WatchpointUnitModel", name := "stops", desc := "()I" } : Jvm.MethodName) ({ cls := "WatchpointUnitModel", name := "stops", desc := "()I" } : Jvm.MethodName)) ∈ lw_all := lw_g (lw_at lw_m2 107 rfl) rfl
theorem q368 : (Jvm.Cond.code ({ cls := "WatchpointUnitModel", name := "stops", desc := "()I" } : Jvm.MethodName) prog_3_method_19_code (1 : Nat) (Option.some Jvm.ClassFile.FieldType.int)) ∈ lw_all := lw_g (lw_at lw_m2 108 rfl) rfl
theorem q370 : (Jvm.Cond.instanceMethod ({ cls := "WatchpointUnitModel", name := "accesses", desc := "()I" } : Jvm.MethodName)) ∈ lw_all := lw_g (lw_at lw_m2 110 rfl) rfl
theorem q371 : (Jvm.Cond.selects "WatchpointUnitModel" ({ cls := "WatchpointUnitModel", name := "accesses", desc := "()I" } : Jvm.MethodName) ({ cls := "WatchpointUnitModel", name := "accesses", desc := "()I" } : Jvm.MethodName)) ∈ lw_all := lw_g (lw_at lw_m2 111 rfl) rfl
theorem q372 : (Jvm.Cond.code ({ cls := "WatchpointUnitModel", name := "accesses", desc := "()I" } : Jvm.MethodName) prog_3_method_20_code (1 : Nat) (Option.some Jvm.ClassFile.FieldType.int)) ∈ lw_all := lw_g (lw_at lw_m2 112 rfl) rfl
theorem q374 : (Jvm.Cond.instanceMethod ({ cls := "WatchpointUnitModel", name := "kept", desc := "()I" } : Jvm.MethodName)) ∈ lw_all := lw_g (lw_at lw_m2 114 rfl) rfl
theorem q375 : (Jvm.Cond.selects "WatchpointUnitModel" ({ cls := "WatchpointUnitModel", name := "kept", desc := "()I" } : Jvm.MethodName) ({ cls := "WatchpointUnitModel", name := "kept", desc := "()I" } : Jvm.MethodName)) ∈ lw_all := lw_g (lw_at lw_m2 115 rfl) rfl
theorem q376 : (Jvm.Cond.code ({ cls := "WatchpointUnitModel", name := "kept", desc := "()I" } : Jvm.MethodName) prog_3_method_21_code (1 : Nat) (Option.some Jvm.ClassFile.FieldType.int)) ∈ lw_all := lw_g (lw_at lw_m2 116 rfl) rfl
theorem q378 : (Jvm.Cond.instanceMethod ({ cls := "WatchpointUnitModel", name := "stopMask", desc := "(I)I" } : Jvm.MethodName)) ∈ lw_all := lw_g (lw_at lw_m2 118 rfl) rfl
theorem q379 : (Jvm.Cond.selects "WatchpointUnitModel" ({ cls := "WatchpointUnitModel", name := "stopMask", desc := "(I)I" } : Jvm.MethodName) ({ cls := "WatchpointUnitModel", name := "stopMask", desc := "(I)I" } : Jvm.MethodName)) ∈ lw_all := lw_g (lw_at lw_m2 119 rfl) rfl
theorem q380 : (Jvm.Cond.code ({ cls := "WatchpointUnitModel", name := "stopMask", desc := "(I)I" } : Jvm.MethodName) prog_3_method_23_code (2 : Nat) (Option.some Jvm.ClassFile.FieldType.int)) ∈ lw_all := lw_g (lw_at lw_m2 120 rfl) rfl
theorem q381 : (Jvm.Cond.methodLink "WatchpointUnitModel" (90 : Nat) ({ cls := "WatchpointUnitModel", name := "noStop", desc := "(I)Z" } : Jvm.MethodName)) ∈ lw_all := lw_g (lw_at lw_m2 121 rfl) rfl
theorem q382 : (Jvm.Cond.privateMethod ({ cls := "WatchpointUnitModel", name := "noStop", desc := "(I)Z" } : Jvm.MethodName)) ∈ lw_tbl := lw_at lw_m2 122 rfl
theorem q383 : (Jvm.Cond.instanceMethod ({ cls := "WatchpointUnitModel", name := "noStop", desc := "(I)Z" } : Jvm.MethodName)) ∈ lw_all := lw_g (lw_at lw_m2 123 rfl) rfl
theorem q384 : (Jvm.Cond.code ({ cls := "WatchpointUnitModel", name := "noStop", desc := "(I)Z" } : Jvm.MethodName) prog_3_method_22_code (2 : Nat) (Option.some Jvm.ClassFile.FieldType.boolean)) ∈ lw_all := lw_g (lw_at lw_m2 124 rfl) rfl
theorem q386 : (Jvm.Cond.instanceMethod ({ cls := "WatchpointUnitModel", name := "stopAddress", desc := "(I)I" } : Jvm.MethodName)) ∈ lw_all := lw_g (lw_at lw_m2 126 rfl) rfl
theorem q387 : (Jvm.Cond.selects "WatchpointUnitModel" ({ cls := "WatchpointUnitModel", name := "stopAddress", desc := "(I)I" } : Jvm.MethodName) ({ cls := "WatchpointUnitModel", name := "stopAddress", desc := "(I)I" } : Jvm.MethodName)) ∈ lw_all := lw_g (lw_at lw_m2 127 rfl) rfl
theorem q388 : (Jvm.Cond.code ({ cls := "WatchpointUnitModel", name := "stopAddress", desc := "(I)I" } : Jvm.MethodName) prog_3_method_24_code (2 : Nat) (Option.some Jvm.ClassFile.FieldType.int)) ∈ lw_all := lw_g (lw_at lw_m2 128 rfl) rfl
theorem q390 : (Jvm.Cond.instanceMethod ({ cls := "WatchpointUnitModel", name := "stopNumber", desc := "(I)I" } : Jvm.MethodName)) ∈ lw_all := lw_g (lw_at lw_m2 130 rfl) rfl
theorem q391 : (Jvm.Cond.selects "WatchpointUnitModel" ({ cls := "WatchpointUnitModel", name := "stopNumber", desc := "(I)I" } : Jvm.MethodName) ({ cls := "WatchpointUnitModel", name := "stopNumber", desc := "(I)I" } : Jvm.MethodName)) ∈ lw_all := lw_g (lw_at lw_m2 131 rfl) rfl
theorem q392 : (Jvm.Cond.code ({ cls := "WatchpointUnitModel", name := "stopNumber", desc := "(I)I" } : Jvm.MethodName) prog_3_method_25_code (2 : Nat) (Option.some Jvm.ClassFile.FieldType.int)) ∈ lw_all := lw_g (lw_at lw_m2 132 rfl) rfl
theorem q394 : (Jvm.Cond.instanceMethod ({ cls := "WatchpointUnitModel", name := "before", desc := "(I)I" } : Jvm.MethodName)) ∈ lw_all := lw_g (lw_at lw_m2 134 rfl) rfl
theorem q395 : (Jvm.Cond.selects "WatchpointUnitModel" ({ cls := "WatchpointUnitModel", name := "before", desc := "(I)I" } : Jvm.MethodName) ({ cls := "WatchpointUnitModel", name := "before", desc := "(I)I" } : Jvm.MethodName)) ∈ lw_all := lw_g (lw_at lw_m2 135 rfl) rfl
theorem q396 : (Jvm.Cond.code ({ cls := "WatchpointUnitModel", name := "before", desc := "(I)I" } : Jvm.MethodName) prog_3_method_26_code (2 : Nat) (Option.some Jvm.ClassFile.FieldType.int)) ∈ lw_all := lw_g (lw_at lw_m2 136 rfl) rfl
theorem q398 : (Jvm.Cond.instanceMethod ({ cls := "WatchpointUnitModel", name := "after", desc := "(I)I" } : Jvm.MethodName)) ∈ lw_all := lw_g (lw_at lw_m2 138 rfl) rfl
theorem q399 : (Jvm.Cond.selects "WatchpointUnitModel" ({ cls := "WatchpointUnitModel", name := "after", desc := "(I)I" } : Jvm.MethodName) ({ cls := "WatchpointUnitModel", name := "after", desc := "(I)I" } : Jvm.MethodName)) ∈ lw_all := lw_g (lw_at lw_m2 139 rfl) rfl
theorem q400 : (Jvm.Cond.code ({ cls := "WatchpointUnitModel", name := "after", desc := "(I)I" } : Jvm.MethodName) prog_3_method_27_code (2 : Nat) (Option.some Jvm.ClassFile.FieldType.int)) ∈ lw_all := lw_g (lw_at lw_m2 140 rfl) rfl
theorem q402 : (Jvm.Cond.instanceMethod ({ cls := "WatchpointUnitModel", name := "watched", desc := "()I" } : Jvm.MethodName)) ∈ lw_all := lw_g (lw_at lw_m2 142 rfl) rfl
theorem q403 : (Jvm.Cond.selects "WatchpointUnitModel" ({ cls := "WatchpointUnitModel", name := "watched", desc := "()I" } : Jvm.MethodName) ({ cls := "WatchpointUnitModel", name := "watched", desc := "()I" } : Jvm.MethodName)) ∈ lw_all := lw_g (lw_at lw_m2 143 rfl) rfl
theorem q404 : (Jvm.Cond.code ({ cls := "WatchpointUnitModel", name := "watched", desc := "()I" } : Jvm.MethodName) prog_3_method_28_code (5 : Nat) (Option.some Jvm.ClassFile.FieldType.int)) ∈ lw_all := lw_g (lw_at lw_m2 144 rfl) rfl
theorem in_X1 : ∀ w ∈ wsX10, w ∈ lw_all := lw_in wsX10 [262, 264, 266, 268, 270, 272, 274, 276, 278, 280, 282, 284, 286, 288, 290, 292, 294] (by decide +kernel) (by decide +kernel)
/-! java/lang/Object -/
def RJ0 : String := "java/lang/Object"
abbrev cJ0_init : ByteArray := object_method_1_code
def yJ0_init : MethodName := ⟨RJ0, "<init>", "()V"⟩
theorem q29 : (Jvm.Cond.instanceMethod ({ cls := "java/lang/Object", name := "<init>", desc := "()V" } : Jvm.MethodName)) ∈ lw_all := lw_g (lw_at lw_m1 9 rfl) rfl
theorem q30 : (Jvm.Cond.code ({ cls := "java/lang/Object", name := "<init>", desc := "()V" } : Jvm.MethodName) object_method_1_code (1 : Nat) (Option.none : Option Jvm.ClassFile.FieldType)) ∈ lw_all := lw_g (lw_at lw_m1 10 rfl) rfl
/-! the law's own entry -/
abbrev cL_law : ByteArray := code
theorem q20 : (Jvm.Cond.initialized "WatchpointUnitLaw") ∈ lw_all := lw_g (lw_at lw_m1 0 rfl) rfl
theorem q23 : (Jvm.Cond.classLink "WatchpointUnitLaw" (7 : Nat) "WatchpointUnit") ∈ lw_all := lw_g (lw_at lw_m1 3 rfl) rfl
theorem q25 : (Jvm.Cond.methodLink "WatchpointUnitLaw" (9 : Nat) ({ cls := "WatchpointUnit", name := "<init>", desc := "()V" } : Jvm.MethodName)) ∈ lw_all := lw_g (lw_at lw_m1 5 rfl) rfl
theorem q106 : (Jvm.Cond.methodLink "WatchpointUnitLaw" (13 : Nat) ({ cls := "WatchpointUnit", name := "set", desc := "(IIII)I" } : Jvm.MethodName)) ∈ lw_all := lw_g (lw_at lw_m1 86 rfl) rfl
theorem q113 : (Jvm.Cond.methodLink "WatchpointUnitLaw" (18 : Nat) ({ cls := "WatchpointUnit", name := "clear", desc := "(I)I" } : Jvm.MethodName)) ∈ lw_all := lw_g (lw_at lw_m1 93 rfl) rfl
theorem q121 : (Jvm.Cond.methodLink "WatchpointUnitLaw" (23 : Nat) ({ cls := "WatchpointUnit", name := "pause", desc := "(II)I" } : Jvm.MethodName)) ∈ lw_all := lw_g (lw_at lw_m1 101 rfl) rfl
theorem q125 : (Jvm.Cond.methodLink "WatchpointUnitLaw" (28 : Nat) ({ cls := "WatchpointUnit", name := "skip", desc := "(II)I" } : Jvm.MethodName)) ∈ lw_all := lw_g (lw_at lw_m1 105 rfl) rfl
theorem q129 : (Jvm.Cond.methodLink "WatchpointUnitLaw" (32 : Nat) ({ cls := "WatchpointUnit", name := "load", desc := "(II)I" } : Jvm.MethodName)) ∈ lw_all := lw_g (lw_at lw_m1 109 rfl) rfl
theorem q175 : (Jvm.Cond.methodLink "WatchpointUnitLaw" (36 : Nat) ({ cls := "WatchpointUnit", name := "store", desc := "(III)I" } : Jvm.MethodName)) ∈ lw_all := lw_g (lw_at lw_m1 155 rfl) rfl
theorem q179 : (Jvm.Cond.methodLink "WatchpointUnitLaw" (41 : Nat) ({ cls := "WatchpointUnit", name := "sweep", desc := "(II)I" } : Jvm.MethodName)) ∈ lw_all := lw_g (lw_at lw_m1 159 rfl) rfl
theorem q183 : (Jvm.Cond.methodLink "WatchpointUnitLaw" (45 : Nat) ({ cls := "WatchpointUnit", name := "peek", desc := "(I)I" } : Jvm.MethodName)) ∈ lw_all := lw_g (lw_at lw_m1 163 rfl) rfl
theorem q187 : (Jvm.Cond.methodLink "WatchpointUnitLaw" (49 : Nat) ({ cls := "WatchpointUnit", name := "hits", desc := "(I)I" } : Jvm.MethodName)) ∈ lw_all := lw_g (lw_at lw_m1 167 rfl) rfl
theorem q191 : (Jvm.Cond.methodLink "WatchpointUnitLaw" (53 : Nat) ({ cls := "WatchpointUnit", name := "skips", desc := "(I)I" } : Jvm.MethodName)) ∈ lw_all := lw_g (lw_at lw_m1 171 rfl) rfl
theorem q195 : (Jvm.Cond.methodLink "WatchpointUnitLaw" (57 : Nat) ({ cls := "WatchpointUnit", name := "stops", desc := "()I" } : Jvm.MethodName)) ∈ lw_all := lw_g (lw_at lw_m1 175 rfl) rfl
theorem q199 : (Jvm.Cond.methodLink "WatchpointUnitLaw" (62 : Nat) ({ cls := "WatchpointUnit", name := "accesses", desc := "()I" } : Jvm.MethodName)) ∈ lw_all := lw_g (lw_at lw_m1 179 rfl) rfl
theorem q203 : (Jvm.Cond.methodLink "WatchpointUnitLaw" (66 : Nat) ({ cls := "WatchpointUnit", name := "kept", desc := "()I" } : Jvm.MethodName)) ∈ lw_all := lw_g (lw_at lw_m1 183 rfl) rfl
theorem q207 : (Jvm.Cond.methodLink "WatchpointUnitLaw" (70 : Nat) ({ cls := "WatchpointUnit", name := "stopMask", desc := "(I)I" } : Jvm.MethodName)) ∈ lw_all := lw_g (lw_at lw_m1 187 rfl) rfl
theorem q219 : (Jvm.Cond.methodLink "WatchpointUnitLaw" (74 : Nat) ({ cls := "WatchpointUnit", name := "stopAddress", desc := "(I)I" } : Jvm.MethodName)) ∈ lw_all := lw_g (lw_at lw_m1 199 rfl) rfl
theorem q223 : (Jvm.Cond.methodLink "WatchpointUnitLaw" (78 : Nat) ({ cls := "WatchpointUnit", name := "stopNumber", desc := "(I)I" } : Jvm.MethodName)) ∈ lw_all := lw_g (lw_at lw_m1 203 rfl) rfl
theorem q227 : (Jvm.Cond.methodLink "WatchpointUnitLaw" (82 : Nat) ({ cls := "WatchpointUnit", name := "before", desc := "(I)I" } : Jvm.MethodName)) ∈ lw_all := lw_g (lw_at lw_m1 207 rfl) rfl
theorem q231 : (Jvm.Cond.methodLink "WatchpointUnitLaw" (86 : Nat) ({ cls := "WatchpointUnit", name := "after", desc := "(I)I" } : Jvm.MethodName)) ∈ lw_all := lw_g (lw_at lw_m1 211 rfl) rfl
theorem q235 : (Jvm.Cond.methodLink "WatchpointUnitLaw" (90 : Nat) ({ cls := "WatchpointUnit", name := "watched", desc := "()I" } : Jvm.MethodName)) ∈ lw_all := lw_g (lw_at lw_m1 215 rfl) rfl
theorem q239 : (Jvm.Cond.classLink "WatchpointUnitLaw" (10 : Nat) "WatchpointUnitModel") ∈ lw_all := lw_g (lw_at lw_m1 219 rfl) rfl
theorem q241 : (Jvm.Cond.methodLink "WatchpointUnitLaw" (12 : Nat) ({ cls := "WatchpointUnitModel", name := "<init>", desc := "()V" } : Jvm.MethodName)) ∈ lw_all := lw_g (lw_at lw_m1 221 rfl) rfl
theorem q297 : (Jvm.Cond.methodLink "WatchpointUnitLaw" (17 : Nat) ({ cls := "WatchpointUnitModel", name := "set", desc := "(IIII)I" } : Jvm.MethodName)) ∈ lw_all := lw_g (lw_at lw_m2 37 rfl) rfl
theorem q305 : (Jvm.Cond.methodLink "WatchpointUnitLaw" (22 : Nat) ({ cls := "WatchpointUnitModel", name := "clear", desc := "(I)I" } : Jvm.MethodName)) ∈ lw_all := lw_g (lw_at lw_m2 45 rfl) rfl
theorem q309 : (Jvm.Cond.methodLink "WatchpointUnitLaw" (27 : Nat) ({ cls := "WatchpointUnitModel", name := "pause", desc := "(II)I" } : Jvm.MethodName)) ∈ lw_all := lw_g (lw_at lw_m2 49 rfl) rfl
theorem q313 : (Jvm.Cond.methodLink "WatchpointUnitLaw" (31 : Nat) ({ cls := "WatchpointUnitModel", name := "skip", desc := "(II)I" } : Jvm.MethodName)) ∈ lw_all := lw_g (lw_at lw_m2 53 rfl) rfl
theorem q317 : (Jvm.Cond.methodLink "WatchpointUnitLaw" (35 : Nat) ({ cls := "WatchpointUnitModel", name := "load", desc := "(II)I" } : Jvm.MethodName)) ∈ lw_all := lw_g (lw_at lw_m2 57 rfl) rfl
theorem q345 : (Jvm.Cond.methodLink "WatchpointUnitLaw" (40 : Nat) ({ cls := "WatchpointUnitModel", name := "store", desc := "(III)I" } : Jvm.MethodName)) ∈ lw_all := lw_g (lw_at lw_m2 85 rfl) rfl
theorem q349 : (Jvm.Cond.methodLink "WatchpointUnitLaw" (44 : Nat) ({ cls := "WatchpointUnitModel", name := "sweep", desc := "(II)I" } : Jvm.MethodName)) ∈ lw_all := lw_g (lw_at lw_m2 89 rfl) rfl
theorem q353 : (Jvm.Cond.methodLink "WatchpointUnitLaw" (48 : Nat) ({ cls := "WatchpointUnitModel", name := "peek", desc := "(I)I" } : Jvm.MethodName)) ∈ lw_all := lw_g (lw_at lw_m2 93 rfl) rfl
theorem q357 : (Jvm.Cond.methodLink "WatchpointUnitLaw" (52 : Nat) ({ cls := "WatchpointUnitModel", name := "hits", desc := "(I)I" } : Jvm.MethodName)) ∈ lw_all := lw_g (lw_at lw_m2 97 rfl) rfl
theorem q361 : (Jvm.Cond.methodLink "WatchpointUnitLaw" (56 : Nat) ({ cls := "WatchpointUnitModel", name := "skips", desc := "(I)I" } : Jvm.MethodName)) ∈ lw_all := lw_g (lw_at lw_m2 101 rfl) rfl
theorem q365 : (Jvm.Cond.methodLink "WatchpointUnitLaw" (61 : Nat) ({ cls := "WatchpointUnitModel", name := "stops", desc := "()I" } : Jvm.MethodName)) ∈ lw_all := lw_g (lw_at lw_m2 105 rfl) rfl
theorem q369 : (Jvm.Cond.methodLink "WatchpointUnitLaw" (65 : Nat) ({ cls := "WatchpointUnitModel", name := "accesses", desc := "()I" } : Jvm.MethodName)) ∈ lw_all := lw_g (lw_at lw_m2 109 rfl) rfl
theorem q373 : (Jvm.Cond.methodLink "WatchpointUnitLaw" (69 : Nat) ({ cls := "WatchpointUnitModel", name := "kept", desc := "()I" } : Jvm.MethodName)) ∈ lw_all := lw_g (lw_at lw_m2 113 rfl) rfl
theorem q377 : (Jvm.Cond.methodLink "WatchpointUnitLaw" (73 : Nat) ({ cls := "WatchpointUnitModel", name := "stopMask", desc := "(I)I" } : Jvm.MethodName)) ∈ lw_all := lw_g (lw_at lw_m2 117 rfl) rfl
theorem q385 : (Jvm.Cond.methodLink "WatchpointUnitLaw" (77 : Nat) ({ cls := "WatchpointUnitModel", name := "stopAddress", desc := "(I)I" } : Jvm.MethodName)) ∈ lw_all := lw_g (lw_at lw_m2 125 rfl) rfl
theorem q389 : (Jvm.Cond.methodLink "WatchpointUnitLaw" (81 : Nat) ({ cls := "WatchpointUnitModel", name := "stopNumber", desc := "(I)I" } : Jvm.MethodName)) ∈ lw_all := lw_g (lw_at lw_m2 129 rfl) rfl
theorem q393 : (Jvm.Cond.methodLink "WatchpointUnitLaw" (85 : Nat) ({ cls := "WatchpointUnitModel", name := "before", desc := "(I)I" } : Jvm.MethodName)) ∈ lw_all := lw_g (lw_at lw_m2 133 rfl) rfl
theorem q397 : (Jvm.Cond.methodLink "WatchpointUnitLaw" (89 : Nat) ({ cls := "WatchpointUnitModel", name := "after", desc := "(I)I" } : Jvm.MethodName)) ∈ lw_all := lw_g (lw_at lw_m2 137 rfl) rfl
theorem q401 : (Jvm.Cond.methodLink "WatchpointUnitLaw" (93 : Nat) ({ cls := "WatchpointUnitModel", name := "watched", desc := "()I" } : Jvm.MethodName)) ∈ lw_all := lw_g (lw_at lw_m2 141 rfl) rfl
theorem q104 : (Jvm.Cond.arrayClass Jvm.ClassFile.FieldType.int) ∈ lw_all := lw_g (lw_at lw_m1 84 rfl) rfl
theorem q105 : (Jvm.Cond.arrayClass Jvm.ClassFile.FieldType.boolean) ∈ lw_all := lw_g (lw_at lw_m1 85 rfl) rfl
end
section
set_option maxRecDepth 100000
theorem dX0_init_0 : decode cX0_init 0 = .ok (.aload_n 0, 1) := by decide +kernel
theorem dX0_init_1 : decode cX0_init 1 = .ok (.invokespecial 1, 3) := by decide +kernel
theorem dX0_init_4 : decode cX0_init 4 = .ok (.aload_n 0, 1) := by decide +kernel
theorem dX0_init_5 : decode cX0_init 5 = .ok (.bipush 40, 2) := by decide +kernel
theorem dX0_init_7 : decode cX0_init 7 = .ok (.newarray .int, 2) := by decide +kernel
theorem dX0_init_9 : decode cX0_init 9 = .ok (.putfield 7, 3) := by decide +kernel
theorem dX0_init_12 : decode cX0_init 12 = .ok (.aload_n 0, 1) := by decide +kernel
theorem dX0_init_13 : decode cX0_init 13 = .ok (.bipush 8, 2) := by decide +kernel
theorem dX0_init_15 : decode cX0_init 15 = .ok (.newarray .boolean, 2) := by decide +kernel
theorem dX0_init_17 : decode cX0_init 17 = .ok (.putfield 13, 3) := by decide +kernel
theorem dX0_init_20 : decode cX0_init 20 = .ok (.aload_n 0, 1) := by decide +kernel
theorem dX0_init_21 : decode cX0_init 21 = .ok (.bipush 8, 2) := by decide +kernel
theorem dX0_init_23 : decode cX0_init 23 = .ok (.newarray .boolean, 2) := by decide +kernel
theorem dX0_init_25 : decode cX0_init 25 = .ok (.putfield 17, 3) := by decide +kernel
theorem dX0_init_28 : decode cX0_init 28 = .ok (.aload_n 0, 1) := by decide +kernel
theorem dX0_init_29 : decode cX0_init 29 = .ok (.bipush 8, 2) := by decide +kernel
theorem dX0_init_31 : decode cX0_init 31 = .ok (.newarray .int, 2) := by decide +kernel
theorem dX0_init_33 : decode cX0_init 33 = .ok (.putfield 20, 3) := by decide +kernel
theorem dX0_init_36 : decode cX0_init 36 = .ok (.aload_n 0, 1) := by decide +kernel
theorem dX0_init_37 : decode cX0_init 37 = .ok (.bipush 8, 2) := by decide +kernel
theorem dX0_init_39 : decode cX0_init 39 = .ok (.newarray .int, 2) := by decide +kernel
theorem dX0_init_41 : decode cX0_init 41 = .ok (.putfield 23, 3) := by decide +kernel
theorem dX0_init_44 : decode cX0_init 44 = .ok (.aload_n 0, 1) := by decide +kernel
theorem dX0_init_45 : decode cX0_init 45 = .ok (.bipush 8, 2) := by decide +kernel
theorem dX0_init_47 : decode cX0_init 47 = .ok (.newarray .int, 2) := by decide +kernel
theorem dX0_init_49 : decode cX0_init 49 = .ok (.putfield 26, 3) := by decide +kernel
theorem dX0_init_52 : decode cX0_init 52 = .ok (.aload_n 0, 1) := by decide +kernel
theorem dX0_init_53 : decode cX0_init 53 = .ok (.bipush 8, 2) := by decide +kernel
theorem dX0_init_55 : decode cX0_init 55 = .ok (.newarray .int, 2) := by decide +kernel
theorem dX0_init_57 : decode cX0_init 57 = .ok (.putfield 29, 3) := by decide +kernel
theorem dX0_init_60 : decode cX0_init 60 = .ok (.aload_n 0, 1) := by decide +kernel
theorem dX0_init_61 : decode cX0_init 61 = .ok (.bipush 8, 2) := by decide +kernel
theorem dX0_init_63 : decode cX0_init 63 = .ok (.newarray .int, 2) := by decide +kernel
theorem dX0_init_65 : decode cX0_init 65 = .ok (.putfield 32, 3) := by decide +kernel
theorem dX0_init_68 : decode cX0_init 68 = .ok (.aload_n 0, 1) := by decide +kernel
theorem dX0_init_69 : decode cX0_init 69 = .ok (.iconst 4, 1) := by decide +kernel
theorem dX0_init_70 : decode cX0_init 70 = .ok (.newarray .int, 2) := by decide +kernel
theorem dX0_init_72 : decode cX0_init 72 = .ok (.putfield 35, 3) := by decide +kernel
theorem dX0_init_75 : decode cX0_init 75 = .ok (.aload_n 0, 1) := by decide +kernel
theorem dX0_init_76 : decode cX0_init 76 = .ok (.iconst 4, 1) := by decide +kernel
theorem dX0_init_77 : decode cX0_init 77 = .ok (.newarray .int, 2) := by decide +kernel
theorem dX0_init_79 : decode cX0_init 79 = .ok (.putfield 38, 3) := by decide +kernel
theorem dX0_init_82 : decode cX0_init 82 = .ok (.aload_n 0, 1) := by decide +kernel
theorem dX0_init_83 : decode cX0_init 83 = .ok (.iconst 4, 1) := by decide +kernel
theorem dX0_init_84 : decode cX0_init 84 = .ok (.newarray .int, 2) := by decide +kernel
theorem dX0_init_86 : decode cX0_init 86 = .ok (.putfield 41, 3) := by decide +kernel
theorem dX0_init_89 : decode cX0_init 89 = .ok (.aload_n 0, 1) := by decide +kernel
theorem dX0_init_90 : decode cX0_init 90 = .ok (.iconst 4, 1) := by decide +kernel
theorem dX0_init_91 : decode cX0_init 91 = .ok (.newarray .int, 2) := by decide +kernel
theorem dX0_init_93 : decode cX0_init 93 = .ok (.putfield 44, 3) := by decide +kernel
theorem dX0_init_96 : decode cX0_init 96 = .ok (.aload_n 0, 1) := by decide +kernel
theorem dX0_init_97 : decode cX0_init 97 = .ok (.bipush 8, 2) := by decide +kernel
theorem dX0_init_99 : decode cX0_init 99 = .ok (.newarray .int, 2) := by decide +kernel
theorem dX0_init_101 : decode cX0_init 101 = .ok (.putfield 47, 3) := by decide +kernel
theorem dX0_init_104 : decode cX0_init 104 = .ok (.aload_n 0, 1) := by decide +kernel
theorem dX0_init_105 : decode cX0_init 105 = .ok (.bipush 8, 2) := by decide +kernel
theorem dX0_init_107 : decode cX0_init 107 = .ok (.newarray .int, 2) := by decide +kernel
theorem dX0_init_109 : decode cX0_init 109 = .ok (.putfield 50, 3) := by decide +kernel
theorem dX0_init_112 : decode cX0_init 112 = .ok (.aload_n 0, 1) := by decide +kernel
theorem dX0_init_113 : decode cX0_init 113 = .ok (.bipush 8, 2) := by decide +kernel
theorem dX0_init_115 : decode cX0_init 115 = .ok (.newarray .int, 2) := by decide +kernel
theorem dX0_init_117 : decode cX0_init 117 = .ok (.putfield 53, 3) := by decide +kernel
theorem dX0_init_120 : decode cX0_init 120 = .ok (.aload_n 0, 1) := by decide +kernel
theorem dX0_init_121 : decode cX0_init 121 = .ok (.bipush 8, 2) := by decide +kernel
theorem dX0_init_123 : decode cX0_init 123 = .ok (.newarray .int, 2) := by decide +kernel
theorem dX0_init_125 : decode cX0_init 125 = .ok (.putfield 56, 3) := by decide +kernel
theorem dX0_init_128 : decode cX0_init 128 = .ok (.aload_n 0, 1) := by decide +kernel
theorem dX0_init_129 : decode cX0_init 129 = .ok (.bipush 8, 2) := by decide +kernel
theorem dX0_init_131 : decode cX0_init 131 = .ok (.newarray .int, 2) := by decide +kernel
theorem dX0_init_133 : decode cX0_init 133 = .ok (.putfield 59, 3) := by decide +kernel
theorem dX0_init_136 : decode cX0_init 136 = .ok (.aload_n 0, 1) := by decide +kernel
theorem dX0_init_137 : decode cX0_init 137 = .ok (.iconst 4, 1) := by decide +kernel
theorem dX0_init_138 : decode cX0_init 138 = .ok (.newarray .int, 2) := by decide +kernel
theorem dX0_init_140 : decode cX0_init 140 = .ok (.putfield 62, 3) := by decide +kernel
theorem dX0_init_143 : decode cX0_init 143 = .ok (.aload_n 0, 1) := by decide +kernel
theorem dX0_init_144 : decode cX0_init 144 = .ok (.iconst 0, 1) := by decide +kernel
theorem dX0_init_145 : decode cX0_init 145 = .ok (.putfield 65, 3) := by decide +kernel
theorem dX0_init_148 : decode cX0_init 148 = .ok (.return_, 1) := by decide +kernel
theorem dX0_set_0 : decode cX0_set 0 = .ok (.iload_n 1, 1) := by decide +kernel
theorem dX0_set_1 : decode cX0_set 1 = .ok (.invokestatic 69, 3) := by decide +kernel
theorem dX0_set_4 : decode cX0_set 4 = .ok (.ifCond .ne 5, 3) := by decide +kernel
theorem dX0_set_7 : decode cX0_set 7 = .ok (.iconst (-1), 1) := by decide +kernel
theorem dX0_set_8 : decode cX0_set 8 = .ok (.ireturn, 1) := by decide +kernel
theorem dX0_set_9 : decode cX0_set 9 = .ok (.iload_n 3, 1) := by decide +kernel
theorem dX0_set_10 : decode cX0_set 10 = .ok (.iconst 1, 1) := by decide +kernel
theorem dX0_set_11 : decode cX0_set 11 = .ok (.if_icmp .lt 9, 3) := by decide +kernel
theorem dX0_set_14 : decode cX0_set 14 = .ok (.iload_n 3, 1) := by decide +kernel
theorem dX0_set_15 : decode cX0_set 15 = .ok (.bipush 16, 2) := by decide +kernel
theorem dX0_set_17 : decode cX0_set 17 = .ok (.if_icmp .le 6, 3) := by decide +kernel
theorem dX0_set_20 : decode cX0_set 20 = .ok (.bipush (-2), 2) := by decide +kernel
theorem dX0_set_22 : decode cX0_set 22 = .ok (.ireturn, 1) := by decide +kernel
theorem dX0_set_23 : decode cX0_set 23 = .ok (.iload_n 2, 1) := by decide +kernel
theorem dX0_set_24 : decode cX0_set 24 = .ok (.ifCond .lt 11, 3) := by decide +kernel
theorem dX0_set_27 : decode cX0_set 27 = .ok (.iload_n 2, 1) := by decide +kernel
theorem dX0_set_28 : decode cX0_set 28 = .ok (.bipush 40, 2) := by decide +kernel
theorem dX0_set_30 : decode cX0_set 30 = .ok (.iload_n 3, 1) := by decide +kernel
theorem dX0_set_31 : decode cX0_set 31 = .ok (.isub, 1) := by decide +kernel
theorem dX0_set_32 : decode cX0_set 32 = .ok (.if_icmp .le 6, 3) := by decide +kernel
theorem dX0_set_35 : decode cX0_set 35 = .ok (.bipush (-3), 2) := by decide +kernel
theorem dX0_set_37 : decode cX0_set 37 = .ok (.ireturn, 1) := by decide +kernel
theorem dX0_set_38 : decode cX0_set 38 = .ok (.iload 4, 2) := by decide +kernel
theorem dX0_set_40 : decode cX0_set 40 = .ok (.iconst 1, 1) := by decide +kernel
theorem dX0_set_41 : decode cX0_set 41 = .ok (.if_icmp .lt 9, 3) := by decide +kernel
theorem dX0_set_44 : decode cX0_set 44 = .ok (.iload 4, 2) := by decide +kernel
theorem dX0_set_46 : decode cX0_set 46 = .ok (.iconst 4, 1) := by decide +kernel
theorem dX0_set_47 : decode cX0_set 47 = .ok (.if_icmp .le 6, 3) := by decide +kernel
theorem dX0_set_50 : decode cX0_set 50 = .ok (.bipush (-4), 2) := by decide +kernel
theorem dX0_set_52 : decode cX0_set 52 = .ok (.ireturn, 1) := by decide +kernel
theorem dX0_set_53 : decode cX0_set 53 = .ok (.aload_n 0, 1) := by decide +kernel
theorem dX0_set_54 : decode cX0_set 54 = .ok (.getfield 13, 3) := by decide +kernel
theorem dX0_set_57 : decode cX0_set 57 = .ok (.iload_n 1, 1) := by decide +kernel
theorem dX0_set_58 : decode cX0_set 58 = .ok (.baload, 1) := by decide +kernel
theorem dX0_set_59 : decode cX0_set 59 = .ok (.ifCond .eq 7, 3) := by decide +kernel
theorem dX0_set_62 : decode cX0_set 62 = .ok (.iconst 1, 1) := by decide +kernel
theorem dX0_set_63 : decode cX0_set 63 = .ok (.goto 4, 3) := by decide +kernel
theorem dX0_set_66 : decode cX0_set 66 = .ok (.iconst 0, 1) := by decide +kernel
theorem dX0_set_67 : decode cX0_set 67 = .ok (.istore 5, 2) := by decide +kernel
theorem dX0_set_69 : decode cX0_set 69 = .ok (.aload_n 0, 1) := by decide +kernel
theorem dX0_set_70 : decode cX0_set 70 = .ok (.getfield 13, 3) := by decide +kernel
theorem dX0_set_73 : decode cX0_set 73 = .ok (.iload_n 1, 1) := by decide +kernel
theorem dX0_set_74 : decode cX0_set 74 = .ok (.iconst 1, 1) := by decide +kernel
theorem dX0_set_75 : decode cX0_set 75 = .ok (.bastore, 1) := by decide +kernel
theorem dX0_set_76 : decode cX0_set 76 = .ok (.aload_n 0, 1) := by decide +kernel
theorem dX0_set_77 : decode cX0_set 77 = .ok (.getfield 17, 3) := by decide +kernel
theorem dX0_set_80 : decode cX0_set 80 = .ok (.iload_n 1, 1) := by decide +kernel
theorem dX0_set_81 : decode cX0_set 81 = .ok (.iconst 0, 1) := by decide +kernel
theorem dX0_set_82 : decode cX0_set 82 = .ok (.bastore, 1) := by decide +kernel
theorem dX0_set_83 : decode cX0_set 83 = .ok (.aload_n 0, 1) := by decide +kernel
theorem dX0_set_84 : decode cX0_set 84 = .ok (.getfield 20, 3) := by decide +kernel
theorem dX0_set_87 : decode cX0_set 87 = .ok (.iload_n 1, 1) := by decide +kernel
theorem dX0_set_88 : decode cX0_set 88 = .ok (.iload_n 2, 1) := by decide +kernel
theorem dX0_set_89 : decode cX0_set 89 = .ok (.iastore, 1) := by decide +kernel
theorem dX0_set_90 : decode cX0_set 90 = .ok (.aload_n 0, 1) := by decide +kernel
theorem dX0_set_91 : decode cX0_set 91 = .ok (.getfield 23, 3) := by decide +kernel
theorem dX0_set_94 : decode cX0_set 94 = .ok (.iload_n 1, 1) := by decide +kernel
theorem dX0_set_95 : decode cX0_set 95 = .ok (.iload_n 2, 1) := by decide +kernel
theorem dX0_set_96 : decode cX0_set 96 = .ok (.iload_n 3, 1) := by decide +kernel
theorem dX0_set_97 : decode cX0_set 97 = .ok (.iadd, 1) := by decide +kernel
theorem dX0_set_98 : decode cX0_set 98 = .ok (.iconst 1, 1) := by decide +kernel
theorem dX0_set_99 : decode cX0_set 99 = .ok (.isub, 1) := by decide +kernel
theorem dX0_set_100 : decode cX0_set 100 = .ok (.iastore, 1) := by decide +kernel
theorem dX0_set_101 : decode cX0_set 101 = .ok (.aload_n 0, 1) := by decide +kernel
theorem dX0_set_102 : decode cX0_set 102 = .ok (.getfield 26, 3) := by decide +kernel
theorem dX0_set_105 : decode cX0_set 105 = .ok (.iload_n 1, 1) := by decide +kernel
theorem dX0_set_106 : decode cX0_set 106 = .ok (.iload 4, 2) := by decide +kernel
theorem dX0_set_108 : decode cX0_set 108 = .ok (.iastore, 1) := by decide +kernel
theorem dX0_set_109 : decode cX0_set 109 = .ok (.aload_n 0, 1) := by decide +kernel
theorem dX0_set_110 : decode cX0_set 110 = .ok (.getfield 29, 3) := by decide +kernel
theorem dX0_set_113 : decode cX0_set 113 = .ok (.iload_n 1, 1) := by decide +kernel
theorem dX0_set_114 : decode cX0_set 114 = .ok (.iconst 0, 1) := by decide +kernel
theorem dX0_set_115 : decode cX0_set 115 = .ok (.iastore, 1) := by decide +kernel
theorem dX0_set_116 : decode cX0_set 116 = .ok (.aload_n 0, 1) := by decide +kernel
theorem dX0_set_117 : decode cX0_set 117 = .ok (.getfield 32, 3) := by decide +kernel
theorem dX0_set_120 : decode cX0_set 120 = .ok (.iload_n 1, 1) := by decide +kernel
theorem dX0_set_121 : decode cX0_set 121 = .ok (.iconst 0, 1) := by decide +kernel
theorem dX0_set_122 : decode cX0_set 122 = .ok (.iastore, 1) := by decide +kernel
theorem dX0_set_123 : decode cX0_set 123 = .ok (.aload_n 0, 1) := by decide +kernel
theorem dX0_set_124 : decode cX0_set 124 = .ok (.iconst 0, 1) := by decide +kernel
theorem dX0_set_125 : decode cX0_set 125 = .ok (.putfield 65, 3) := by decide +kernel
theorem dX0_set_128 : decode cX0_set 128 = .ok (.iload 5, 2) := by decide +kernel
theorem dX0_set_130 : decode cX0_set 130 = .ok (.ireturn, 1) := by decide +kernel
theorem dX0_isWatch_0 : decode cX0_isWatch 0 = .ok (.iload_n 0, 1) := by decide +kernel
theorem dX0_isWatch_1 : decode cX0_isWatch 1 = .ok (.ifCond .lt 13, 3) := by decide +kernel
theorem dX0_isWatch_4 : decode cX0_isWatch 4 = .ok (.iload_n 0, 1) := by decide +kernel
theorem dX0_isWatch_5 : decode cX0_isWatch 5 = .ok (.bipush 8, 2) := by decide +kernel
theorem dX0_isWatch_7 : decode cX0_isWatch 7 = .ok (.if_icmp .ge 7, 3) := by decide +kernel
theorem dX0_isWatch_10 : decode cX0_isWatch 10 = .ok (.iconst 1, 1) := by decide +kernel
theorem dX0_isWatch_11 : decode cX0_isWatch 11 = .ok (.goto 4, 3) := by decide +kernel
theorem dX0_isWatch_14 : decode cX0_isWatch 14 = .ok (.iconst 0, 1) := by decide +kernel
theorem dX0_isWatch_15 : decode cX0_isWatch 15 = .ok (.ireturn, 1) := by decide +kernel
theorem dX0_clear_0 : decode cX0_clear 0 = .ok (.aload_n 0, 1) := by decide +kernel
theorem dX0_clear_1 : decode cX0_clear 1 = .ok (.iload_n 1, 1) := by decide +kernel
theorem dX0_clear_2 : decode cX0_clear 2 = .ok (.invokevirtual 73, 3) := by decide +kernel
theorem dX0_clear_5 : decode cX0_clear 5 = .ok (.istore_n 2, 1) := by decide +kernel
theorem dX0_clear_6 : decode cX0_clear 6 = .ok (.iload_n 2, 1) := by decide +kernel
theorem dX0_clear_7 : decode cX0_clear 7 = .ok (.ifCond .ge 5, 3) := by decide +kernel
theorem dX0_clear_10 : decode cX0_clear 10 = .ok (.iload_n 2, 1) := by decide +kernel
theorem dX0_clear_11 : decode cX0_clear 11 = .ok (.ireturn, 1) := by decide +kernel
theorem dX0_clear_12 : decode cX0_clear 12 = .ok (.aload_n 0, 1) := by decide +kernel
theorem dX0_clear_13 : decode cX0_clear 13 = .ok (.getfield 13, 3) := by decide +kernel
theorem dX0_clear_16 : decode cX0_clear 16 = .ok (.iload_n 1, 1) := by decide +kernel
theorem dX0_clear_17 : decode cX0_clear 17 = .ok (.iconst 0, 1) := by decide +kernel
theorem dX0_clear_18 : decode cX0_clear 18 = .ok (.bastore, 1) := by decide +kernel
theorem dX0_clear_19 : decode cX0_clear 19 = .ok (.aload_n 0, 1) := by decide +kernel
theorem dX0_clear_20 : decode cX0_clear 20 = .ok (.iconst 0, 1) := by decide +kernel
theorem dX0_clear_21 : decode cX0_clear 21 = .ok (.putfield 65, 3) := by decide +kernel
theorem dX0_clear_24 : decode cX0_clear 24 = .ok (.aload_n 0, 1) := by decide +kernel
theorem dX0_clear_25 : decode cX0_clear 25 = .ok (.getfield 32, 3) := by decide +kernel
theorem dX0_clear_28 : decode cX0_clear 28 = .ok (.iload_n 1, 1) := by decide +kernel
theorem dX0_clear_29 : decode cX0_clear 29 = .ok (.iaload, 1) := by decide +kernel
theorem dX0_clear_30 : decode cX0_clear 30 = .ok (.ireturn, 1) := by decide +kernel
theorem dX0_refused_0 : decode cX0_refused 0 = .ok (.iload_n 1, 1) := by decide +kernel
theorem dX0_refused_1 : decode cX0_refused 1 = .ok (.invokestatic 69, 3) := by decide +kernel
theorem dX0_refused_4 : decode cX0_refused 4 = .ok (.ifCond .ne 5, 3) := by decide +kernel
theorem dX0_refused_7 : decode cX0_refused 7 = .ok (.iconst (-1), 1) := by decide +kernel
theorem dX0_refused_8 : decode cX0_refused 8 = .ok (.ireturn, 1) := by decide +kernel
theorem dX0_refused_9 : decode cX0_refused 9 = .ok (.aload_n 0, 1) := by decide +kernel
theorem dX0_refused_10 : decode cX0_refused 10 = .ok (.getfield 13, 3) := by decide +kernel
theorem dX0_refused_13 : decode cX0_refused 13 = .ok (.iload_n 1, 1) := by decide +kernel
theorem dX0_refused_14 : decode cX0_refused 14 = .ok (.baload, 1) := by decide +kernel
theorem dX0_refused_15 : decode cX0_refused 15 = .ok (.ifCond .eq 7, 3) := by decide +kernel
theorem dX0_refused_18 : decode cX0_refused 18 = .ok (.iconst 0, 1) := by decide +kernel
theorem dX0_refused_19 : decode cX0_refused 19 = .ok (.goto 5, 3) := by decide +kernel
theorem dX0_refused_22 : decode cX0_refused 22 = .ok (.bipush (-2), 2) := by decide +kernel
theorem dX0_refused_24 : decode cX0_refused 24 = .ok (.ireturn, 1) := by decide +kernel
theorem dX0_pause_0 : decode cX0_pause 0 = .ok (.aload_n 0, 1) := by decide +kernel
theorem dX0_pause_1 : decode cX0_pause 1 = .ok (.iload_n 1, 1) := by decide +kernel
theorem dX0_pause_2 : decode cX0_pause 2 = .ok (.invokevirtual 73, 3) := by decide +kernel
theorem dX0_pause_5 : decode cX0_pause 5 = .ok (.istore_n 3, 1) := by decide +kernel
theorem dX0_pause_6 : decode cX0_pause 6 = .ok (.iload_n 3, 1) := by decide +kernel
theorem dX0_pause_7 : decode cX0_pause 7 = .ok (.ifCond .ge 5, 3) := by decide +kernel
theorem dX0_pause_10 : decode cX0_pause 10 = .ok (.iload_n 3, 1) := by decide +kernel
theorem dX0_pause_11 : decode cX0_pause 11 = .ok (.ireturn, 1) := by decide +kernel
theorem dX0_pause_12 : decode cX0_pause 12 = .ok (.aload_n 0, 1) := by decide +kernel
theorem dX0_pause_13 : decode cX0_pause 13 = .ok (.getfield 17, 3) := by decide +kernel
theorem dX0_pause_16 : decode cX0_pause 16 = .ok (.iload_n 1, 1) := by decide +kernel
theorem dX0_pause_17 : decode cX0_pause 17 = .ok (.baload, 1) := by decide +kernel
theorem dX0_pause_18 : decode cX0_pause 18 = .ok (.ifCond .eq 7, 3) := by decide +kernel
theorem dX0_pause_21 : decode cX0_pause 21 = .ok (.iconst 1, 1) := by decide +kernel
theorem dX0_pause_22 : decode cX0_pause 22 = .ok (.goto 4, 3) := by decide +kernel
theorem dX0_pause_25 : decode cX0_pause 25 = .ok (.iconst 0, 1) := by decide +kernel
theorem dX0_pause_26 : decode cX0_pause 26 = .ok (.istore 4, 2) := by decide +kernel
theorem dX0_pause_28 : decode cX0_pause 28 = .ok (.aload_n 0, 1) := by decide +kernel
theorem dX0_pause_29 : decode cX0_pause 29 = .ok (.getfield 17, 3) := by decide +kernel
theorem dX0_pause_32 : decode cX0_pause 32 = .ok (.iload_n 1, 1) := by decide +kernel
theorem dX0_pause_33 : decode cX0_pause 33 = .ok (.iload_n 2, 1) := by decide +kernel
theorem dX0_pause_34 : decode cX0_pause 34 = .ok (.ifCond .eq 7, 3) := by decide +kernel
theorem dX0_pause_37 : decode cX0_pause 37 = .ok (.iconst 1, 1) := by decide +kernel
theorem dX0_pause_38 : decode cX0_pause 38 = .ok (.goto 4, 3) := by decide +kernel
theorem dX0_pause_41 : decode cX0_pause 41 = .ok (.iconst 0, 1) := by decide +kernel
theorem dX0_pause_42 : decode cX0_pause 42 = .ok (.bastore, 1) := by decide +kernel
theorem dX0_pause_43 : decode cX0_pause 43 = .ok (.aload_n 0, 1) := by decide +kernel
theorem dX0_pause_44 : decode cX0_pause 44 = .ok (.iconst 0, 1) := by decide +kernel
theorem dX0_pause_45 : decode cX0_pause 45 = .ok (.putfield 65, 3) := by decide +kernel
theorem dX0_pause_48 : decode cX0_pause 48 = .ok (.iload 4, 2) := by decide +kernel
theorem dX0_pause_50 : decode cX0_pause 50 = .ok (.ireturn, 1) := by decide +kernel
theorem dX0_skip_0 : decode cX0_skip 0 = .ok (.aload_n 0, 1) := by decide +kernel
theorem dX0_skip_1 : decode cX0_skip 1 = .ok (.iload_n 1, 1) := by decide +kernel
theorem dX0_skip_2 : decode cX0_skip 2 = .ok (.invokevirtual 73, 3) := by decide +kernel
theorem dX0_skip_5 : decode cX0_skip 5 = .ok (.istore_n 3, 1) := by decide +kernel
theorem dX0_skip_6 : decode cX0_skip 6 = .ok (.iload_n 3, 1) := by decide +kernel
theorem dX0_skip_7 : decode cX0_skip 7 = .ok (.ifCond .ge 5, 3) := by decide +kernel
theorem dX0_skip_10 : decode cX0_skip 10 = .ok (.iload_n 3, 1) := by decide +kernel
theorem dX0_skip_11 : decode cX0_skip 11 = .ok (.ireturn, 1) := by decide +kernel
theorem dX0_skip_12 : decode cX0_skip 12 = .ok (.iload_n 2, 1) := by decide +kernel
theorem dX0_skip_13 : decode cX0_skip 13 = .ok (.ifCond .lt 9, 3) := by decide +kernel
theorem dX0_skip_16 : decode cX0_skip 16 = .ok (.iload_n 2, 1) := by decide +kernel
theorem dX0_skip_17 : decode cX0_skip 17 = .ok (.bipush 100, 2) := by decide +kernel
theorem dX0_skip_19 : decode cX0_skip 19 = .ok (.if_icmp .le 6, 3) := by decide +kernel
theorem dX0_skip_22 : decode cX0_skip 22 = .ok (.bipush (-3), 2) := by decide +kernel
theorem dX0_skip_24 : decode cX0_skip 24 = .ok (.ireturn, 1) := by decide +kernel
theorem dX0_skip_25 : decode cX0_skip 25 = .ok (.aload_n 0, 1) := by decide +kernel
theorem dX0_skip_26 : decode cX0_skip 26 = .ok (.getfield 29, 3) := by decide +kernel
theorem dX0_skip_29 : decode cX0_skip 29 = .ok (.iload_n 1, 1) := by decide +kernel
theorem dX0_skip_30 : decode cX0_skip 30 = .ok (.iaload, 1) := by decide +kernel
theorem dX0_skip_31 : decode cX0_skip 31 = .ok (.istore 4, 2) := by decide +kernel
theorem dX0_skip_33 : decode cX0_skip 33 = .ok (.aload_n 0, 1) := by decide +kernel
theorem dX0_skip_34 : decode cX0_skip 34 = .ok (.getfield 29, 3) := by decide +kernel
theorem dX0_skip_37 : decode cX0_skip 37 = .ok (.iload_n 1, 1) := by decide +kernel
theorem dX0_skip_38 : decode cX0_skip 38 = .ok (.iload_n 2, 1) := by decide +kernel
theorem dX0_skip_39 : decode cX0_skip 39 = .ok (.iastore, 1) := by decide +kernel
theorem dX0_skip_40 : decode cX0_skip 40 = .ok (.iload 4, 2) := by decide +kernel
theorem dX0_skip_42 : decode cX0_skip 42 = .ok (.ireturn, 1) := by decide +kernel
theorem dX0_load_0 : decode cX0_load 0 = .ok (.iload_n 2, 1) := by decide +kernel
theorem dX0_load_1 : decode cX0_load 1 = .ok (.invokestatic 77, 3) := by decide +kernel
theorem dX0_load_4 : decode cX0_load 4 = .ok (.ifCond .eq 11, 3) := by decide +kernel
theorem dX0_load_7 : decode cX0_load 7 = .ok (.iload_n 1, 1) := by decide +kernel
theorem dX0_load_8 : decode cX0_load 8 = .ok (.iload_n 2, 1) := by decide +kernel
theorem dX0_load_9 : decode cX0_load 9 = .ok (.invokestatic 80, 3) := by decide +kernel
theorem dX0_load_12 : decode cX0_load 12 = .ok (.ifCond .ne 5, 3) := by decide +kernel
theorem dX0_load_15 : decode cX0_load 15 = .ok (.iconst 0, 1) := by decide +kernel
theorem dX0_load_16 : decode cX0_load 16 = .ok (.ireturn, 1) := by decide +kernel
theorem dX0_load_17 : decode cX0_load 17 = .ok (.aload_n 0, 1) := by decide +kernel
theorem dX0_load_18 : decode cX0_load 18 = .ok (.iload_n 1, 1) := by decide +kernel
theorem dX0_load_19 : decode cX0_load 19 = .ok (.iload_n 2, 1) := by decide +kernel
theorem dX0_load_20 : decode cX0_load 20 = .ok (.invokevirtual 84, 3) := by decide +kernel
theorem dX0_load_23 : decode cX0_load 23 = .ok (.istore_n 3, 1) := by decide +kernel
theorem dX0_load_24 : decode cX0_load 24 = .ok (.aload_n 0, 1) := by decide +kernel
theorem dX0_load_25 : decode cX0_load 25 = .ok (.iload_n 1, 1) := by decide +kernel
theorem dX0_load_26 : decode cX0_load 26 = .ok (.iload_n 2, 1) := by decide +kernel
theorem dX0_load_27 : decode cX0_load 27 = .ok (.invokevirtual 88, 3) := by decide +kernel
theorem dX0_load_30 : decode cX0_load 30 = .ok (.aload_n 0, 1) := by decide +kernel
theorem dX0_load_31 : decode cX0_load 31 = .ok (.iload_n 1, 1) := by decide +kernel
theorem dX0_load_32 : decode cX0_load 32 = .ok (.iload_n 2, 1) := by decide +kernel
theorem dX0_load_33 : decode cX0_load 33 = .ok (.iconst 0, 1) := by decide +kernel
theorem dX0_load_34 : decode cX0_load 34 = .ok (.invokevirtual 92, 3) := by decide +kernel
theorem dX0_load_37 : decode cX0_load 37 = .ok (.pop, 1) := by decide +kernel
theorem dX0_load_38 : decode cX0_load 38 = .ok (.iload_n 3, 1) := by decide +kernel
theorem dX0_load_39 : decode cX0_load 39 = .ok (.ireturn, 1) := by decide +kernel
theorem dX0_isSize_0 : decode cX0_isSize 0 = .ok (.iload_n 0, 1) := by decide +kernel
theorem dX0_isSize_1 : decode cX0_isSize 1 = .ok (.iconst 1, 1) := by decide +kernel
theorem dX0_isSize_2 : decode cX0_isSize 2 = .ok (.if_icmp .eq 13, 3) := by decide +kernel
theorem dX0_isSize_5 : decode cX0_isSize 5 = .ok (.iload_n 0, 1) := by decide +kernel
theorem dX0_isSize_6 : decode cX0_isSize 6 = .ok (.iconst 2, 1) := by decide +kernel
theorem dX0_isSize_7 : decode cX0_isSize 7 = .ok (.if_icmp .eq 8, 3) := by decide +kernel
theorem dX0_isSize_10 : decode cX0_isSize 10 = .ok (.iload_n 0, 1) := by decide +kernel
theorem dX0_isSize_11 : decode cX0_isSize 11 = .ok (.iconst 4, 1) := by decide +kernel
theorem dX0_isSize_12 : decode cX0_isSize 12 = .ok (.if_icmp .ne 7, 3) := by decide +kernel
theorem dX0_isSize_15 : decode cX0_isSize 15 = .ok (.iconst 1, 1) := by decide +kernel
theorem dX0_isSize_16 : decode cX0_isSize 16 = .ok (.goto 4, 3) := by decide +kernel
theorem dX0_isSize_19 : decode cX0_isSize 19 = .ok (.iconst 0, 1) := by decide +kernel
theorem dX0_isSize_20 : decode cX0_isSize 20 = .ok (.ireturn, 1) := by decide +kernel
theorem dX0_fits_0 : decode cX0_fits 0 = .ok (.iload_n 0, 1) := by decide +kernel
theorem dX0_fits_1 : decode cX0_fits 1 = .ok (.ifCond .lt 15, 3) := by decide +kernel
theorem dX0_fits_4 : decode cX0_fits 4 = .ok (.iload_n 0, 1) := by decide +kernel
theorem dX0_fits_5 : decode cX0_fits 5 = .ok (.bipush 40, 2) := by decide +kernel
theorem dX0_fits_7 : decode cX0_fits 7 = .ok (.iload_n 1, 1) := by decide +kernel
theorem dX0_fits_8 : decode cX0_fits 8 = .ok (.isub, 1) := by decide +kernel
theorem dX0_fits_9 : decode cX0_fits 9 = .ok (.if_icmp .gt 7, 3) := by decide +kernel
theorem dX0_fits_12 : decode cX0_fits 12 = .ok (.iconst 1, 1) := by decide +kernel
theorem dX0_fits_13 : decode cX0_fits 13 = .ok (.goto 4, 3) := by decide +kernel
theorem dX0_fits_16 : decode cX0_fits 16 = .ok (.iconst 0, 1) := by decide +kernel
theorem dX0_fits_17 : decode cX0_fits 17 = .ok (.ireturn, 1) := by decide +kernel
theorem dX0_valueAt_0 : decode cX0_valueAt 0 = .ok (.iconst 0, 1) := by decide +kernel
theorem dX0_valueAt_1 : decode cX0_valueAt 1 = .ok (.istore_n 3, 1) := by decide +kernel
theorem dX0_valueAt_2 : decode cX0_valueAt 2 = .ok (.iload_n 2, 1) := by decide +kernel
theorem dX0_valueAt_3 : decode cX0_valueAt 3 = .ok (.iconst 1, 1) := by decide +kernel
theorem dX0_valueAt_4 : decode cX0_valueAt 4 = .ok (.isub, 1) := by decide +kernel
theorem dX0_valueAt_5 : decode cX0_valueAt 5 = .ok (.istore 4, 2) := by decide +kernel
theorem dX0_valueAt_7 : decode cX0_valueAt 7 = .ok (.iload 4, 2) := by decide +kernel
theorem dX0_valueAt_9 : decode cX0_valueAt 9 = .ok (.ifCond .lt 24, 3) := by decide +kernel
theorem dX0_valueAt_12 : decode cX0_valueAt 12 = .ok (.iload_n 3, 1) := by decide +kernel
theorem dX0_valueAt_13 : decode cX0_valueAt 13 = .ok (.bipush 8, 2) := by decide +kernel
theorem dX0_valueAt_15 : decode cX0_valueAt 15 = .ok (.ishl, 1) := by decide +kernel
theorem dX0_valueAt_16 : decode cX0_valueAt 16 = .ok (.aload_n 0, 1) := by decide +kernel
theorem dX0_valueAt_17 : decode cX0_valueAt 17 = .ok (.getfield 7, 3) := by decide +kernel
theorem dX0_valueAt_20 : decode cX0_valueAt 20 = .ok (.iload_n 1, 1) := by decide +kernel
theorem dX0_valueAt_21 : decode cX0_valueAt 21 = .ok (.iload 4, 2) := by decide +kernel
theorem dX0_valueAt_23 : decode cX0_valueAt 23 = .ok (.iadd, 1) := by decide +kernel
theorem dX0_valueAt_24 : decode cX0_valueAt 24 = .ok (.iaload, 1) := by decide +kernel
theorem dX0_valueAt_25 : decode cX0_valueAt 25 = .ok (.ior, 1) := by decide +kernel
theorem dX0_valueAt_26 : decode cX0_valueAt 26 = .ok (.istore_n 3, 1) := by decide +kernel
theorem dX0_valueAt_27 : decode cX0_valueAt 27 = .ok (.iinc 4 (-1), 3) := by decide +kernel
theorem dX0_valueAt_30 : decode cX0_valueAt 30 = .ok (.goto (-23), 3) := by decide +kernel
theorem dX0_valueAt_33 : decode cX0_valueAt 33 = .ok (.iload_n 3, 1) := by decide +kernel
theorem dX0_valueAt_34 : decode cX0_valueAt 34 = .ok (.ireturn, 1) := by decide +kernel
theorem dX0_remember_0 : decode cX0_remember 0 = .ok (.iconst 0, 1) := by decide +kernel
theorem dX0_remember_1 : decode cX0_remember 1 = .ok (.istore_n 3, 1) := by decide +kernel
theorem dX0_remember_2 : decode cX0_remember 2 = .ok (.iload_n 3, 1) := by decide +kernel
theorem dX0_remember_3 : decode cX0_remember 3 = .ok (.iload_n 2, 1) := by decide +kernel
end
section
set_option maxRecDepth 100000
theorem dX0_remember_4 : decode cX0_remember 4 = .ok (.if_icmp .ge 23, 3) := by decide +kernel
theorem dX0_remember_7 : decode cX0_remember 7 = .ok (.aload_n 0, 1) := by decide +kernel
theorem dX0_remember_8 : decode cX0_remember 8 = .ok (.getfield 62, 3) := by decide +kernel
theorem dX0_remember_11 : decode cX0_remember 11 = .ok (.iload_n 3, 1) := by decide +kernel
theorem dX0_remember_12 : decode cX0_remember 12 = .ok (.aload_n 0, 1) := by decide +kernel
theorem dX0_remember_13 : decode cX0_remember 13 = .ok (.getfield 7, 3) := by decide +kernel
theorem dX0_remember_16 : decode cX0_remember 16 = .ok (.iload_n 1, 1) := by decide +kernel
theorem dX0_remember_17 : decode cX0_remember 17 = .ok (.iload_n 3, 1) := by decide +kernel
theorem dX0_remember_18 : decode cX0_remember 18 = .ok (.iadd, 1) := by decide +kernel
theorem dX0_remember_19 : decode cX0_remember 19 = .ok (.iaload, 1) := by decide +kernel
theorem dX0_remember_20 : decode cX0_remember 20 = .ok (.iastore, 1) := by decide +kernel
theorem dX0_remember_21 : decode cX0_remember 21 = .ok (.iinc 3 1, 3) := by decide +kernel
theorem dX0_remember_24 : decode cX0_remember 24 = .ok (.goto (-22), 3) := by decide +kernel
theorem dX0_remember_27 : decode cX0_remember 27 = .ok (.return_, 1) := by decide +kernel
theorem dX0_finish_0 : decode cX0_finish 0 = .ok (.aload_n 0, 1) := by decide +kernel
theorem dX0_finish_1 : decode cX0_finish 1 = .ok (.dup, 1) := by decide +kernel
theorem dX0_finish_2 : decode cX0_finish 2 = .ok (.getfield 100, 3) := by decide +kernel
theorem dX0_finish_5 : decode cX0_finish 5 = .ok (.iconst 1, 1) := by decide +kernel
theorem dX0_finish_6 : decode cX0_finish 6 = .ok (.iadd, 1) := by decide +kernel
theorem dX0_finish_7 : decode cX0_finish 7 = .ok (.putfield 100, 3) := by decide +kernel
theorem dX0_finish_10 : decode cX0_finish 10 = .ok (.aload_n 0, 1) := by decide +kernel
theorem dX0_finish_11 : decode cX0_finish 11 = .ok (.getfield 65, 3) := by decide +kernel
theorem dX0_finish_14 : decode cX0_finish 14 = .ok (.ifCond .ne 7, 3) := by decide +kernel
theorem dX0_finish_17 : decode cX0_finish 17 = .ok (.aload_n 0, 1) := by decide +kernel
theorem dX0_finish_18 : decode cX0_finish 18 = .ok (.invokevirtual 126, 3) := by decide +kernel
theorem dX0_finish_21 : decode cX0_finish 21 = .ok (.aload_n 0, 1) := by decide +kernel
theorem dX0_finish_22 : decode cX0_finish 22 = .ok (.iload_n 1, 1) := by decide +kernel
theorem dX0_finish_23 : decode cX0_finish 23 = .ok (.iload_n 2, 1) := by decide +kernel
theorem dX0_finish_24 : decode cX0_finish 24 = .ok (.iload_n 3, 1) := by decide +kernel
theorem dX0_finish_25 : decode cX0_finish 25 = .ok (.ifCond .eq 7, 3) := by decide +kernel
theorem dX0_finish_28 : decode cX0_finish 28 = .ok (.iconst 2, 1) := by decide +kernel
theorem dX0_finish_29 : decode cX0_finish 29 = .ok (.goto 4, 3) := by decide +kernel
theorem dX0_finish_32 : decode cX0_finish 32 = .ok (.iconst 1, 1) := by decide +kernel
theorem dX0_finish_33 : decode cX0_finish 33 = .ok (.invokevirtual 129, 3) := by decide +kernel
theorem dX0_finish_36 : decode cX0_finish 36 = .ok (.istore 4, 2) := by decide +kernel
theorem dX0_finish_38 : decode cX0_finish 38 = .ok (.iconst 0, 1) := by decide +kernel
theorem dX0_finish_39 : decode cX0_finish 39 = .ok (.istore 5, 2) := by decide +kernel
theorem dX0_finish_41 : decode cX0_finish 41 = .ok (.iconst 0, 1) := by decide +kernel
theorem dX0_finish_42 : decode cX0_finish 42 = .ok (.istore 6, 2) := by decide +kernel
theorem dX0_finish_44 : decode cX0_finish 44 = .ok (.iconst 0, 1) := by decide +kernel
theorem dX0_finish_45 : decode cX0_finish 45 = .ok (.istore 7, 2) := by decide +kernel
theorem dX0_finish_47 : decode cX0_finish 47 = .ok (.iload 7, 2) := by decide +kernel
theorem dX0_finish_49 : decode cX0_finish 49 = .ok (.bipush 8, 2) := by decide +kernel
theorem dX0_finish_51 : decode cX0_finish 51 = .ok (.if_icmp .ge 79, 3) := by decide +kernel
theorem dX0_finish_54 : decode cX0_finish 54 = .ok (.iload 4, 2) := by decide +kernel
theorem dX0_finish_56 : decode cX0_finish 56 = .ok (.iload 7, 2) := by decide +kernel
theorem dX0_finish_58 : decode cX0_finish 58 = .ok (.ishr, 1) := by decide +kernel
theorem dX0_finish_59 : decode cX0_finish 59 = .ok (.iconst 1, 1) := by decide +kernel
theorem dX0_finish_60 : decode cX0_finish 60 = .ok (.iand, 1) := by decide +kernel
theorem dX0_finish_61 : decode cX0_finish 61 = .ok (.iconst 1, 1) := by decide +kernel
theorem dX0_finish_62 : decode cX0_finish 62 = .ok (.if_icmp .ne 62, 3) := by decide +kernel
theorem dX0_finish_65 : decode cX0_finish 65 = .ok (.aload_n 0, 1) := by decide +kernel
theorem dX0_finish_66 : decode cX0_finish 66 = .ok (.iload 7, 2) := by decide +kernel
theorem dX0_finish_68 : decode cX0_finish 68 = .ok (.iload_n 1, 1) := by decide +kernel
theorem dX0_finish_69 : decode cX0_finish 69 = .ok (.iload_n 2, 1) := by decide +kernel
theorem dX0_finish_70 : decode cX0_finish 70 = .ok (.iload_n 3, 1) := by decide +kernel
theorem dX0_finish_71 : decode cX0_finish 71 = .ok (.invokevirtual 133, 3) := by decide +kernel
theorem dX0_finish_74 : decode cX0_finish 74 = .ok (.ifCond .eq 50, 3) := by decide +kernel
theorem dX0_finish_77 : decode cX0_finish 77 = .ok (.aload_n 0, 1) := by decide +kernel
theorem dX0_finish_78 : decode cX0_finish 78 = .ok (.getfield 29, 3) := by decide +kernel
theorem dX0_finish_81 : decode cX0_finish 81 = .ok (.iload 7, 2) := by decide +kernel
theorem dX0_finish_83 : decode cX0_finish 83 = .ok (.iaload, 1) := by decide +kernel
theorem dX0_finish_84 : decode cX0_finish 84 = .ok (.ifCond .le 17, 3) := by decide +kernel
theorem dX0_finish_87 : decode cX0_finish 87 = .ok (.aload_n 0, 1) := by decide +kernel
theorem dX0_finish_88 : decode cX0_finish 88 = .ok (.getfield 29, 3) := by decide +kernel
theorem dX0_finish_91 : decode cX0_finish 91 = .ok (.iload 7, 2) := by decide +kernel
theorem dX0_finish_93 : decode cX0_finish 93 = .ok (.dup2, 1) := by decide +kernel
theorem dX0_finish_94 : decode cX0_finish 94 = .ok (.iaload, 1) := by decide +kernel
theorem dX0_finish_95 : decode cX0_finish 95 = .ok (.iconst 1, 1) := by decide +kernel
theorem dX0_finish_96 : decode cX0_finish 96 = .ok (.isub, 1) := by decide +kernel
theorem dX0_finish_97 : decode cX0_finish 97 = .ok (.iastore, 1) := by decide +kernel
theorem dX0_finish_98 : decode cX0_finish 98 = .ok (.goto 26, 3) := by decide +kernel
theorem dX0_finish_101 : decode cX0_finish 101 = .ok (.aload_n 0, 1) := by decide +kernel
theorem dX0_finish_102 : decode cX0_finish 102 = .ok (.getfield 32, 3) := by decide +kernel
theorem dX0_finish_105 : decode cX0_finish 105 = .ok (.iload 7, 2) := by decide +kernel
theorem dX0_finish_107 : decode cX0_finish 107 = .ok (.dup2, 1) := by decide +kernel
theorem dX0_finish_108 : decode cX0_finish 108 = .ok (.iaload, 1) := by decide +kernel
theorem dX0_finish_109 : decode cX0_finish 109 = .ok (.iconst 1, 1) := by decide +kernel
theorem dX0_finish_110 : decode cX0_finish 110 = .ok (.iadd, 1) := by decide +kernel
theorem dX0_finish_111 : decode cX0_finish 111 = .ok (.iastore, 1) := by decide +kernel
theorem dX0_finish_112 : decode cX0_finish 112 = .ok (.iload 5, 2) := by decide +kernel
theorem dX0_finish_114 : decode cX0_finish 114 = .ok (.iconst 1, 1) := by decide +kernel
theorem dX0_finish_115 : decode cX0_finish 115 = .ok (.iload 7, 2) := by decide +kernel
theorem dX0_finish_117 : decode cX0_finish 117 = .ok (.ishl, 1) := by decide +kernel
theorem dX0_finish_118 : decode cX0_finish 118 = .ok (.ior, 1) := by decide +kernel
theorem dX0_finish_119 : decode cX0_finish 119 = .ok (.istore 5, 2) := by decide +kernel
theorem dX0_finish_121 : decode cX0_finish 121 = .ok (.iinc 6 1, 3) := by decide +kernel
theorem dX0_finish_124 : decode cX0_finish 124 = .ok (.iinc 7 1, 3) := by decide +kernel
theorem dX0_finish_127 : decode cX0_finish 127 = .ok (.goto (-80), 3) := by decide +kernel
theorem dX0_finish_130 : decode cX0_finish 130 = .ok (.iload 5, 2) := by decide +kernel
theorem dX0_finish_132 : decode cX0_finish 132 = .ok (.ifCond .eq 75, 3) := by decide +kernel
theorem dX0_finish_135 : decode cX0_finish 135 = .ok (.aload_n 0, 1) := by decide +kernel
theorem dX0_finish_136 : decode cX0_finish 136 = .ok (.getfield 96, 3) := by decide +kernel
theorem dX0_finish_139 : decode cX0_finish 139 = .ok (.bipush 7, 2) := by decide +kernel
theorem dX0_finish_141 : decode cX0_finish 141 = .ok (.iand, 1) := by decide +kernel
theorem dX0_finish_142 : decode cX0_finish 142 = .ok (.istore 7, 2) := by decide +kernel
theorem dX0_finish_144 : decode cX0_finish 144 = .ok (.aload_n 0, 1) := by decide +kernel
theorem dX0_finish_145 : decode cX0_finish 145 = .ok (.dup, 1) := by decide +kernel
theorem dX0_finish_146 : decode cX0_finish 146 = .ok (.getfield 96, 3) := by decide +kernel
theorem dX0_finish_149 : decode cX0_finish 149 = .ok (.iconst 1, 1) := by decide +kernel
theorem dX0_finish_150 : decode cX0_finish 150 = .ok (.iadd, 1) := by decide +kernel
theorem dX0_finish_151 : decode cX0_finish 151 = .ok (.putfield 96, 3) := by decide +kernel
theorem dX0_finish_154 : decode cX0_finish 154 = .ok (.aload_n 0, 1) := by decide +kernel
theorem dX0_finish_155 : decode cX0_finish 155 = .ok (.getfield 47, 3) := by decide +kernel
theorem dX0_finish_158 : decode cX0_finish 158 = .ok (.iload 7, 2) := by decide +kernel
theorem dX0_finish_160 : decode cX0_finish 160 = .ok (.iload 5, 2) := by decide +kernel
theorem dX0_finish_162 : decode cX0_finish 162 = .ok (.iastore, 1) := by decide +kernel
theorem dX0_finish_163 : decode cX0_finish 163 = .ok (.aload_n 0, 1) := by decide +kernel
theorem dX0_finish_164 : decode cX0_finish 164 = .ok (.getfield 50, 3) := by decide +kernel
theorem dX0_finish_167 : decode cX0_finish 167 = .ok (.iload 7, 2) := by decide +kernel
theorem dX0_finish_169 : decode cX0_finish 169 = .ok (.iload_n 1, 1) := by decide +kernel
theorem dX0_finish_170 : decode cX0_finish 170 = .ok (.iastore, 1) := by decide +kernel
theorem dX0_finish_171 : decode cX0_finish 171 = .ok (.aload_n 0, 1) := by decide +kernel
theorem dX0_finish_172 : decode cX0_finish 172 = .ok (.getfield 53, 3) := by decide +kernel
theorem dX0_finish_175 : decode cX0_finish 175 = .ok (.iload 7, 2) := by decide +kernel
theorem dX0_finish_177 : decode cX0_finish 177 = .ok (.aload_n 0, 1) := by decide +kernel
theorem dX0_finish_178 : decode cX0_finish 178 = .ok (.getfield 100, 3) := by decide +kernel
theorem dX0_finish_181 : decode cX0_finish 181 = .ok (.iastore, 1) := by decide +kernel
theorem dX0_finish_182 : decode cX0_finish 182 = .ok (.aload_n 0, 1) := by decide +kernel
theorem dX0_finish_183 : decode cX0_finish 183 = .ok (.getfield 56, 3) := by decide +kernel
theorem dX0_finish_186 : decode cX0_finish 186 = .ok (.iload 7, 2) := by decide +kernel
theorem dX0_finish_188 : decode cX0_finish 188 = .ok (.aload_n 0, 1) := by decide +kernel
theorem dX0_finish_189 : decode cX0_finish 189 = .ok (.iload_n 2, 1) := by decide +kernel
theorem dX0_finish_190 : decode cX0_finish 190 = .ok (.invokevirtual 137, 3) := by decide +kernel
theorem dX0_finish_193 : decode cX0_finish 193 = .ok (.iastore, 1) := by decide +kernel
theorem dX0_finish_194 : decode cX0_finish 194 = .ok (.aload_n 0, 1) := by decide +kernel
theorem dX0_finish_195 : decode cX0_finish 195 = .ok (.getfield 59, 3) := by decide +kernel
theorem dX0_finish_198 : decode cX0_finish 198 = .ok (.iload 7, 2) := by decide +kernel
theorem dX0_finish_200 : decode cX0_finish 200 = .ok (.aload_n 0, 1) := by decide +kernel
theorem dX0_finish_201 : decode cX0_finish 201 = .ok (.iload_n 1, 1) := by decide +kernel
theorem dX0_finish_202 : decode cX0_finish 202 = .ok (.iload_n 2, 1) := by decide +kernel
theorem dX0_finish_203 : decode cX0_finish 203 = .ok (.invokevirtual 84, 3) := by decide +kernel
theorem dX0_finish_206 : decode cX0_finish 206 = .ok (.iastore, 1) := by decide +kernel
theorem dX0_finish_207 : decode cX0_finish 207 = .ok (.iload 6, 2) := by decide +kernel
theorem dX0_finish_209 : decode cX0_finish 209 = .ok (.ireturn, 1) := by decide +kernel
theorem dX0_loadRegisters_0 : decode cX0_loadRegisters 0 = .ok (.aload_n 0, 1) := by decide +kernel
theorem dX0_loadRegisters_1 : decode cX0_loadRegisters 1 = .ok (.iconst 1, 1) := by decide +kernel
theorem dX0_loadRegisters_2 : decode cX0_loadRegisters 2 = .ok (.putfield 65, 3) := by decide +kernel
theorem dX0_loadRegisters_5 : decode cX0_loadRegisters 5 = .ok (.aload_n 0, 1) := by decide +kernel
theorem dX0_loadRegisters_6 : decode cX0_loadRegisters 6 = .ok (.iconst 0, 1) := by decide +kernel
theorem dX0_loadRegisters_7 : decode cX0_loadRegisters 7 = .ok (.putfield 109, 3) := by decide +kernel
theorem dX0_loadRegisters_10 : decode cX0_loadRegisters 10 = .ok (.aload_n 0, 1) := by decide +kernel
theorem dX0_loadRegisters_11 : decode cX0_loadRegisters 11 = .ok (.iconst 0, 1) := by decide +kernel
theorem dX0_loadRegisters_12 : decode cX0_loadRegisters 12 = .ok (.putfield 112, 3) := by decide +kernel
theorem dX0_loadRegisters_15 : decode cX0_loadRegisters 15 = .ok (.aload_n 0, 1) := by decide +kernel
theorem dX0_loadRegisters_16 : decode cX0_loadRegisters 16 = .ok (.iconst 0, 1) := by decide +kernel
theorem dX0_loadRegisters_17 : decode cX0_loadRegisters 17 = .ok (.putfield 115, 3) := by decide +kernel
theorem dX0_loadRegisters_20 : decode cX0_loadRegisters 20 = .ok (.iconst 0, 1) := by decide +kernel
theorem dX0_loadRegisters_21 : decode cX0_loadRegisters 21 = .ok (.istore_n 1, 1) := by decide +kernel
theorem dX0_loadRegisters_22 : decode cX0_loadRegisters 22 = .ok (.iload_n 1, 1) := by decide +kernel
theorem dX0_loadRegisters_23 : decode cX0_loadRegisters 23 = .ok (.bipush 8, 2) := by decide +kernel
theorem dX0_loadRegisters_25 : decode cX0_loadRegisters 25 = .ok (.if_icmp .ge 44, 3) := by decide +kernel
theorem dX0_loadRegisters_28 : decode cX0_loadRegisters 28 = .ok (.aload_n 0, 1) := by decide +kernel
theorem dX0_loadRegisters_29 : decode cX0_loadRegisters 29 = .ok (.getfield 13, 3) := by decide +kernel
theorem dX0_loadRegisters_32 : decode cX0_loadRegisters 32 = .ok (.iload_n 1, 1) := by decide +kernel
theorem dX0_loadRegisters_33 : decode cX0_loadRegisters 33 = .ok (.baload, 1) := by decide +kernel
theorem dX0_loadRegisters_34 : decode cX0_loadRegisters 34 = .ok (.ifCond .eq 29, 3) := by decide +kernel
theorem dX0_loadRegisters_37 : decode cX0_loadRegisters 37 = .ok (.aload_n 0, 1) := by decide +kernel
theorem dX0_loadRegisters_38 : decode cX0_loadRegisters 38 = .ok (.getfield 17, 3) := by decide +kernel
theorem dX0_loadRegisters_41 : decode cX0_loadRegisters 41 = .ok (.iload_n 1, 1) := by decide +kernel
theorem dX0_loadRegisters_42 : decode cX0_loadRegisters 42 = .ok (.baload, 1) := by decide +kernel
theorem dX0_loadRegisters_43 : decode cX0_loadRegisters 43 = .ok (.ifCond .ne 20, 3) := by decide +kernel
theorem dX0_loadRegisters_46 : decode cX0_loadRegisters 46 = .ok (.aload_n 0, 1) := by decide +kernel
theorem dX0_loadRegisters_47 : decode cX0_loadRegisters 47 = .ok (.aload_n 0, 1) := by decide +kernel
theorem dX0_loadRegisters_48 : decode cX0_loadRegisters 48 = .ok (.getfield 115, 3) := by decide +kernel
theorem dX0_loadRegisters_51 : decode cX0_loadRegisters 51 = .ok (.iconst 1, 1) := by decide +kernel
theorem dX0_loadRegisters_52 : decode cX0_loadRegisters 52 = .ok (.iload_n 1, 1) := by decide +kernel
theorem dX0_loadRegisters_53 : decode cX0_loadRegisters 53 = .ok (.ishl, 1) := by decide +kernel
theorem dX0_loadRegisters_54 : decode cX0_loadRegisters 54 = .ok (.ior, 1) := by decide +kernel
theorem dX0_loadRegisters_55 : decode cX0_loadRegisters 55 = .ok (.putfield 115, 3) := by decide +kernel
theorem dX0_loadRegisters_58 : decode cX0_loadRegisters 58 = .ok (.aload_n 0, 1) := by decide +kernel
theorem dX0_loadRegisters_59 : decode cX0_loadRegisters 59 = .ok (.iload_n 1, 1) := by decide +kernel
theorem dX0_loadRegisters_60 : decode cX0_loadRegisters 60 = .ok (.invokevirtual 118, 3) := by decide +kernel
theorem dX0_loadRegisters_63 : decode cX0_loadRegisters 63 = .ok (.iinc 1 1, 3) := by decide +kernel
theorem dX0_loadRegisters_66 : decode cX0_loadRegisters 66 = .ok (.goto (-44), 3) := by decide +kernel
theorem dX0_loadRegisters_69 : decode cX0_loadRegisters 69 = .ok (.return_, 1) := by decide +kernel
theorem dX0_split_0 : decode cX0_split 0 = .ok (.aload_n 0, 1) := by decide +kernel
theorem dX0_split_1 : decode cX0_split 1 = .ok (.getfield 20, 3) := by decide +kernel
theorem dX0_split_4 : decode cX0_split 4 = .ok (.iload_n 1, 1) := by decide +kernel
theorem dX0_split_5 : decode cX0_split 5 = .ok (.iaload, 1) := by decide +kernel
theorem dX0_split_6 : decode cX0_split 6 = .ok (.istore_n 2, 1) := by decide +kernel
theorem dX0_split_7 : decode cX0_split 7 = .ok (.iconst 0, 1) := by decide +kernel
theorem dX0_split_8 : decode cX0_split 8 = .ok (.istore_n 3, 1) := by decide +kernel
theorem dX0_split_9 : decode cX0_split 9 = .ok (.iload_n 3, 1) := by decide +kernel
theorem dX0_split_10 : decode cX0_split 10 = .ok (.bipush 16, 2) := by decide +kernel
theorem dX0_split_12 : decode cX0_split 12 = .ok (.if_icmp .ge 75, 3) := by decide +kernel
theorem dX0_split_15 : decode cX0_split 15 = .ok (.iload_n 2, 1) := by decide +kernel
theorem dX0_split_16 : decode cX0_split 16 = .ok (.aload_n 0, 1) := by decide +kernel
theorem dX0_split_17 : decode cX0_split 17 = .ok (.getfield 23, 3) := by decide +kernel
theorem dX0_split_20 : decode cX0_split 20 = .ok (.iload_n 1, 1) := by decide +kernel
theorem dX0_split_21 : decode cX0_split 21 = .ok (.iaload, 1) := by decide +kernel
theorem dX0_split_22 : decode cX0_split 22 = .ok (.if_icmp .gt 65, 3) := by decide +kernel
theorem dX0_split_25 : decode cX0_split 25 = .ok (.bipush 8, 2) := by decide +kernel
theorem dX0_split_27 : decode cX0_split 27 = .ok (.istore 4, 2) := by decide +kernel
theorem dX0_split_29 : decode cX0_split 29 = .ok (.iload 4, 2) := by decide +kernel
theorem dX0_split_31 : decode cX0_split 31 = .ok (.iconst 1, 1) := by decide +kernel
theorem dX0_split_32 : decode cX0_split 32 = .ok (.if_icmp .le 36, 3) := by decide +kernel
theorem dX0_split_35 : decode cX0_split 35 = .ok (.iload_n 2, 1) := by decide +kernel
theorem dX0_split_36 : decode cX0_split 36 = .ok (.iload 4, 2) := by decide +kernel
theorem dX0_split_38 : decode cX0_split 38 = .ok (.iconst 1, 1) := by decide +kernel
theorem dX0_split_39 : decode cX0_split 39 = .ok (.isub, 1) := by decide +kernel
theorem dX0_split_40 : decode cX0_split 40 = .ok (.iand, 1) := by decide +kernel
theorem dX0_split_41 : decode cX0_split 41 = .ok (.ifCond .ne 18, 3) := by decide +kernel
theorem dX0_split_44 : decode cX0_split 44 = .ok (.iload_n 2, 1) := by decide +kernel
theorem dX0_split_45 : decode cX0_split 45 = .ok (.iload 4, 2) := by decide +kernel
theorem dX0_split_47 : decode cX0_split 47 = .ok (.iadd, 1) := by decide +kernel
theorem dX0_split_48 : decode cX0_split 48 = .ok (.iconst 1, 1) := by decide +kernel
theorem dX0_split_49 : decode cX0_split 49 = .ok (.isub, 1) := by decide +kernel
theorem dX0_split_50 : decode cX0_split 50 = .ok (.aload_n 0, 1) := by decide +kernel
theorem dX0_split_51 : decode cX0_split 51 = .ok (.getfield 23, 3) := by decide +kernel
theorem dX0_split_54 : decode cX0_split 54 = .ok (.iload_n 1, 1) := by decide +kernel
theorem dX0_split_55 : decode cX0_split 55 = .ok (.iaload, 1) := by decide +kernel
theorem dX0_split_56 : decode cX0_split 56 = .ok (.if_icmp .le 12, 3) := by decide +kernel
theorem dX0_split_59 : decode cX0_split 59 = .ok (.iload 4, 2) := by decide +kernel
theorem dX0_split_61 : decode cX0_split 61 = .ok (.iconst 1, 1) := by decide +kernel
theorem dX0_split_62 : decode cX0_split 62 = .ok (.ishr, 1) := by decide +kernel
theorem dX0_split_63 : decode cX0_split 63 = .ok (.istore 4, 2) := by decide +kernel
theorem dX0_split_65 : decode cX0_split 65 = .ok (.goto (-36), 3) := by decide +kernel
theorem dX0_split_68 : decode cX0_split 68 = .ok (.aload_n 0, 1) := by decide +kernel
theorem dX0_split_69 : decode cX0_split 69 = .ok (.iload_n 2, 1) := by decide +kernel
theorem dX0_split_70 : decode cX0_split 70 = .ok (.iload 4, 2) := by decide +kernel
theorem dX0_split_72 : decode cX0_split 72 = .ok (.iload_n 1, 1) := by decide +kernel
theorem dX0_split_73 : decode cX0_split 73 = .ok (.invokevirtual 122, 3) := by decide +kernel
theorem dX0_split_76 : decode cX0_split 76 = .ok (.iload_n 2, 1) := by decide +kernel
theorem dX0_split_77 : decode cX0_split 77 = .ok (.iload 4, 2) := by decide +kernel
theorem dX0_split_79 : decode cX0_split 79 = .ok (.iadd, 1) := by decide +kernel
theorem dX0_split_80 : decode cX0_split 80 = .ok (.istore_n 2, 1) := by decide +kernel
theorem dX0_split_81 : decode cX0_split 81 = .ok (.iinc 3 1, 3) := by decide +kernel
theorem dX0_split_84 : decode cX0_split 84 = .ok (.goto (-75), 3) := by decide +kernel
theorem dX0_split_87 : decode cX0_split 87 = .ok (.return_, 1) := by decide +kernel
theorem dX0_occupy_0 : decode cX0_occupy 0 = .ok (.aload_n 0, 1) := by decide +kernel
theorem dX0_occupy_1 : decode cX0_occupy 1 = .ok (.getfield 26, 3) := by decide +kernel
theorem dX0_occupy_4 : decode cX0_occupy 4 = .ok (.iload_n 3, 1) := by decide +kernel
theorem dX0_occupy_5 : decode cX0_occupy 5 = .ok (.iaload, 1) := by decide +kernel
theorem dX0_occupy_6 : decode cX0_occupy 6 = .ok (.iconst 4, 1) := by decide +kernel
theorem dX0_occupy_7 : decode cX0_occupy 7 = .ok (.if_icmp .ne 7, 3) := by decide +kernel
theorem dX0_occupy_10 : decode cX0_occupy 10 = .ok (.iconst 2, 1) := by decide +kernel
theorem dX0_occupy_11 : decode cX0_occupy 11 = .ok (.goto 9, 3) := by decide +kernel
theorem dX0_occupy_14 : decode cX0_occupy 14 = .ok (.aload_n 0, 1) := by decide +kernel
theorem dX0_occupy_15 : decode cX0_occupy 15 = .ok (.getfield 26, 3) := by decide +kernel
theorem dX0_occupy_18 : decode cX0_occupy 18 = .ok (.iload_n 3, 1) := by decide +kernel
theorem dX0_occupy_19 : decode cX0_occupy 19 = .ok (.iaload, 1) := by decide +kernel
theorem dX0_occupy_20 : decode cX0_occupy 20 = .ok (.istore 4, 2) := by decide +kernel
theorem dX0_occupy_22 : decode cX0_occupy 22 = .ok (.iconst 0, 1) := by decide +kernel
theorem dX0_occupy_23 : decode cX0_occupy 23 = .ok (.istore 5, 2) := by decide +kernel
theorem dX0_occupy_25 : decode cX0_occupy 25 = .ok (.iload 5, 2) := by decide +kernel
theorem dX0_occupy_27 : decode cX0_occupy 27 = .ok (.aload_n 0, 1) := by decide +kernel
theorem dX0_occupy_28 : decode cX0_occupy 28 = .ok (.getfield 112, 3) := by decide +kernel
theorem dX0_occupy_31 : decode cX0_occupy 31 = .ok (.if_icmp .ge 67, 3) := by decide +kernel
theorem dX0_occupy_34 : decode cX0_occupy 34 = .ok (.aload_n 0, 1) := by decide +kernel
theorem dX0_occupy_35 : decode cX0_occupy 35 = .ok (.getfield 35, 3) := by decide +kernel
theorem dX0_occupy_38 : decode cX0_occupy 38 = .ok (.iload 5, 2) := by decide +kernel
theorem dX0_occupy_40 : decode cX0_occupy 40 = .ok (.iaload, 1) := by decide +kernel
theorem dX0_occupy_41 : decode cX0_occupy 41 = .ok (.iload_n 1, 1) := by decide +kernel
theorem dX0_occupy_42 : decode cX0_occupy 42 = .ok (.if_icmp .ne 50, 3) := by decide +kernel
theorem dX0_occupy_45 : decode cX0_occupy 45 = .ok (.aload_n 0, 1) := by decide +kernel
theorem dX0_occupy_46 : decode cX0_occupy 46 = .ok (.getfield 38, 3) := by decide +kernel
theorem dX0_occupy_49 : decode cX0_occupy 49 = .ok (.iload 5, 2) := by decide +kernel
theorem dX0_occupy_51 : decode cX0_occupy 51 = .ok (.iaload, 1) := by decide +kernel
theorem dX0_occupy_52 : decode cX0_occupy 52 = .ok (.iload_n 2, 1) := by decide +kernel
theorem dX0_occupy_53 : decode cX0_occupy 53 = .ok (.if_icmp .ne 39, 3) := by decide +kernel
theorem dX0_occupy_56 : decode cX0_occupy 56 = .ok (.aload_n 0, 1) := by decide +kernel
theorem dX0_occupy_57 : decode cX0_occupy 57 = .ok (.getfield 41, 3) := by decide +kernel
theorem dX0_occupy_60 : decode cX0_occupy 60 = .ok (.iload 5, 2) := by decide +kernel
theorem dX0_occupy_62 : decode cX0_occupy 62 = .ok (.aload_n 0, 1) := by decide +kernel
theorem dX0_occupy_63 : decode cX0_occupy 63 = .ok (.getfield 41, 3) := by decide +kernel
theorem dX0_occupy_66 : decode cX0_occupy 66 = .ok (.iload 5, 2) := by decide +kernel
theorem dX0_occupy_68 : decode cX0_occupy 68 = .ok (.iaload, 1) := by decide +kernel
theorem dX0_occupy_69 : decode cX0_occupy 69 = .ok (.iload 4, 2) := by decide +kernel
theorem dX0_occupy_71 : decode cX0_occupy 71 = .ok (.ior, 1) := by decide +kernel
theorem dX0_occupy_72 : decode cX0_occupy 72 = .ok (.iastore, 1) := by decide +kernel
theorem dX0_occupy_73 : decode cX0_occupy 73 = .ok (.aload_n 0, 1) := by decide +kernel
theorem dX0_occupy_74 : decode cX0_occupy 74 = .ok (.getfield 44, 3) := by decide +kernel
theorem dX0_occupy_77 : decode cX0_occupy 77 = .ok (.iload 5, 2) := by decide +kernel
theorem dX0_occupy_79 : decode cX0_occupy 79 = .ok (.aload_n 0, 1) := by decide +kernel
theorem dX0_occupy_80 : decode cX0_occupy 80 = .ok (.getfield 44, 3) := by decide +kernel
theorem dX0_occupy_83 : decode cX0_occupy 83 = .ok (.iload 5, 2) := by decide +kernel
theorem dX0_occupy_85 : decode cX0_occupy 85 = .ok (.iaload, 1) := by decide +kernel
theorem dX0_occupy_86 : decode cX0_occupy 86 = .ok (.iconst 1, 1) := by decide +kernel
theorem dX0_occupy_87 : decode cX0_occupy 87 = .ok (.iload_n 3, 1) := by decide +kernel
theorem dX0_occupy_88 : decode cX0_occupy 88 = .ok (.ishl, 1) := by decide +kernel
theorem dX0_occupy_89 : decode cX0_occupy 89 = .ok (.ior, 1) := by decide +kernel
theorem dX0_occupy_90 : decode cX0_occupy 90 = .ok (.iastore, 1) := by decide +kernel
theorem dX0_occupy_91 : decode cX0_occupy 91 = .ok (.return_, 1) := by decide +kernel
theorem dX0_occupy_92 : decode cX0_occupy 92 = .ok (.iinc 5 1, 3) := by decide +kernel
theorem dX0_occupy_95 : decode cX0_occupy 95 = .ok (.goto (-70), 3) := by decide +kernel
theorem dX0_occupy_98 : decode cX0_occupy 98 = .ok (.aload_n 0, 1) := by decide +kernel
theorem dX0_occupy_99 : decode cX0_occupy 99 = .ok (.getfield 112, 3) := by decide +kernel
theorem dX0_occupy_102 : decode cX0_occupy 102 = .ok (.iconst 4, 1) := by decide +kernel
theorem dX0_occupy_103 : decode cX0_occupy 103 = .ok (.if_icmp .ne 9, 3) := by decide +kernel
theorem dX0_occupy_106 : decode cX0_occupy 106 = .ok (.aload_n 0, 1) := by decide +kernel
theorem dX0_occupy_107 : decode cX0_occupy 107 = .ok (.iconst 1, 1) := by decide +kernel
theorem dX0_occupy_108 : decode cX0_occupy 108 = .ok (.putfield 109, 3) := by decide +kernel
theorem dX0_occupy_111 : decode cX0_occupy 111 = .ok (.return_, 1) := by decide +kernel
theorem dX0_occupy_112 : decode cX0_occupy 112 = .ok (.aload_n 0, 1) := by decide +kernel
theorem dX0_occupy_113 : decode cX0_occupy 113 = .ok (.getfield 35, 3) := by decide +kernel
theorem dX0_occupy_116 : decode cX0_occupy 116 = .ok (.aload_n 0, 1) := by decide +kernel
theorem dX0_occupy_117 : decode cX0_occupy 117 = .ok (.getfield 112, 3) := by decide +kernel
theorem dX0_occupy_120 : decode cX0_occupy 120 = .ok (.iload_n 1, 1) := by decide +kernel
theorem dX0_occupy_121 : decode cX0_occupy 121 = .ok (.iastore, 1) := by decide +kernel
theorem dX0_occupy_122 : decode cX0_occupy 122 = .ok (.aload_n 0, 1) := by decide +kernel
theorem dX0_occupy_123 : decode cX0_occupy 123 = .ok (.getfield 38, 3) := by decide +kernel
theorem dX0_occupy_126 : decode cX0_occupy 126 = .ok (.aload_n 0, 1) := by decide +kernel
theorem dX0_occupy_127 : decode cX0_occupy 127 = .ok (.getfield 112, 3) := by decide +kernel
theorem dX0_occupy_130 : decode cX0_occupy 130 = .ok (.iload_n 2, 1) := by decide +kernel
theorem dX0_occupy_131 : decode cX0_occupy 131 = .ok (.iastore, 1) := by decide +kernel
theorem dX0_occupy_132 : decode cX0_occupy 132 = .ok (.aload_n 0, 1) := by decide +kernel
theorem dX0_occupy_133 : decode cX0_occupy 133 = .ok (.getfield 41, 3) := by decide +kernel
theorem dX0_occupy_136 : decode cX0_occupy 136 = .ok (.aload_n 0, 1) := by decide +kernel
theorem dX0_occupy_137 : decode cX0_occupy 137 = .ok (.getfield 112, 3) := by decide +kernel
theorem dX0_occupy_140 : decode cX0_occupy 140 = .ok (.iload 4, 2) := by decide +kernel
theorem dX0_occupy_142 : decode cX0_occupy 142 = .ok (.iastore, 1) := by decide +kernel
theorem dX0_occupy_143 : decode cX0_occupy 143 = .ok (.aload_n 0, 1) := by decide +kernel
theorem dX0_occupy_144 : decode cX0_occupy 144 = .ok (.getfield 44, 3) := by decide +kernel
theorem dX0_occupy_147 : decode cX0_occupy 147 = .ok (.aload_n 0, 1) := by decide +kernel
theorem dX0_occupy_148 : decode cX0_occupy 148 = .ok (.getfield 112, 3) := by decide +kernel
theorem dX0_occupy_151 : decode cX0_occupy 151 = .ok (.iconst 1, 1) := by decide +kernel
theorem dX0_occupy_152 : decode cX0_occupy 152 = .ok (.iload_n 3, 1) := by decide +kernel
theorem dX0_occupy_153 : decode cX0_occupy 153 = .ok (.ishl, 1) := by decide +kernel
theorem dX0_occupy_154 : decode cX0_occupy 154 = .ok (.iastore, 1) := by decide +kernel
theorem dX0_occupy_155 : decode cX0_occupy 155 = .ok (.aload_n 0, 1) := by decide +kernel
theorem dX0_occupy_156 : decode cX0_occupy 156 = .ok (.dup, 1) := by decide +kernel
theorem dX0_occupy_157 : decode cX0_occupy 157 = .ok (.getfield 112, 3) := by decide +kernel
theorem dX0_occupy_160 : decode cX0_occupy 160 = .ok (.iconst 1, 1) := by decide +kernel
theorem dX0_occupy_161 : decode cX0_occupy 161 = .ok (.iadd, 1) := by decide +kernel
theorem dX0_occupy_162 : decode cX0_occupy 162 = .ok (.putfield 112, 3) := by decide +kernel
theorem dX0_occupy_165 : decode cX0_occupy 165 = .ok (.return_, 1) := by decide +kernel
theorem dX0_suspects_0 : decode cX0_suspects 0 = .ok (.aload_n 0, 1) := by decide +kernel
theorem dX0_suspects_1 : decode cX0_suspects 1 = .ok (.getfield 109, 3) := by decide +kernel
theorem dX0_suspects_4 : decode cX0_suspects 4 = .ok (.ifCond .eq 8, 3) := by decide +kernel
theorem dX0_suspects_7 : decode cX0_suspects 7 = .ok (.aload_n 0, 1) := by decide +kernel
theorem dX0_suspects_8 : decode cX0_suspects 8 = .ok (.getfield 115, 3) := by decide +kernel
theorem dX0_suspects_11 : decode cX0_suspects 11 = .ok (.ireturn, 1) := by decide +kernel
theorem dX0_suspects_12 : decode cX0_suspects 12 = .ok (.iconst 0, 1) := by decide +kernel
theorem dX0_suspects_13 : decode cX0_suspects 13 = .ok (.istore 4, 2) := by decide +kernel
theorem dX0_suspects_15 : decode cX0_suspects 15 = .ok (.iconst 0, 1) := by decide +kernel
theorem dX0_suspects_16 : decode cX0_suspects 16 = .ok (.istore 5, 2) := by decide +kernel
theorem dX0_suspects_18 : decode cX0_suspects 18 = .ok (.iload 5, 2) := by decide +kernel
theorem dX0_suspects_20 : decode cX0_suspects 20 = .ok (.aload_n 0, 1) := by decide +kernel
theorem dX0_suspects_21 : decode cX0_suspects 21 = .ok (.getfield 112, 3) := by decide +kernel
end
section
set_option maxRecDepth 100000
theorem dX0_suspects_24 : decode cX0_suspects 24 = .ok (.if_icmp .ge 77, 3) := by decide +kernel
theorem dX0_suspects_27 : decode cX0_suspects 27 = .ok (.iload_n 1, 1) := by decide +kernel
theorem dX0_suspects_28 : decode cX0_suspects 28 = .ok (.aload_n 0, 1) := by decide +kernel
theorem dX0_suspects_29 : decode cX0_suspects 29 = .ok (.getfield 35, 3) := by decide +kernel
theorem dX0_suspects_32 : decode cX0_suspects 32 = .ok (.iload 5, 2) := by decide +kernel
theorem dX0_suspects_34 : decode cX0_suspects 34 = .ok (.iaload, 1) := by decide +kernel
theorem dX0_suspects_35 : decode cX0_suspects 35 = .ok (.aload_n 0, 1) := by decide +kernel
theorem dX0_suspects_36 : decode cX0_suspects 36 = .ok (.getfield 38, 3) := by decide +kernel
theorem dX0_suspects_39 : decode cX0_suspects 39 = .ok (.iload 5, 2) := by decide +kernel
theorem dX0_suspects_41 : decode cX0_suspects 41 = .ok (.iaload, 1) := by decide +kernel
theorem dX0_suspects_42 : decode cX0_suspects 42 = .ok (.iadd, 1) := by decide +kernel
theorem dX0_suspects_43 : decode cX0_suspects 43 = .ok (.if_icmp .ge 20, 3) := by decide +kernel
theorem dX0_suspects_46 : decode cX0_suspects 46 = .ok (.aload_n 0, 1) := by decide +kernel
theorem dX0_suspects_47 : decode cX0_suspects 47 = .ok (.getfield 35, 3) := by decide +kernel
theorem dX0_suspects_50 : decode cX0_suspects 50 = .ok (.iload 5, 2) := by decide +kernel
theorem dX0_suspects_52 : decode cX0_suspects 52 = .ok (.iaload, 1) := by decide +kernel
theorem dX0_suspects_53 : decode cX0_suspects 53 = .ok (.iload_n 1, 1) := by decide +kernel
theorem dX0_suspects_54 : decode cX0_suspects 54 = .ok (.iload_n 2, 1) := by decide +kernel
theorem dX0_suspects_55 : decode cX0_suspects 55 = .ok (.iadd, 1) := by decide +kernel
theorem dX0_suspects_56 : decode cX0_suspects 56 = .ok (.if_icmp .ge 7, 3) := by decide +kernel
theorem dX0_suspects_59 : decode cX0_suspects 59 = .ok (.iconst 1, 1) := by decide +kernel
theorem dX0_suspects_60 : decode cX0_suspects 60 = .ok (.goto 4, 3) := by decide +kernel
theorem dX0_suspects_63 : decode cX0_suspects 63 = .ok (.iconst 0, 1) := by decide +kernel
theorem dX0_suspects_64 : decode cX0_suspects 64 = .ok (.istore 6, 2) := by decide +kernel
theorem dX0_suspects_66 : decode cX0_suspects 66 = .ok (.iload 6, 2) := by decide +kernel
theorem dX0_suspects_68 : decode cX0_suspects 68 = .ok (.ifCond .eq 27, 3) := by decide +kernel
theorem dX0_suspects_71 : decode cX0_suspects 71 = .ok (.aload_n 0, 1) := by decide +kernel
theorem dX0_suspects_72 : decode cX0_suspects 72 = .ok (.getfield 41, 3) := by decide +kernel
theorem dX0_suspects_75 : decode cX0_suspects 75 = .ok (.iload 5, 2) := by decide +kernel
theorem dX0_suspects_77 : decode cX0_suspects 77 = .ok (.iaload, 1) := by decide +kernel
theorem dX0_suspects_78 : decode cX0_suspects 78 = .ok (.iload_n 3, 1) := by decide +kernel
theorem dX0_suspects_79 : decode cX0_suspects 79 = .ok (.iand, 1) := by decide +kernel
theorem dX0_suspects_80 : decode cX0_suspects 80 = .ok (.ifCond .eq 15, 3) := by decide +kernel
theorem dX0_suspects_83 : decode cX0_suspects 83 = .ok (.iload 4, 2) := by decide +kernel
theorem dX0_suspects_85 : decode cX0_suspects 85 = .ok (.aload_n 0, 1) := by decide +kernel
theorem dX0_suspects_86 : decode cX0_suspects 86 = .ok (.getfield 44, 3) := by decide +kernel
theorem dX0_suspects_89 : decode cX0_suspects 89 = .ok (.iload 5, 2) := by decide +kernel
theorem dX0_suspects_91 : decode cX0_suspects 91 = .ok (.iaload, 1) := by decide +kernel
theorem dX0_suspects_92 : decode cX0_suspects 92 = .ok (.ior, 1) := by decide +kernel
theorem dX0_suspects_93 : decode cX0_suspects 93 = .ok (.istore 4, 2) := by decide +kernel
theorem dX0_suspects_95 : decode cX0_suspects 95 = .ok (.iinc 5 1, 3) := by decide +kernel
theorem dX0_suspects_98 : decode cX0_suspects 98 = .ok (.goto (-80), 3) := by decide +kernel
theorem dX0_suspects_101 : decode cX0_suspects 101 = .ok (.iload 4, 2) := by decide +kernel
theorem dX0_suspects_103 : decode cX0_suspects 103 = .ok (.ireturn, 1) := by decide +kernel
theorem dX0_isHit_0 : decode cX0_isHit 0 = .ok (.iload 4, 2) := by decide +kernel
theorem dX0_isHit_2 : decode cX0_isHit 2 = .ok (.ifCond .eq 7, 3) := by decide +kernel
theorem dX0_isHit_5 : decode cX0_isHit 5 = .ok (.iconst 2, 1) := by decide +kernel
theorem dX0_isHit_6 : decode cX0_isHit 6 = .ok (.goto 4, 3) := by decide +kernel
theorem dX0_isHit_9 : decode cX0_isHit 9 = .ok (.iconst 1, 1) := by decide +kernel
theorem dX0_isHit_10 : decode cX0_isHit 10 = .ok (.istore 5, 2) := by decide +kernel
theorem dX0_isHit_12 : decode cX0_isHit 12 = .ok (.aload_n 0, 1) := by decide +kernel
theorem dX0_isHit_13 : decode cX0_isHit 13 = .ok (.getfield 26, 3) := by decide +kernel
theorem dX0_isHit_16 : decode cX0_isHit 16 = .ok (.iload_n 1, 1) := by decide +kernel
theorem dX0_isHit_17 : decode cX0_isHit 17 = .ok (.iaload, 1) := by decide +kernel
theorem dX0_isHit_18 : decode cX0_isHit 18 = .ok (.iconst 4, 1) := by decide +kernel
theorem dX0_isHit_19 : decode cX0_isHit 19 = .ok (.if_icmp .eq 43, 3) := by decide +kernel
theorem dX0_isHit_22 : decode cX0_isHit 22 = .ok (.aload_n 0, 1) := by decide +kernel
theorem dX0_isHit_23 : decode cX0_isHit 23 = .ok (.getfield 26, 3) := by decide +kernel
theorem dX0_isHit_26 : decode cX0_isHit 26 = .ok (.iload_n 1, 1) := by decide +kernel
theorem dX0_isHit_27 : decode cX0_isHit 27 = .ok (.iaload, 1) := by decide +kernel
theorem dX0_isHit_28 : decode cX0_isHit 28 = .ok (.iload 5, 2) := by decide +kernel
theorem dX0_isHit_30 : decode cX0_isHit 30 = .ok (.iand, 1) := by decide +kernel
theorem dX0_isHit_31 : decode cX0_isHit 31 = .ok (.ifCond .eq 29, 3) := by decide +kernel
theorem dX0_isHit_34 : decode cX0_isHit 34 = .ok (.iload_n 2, 1) := by decide +kernel
theorem dX0_isHit_35 : decode cX0_isHit 35 = .ok (.aload_n 0, 1) := by decide +kernel
theorem dX0_isHit_36 : decode cX0_isHit 36 = .ok (.getfield 23, 3) := by decide +kernel
theorem dX0_isHit_39 : decode cX0_isHit 39 = .ok (.iload_n 1, 1) := by decide +kernel
theorem dX0_isHit_40 : decode cX0_isHit 40 = .ok (.iaload, 1) := by decide +kernel
theorem dX0_isHit_41 : decode cX0_isHit 41 = .ok (.if_icmp .gt 19, 3) := by decide +kernel
theorem dX0_isHit_44 : decode cX0_isHit 44 = .ok (.aload_n 0, 1) := by decide +kernel
theorem dX0_isHit_45 : decode cX0_isHit 45 = .ok (.getfield 20, 3) := by decide +kernel
theorem dX0_isHit_48 : decode cX0_isHit 48 = .ok (.iload_n 1, 1) := by decide +kernel
theorem dX0_isHit_49 : decode cX0_isHit 49 = .ok (.iaload, 1) := by decide +kernel
theorem dX0_isHit_50 : decode cX0_isHit 50 = .ok (.iload_n 2, 1) := by decide +kernel
theorem dX0_isHit_51 : decode cX0_isHit 51 = .ok (.iload_n 3, 1) := by decide +kernel
theorem dX0_isHit_52 : decode cX0_isHit 52 = .ok (.iadd, 1) := by decide +kernel
theorem dX0_isHit_53 : decode cX0_isHit 53 = .ok (.if_icmp .ge 7, 3) := by decide +kernel
theorem dX0_isHit_56 : decode cX0_isHit 56 = .ok (.iconst 1, 1) := by decide +kernel
theorem dX0_isHit_57 : decode cX0_isHit 57 = .ok (.goto 4, 3) := by decide +kernel
theorem dX0_isHit_60 : decode cX0_isHit 60 = .ok (.iconst 0, 1) := by decide +kernel
theorem dX0_isHit_61 : decode cX0_isHit 61 = .ok (.ireturn, 1) := by decide +kernel
theorem dX0_isHit_62 : decode cX0_isHit 62 = .ok (.iload 4, 2) := by decide +kernel
theorem dX0_isHit_64 : decode cX0_isHit 64 = .ok (.ifCond .ne 5, 3) := by decide +kernel
theorem dX0_isHit_67 : decode cX0_isHit 67 = .ok (.iconst 0, 1) := by decide +kernel
theorem dX0_isHit_68 : decode cX0_isHit 68 = .ok (.ireturn, 1) := by decide +kernel
theorem dX0_isHit_69 : decode cX0_isHit 69 = .ok (.iconst 0, 1) := by decide +kernel
theorem dX0_isHit_70 : decode cX0_isHit 70 = .ok (.istore 6, 2) := by decide +kernel
theorem dX0_isHit_72 : decode cX0_isHit 72 = .ok (.iload 6, 2) := by decide +kernel
theorem dX0_isHit_74 : decode cX0_isHit 74 = .ok (.iload_n 3, 1) := by decide +kernel
theorem dX0_isHit_75 : decode cX0_isHit 75 = .ok (.if_icmp .ge 56, 3) := by decide +kernel
theorem dX0_isHit_78 : decode cX0_isHit 78 = .ok (.iload_n 2, 1) := by decide +kernel
theorem dX0_isHit_79 : decode cX0_isHit 79 = .ok (.iload 6, 2) := by decide +kernel
theorem dX0_isHit_81 : decode cX0_isHit 81 = .ok (.iadd, 1) := by decide +kernel
theorem dX0_isHit_82 : decode cX0_isHit 82 = .ok (.istore 7, 2) := by decide +kernel
theorem dX0_isHit_84 : decode cX0_isHit 84 = .ok (.aload_n 0, 1) := by decide +kernel
theorem dX0_isHit_85 : decode cX0_isHit 85 = .ok (.getfield 20, 3) := by decide +kernel
theorem dX0_isHit_88 : decode cX0_isHit 88 = .ok (.iload_n 1, 1) := by decide +kernel
theorem dX0_isHit_89 : decode cX0_isHit 89 = .ok (.iaload, 1) := by decide +kernel
theorem dX0_isHit_90 : decode cX0_isHit 90 = .ok (.iload 7, 2) := by decide +kernel
theorem dX0_isHit_92 : decode cX0_isHit 92 = .ok (.if_icmp .gt 33, 3) := by decide +kernel
theorem dX0_isHit_95 : decode cX0_isHit 95 = .ok (.iload 7, 2) := by decide +kernel
theorem dX0_isHit_97 : decode cX0_isHit 97 = .ok (.aload_n 0, 1) := by decide +kernel
theorem dX0_isHit_98 : decode cX0_isHit 98 = .ok (.getfield 23, 3) := by decide +kernel
theorem dX0_isHit_101 : decode cX0_isHit 101 = .ok (.iload_n 1, 1) := by decide +kernel
theorem dX0_isHit_102 : decode cX0_isHit 102 = .ok (.iaload, 1) := by decide +kernel
theorem dX0_isHit_103 : decode cX0_isHit 103 = .ok (.if_icmp .gt 22, 3) := by decide +kernel
theorem dX0_isHit_106 : decode cX0_isHit 106 = .ok (.aload_n 0, 1) := by decide +kernel
theorem dX0_isHit_107 : decode cX0_isHit 107 = .ok (.getfield 7, 3) := by decide +kernel
theorem dX0_isHit_110 : decode cX0_isHit 110 = .ok (.iload 7, 2) := by decide +kernel
theorem dX0_isHit_112 : decode cX0_isHit 112 = .ok (.iaload, 1) := by decide +kernel
theorem dX0_isHit_113 : decode cX0_isHit 113 = .ok (.aload_n 0, 1) := by decide +kernel
theorem dX0_isHit_114 : decode cX0_isHit 114 = .ok (.getfield 62, 3) := by decide +kernel
theorem dX0_isHit_117 : decode cX0_isHit 117 = .ok (.iload 6, 2) := by decide +kernel
theorem dX0_isHit_119 : decode cX0_isHit 119 = .ok (.iaload, 1) := by decide +kernel
theorem dX0_isHit_120 : decode cX0_isHit 120 = .ok (.if_icmp .eq 5, 3) := by decide +kernel
theorem dX0_isHit_123 : decode cX0_isHit 123 = .ok (.iconst 1, 1) := by decide +kernel
theorem dX0_isHit_124 : decode cX0_isHit 124 = .ok (.ireturn, 1) := by decide +kernel
theorem dX0_isHit_125 : decode cX0_isHit 125 = .ok (.iinc 6 1, 3) := by decide +kernel
theorem dX0_isHit_128 : decode cX0_isHit 128 = .ok (.goto (-56), 3) := by decide +kernel
theorem dX0_isHit_131 : decode cX0_isHit 131 = .ok (.iconst 0, 1) := by decide +kernel
theorem dX0_isHit_132 : decode cX0_isHit 132 = .ok (.ireturn, 1) := by decide +kernel
theorem dX0_oldValue_0 : decode cX0_oldValue 0 = .ok (.iconst 0, 1) := by decide +kernel
theorem dX0_oldValue_1 : decode cX0_oldValue 1 = .ok (.istore_n 2, 1) := by decide +kernel
theorem dX0_oldValue_2 : decode cX0_oldValue 2 = .ok (.iload_n 1, 1) := by decide +kernel
theorem dX0_oldValue_3 : decode cX0_oldValue 3 = .ok (.iconst 1, 1) := by decide +kernel
theorem dX0_oldValue_4 : decode cX0_oldValue 4 = .ok (.isub, 1) := by decide +kernel
theorem dX0_oldValue_5 : decode cX0_oldValue 5 = .ok (.istore_n 3, 1) := by decide +kernel
theorem dX0_oldValue_6 : decode cX0_oldValue 6 = .ok (.iload_n 3, 1) := by decide +kernel
theorem dX0_oldValue_7 : decode cX0_oldValue 7 = .ok (.ifCond .lt 21, 3) := by decide +kernel
theorem dX0_oldValue_10 : decode cX0_oldValue 10 = .ok (.iload_n 2, 1) := by decide +kernel
theorem dX0_oldValue_11 : decode cX0_oldValue 11 = .ok (.bipush 8, 2) := by decide +kernel
theorem dX0_oldValue_13 : decode cX0_oldValue 13 = .ok (.ishl, 1) := by decide +kernel
theorem dX0_oldValue_14 : decode cX0_oldValue 14 = .ok (.aload_n 0, 1) := by decide +kernel
theorem dX0_oldValue_15 : decode cX0_oldValue 15 = .ok (.getfield 62, 3) := by decide +kernel
theorem dX0_oldValue_18 : decode cX0_oldValue 18 = .ok (.iload_n 3, 1) := by decide +kernel
theorem dX0_oldValue_19 : decode cX0_oldValue 19 = .ok (.iaload, 1) := by decide +kernel
theorem dX0_oldValue_20 : decode cX0_oldValue 20 = .ok (.ior, 1) := by decide +kernel
theorem dX0_oldValue_21 : decode cX0_oldValue 21 = .ok (.istore_n 2, 1) := by decide +kernel
theorem dX0_oldValue_22 : decode cX0_oldValue 22 = .ok (.iinc 3 (-1), 3) := by decide +kernel
theorem dX0_oldValue_25 : decode cX0_oldValue 25 = .ok (.goto (-19), 3) := by decide +kernel
theorem dX0_oldValue_28 : decode cX0_oldValue 28 = .ok (.iload_n 2, 1) := by decide +kernel
theorem dX0_oldValue_29 : decode cX0_oldValue 29 = .ok (.ireturn, 1) := by decide +kernel
theorem dX0_store_0 : decode cX0_store 0 = .ok (.iload_n 2, 1) := by decide +kernel
theorem dX0_store_1 : decode cX0_store 1 = .ok (.invokestatic 77, 3) := by decide +kernel
theorem dX0_store_4 : decode cX0_store 4 = .ok (.ifCond .ne 5, 3) := by decide +kernel
theorem dX0_store_7 : decode cX0_store 7 = .ok (.iconst (-1), 1) := by decide +kernel
theorem dX0_store_8 : decode cX0_store 8 = .ok (.ireturn, 1) := by decide +kernel
theorem dX0_store_9 : decode cX0_store 9 = .ok (.iload_n 1, 1) := by decide +kernel
theorem dX0_store_10 : decode cX0_store 10 = .ok (.iload_n 2, 1) := by decide +kernel
theorem dX0_store_11 : decode cX0_store 11 = .ok (.invokestatic 80, 3) := by decide +kernel
theorem dX0_store_14 : decode cX0_store 14 = .ok (.ifCond .ne 6, 3) := by decide +kernel
theorem dX0_store_17 : decode cX0_store 17 = .ok (.bipush (-2), 2) := by decide +kernel
theorem dX0_store_19 : decode cX0_store 19 = .ok (.ireturn, 1) := by decide +kernel
theorem dX0_store_20 : decode cX0_store 20 = .ok (.aload_n 0, 1) := by decide +kernel
theorem dX0_store_21 : decode cX0_store 21 = .ok (.iload_n 1, 1) := by decide +kernel
theorem dX0_store_22 : decode cX0_store 22 = .ok (.iload_n 2, 1) := by decide +kernel
theorem dX0_store_23 : decode cX0_store 23 = .ok (.invokevirtual 88, 3) := by decide +kernel
theorem dX0_store_26 : decode cX0_store 26 = .ok (.iconst 0, 1) := by decide +kernel
theorem dX0_store_27 : decode cX0_store 27 = .ok (.istore 4, 2) := by decide +kernel
theorem dX0_store_29 : decode cX0_store 29 = .ok (.iload 4, 2) := by decide +kernel
theorem dX0_store_31 : decode cX0_store 31 = .ok (.iload_n 2, 1) := by decide +kernel
theorem dX0_store_32 : decode cX0_store 32 = .ok (.if_icmp .ge 29, 3) := by decide +kernel
theorem dX0_store_35 : decode cX0_store 35 = .ok (.aload_n 0, 1) := by decide +kernel
theorem dX0_store_36 : decode cX0_store 36 = .ok (.getfield 7, 3) := by decide +kernel
theorem dX0_store_39 : decode cX0_store 39 = .ok (.iload_n 1, 1) := by decide +kernel
theorem dX0_store_40 : decode cX0_store 40 = .ok (.iload 4, 2) := by decide +kernel
theorem dX0_store_42 : decode cX0_store 42 = .ok (.iadd, 1) := by decide +kernel
theorem dX0_store_43 : decode cX0_store 43 = .ok (.iload_n 3, 1) := by decide +kernel
theorem dX0_store_44 : decode cX0_store 44 = .ok (.bipush 8, 2) := by decide +kernel
theorem dX0_store_46 : decode cX0_store 46 = .ok (.iload 4, 2) := by decide +kernel
theorem dX0_store_48 : decode cX0_store 48 = .ok (.imul, 1) := by decide +kernel
theorem dX0_store_49 : decode cX0_store 49 = .ok (.iushr, 1) := by decide +kernel
theorem dX0_store_50 : decode cX0_store 50 = .ok (.sipush 255, 3) := by decide +kernel
theorem dX0_store_53 : decode cX0_store 53 = .ok (.iand, 1) := by decide +kernel
theorem dX0_store_54 : decode cX0_store 54 = .ok (.iastore, 1) := by decide +kernel
theorem dX0_store_55 : decode cX0_store 55 = .ok (.iinc 4 1, 3) := by decide +kernel
theorem dX0_store_58 : decode cX0_store 58 = .ok (.goto (-29), 3) := by decide +kernel
theorem dX0_store_61 : decode cX0_store 61 = .ok (.aload_n 0, 1) := by decide +kernel
theorem dX0_store_62 : decode cX0_store 62 = .ok (.iload_n 1, 1) := by decide +kernel
theorem dX0_store_63 : decode cX0_store 63 = .ok (.iload_n 2, 1) := by decide +kernel
theorem dX0_store_64 : decode cX0_store 64 = .ok (.iconst 1, 1) := by decide +kernel
theorem dX0_store_65 : decode cX0_store 65 = .ok (.invokevirtual 92, 3) := by decide +kernel
theorem dX0_store_68 : decode cX0_store 68 = .ok (.ireturn, 1) := by decide +kernel
theorem dX0_sweep_0 : decode cX0_sweep 0 = .ok (.iload_n 1, 1) := by decide +kernel
theorem dX0_sweep_1 : decode cX0_sweep 1 = .ok (.ifCond .lt 14, 3) := by decide +kernel
theorem dX0_sweep_4 : decode cX0_sweep 4 = .ok (.iload_n 2, 1) := by decide +kernel
theorem dX0_sweep_5 : decode cX0_sweep 5 = .ok (.bipush 40, 2) := by decide +kernel
theorem dX0_sweep_7 : decode cX0_sweep 7 = .ok (.if_icmp .ge 8, 3) := by decide +kernel
theorem dX0_sweep_10 : decode cX0_sweep 10 = .ok (.iload_n 1, 1) := by decide +kernel
theorem dX0_sweep_11 : decode cX0_sweep 11 = .ok (.iload_n 2, 1) := by decide +kernel
theorem dX0_sweep_12 : decode cX0_sweep 12 = .ok (.if_icmp .le 5, 3) := by decide +kernel
theorem dX0_sweep_15 : decode cX0_sweep 15 = .ok (.iconst (-1), 1) := by decide +kernel
theorem dX0_sweep_16 : decode cX0_sweep 16 = .ok (.ireturn, 1) := by decide +kernel
theorem dX0_sweep_17 : decode cX0_sweep 17 = .ok (.aload_n 0, 1) := by decide +kernel
theorem dX0_sweep_18 : decode cX0_sweep 18 = .ok (.getfield 96, 3) := by decide +kernel
theorem dX0_sweep_21 : decode cX0_sweep 21 = .ok (.istore_n 3, 1) := by decide +kernel
theorem dX0_sweep_22 : decode cX0_sweep 22 = .ok (.iload_n 1, 1) := by decide +kernel
theorem dX0_sweep_23 : decode cX0_sweep 23 = .ok (.istore 4, 2) := by decide +kernel
theorem dX0_sweep_25 : decode cX0_sweep 25 = .ok (.iload 4, 2) := by decide +kernel
theorem dX0_sweep_27 : decode cX0_sweep 27 = .ok (.iload_n 2, 1) := by decide +kernel
theorem dX0_sweep_28 : decode cX0_sweep 28 = .ok (.if_icmp .gt 25, 3) := by decide +kernel
theorem dX0_sweep_31 : decode cX0_sweep 31 = .ok (.aload_n 0, 1) := by decide +kernel
theorem dX0_sweep_32 : decode cX0_sweep 32 = .ok (.iload 4, 2) := by decide +kernel
theorem dX0_sweep_34 : decode cX0_sweep 34 = .ok (.iconst 1, 1) := by decide +kernel
theorem dX0_sweep_35 : decode cX0_sweep 35 = .ok (.invokevirtual 88, 3) := by decide +kernel
theorem dX0_sweep_38 : decode cX0_sweep 38 = .ok (.aload_n 0, 1) := by decide +kernel
theorem dX0_sweep_39 : decode cX0_sweep 39 = .ok (.iload 4, 2) := by decide +kernel
theorem dX0_sweep_41 : decode cX0_sweep 41 = .ok (.iconst 1, 1) := by decide +kernel
theorem dX0_sweep_42 : decode cX0_sweep 42 = .ok (.iconst 0, 1) := by decide +kernel
theorem dX0_sweep_43 : decode cX0_sweep 43 = .ok (.invokevirtual 92, 3) := by decide +kernel
theorem dX0_sweep_46 : decode cX0_sweep 46 = .ok (.pop, 1) := by decide +kernel
theorem dX0_sweep_47 : decode cX0_sweep 47 = .ok (.iinc 4 2, 3) := by decide +kernel
theorem dX0_sweep_50 : decode cX0_sweep 50 = .ok (.goto (-25), 3) := by decide +kernel
theorem dX0_sweep_53 : decode cX0_sweep 53 = .ok (.aload_n 0, 1) := by decide +kernel
theorem dX0_sweep_54 : decode cX0_sweep 54 = .ok (.getfield 96, 3) := by decide +kernel
theorem dX0_sweep_57 : decode cX0_sweep 57 = .ok (.iload_n 3, 1) := by decide +kernel
theorem dX0_sweep_58 : decode cX0_sweep 58 = .ok (.isub, 1) := by decide +kernel
theorem dX0_sweep_59 : decode cX0_sweep 59 = .ok (.ireturn, 1) := by decide +kernel
theorem dX0_peek_0 : decode cX0_peek 0 = .ok (.iload_n 1, 1) := by decide +kernel
theorem dX0_peek_1 : decode cX0_peek 1 = .ok (.ifCond .lt 18, 3) := by decide +kernel
theorem dX0_peek_4 : decode cX0_peek 4 = .ok (.iload_n 1, 1) := by decide +kernel
theorem dX0_peek_5 : decode cX0_peek 5 = .ok (.bipush 40, 2) := by decide +kernel
theorem dX0_peek_7 : decode cX0_peek 7 = .ok (.if_icmp .ge 12, 3) := by decide +kernel
theorem dX0_peek_10 : decode cX0_peek 10 = .ok (.aload_n 0, 1) := by decide +kernel
theorem dX0_peek_11 : decode cX0_peek 11 = .ok (.getfield 7, 3) := by decide +kernel
theorem dX0_peek_14 : decode cX0_peek 14 = .ok (.iload_n 1, 1) := by decide +kernel
theorem dX0_peek_15 : decode cX0_peek 15 = .ok (.iaload, 1) := by decide +kernel
theorem dX0_peek_16 : decode cX0_peek 16 = .ok (.goto 4, 3) := by decide +kernel
theorem dX0_peek_19 : decode cX0_peek 19 = .ok (.iconst (-1), 1) := by decide +kernel
theorem dX0_peek_20 : decode cX0_peek 20 = .ok (.ireturn, 1) := by decide +kernel
theorem dX0_hits_0 : decode cX0_hits 0 = .ok (.aload_n 0, 1) := by decide +kernel
theorem dX0_hits_1 : decode cX0_hits 1 = .ok (.iload_n 1, 1) := by decide +kernel
theorem dX0_hits_2 : decode cX0_hits 2 = .ok (.invokevirtual 73, 3) := by decide +kernel
theorem dX0_hits_5 : decode cX0_hits 5 = .ok (.istore_n 2, 1) := by decide +kernel
theorem dX0_hits_6 : decode cX0_hits 6 = .ok (.iload_n 2, 1) := by decide +kernel
theorem dX0_hits_7 : decode cX0_hits 7 = .ok (.ifCond .ge 7, 3) := by decide +kernel
theorem dX0_hits_10 : decode cX0_hits 10 = .ok (.iload_n 2, 1) := by decide +kernel
theorem dX0_hits_11 : decode cX0_hits 11 = .ok (.goto 9, 3) := by decide +kernel
theorem dX0_hits_14 : decode cX0_hits 14 = .ok (.aload_n 0, 1) := by decide +kernel
theorem dX0_hits_15 : decode cX0_hits 15 = .ok (.getfield 32, 3) := by decide +kernel
theorem dX0_hits_18 : decode cX0_hits 18 = .ok (.iload_n 1, 1) := by decide +kernel
theorem dX0_hits_19 : decode cX0_hits 19 = .ok (.iaload, 1) := by decide +kernel
theorem dX0_hits_20 : decode cX0_hits 20 = .ok (.ireturn, 1) := by decide +kernel
theorem dX0_skips_0 : decode cX0_skips 0 = .ok (.aload_n 0, 1) := by decide +kernel
theorem dX0_skips_1 : decode cX0_skips 1 = .ok (.iload_n 1, 1) := by decide +kernel
theorem dX0_skips_2 : decode cX0_skips 2 = .ok (.invokevirtual 73, 3) := by decide +kernel
theorem dX0_skips_5 : decode cX0_skips 5 = .ok (.istore_n 2, 1) := by decide +kernel
theorem dX0_skips_6 : decode cX0_skips 6 = .ok (.iload_n 2, 1) := by decide +kernel
theorem dX0_skips_7 : decode cX0_skips 7 = .ok (.ifCond .ge 7, 3) := by decide +kernel
theorem dX0_skips_10 : decode cX0_skips 10 = .ok (.iload_n 2, 1) := by decide +kernel
theorem dX0_skips_11 : decode cX0_skips 11 = .ok (.goto 9, 3) := by decide +kernel
theorem dX0_skips_14 : decode cX0_skips 14 = .ok (.aload_n 0, 1) := by decide +kernel
theorem dX0_skips_15 : decode cX0_skips 15 = .ok (.getfield 29, 3) := by decide +kernel
theorem dX0_skips_18 : decode cX0_skips 18 = .ok (.iload_n 1, 1) := by decide +kernel
theorem dX0_skips_19 : decode cX0_skips 19 = .ok (.iaload, 1) := by decide +kernel
theorem dX0_skips_20 : decode cX0_skips 20 = .ok (.ireturn, 1) := by decide +kernel
theorem dX0_stops_0 : decode cX0_stops 0 = .ok (.aload_n 0, 1) := by decide +kernel
theorem dX0_stops_1 : decode cX0_stops 1 = .ok (.getfield 96, 3) := by decide +kernel
theorem dX0_stops_4 : decode cX0_stops 4 = .ok (.ireturn, 1) := by decide +kernel
theorem dX0_accesses_0 : decode cX0_accesses 0 = .ok (.aload_n 0, 1) := by decide +kernel
theorem dX0_accesses_1 : decode cX0_accesses 1 = .ok (.getfield 100, 3) := by decide +kernel
theorem dX0_accesses_4 : decode cX0_accesses 4 = .ok (.ireturn, 1) := by decide +kernel
theorem dX0_kept_0 : decode cX0_kept 0 = .ok (.aload_n 0, 1) := by decide +kernel
theorem dX0_kept_1 : decode cX0_kept 1 = .ok (.getfield 96, 3) := by decide +kernel
theorem dX0_kept_4 : decode cX0_kept 4 = .ok (.bipush 8, 2) := by decide +kernel
theorem dX0_kept_6 : decode cX0_kept 6 = .ok (.if_icmp .ge 10, 3) := by decide +kernel
theorem dX0_kept_9 : decode cX0_kept 9 = .ok (.aload_n 0, 1) := by decide +kernel
theorem dX0_kept_10 : decode cX0_kept 10 = .ok (.getfield 96, 3) := by decide +kernel
theorem dX0_kept_13 : decode cX0_kept 13 = .ok (.goto 5, 3) := by decide +kernel
theorem dX0_kept_16 : decode cX0_kept 16 = .ok (.bipush 8, 2) := by decide +kernel
theorem dX0_kept_18 : decode cX0_kept 18 = .ok (.ireturn, 1) := by decide +kernel
theorem dX0_stopMask_0 : decode cX0_stopMask 0 = .ok (.aload_n 0, 1) := by decide +kernel
theorem dX0_stopMask_1 : decode cX0_stopMask 1 = .ok (.iload_n 1, 1) := by decide +kernel
theorem dX0_stopMask_2 : decode cX0_stopMask 2 = .ok (.invokevirtual 103, 3) := by decide +kernel
theorem dX0_stopMask_5 : decode cX0_stopMask 5 = .ok (.ifCond .eq 16, 3) := by decide +kernel
theorem dX0_stopMask_8 : decode cX0_stopMask 8 = .ok (.aload_n 0, 1) := by decide +kernel
theorem dX0_stopMask_9 : decode cX0_stopMask 9 = .ok (.getfield 47, 3) := by decide +kernel
theorem dX0_stopMask_12 : decode cX0_stopMask 12 = .ok (.aload_n 0, 1) := by decide +kernel
theorem dX0_stopMask_13 : decode cX0_stopMask 13 = .ok (.iload_n 1, 1) := by decide +kernel
theorem dX0_stopMask_14 : decode cX0_stopMask 14 = .ok (.invokevirtual 106, 3) := by decide +kernel
theorem dX0_stopMask_17 : decode cX0_stopMask 17 = .ok (.iaload, 1) := by decide +kernel
theorem dX0_stopMask_18 : decode cX0_stopMask 18 = .ok (.goto 4, 3) := by decide +kernel
theorem dX0_stopMask_21 : decode cX0_stopMask 21 = .ok (.iconst (-1), 1) := by decide +kernel
theorem dX0_stopMask_22 : decode cX0_stopMask 22 = .ok (.ireturn, 1) := by decide +kernel
theorem dX0_isKept_0 : decode cX0_isKept 0 = .ok (.iload_n 1, 1) := by decide +kernel
theorem dX0_isKept_1 : decode cX0_isKept 1 = .ok (.ifCond .lt 21, 3) := by decide +kernel
theorem dX0_isKept_4 : decode cX0_isKept 4 = .ok (.iload_n 1, 1) := by decide +kernel
theorem dX0_isKept_5 : decode cX0_isKept 5 = .ok (.bipush 8, 2) := by decide +kernel
theorem dX0_isKept_7 : decode cX0_isKept 7 = .ok (.if_icmp .ge 15, 3) := by decide +kernel
theorem dX0_isKept_10 : decode cX0_isKept 10 = .ok (.iload_n 1, 1) := by decide +kernel
theorem dX0_isKept_11 : decode cX0_isKept 11 = .ok (.aload_n 0, 1) := by decide +kernel
theorem dX0_isKept_12 : decode cX0_isKept 12 = .ok (.getfield 96, 3) := by decide +kernel
theorem dX0_isKept_15 : decode cX0_isKept 15 = .ok (.if_icmp .ge 7, 3) := by decide +kernel
theorem dX0_isKept_18 : decode cX0_isKept 18 = .ok (.iconst 1, 1) := by decide +kernel
theorem dX0_isKept_19 : decode cX0_isKept 19 = .ok (.goto 4, 3) := by decide +kernel
theorem dX0_isKept_22 : decode cX0_isKept 22 = .ok (.iconst 0, 1) := by decide +kernel
theorem dX0_isKept_23 : decode cX0_isKept 23 = .ok (.ireturn, 1) := by decide +kernel
theorem dX0_cellOf_0 : decode cX0_cellOf 0 = .ok (.aload_n 0, 1) := by decide +kernel
theorem dX0_cellOf_1 : decode cX0_cellOf 1 = .ok (.getfield 96, 3) := by decide +kernel
theorem dX0_cellOf_4 : decode cX0_cellOf 4 = .ok (.iconst 1, 1) := by decide +kernel
theorem dX0_cellOf_5 : decode cX0_cellOf 5 = .ok (.isub, 1) := by decide +kernel
theorem dX0_cellOf_6 : decode cX0_cellOf 6 = .ok (.iload_n 1, 1) := by decide +kernel
theorem dX0_cellOf_7 : decode cX0_cellOf 7 = .ok (.isub, 1) := by decide +kernel
theorem dX0_cellOf_8 : decode cX0_cellOf 8 = .ok (.bipush 7, 2) := by decide +kernel
theorem dX0_cellOf_10 : decode cX0_cellOf 10 = .ok (.iand, 1) := by decide +kernel
theorem dX0_cellOf_11 : decode cX0_cellOf 11 = .ok (.ireturn, 1) := by decide +kernel
theorem dX0_stopAddress_0 : decode cX0_stopAddress 0 = .ok (.aload_n 0, 1) := by decide +kernel
theorem dX0_stopAddress_1 : decode cX0_stopAddress 1 = .ok (.iload_n 1, 1) := by decide +kernel
theorem dX0_stopAddress_2 : decode cX0_stopAddress 2 = .ok (.invokevirtual 103, 3) := by decide +kernel
theorem dX0_stopAddress_5 : decode cX0_stopAddress 5 = .ok (.ifCond .eq 16, 3) := by decide +kernel
theorem dX0_stopAddress_8 : decode cX0_stopAddress 8 = .ok (.aload_n 0, 1) := by decide +kernel
theorem dX0_stopAddress_9 : decode cX0_stopAddress 9 = .ok (.getfield 50, 3) := by decide +kernel
theorem dX0_stopAddress_12 : decode cX0_stopAddress 12 = .ok (.aload_n 0, 1) := by decide +kernel
theorem dX0_stopAddress_13 : decode cX0_stopAddress 13 = .ok (.iload_n 1, 1) := by decide +kernel
theorem dX0_stopAddress_14 : decode cX0_stopAddress 14 = .ok (.invokevirtual 106, 3) := by decide +kernel
theorem dX0_stopAddress_17 : decode cX0_stopAddress 17 = .ok (.iaload, 1) := by decide +kernel
theorem dX0_stopAddress_18 : decode cX0_stopAddress 18 = .ok (.goto 4, 3) := by decide +kernel
theorem dX0_stopAddress_21 : decode cX0_stopAddress 21 = .ok (.iconst (-1), 1) := by decide +kernel
theorem dX0_stopAddress_22 : decode cX0_stopAddress 22 = .ok (.ireturn, 1) := by decide +kernel
theorem dX0_stopNumber_0 : decode cX0_stopNumber 0 = .ok (.aload_n 0, 1) := by decide +kernel
theorem dX0_stopNumber_1 : decode cX0_stopNumber 1 = .ok (.iload_n 1, 1) := by decide +kernel
theorem dX0_stopNumber_2 : decode cX0_stopNumber 2 = .ok (.invokevirtual 103, 3) := by decide +kernel
theorem dX0_stopNumber_5 : decode cX0_stopNumber 5 = .ok (.ifCond .eq 16, 3) := by decide +kernel
theorem dX0_stopNumber_8 : decode cX0_stopNumber 8 = .ok (.aload_n 0, 1) := by decide +kernel
theorem dX0_stopNumber_9 : decode cX0_stopNumber 9 = .ok (.getfield 53, 3) := by decide +kernel
theorem dX0_stopNumber_12 : decode cX0_stopNumber 12 = .ok (.aload_n 0, 1) := by decide +kernel
theorem dX0_stopNumber_13 : decode cX0_stopNumber 13 = .ok (.iload_n 1, 1) := by decide +kernel
theorem dX0_stopNumber_14 : decode cX0_stopNumber 14 = .ok (.invokevirtual 106, 3) := by decide +kernel
theorem dX0_stopNumber_17 : decode cX0_stopNumber 17 = .ok (.iaload, 1) := by decide +kernel
theorem dX0_stopNumber_18 : decode cX0_stopNumber 18 = .ok (.goto 4, 3) := by decide +kernel
theorem dX0_stopNumber_21 : decode cX0_stopNumber 21 = .ok (.iconst (-1), 1) := by decide +kernel
theorem dX0_stopNumber_22 : decode cX0_stopNumber 22 = .ok (.ireturn, 1) := by decide +kernel
theorem dX0_before_0 : decode cX0_before 0 = .ok (.aload_n 0, 1) := by decide +kernel
theorem dX0_before_1 : decode cX0_before 1 = .ok (.iload_n 1, 1) := by decide +kernel
theorem dX0_before_2 : decode cX0_before 2 = .ok (.invokevirtual 103, 3) := by decide +kernel
theorem dX0_before_5 : decode cX0_before 5 = .ok (.ifCond .eq 16, 3) := by decide +kernel
theorem dX0_before_8 : decode cX0_before 8 = .ok (.aload_n 0, 1) := by decide +kernel
theorem dX0_before_9 : decode cX0_before 9 = .ok (.getfield 56, 3) := by decide +kernel
theorem dX0_before_12 : decode cX0_before 12 = .ok (.aload_n 0, 1) := by decide +kernel
theorem dX0_before_13 : decode cX0_before 13 = .ok (.iload_n 1, 1) := by decide +kernel
end
section
set_option maxRecDepth 100000
theorem dX0_before_14 : decode cX0_before 14 = .ok (.invokevirtual 106, 3) := by decide +kernel
theorem dX0_before_17 : decode cX0_before 17 = .ok (.iaload, 1) := by decide +kernel
theorem dX0_before_18 : decode cX0_before 18 = .ok (.goto 4, 3) := by decide +kernel
theorem dX0_before_21 : decode cX0_before 21 = .ok (.iconst 0, 1) := by decide +kernel
theorem dX0_before_22 : decode cX0_before 22 = .ok (.ireturn, 1) := by decide +kernel
theorem dX0_after_0 : decode cX0_after 0 = .ok (.aload_n 0, 1) := by decide +kernel
theorem dX0_after_1 : decode cX0_after 1 = .ok (.iload_n 1, 1) := by decide +kernel
theorem dX0_after_2 : decode cX0_after 2 = .ok (.invokevirtual 103, 3) := by decide +kernel
theorem dX0_after_5 : decode cX0_after 5 = .ok (.ifCond .eq 16, 3) := by decide +kernel
theorem dX0_after_8 : decode cX0_after 8 = .ok (.aload_n 0, 1) := by decide +kernel
theorem dX0_after_9 : decode cX0_after 9 = .ok (.getfield 59, 3) := by decide +kernel
theorem dX0_after_12 : decode cX0_after 12 = .ok (.aload_n 0, 1) := by decide +kernel
theorem dX0_after_13 : decode cX0_after 13 = .ok (.iload_n 1, 1) := by decide +kernel
theorem dX0_after_14 : decode cX0_after 14 = .ok (.invokevirtual 106, 3) := by decide +kernel
theorem dX0_after_17 : decode cX0_after 17 = .ok (.iaload, 1) := by decide +kernel
theorem dX0_after_18 : decode cX0_after 18 = .ok (.goto 4, 3) := by decide +kernel
theorem dX0_after_21 : decode cX0_after 21 = .ok (.iconst 0, 1) := by decide +kernel
theorem dX0_after_22 : decode cX0_after 22 = .ok (.ireturn, 1) := by decide +kernel
theorem dX0_watched_0 : decode cX0_watched 0 = .ok (.iconst 0, 1) := by decide +kernel
theorem dX0_watched_1 : decode cX0_watched 1 = .ok (.istore_n 1, 1) := by decide +kernel
theorem dX0_watched_2 : decode cX0_watched 2 = .ok (.iconst 0, 1) := by decide +kernel
theorem dX0_watched_3 : decode cX0_watched 3 = .ok (.istore_n 2, 1) := by decide +kernel
theorem dX0_watched_4 : decode cX0_watched 4 = .ok (.iload_n 2, 1) := by decide +kernel
theorem dX0_watched_5 : decode cX0_watched 5 = .ok (.bipush 40, 2) := by decide +kernel
theorem dX0_watched_7 : decode cX0_watched 7 = .ok (.if_icmp .ge 91, 3) := by decide +kernel
theorem dX0_watched_10 : decode cX0_watched 10 = .ok (.iconst 0, 1) := by decide +kernel
theorem dX0_watched_11 : decode cX0_watched 11 = .ok (.istore_n 3, 1) := by decide +kernel
theorem dX0_watched_12 : decode cX0_watched 12 = .ok (.iconst 0, 1) := by decide +kernel
theorem dX0_watched_13 : decode cX0_watched 13 = .ok (.istore 4, 2) := by decide +kernel
theorem dX0_watched_15 : decode cX0_watched 15 = .ok (.iload 4, 2) := by decide +kernel
theorem dX0_watched_17 : decode cX0_watched 17 = .ok (.bipush 8, 2) := by decide +kernel
theorem dX0_watched_19 : decode cX0_watched 19 = .ok (.if_icmp .ge 61, 3) := by decide +kernel
theorem dX0_watched_22 : decode cX0_watched 22 = .ok (.iload_n 3, 1) := by decide +kernel
theorem dX0_watched_23 : decode cX0_watched 23 = .ok (.ifCond .ne 45, 3) := by decide +kernel
theorem dX0_watched_26 : decode cX0_watched 26 = .ok (.aload_n 0, 1) := by decide +kernel
theorem dX0_watched_27 : decode cX0_watched 27 = .ok (.getfield 13, 3) := by decide +kernel
theorem dX0_watched_30 : decode cX0_watched 30 = .ok (.iload 4, 2) := by decide +kernel
theorem dX0_watched_32 : decode cX0_watched 32 = .ok (.baload, 1) := by decide +kernel
theorem dX0_watched_33 : decode cX0_watched 33 = .ok (.ifCond .eq 39, 3) := by decide +kernel
theorem dX0_watched_36 : decode cX0_watched 36 = .ok (.aload_n 0, 1) := by decide +kernel
theorem dX0_watched_37 : decode cX0_watched 37 = .ok (.getfield 17, 3) := by decide +kernel
theorem dX0_watched_40 : decode cX0_watched 40 = .ok (.iload 4, 2) := by decide +kernel
theorem dX0_watched_42 : decode cX0_watched 42 = .ok (.baload, 1) := by decide +kernel
theorem dX0_watched_43 : decode cX0_watched 43 = .ok (.ifCond .ne 29, 3) := by decide +kernel
theorem dX0_watched_46 : decode cX0_watched 46 = .ok (.aload_n 0, 1) := by decide +kernel
theorem dX0_watched_47 : decode cX0_watched 47 = .ok (.getfield 20, 3) := by decide +kernel
theorem dX0_watched_50 : decode cX0_watched 50 = .ok (.iload 4, 2) := by decide +kernel
theorem dX0_watched_52 : decode cX0_watched 52 = .ok (.iaload, 1) := by decide +kernel
theorem dX0_watched_53 : decode cX0_watched 53 = .ok (.iload_n 2, 1) := by decide +kernel
theorem dX0_watched_54 : decode cX0_watched 54 = .ok (.if_icmp .gt 18, 3) := by decide +kernel
theorem dX0_watched_57 : decode cX0_watched 57 = .ok (.iload_n 2, 1) := by decide +kernel
theorem dX0_watched_58 : decode cX0_watched 58 = .ok (.aload_n 0, 1) := by decide +kernel
theorem dX0_watched_59 : decode cX0_watched 59 = .ok (.getfield 23, 3) := by decide +kernel
theorem dX0_watched_62 : decode cX0_watched 62 = .ok (.iload 4, 2) := by decide +kernel
theorem dX0_watched_64 : decode cX0_watched 64 = .ok (.iaload, 1) := by decide +kernel
theorem dX0_watched_65 : decode cX0_watched 65 = .ok (.if_icmp .gt 7, 3) := by decide +kernel
theorem dX0_watched_68 : decode cX0_watched 68 = .ok (.iconst 1, 1) := by decide +kernel
theorem dX0_watched_69 : decode cX0_watched 69 = .ok (.goto 4, 3) := by decide +kernel
theorem dX0_watched_72 : decode cX0_watched 72 = .ok (.iconst 0, 1) := by decide +kernel
theorem dX0_watched_73 : decode cX0_watched 73 = .ok (.istore_n 3, 1) := by decide +kernel
theorem dX0_watched_74 : decode cX0_watched 74 = .ok (.iinc 4 1, 3) := by decide +kernel
theorem dX0_watched_77 : decode cX0_watched 77 = .ok (.goto (-62), 3) := by decide +kernel
theorem dX0_watched_80 : decode cX0_watched 80 = .ok (.iload_n 1, 1) := by decide +kernel
theorem dX0_watched_81 : decode cX0_watched 81 = .ok (.iload_n 3, 1) := by decide +kernel
theorem dX0_watched_82 : decode cX0_watched 82 = .ok (.ifCond .eq 7, 3) := by decide +kernel
theorem dX0_watched_85 : decode cX0_watched 85 = .ok (.iconst 1, 1) := by decide +kernel
theorem dX0_watched_86 : decode cX0_watched 86 = .ok (.goto 4, 3) := by decide +kernel
theorem dX0_watched_89 : decode cX0_watched 89 = .ok (.iconst 0, 1) := by decide +kernel
theorem dX0_watched_90 : decode cX0_watched 90 = .ok (.iadd, 1) := by decide +kernel
theorem dX0_watched_91 : decode cX0_watched 91 = .ok (.istore_n 1, 1) := by decide +kernel
theorem dX0_watched_92 : decode cX0_watched 92 = .ok (.iinc 2 1, 3) := by decide +kernel
theorem dX0_watched_95 : decode cX0_watched 95 = .ok (.goto (-91), 3) := by decide +kernel
theorem dX0_watched_98 : decode cX0_watched 98 = .ok (.iload_n 1, 1) := by decide +kernel
theorem dX0_watched_99 : decode cX0_watched 99 = .ok (.ireturn, 1) := by decide +kernel
theorem dX1_init_0 : decode cX1_init 0 = .ok (.aload_n 0, 1) := by decide +kernel
theorem dX1_init_1 : decode cX1_init 1 = .ok (.invokespecial 1, 3) := by decide +kernel
theorem dX1_init_4 : decode cX1_init 4 = .ok (.aload_n 0, 1) := by decide +kernel
theorem dX1_init_5 : decode cX1_init 5 = .ok (.bipush 40, 2) := by decide +kernel
theorem dX1_init_7 : decode cX1_init 7 = .ok (.newarray .int, 2) := by decide +kernel
theorem dX1_init_9 : decode cX1_init 9 = .ok (.putfield 7, 3) := by decide +kernel
theorem dX1_init_12 : decode cX1_init 12 = .ok (.aload_n 0, 1) := by decide +kernel
theorem dX1_init_13 : decode cX1_init 13 = .ok (.bipush 40, 2) := by decide +kernel
theorem dX1_init_15 : decode cX1_init 15 = .ok (.newarray .int, 2) := by decide +kernel
theorem dX1_init_17 : decode cX1_init 17 = .ok (.putfield 13, 3) := by decide +kernel
theorem dX1_init_20 : decode cX1_init 20 = .ok (.aload_n 0, 1) := by decide +kernel
theorem dX1_init_21 : decode cX1_init 21 = .ok (.bipush 8, 2) := by decide +kernel
theorem dX1_init_23 : decode cX1_init 23 = .ok (.newarray .boolean, 2) := by decide +kernel
theorem dX1_init_25 : decode cX1_init 25 = .ok (.putfield 16, 3) := by decide +kernel
theorem dX1_init_28 : decode cX1_init 28 = .ok (.aload_n 0, 1) := by decide +kernel
theorem dX1_init_29 : decode cX1_init 29 = .ok (.bipush 8, 2) := by decide +kernel
theorem dX1_init_31 : decode cX1_init 31 = .ok (.newarray .int, 2) := by decide +kernel
theorem dX1_init_33 : decode cX1_init 33 = .ok (.putfield 20, 3) := by decide +kernel
theorem dX1_init_36 : decode cX1_init 36 = .ok (.aload_n 0, 1) := by decide +kernel
theorem dX1_init_37 : decode cX1_init 37 = .ok (.bipush 8, 2) := by decide +kernel
theorem dX1_init_39 : decode cX1_init 39 = .ok (.newarray .int, 2) := by decide +kernel
theorem dX1_init_41 : decode cX1_init 41 = .ok (.putfield 23, 3) := by decide +kernel
theorem dX1_init_44 : decode cX1_init 44 = .ok (.aload_n 0, 1) := by decide +kernel
theorem dX1_init_45 : decode cX1_init 45 = .ok (.bipush 8, 2) := by decide +kernel
theorem dX1_init_47 : decode cX1_init 47 = .ok (.newarray .int, 2) := by decide +kernel
theorem dX1_init_49 : decode cX1_init 49 = .ok (.putfield 26, 3) := by decide +kernel
theorem dX1_init_52 : decode cX1_init 52 = .ok (.aload_n 0, 1) := by decide +kernel
theorem dX1_init_53 : decode cX1_init 53 = .ok (.bipush 8, 2) := by decide +kernel
theorem dX1_init_55 : decode cX1_init 55 = .ok (.newarray .boolean, 2) := by decide +kernel
theorem dX1_init_57 : decode cX1_init 57 = .ok (.putfield 29, 3) := by decide +kernel
theorem dX1_init_60 : decode cX1_init 60 = .ok (.aload_n 0, 1) := by decide +kernel
theorem dX1_init_61 : decode cX1_init 61 = .ok (.bipush 8, 2) := by decide +kernel
theorem dX1_init_63 : decode cX1_init 63 = .ok (.newarray .int, 2) := by decide +kernel
theorem dX1_init_65 : decode cX1_init 65 = .ok (.putfield 32, 3) := by decide +kernel
theorem dX1_init_68 : decode cX1_init 68 = .ok (.aload_n 0, 1) := by decide +kernel
theorem dX1_init_69 : decode cX1_init 69 = .ok (.bipush 8, 2) := by decide +kernel
theorem dX1_init_71 : decode cX1_init 71 = .ok (.newarray .int, 2) := by decide +kernel
theorem dX1_init_73 : decode cX1_init 73 = .ok (.putfield 35, 3) := by decide +kernel
theorem dX1_init_76 : decode cX1_init 76 = .ok (.aload_n 0, 1) := by decide +kernel
theorem dX1_init_77 : decode cX1_init 77 = .ok (.bipush 8, 2) := by decide +kernel
theorem dX1_init_79 : decode cX1_init 79 = .ok (.newarray .int, 2) := by decide +kernel
theorem dX1_init_81 : decode cX1_init 81 = .ok (.putfield 38, 3) := by decide +kernel
theorem dX1_init_84 : decode cX1_init 84 = .ok (.aload_n 0, 1) := by decide +kernel
theorem dX1_init_85 : decode cX1_init 85 = .ok (.bipush 8, 2) := by decide +kernel
theorem dX1_init_87 : decode cX1_init 87 = .ok (.newarray .int, 2) := by decide +kernel
theorem dX1_init_89 : decode cX1_init 89 = .ok (.putfield 41, 3) := by decide +kernel
theorem dX1_init_92 : decode cX1_init 92 = .ok (.aload_n 0, 1) := by decide +kernel
theorem dX1_init_93 : decode cX1_init 93 = .ok (.bipush 8, 2) := by decide +kernel
theorem dX1_init_95 : decode cX1_init 95 = .ok (.newarray .int, 2) := by decide +kernel
theorem dX1_init_97 : decode cX1_init 97 = .ok (.putfield 44, 3) := by decide +kernel
theorem dX1_init_100 : decode cX1_init 100 = .ok (.aload_n 0, 1) := by decide +kernel
theorem dX1_init_101 : decode cX1_init 101 = .ok (.bipush 8, 2) := by decide +kernel
theorem dX1_init_103 : decode cX1_init 103 = .ok (.newarray .int, 2) := by decide +kernel
theorem dX1_init_105 : decode cX1_init 105 = .ok (.putfield 47, 3) := by decide +kernel
theorem dX1_init_108 : decode cX1_init 108 = .ok (.aload_n 0, 1) := by decide +kernel
theorem dX1_init_109 : decode cX1_init 109 = .ok (.bipush 8, 2) := by decide +kernel
theorem dX1_init_111 : decode cX1_init 111 = .ok (.newarray .int, 2) := by decide +kernel
theorem dX1_init_113 : decode cX1_init 113 = .ok (.putfield 50, 3) := by decide +kernel
theorem dX1_init_116 : decode cX1_init 116 = .ok (.return_, 1) := by decide +kernel
theorem dX1_set_0 : decode cX1_set 0 = .ok (.aload_n 0, 1) := by decide +kernel
theorem dX1_set_1 : decode cX1_set 1 = .ok (.iload_n 1, 1) := by decide +kernel
theorem dX1_set_2 : decode cX1_set 2 = .ok (.invokevirtual 53, 3) := by decide +kernel
theorem dX1_set_5 : decode cX1_set 5 = .ok (.ifCond .eq 5, 3) := by decide +kernel
theorem dX1_set_8 : decode cX1_set 8 = .ok (.iconst (-1), 1) := by decide +kernel
theorem dX1_set_9 : decode cX1_set 9 = .ok (.ireturn, 1) := by decide +kernel
theorem dX1_set_10 : decode cX1_set 10 = .ok (.iload_n 3, 1) := by decide +kernel
theorem dX1_set_11 : decode cX1_set 11 = .ok (.iconst 1, 1) := by decide +kernel
theorem dX1_set_12 : decode cX1_set 12 = .ok (.if_icmp .lt 9, 3) := by decide +kernel
theorem dX1_set_15 : decode cX1_set 15 = .ok (.iload_n 3, 1) := by decide +kernel
theorem dX1_set_16 : decode cX1_set 16 = .ok (.bipush 16, 2) := by decide +kernel
theorem dX1_set_18 : decode cX1_set 18 = .ok (.if_icmp .le 6, 3) := by decide +kernel
theorem dX1_set_21 : decode cX1_set 21 = .ok (.bipush (-2), 2) := by decide +kernel
theorem dX1_set_23 : decode cX1_set 23 = .ok (.ireturn, 1) := by decide +kernel
theorem dX1_set_24 : decode cX1_set 24 = .ok (.iload_n 2, 1) := by decide +kernel
theorem dX1_set_25 : decode cX1_set 25 = .ok (.ifCond .lt 11, 3) := by decide +kernel
theorem dX1_set_28 : decode cX1_set 28 = .ok (.iload_n 2, 1) := by decide +kernel
theorem dX1_set_29 : decode cX1_set 29 = .ok (.bipush 40, 2) := by decide +kernel
theorem dX1_set_31 : decode cX1_set 31 = .ok (.iload_n 3, 1) := by decide +kernel
theorem dX1_set_32 : decode cX1_set 32 = .ok (.isub, 1) := by decide +kernel
theorem dX1_set_33 : decode cX1_set 33 = .ok (.if_icmp .le 6, 3) := by decide +kernel
theorem dX1_set_36 : decode cX1_set 36 = .ok (.bipush (-3), 2) := by decide +kernel
theorem dX1_set_38 : decode cX1_set 38 = .ok (.ireturn, 1) := by decide +kernel
theorem dX1_set_39 : decode cX1_set 39 = .ok (.iload 4, 2) := by decide +kernel
theorem dX1_set_41 : decode cX1_set 41 = .ok (.iconst 1, 1) := by decide +kernel
theorem dX1_set_42 : decode cX1_set 42 = .ok (.if_icmp .lt 9, 3) := by decide +kernel
theorem dX1_set_45 : decode cX1_set 45 = .ok (.iload 4, 2) := by decide +kernel
theorem dX1_set_47 : decode cX1_set 47 = .ok (.iconst 4, 1) := by decide +kernel
theorem dX1_set_48 : decode cX1_set 48 = .ok (.if_icmp .le 6, 3) := by decide +kernel
theorem dX1_set_51 : decode cX1_set 51 = .ok (.bipush (-4), 2) := by decide +kernel
theorem dX1_set_53 : decode cX1_set 53 = .ok (.ireturn, 1) := by decide +kernel
theorem dX1_set_54 : decode cX1_set 54 = .ok (.aload_n 0, 1) := by decide +kernel
theorem dX1_set_55 : decode cX1_set 55 = .ok (.getfield 16, 3) := by decide +kernel
theorem dX1_set_58 : decode cX1_set 58 = .ok (.iload_n 1, 1) := by decide +kernel
theorem dX1_set_59 : decode cX1_set 59 = .ok (.baload, 1) := by decide +kernel
theorem dX1_set_60 : decode cX1_set 60 = .ok (.ifCond .eq 7, 3) := by decide +kernel
theorem dX1_set_63 : decode cX1_set 63 = .ok (.iconst 1, 1) := by decide +kernel
theorem dX1_set_64 : decode cX1_set 64 = .ok (.goto 4, 3) := by decide +kernel
theorem dX1_set_67 : decode cX1_set 67 = .ok (.iconst 0, 1) := by decide +kernel
theorem dX1_set_68 : decode cX1_set 68 = .ok (.istore 5, 2) := by decide +kernel
theorem dX1_set_70 : decode cX1_set 70 = .ok (.aload_n 0, 1) := by decide +kernel
theorem dX1_set_71 : decode cX1_set 71 = .ok (.getfield 16, 3) := by decide +kernel
theorem dX1_set_74 : decode cX1_set 74 = .ok (.iload_n 1, 1) := by decide +kernel
theorem dX1_set_75 : decode cX1_set 75 = .ok (.iconst 1, 1) := by decide +kernel
theorem dX1_set_76 : decode cX1_set 76 = .ok (.bastore, 1) := by decide +kernel
theorem dX1_set_77 : decode cX1_set 77 = .ok (.aload_n 0, 1) := by decide +kernel
theorem dX1_set_78 : decode cX1_set 78 = .ok (.getfield 20, 3) := by decide +kernel
theorem dX1_set_81 : decode cX1_set 81 = .ok (.iload_n 1, 1) := by decide +kernel
theorem dX1_set_82 : decode cX1_set 82 = .ok (.iload_n 2, 1) := by decide +kernel
theorem dX1_set_83 : decode cX1_set 83 = .ok (.iastore, 1) := by decide +kernel
theorem dX1_set_84 : decode cX1_set 84 = .ok (.aload_n 0, 1) := by decide +kernel
theorem dX1_set_85 : decode cX1_set 85 = .ok (.getfield 23, 3) := by decide +kernel
theorem dX1_set_88 : decode cX1_set 88 = .ok (.iload_n 1, 1) := by decide +kernel
theorem dX1_set_89 : decode cX1_set 89 = .ok (.iload_n 3, 1) := by decide +kernel
theorem dX1_set_90 : decode cX1_set 90 = .ok (.iastore, 1) := by decide +kernel
theorem dX1_set_91 : decode cX1_set 91 = .ok (.aload_n 0, 1) := by decide +kernel
theorem dX1_set_92 : decode cX1_set 92 = .ok (.getfield 26, 3) := by decide +kernel
theorem dX1_set_95 : decode cX1_set 95 = .ok (.iload_n 1, 1) := by decide +kernel
theorem dX1_set_96 : decode cX1_set 96 = .ok (.iload 4, 2) := by decide +kernel
theorem dX1_set_98 : decode cX1_set 98 = .ok (.iastore, 1) := by decide +kernel
theorem dX1_set_99 : decode cX1_set 99 = .ok (.aload_n 0, 1) := by decide +kernel
theorem dX1_set_100 : decode cX1_set 100 = .ok (.getfield 29, 3) := by decide +kernel
theorem dX1_set_103 : decode cX1_set 103 = .ok (.iload_n 1, 1) := by decide +kernel
theorem dX1_set_104 : decode cX1_set 104 = .ok (.iconst 0, 1) := by decide +kernel
theorem dX1_set_105 : decode cX1_set 105 = .ok (.bastore, 1) := by decide +kernel
theorem dX1_set_106 : decode cX1_set 106 = .ok (.aload_n 0, 1) := by decide +kernel
theorem dX1_set_107 : decode cX1_set 107 = .ok (.getfield 32, 3) := by decide +kernel
theorem dX1_set_110 : decode cX1_set 110 = .ok (.iload_n 1, 1) := by decide +kernel
theorem dX1_set_111 : decode cX1_set 111 = .ok (.iconst 0, 1) := by decide +kernel
theorem dX1_set_112 : decode cX1_set 112 = .ok (.iastore, 1) := by decide +kernel
theorem dX1_set_113 : decode cX1_set 113 = .ok (.aload_n 0, 1) := by decide +kernel
theorem dX1_set_114 : decode cX1_set 114 = .ok (.getfield 35, 3) := by decide +kernel
theorem dX1_set_117 : decode cX1_set 117 = .ok (.iload_n 1, 1) := by decide +kernel
theorem dX1_set_118 : decode cX1_set 118 = .ok (.iconst 0, 1) := by decide +kernel
theorem dX1_set_119 : decode cX1_set 119 = .ok (.iastore, 1) := by decide +kernel
theorem dX1_set_120 : decode cX1_set 120 = .ok (.iload 5, 2) := by decide +kernel
theorem dX1_set_122 : decode cX1_set 122 = .ok (.ireturn, 1) := by decide +kernel
theorem dX1_bad_0 : decode cX1_bad 0 = .ok (.iload_n 1, 1) := by decide +kernel
theorem dX1_bad_1 : decode cX1_bad 1 = .ok (.ifCond .lt 9, 3) := by decide +kernel
theorem dX1_bad_4 : decode cX1_bad 4 = .ok (.iload_n 1, 1) := by decide +kernel
theorem dX1_bad_5 : decode cX1_bad 5 = .ok (.bipush 7, 2) := by decide +kernel
theorem dX1_bad_7 : decode cX1_bad 7 = .ok (.if_icmp .le 7, 3) := by decide +kernel
theorem dX1_bad_10 : decode cX1_bad 10 = .ok (.iconst 1, 1) := by decide +kernel
theorem dX1_bad_11 : decode cX1_bad 11 = .ok (.goto 4, 3) := by decide +kernel
theorem dX1_bad_14 : decode cX1_bad 14 = .ok (.iconst 0, 1) := by decide +kernel
theorem dX1_bad_15 : decode cX1_bad 15 = .ok (.ireturn, 1) := by decide +kernel
theorem dX1_clear_0 : decode cX1_clear 0 = .ok (.aload_n 0, 1) := by decide +kernel
theorem dX1_clear_1 : decode cX1_clear 1 = .ok (.iload_n 1, 1) := by decide +kernel
theorem dX1_clear_2 : decode cX1_clear 2 = .ok (.invokevirtual 53, 3) := by decide +kernel
theorem dX1_clear_5 : decode cX1_clear 5 = .ok (.ifCond .eq 5, 3) := by decide +kernel
theorem dX1_clear_8 : decode cX1_clear 8 = .ok (.iconst (-1), 1) := by decide +kernel
theorem dX1_clear_9 : decode cX1_clear 9 = .ok (.ireturn, 1) := by decide +kernel
theorem dX1_clear_10 : decode cX1_clear 10 = .ok (.aload_n 0, 1) := by decide +kernel
theorem dX1_clear_11 : decode cX1_clear 11 = .ok (.getfield 16, 3) := by decide +kernel
theorem dX1_clear_14 : decode cX1_clear 14 = .ok (.iload_n 1, 1) := by decide +kernel
theorem dX1_clear_15 : decode cX1_clear 15 = .ok (.baload, 1) := by decide +kernel
theorem dX1_clear_16 : decode cX1_clear 16 = .ok (.ifCond .ne 6, 3) := by decide +kernel
theorem dX1_clear_19 : decode cX1_clear 19 = .ok (.bipush (-2), 2) := by decide +kernel
theorem dX1_clear_21 : decode cX1_clear 21 = .ok (.ireturn, 1) := by decide +kernel
theorem dX1_clear_22 : decode cX1_clear 22 = .ok (.aload_n 0, 1) := by decide +kernel
theorem dX1_clear_23 : decode cX1_clear 23 = .ok (.getfield 16, 3) := by decide +kernel
theorem dX1_clear_26 : decode cX1_clear 26 = .ok (.iload_n 1, 1) := by decide +kernel
theorem dX1_clear_27 : decode cX1_clear 27 = .ok (.iconst 0, 1) := by decide +kernel
theorem dX1_clear_28 : decode cX1_clear 28 = .ok (.bastore, 1) := by decide +kernel
theorem dX1_clear_29 : decode cX1_clear 29 = .ok (.aload_n 0, 1) := by decide +kernel
theorem dX1_clear_30 : decode cX1_clear 30 = .ok (.getfield 35, 3) := by decide +kernel
theorem dX1_clear_33 : decode cX1_clear 33 = .ok (.iload_n 1, 1) := by decide +kernel
theorem dX1_clear_34 : decode cX1_clear 34 = .ok (.iaload, 1) := by decide +kernel
theorem dX1_clear_35 : decode cX1_clear 35 = .ok (.ireturn, 1) := by decide +kernel
theorem dX1_pause_0 : decode cX1_pause 0 = .ok (.aload_n 0, 1) := by decide +kernel
theorem dX1_pause_1 : decode cX1_pause 1 = .ok (.iload_n 1, 1) := by decide +kernel
theorem dX1_pause_2 : decode cX1_pause 2 = .ok (.invokevirtual 53, 3) := by decide +kernel
theorem dX1_pause_5 : decode cX1_pause 5 = .ok (.ifCond .eq 5, 3) := by decide +kernel
theorem dX1_pause_8 : decode cX1_pause 8 = .ok (.iconst (-1), 1) := by decide +kernel
theorem dX1_pause_9 : decode cX1_pause 9 = .ok (.ireturn, 1) := by decide +kernel
theorem dX1_pause_10 : decode cX1_pause 10 = .ok (.aload_n 0, 1) := by decide +kernel
theorem dX1_pause_11 : decode cX1_pause 11 = .ok (.getfield 16, 3) := by decide +kernel
theorem dX1_pause_14 : decode cX1_pause 14 = .ok (.iload_n 1, 1) := by decide +kernel
theorem dX1_pause_15 : decode cX1_pause 15 = .ok (.baload, 1) := by decide +kernel
theorem dX1_pause_16 : decode cX1_pause 16 = .ok (.ifCond .ne 6, 3) := by decide +kernel
theorem dX1_pause_19 : decode cX1_pause 19 = .ok (.bipush (-2), 2) := by decide +kernel
theorem dX1_pause_21 : decode cX1_pause 21 = .ok (.ireturn, 1) := by decide +kernel
theorem dX1_pause_22 : decode cX1_pause 22 = .ok (.aload_n 0, 1) := by decide +kernel
theorem dX1_pause_23 : decode cX1_pause 23 = .ok (.getfield 29, 3) := by decide +kernel
theorem dX1_pause_26 : decode cX1_pause 26 = .ok (.iload_n 1, 1) := by decide +kernel
theorem dX1_pause_27 : decode cX1_pause 27 = .ok (.baload, 1) := by decide +kernel
theorem dX1_pause_28 : decode cX1_pause 28 = .ok (.ifCond .eq 7, 3) := by decide +kernel
theorem dX1_pause_31 : decode cX1_pause 31 = .ok (.iconst 1, 1) := by decide +kernel
theorem dX1_pause_32 : decode cX1_pause 32 = .ok (.goto 4, 3) := by decide +kernel
theorem dX1_pause_35 : decode cX1_pause 35 = .ok (.iconst 0, 1) := by decide +kernel
theorem dX1_pause_36 : decode cX1_pause 36 = .ok (.istore_n 3, 1) := by decide +kernel
theorem dX1_pause_37 : decode cX1_pause 37 = .ok (.aload_n 0, 1) := by decide +kernel
theorem dX1_pause_38 : decode cX1_pause 38 = .ok (.getfield 29, 3) := by decide +kernel
theorem dX1_pause_41 : decode cX1_pause 41 = .ok (.iload_n 1, 1) := by decide +kernel
theorem dX1_pause_42 : decode cX1_pause 42 = .ok (.iload_n 2, 1) := by decide +kernel
theorem dX1_pause_43 : decode cX1_pause 43 = .ok (.ifCond .eq 7, 3) := by decide +kernel
theorem dX1_pause_46 : decode cX1_pause 46 = .ok (.iconst 1, 1) := by decide +kernel
theorem dX1_pause_47 : decode cX1_pause 47 = .ok (.goto 4, 3) := by decide +kernel
theorem dX1_pause_50 : decode cX1_pause 50 = .ok (.iconst 0, 1) := by decide +kernel
theorem dX1_pause_51 : decode cX1_pause 51 = .ok (.bastore, 1) := by decide +kernel
theorem dX1_pause_52 : decode cX1_pause 52 = .ok (.iload_n 3, 1) := by decide +kernel
theorem dX1_pause_53 : decode cX1_pause 53 = .ok (.ireturn, 1) := by decide +kernel
theorem dX1_skip_0 : decode cX1_skip 0 = .ok (.aload_n 0, 1) := by decide +kernel
theorem dX1_skip_1 : decode cX1_skip 1 = .ok (.iload_n 1, 1) := by decide +kernel
theorem dX1_skip_2 : decode cX1_skip 2 = .ok (.invokevirtual 53, 3) := by decide +kernel
theorem dX1_skip_5 : decode cX1_skip 5 = .ok (.ifCond .eq 5, 3) := by decide +kernel
theorem dX1_skip_8 : decode cX1_skip 8 = .ok (.iconst (-1), 1) := by decide +kernel
theorem dX1_skip_9 : decode cX1_skip 9 = .ok (.ireturn, 1) := by decide +kernel
theorem dX1_skip_10 : decode cX1_skip 10 = .ok (.aload_n 0, 1) := by decide +kernel
theorem dX1_skip_11 : decode cX1_skip 11 = .ok (.getfield 16, 3) := by decide +kernel
theorem dX1_skip_14 : decode cX1_skip 14 = .ok (.iload_n 1, 1) := by decide +kernel
theorem dX1_skip_15 : decode cX1_skip 15 = .ok (.baload, 1) := by decide +kernel
theorem dX1_skip_16 : decode cX1_skip 16 = .ok (.ifCond .ne 6, 3) := by decide +kernel
theorem dX1_skip_19 : decode cX1_skip 19 = .ok (.bipush (-2), 2) := by decide +kernel
theorem dX1_skip_21 : decode cX1_skip 21 = .ok (.ireturn, 1) := by decide +kernel
theorem dX1_skip_22 : decode cX1_skip 22 = .ok (.iload_n 2, 1) := by decide +kernel
theorem dX1_skip_23 : decode cX1_skip 23 = .ok (.ifCond .lt 9, 3) := by decide +kernel
theorem dX1_skip_26 : decode cX1_skip 26 = .ok (.iload_n 2, 1) := by decide +kernel
theorem dX1_skip_27 : decode cX1_skip 27 = .ok (.bipush 100, 2) := by decide +kernel
theorem dX1_skip_29 : decode cX1_skip 29 = .ok (.if_icmp .le 6, 3) := by decide +kernel
theorem dX1_skip_32 : decode cX1_skip 32 = .ok (.bipush (-3), 2) := by decide +kernel
theorem dX1_skip_34 : decode cX1_skip 34 = .ok (.ireturn, 1) := by decide +kernel
theorem dX1_skip_35 : decode cX1_skip 35 = .ok (.aload_n 0, 1) := by decide +kernel
theorem dX1_skip_36 : decode cX1_skip 36 = .ok (.getfield 32, 3) := by decide +kernel
theorem dX1_skip_39 : decode cX1_skip 39 = .ok (.iload_n 1, 1) := by decide +kernel
theorem dX1_skip_40 : decode cX1_skip 40 = .ok (.iaload, 1) := by decide +kernel
theorem dX1_skip_41 : decode cX1_skip 41 = .ok (.istore_n 3, 1) := by decide +kernel
theorem dX1_skip_42 : decode cX1_skip 42 = .ok (.aload_n 0, 1) := by decide +kernel
theorem dX1_skip_43 : decode cX1_skip 43 = .ok (.getfield 32, 3) := by decide +kernel
theorem dX1_skip_46 : decode cX1_skip 46 = .ok (.iload_n 1, 1) := by decide +kernel
theorem dX1_skip_47 : decode cX1_skip 47 = .ok (.iload_n 2, 1) := by decide +kernel
theorem dX1_skip_48 : decode cX1_skip 48 = .ok (.iastore, 1) := by decide +kernel
theorem dX1_skip_49 : decode cX1_skip 49 = .ok (.iload_n 3, 1) := by decide +kernel
theorem dX1_skip_50 : decode cX1_skip 50 = .ok (.ireturn, 1) := by decide +kernel
theorem dX1_load_0 : decode cX1_load 0 = .ok (.aload_n 0, 1) := by decide +kernel
theorem dX1_load_1 : decode cX1_load 1 = .ok (.iload_n 2, 1) := by decide +kernel
theorem dX1_load_2 : decode cX1_load 2 = .ok (.invokevirtual 83, 3) := by decide +kernel
theorem dX1_load_5 : decode cX1_load 5 = .ok (.ifCond .eq 5, 3) := by decide +kernel
theorem dX1_load_8 : decode cX1_load 8 = .ok (.iconst 0, 1) := by decide +kernel
theorem dX1_load_9 : decode cX1_load 9 = .ok (.ireturn, 1) := by decide +kernel
theorem dX1_load_10 : decode cX1_load 10 = .ok (.iload_n 1, 1) := by decide +kernel
theorem dX1_load_11 : decode cX1_load 11 = .ok (.ifCond .lt 11, 3) := by decide +kernel
theorem dX1_load_14 : decode cX1_load 14 = .ok (.iload_n 1, 1) := by decide +kernel
theorem dX1_load_15 : decode cX1_load 15 = .ok (.bipush 40, 2) := by decide +kernel
theorem dX1_load_17 : decode cX1_load 17 = .ok (.iload_n 2, 1) := by decide +kernel
theorem dX1_load_18 : decode cX1_load 18 = .ok (.isub, 1) := by decide +kernel
theorem dX1_load_19 : decode cX1_load 19 = .ok (.if_icmp .le 5, 3) := by decide +kernel
theorem dX1_load_22 : decode cX1_load 22 = .ok (.iconst 0, 1) := by decide +kernel
theorem dX1_load_23 : decode cX1_load 23 = .ok (.ireturn, 1) := by decide +kernel
theorem dX1_load_24 : decode cX1_load 24 = .ok (.aload_n 0, 1) := by decide +kernel
theorem dX1_load_25 : decode cX1_load 25 = .ok (.iload_n 1, 1) := by decide +kernel
theorem dX1_load_26 : decode cX1_load 26 = .ok (.iload_n 2, 1) := by decide +kernel
theorem dX1_load_27 : decode cX1_load 27 = .ok (.iconst 0, 1) := by decide +kernel
theorem dX1_load_28 : decode cX1_load 28 = .ok (.iconst 0, 1) := by decide +kernel
theorem dX1_load_29 : decode cX1_load 29 = .ok (.invokevirtual 86, 3) := by decide +kernel
theorem dX1_load_32 : decode cX1_load 32 = .ok (.pop, 1) := by decide +kernel
theorem dX1_load_33 : decode cX1_load 33 = .ok (.aload_n 0, 1) := by decide +kernel
theorem dX1_load_34 : decode cX1_load 34 = .ok (.iload_n 1, 1) := by decide +kernel
theorem dX1_load_35 : decode cX1_load 35 = .ok (.iload_n 2, 1) := by decide +kernel
theorem dX1_load_36 : decode cX1_load 36 = .ok (.iconst 1, 1) := by decide +kernel
theorem dX1_load_37 : decode cX1_load 37 = .ok (.invokevirtual 65, 3) := by decide +kernel
theorem dX1_load_40 : decode cX1_load 40 = .ok (.ireturn, 1) := by decide +kernel
theorem dX1_badSize_0 : decode cX1_badSize 0 = .ok (.iload_n 1, 1) := by decide +kernel
theorem dX1_badSize_1 : decode cX1_badSize 1 = .ok (.iconst 1, 1) := by decide +kernel
theorem dX1_badSize_2 : decode cX1_badSize 2 = .ok (.if_icmp .eq 17, 3) := by decide +kernel
theorem dX1_badSize_5 : decode cX1_badSize 5 = .ok (.iload_n 1, 1) := by decide +kernel
theorem dX1_badSize_6 : decode cX1_badSize 6 = .ok (.iconst 2, 1) := by decide +kernel
end
section
set_option maxRecDepth 100000
theorem dX1_badSize_7 : decode cX1_badSize 7 = .ok (.if_icmp .eq 12, 3) := by decide +kernel
theorem dX1_badSize_10 : decode cX1_badSize 10 = .ok (.iload_n 1, 1) := by decide +kernel
theorem dX1_badSize_11 : decode cX1_badSize 11 = .ok (.iconst 4, 1) := by decide +kernel
theorem dX1_badSize_12 : decode cX1_badSize 12 = .ok (.if_icmp .eq 7, 3) := by decide +kernel
theorem dX1_badSize_15 : decode cX1_badSize 15 = .ok (.iconst 1, 1) := by decide +kernel
theorem dX1_badSize_16 : decode cX1_badSize 16 = .ok (.goto 4, 3) := by decide +kernel
theorem dX1_badSize_19 : decode cX1_badSize 19 = .ok (.iconst 0, 1) := by decide +kernel
theorem dX1_badSize_20 : decode cX1_badSize 20 = .ok (.ireturn, 1) := by decide +kernel
theorem dX1_access_0 : decode cX1_access 0 = .ok (.iconst 0, 1) := by decide +kernel
theorem dX1_access_1 : decode cX1_access 1 = .ok (.istore 5, 2) := by decide +kernel
theorem dX1_access_3 : decode cX1_access 3 = .ok (.iload 5, 2) := by decide +kernel
theorem dX1_access_5 : decode cX1_access 5 = .ok (.bipush 40, 2) := by decide +kernel
theorem dX1_access_7 : decode cX1_access 7 = .ok (.if_icmp .ge 23, 3) := by decide +kernel
theorem dX1_access_10 : decode cX1_access 10 = .ok (.aload_n 0, 1) := by decide +kernel
theorem dX1_access_11 : decode cX1_access 11 = .ok (.getfield 13, 3) := by decide +kernel
theorem dX1_access_14 : decode cX1_access 14 = .ok (.iload 5, 2) := by decide +kernel
theorem dX1_access_16 : decode cX1_access 16 = .ok (.aload_n 0, 1) := by decide +kernel
theorem dX1_access_17 : decode cX1_access 17 = .ok (.getfield 7, 3) := by decide +kernel
theorem dX1_access_20 : decode cX1_access 20 = .ok (.iload 5, 2) := by decide +kernel
theorem dX1_access_22 : decode cX1_access 22 = .ok (.iaload, 1) := by decide +kernel
theorem dX1_access_23 : decode cX1_access 23 = .ok (.iastore, 1) := by decide +kernel
theorem dX1_access_24 : decode cX1_access 24 = .ok (.iinc 5 1, 3) := by decide +kernel
theorem dX1_access_27 : decode cX1_access 27 = .ok (.goto (-24), 3) := by decide +kernel
theorem dX1_access_30 : decode cX1_access 30 = .ok (.iconst 0, 1) := by decide +kernel
theorem dX1_access_31 : decode cX1_access 31 = .ok (.istore 5, 2) := by decide +kernel
theorem dX1_access_33 : decode cX1_access 33 = .ok (.iload 5, 2) := by decide +kernel
theorem dX1_access_35 : decode cX1_access 35 = .ok (.iload_n 2, 1) := by decide +kernel
theorem dX1_access_36 : decode cX1_access 36 = .ok (.if_icmp .ge 34, 3) := by decide +kernel
theorem dX1_access_39 : decode cX1_access 39 = .ok (.iload_n 3, 1) := by decide +kernel
theorem dX1_access_40 : decode cX1_access 40 = .ok (.ifCond .eq 24, 3) := by decide +kernel
theorem dX1_access_43 : decode cX1_access 43 = .ok (.aload_n 0, 1) := by decide +kernel
theorem dX1_access_44 : decode cX1_access 44 = .ok (.getfield 7, 3) := by decide +kernel
theorem dX1_access_47 : decode cX1_access 47 = .ok (.iload_n 1, 1) := by decide +kernel
theorem dX1_access_48 : decode cX1_access 48 = .ok (.iload 5, 2) := by decide +kernel
theorem dX1_access_50 : decode cX1_access 50 = .ok (.iadd, 1) := by decide +kernel
theorem dX1_access_51 : decode cX1_access 51 = .ok (.iload 4, 2) := by decide +kernel
theorem dX1_access_53 : decode cX1_access 53 = .ok (.bipush 8, 2) := by decide +kernel
theorem dX1_access_55 : decode cX1_access 55 = .ok (.iload 5, 2) := by decide +kernel
theorem dX1_access_57 : decode cX1_access 57 = .ok (.imul, 1) := by decide +kernel
theorem dX1_access_58 : decode cX1_access 58 = .ok (.ishr, 1) := by decide +kernel
theorem dX1_access_59 : decode cX1_access 59 = .ok (.sipush 255, 3) := by decide +kernel
theorem dX1_access_62 : decode cX1_access 62 = .ok (.iand, 1) := by decide +kernel
theorem dX1_access_63 : decode cX1_access 63 = .ok (.iastore, 1) := by decide +kernel
theorem dX1_access_64 : decode cX1_access 64 = .ok (.iinc 5 1, 3) := by decide +kernel
theorem dX1_access_67 : decode cX1_access 67 = .ok (.goto (-34), 3) := by decide +kernel
theorem dX1_access_70 : decode cX1_access 70 = .ok (.aload_n 0, 1) := by decide +kernel
theorem dX1_access_71 : decode cX1_access 71 = .ok (.dup, 1) := by decide +kernel
theorem dX1_access_72 : decode cX1_access 72 = .ok (.getfield 61, 3) := by decide +kernel
theorem dX1_access_75 : decode cX1_access 75 = .ok (.iconst 1, 1) := by decide +kernel
theorem dX1_access_76 : decode cX1_access 76 = .ok (.iadd, 1) := by decide +kernel
theorem dX1_access_77 : decode cX1_access 77 = .ok (.putfield 61, 3) := by decide +kernel
theorem dX1_access_80 : decode cX1_access 80 = .ok (.iconst 0, 1) := by decide +kernel
theorem dX1_access_81 : decode cX1_access 81 = .ok (.istore 5, 2) := by decide +kernel
theorem dX1_access_83 : decode cX1_access 83 = .ok (.iconst 0, 1) := by decide +kernel
theorem dX1_access_84 : decode cX1_access 84 = .ok (.istore 6, 2) := by decide +kernel
theorem dX1_access_86 : decode cX1_access 86 = .ok (.iload 6, 2) := by decide +kernel
theorem dX1_access_88 : decode cX1_access 88 = .ok (.bipush 8, 2) := by decide +kernel
theorem dX1_access_90 : decode cX1_access 90 = .ok (.if_icmp .ge 65, 3) := by decide +kernel
theorem dX1_access_93 : decode cX1_access 93 = .ok (.aload_n 0, 1) := by decide +kernel
theorem dX1_access_94 : decode cX1_access 94 = .ok (.iload 6, 2) := by decide +kernel
theorem dX1_access_96 : decode cX1_access 96 = .ok (.iload_n 1, 1) := by decide +kernel
theorem dX1_access_97 : decode cX1_access 97 = .ok (.iload_n 2, 1) := by decide +kernel
theorem dX1_access_98 : decode cX1_access 98 = .ok (.iload_n 3, 1) := by decide +kernel
theorem dX1_access_99 : decode cX1_access 99 = .ok (.invokevirtual 75, 3) := by decide +kernel
theorem dX1_access_102 : decode cX1_access 102 = .ok (.ifCond .eq 47, 3) := by decide +kernel
theorem dX1_access_105 : decode cX1_access 105 = .ok (.aload_n 0, 1) := by decide +kernel
theorem dX1_access_106 : decode cX1_access 106 = .ok (.getfield 32, 3) := by decide +kernel
theorem dX1_access_109 : decode cX1_access 109 = .ok (.iload 6, 2) := by decide +kernel
theorem dX1_access_111 : decode cX1_access 111 = .ok (.iaload, 1) := by decide +kernel
theorem dX1_access_112 : decode cX1_access 112 = .ok (.ifCond .le 17, 3) := by decide +kernel
theorem dX1_access_115 : decode cX1_access 115 = .ok (.aload_n 0, 1) := by decide +kernel
theorem dX1_access_116 : decode cX1_access 116 = .ok (.getfield 32, 3) := by decide +kernel
theorem dX1_access_119 : decode cX1_access 119 = .ok (.iload 6, 2) := by decide +kernel
theorem dX1_access_121 : decode cX1_access 121 = .ok (.dup2, 1) := by decide +kernel
theorem dX1_access_122 : decode cX1_access 122 = .ok (.iaload, 1) := by decide +kernel
theorem dX1_access_123 : decode cX1_access 123 = .ok (.iconst 1, 1) := by decide +kernel
theorem dX1_access_124 : decode cX1_access 124 = .ok (.isub, 1) := by decide +kernel
theorem dX1_access_125 : decode cX1_access 125 = .ok (.iastore, 1) := by decide +kernel
theorem dX1_access_126 : decode cX1_access 126 = .ok (.goto 23, 3) := by decide +kernel
theorem dX1_access_129 : decode cX1_access 129 = .ok (.aload_n 0, 1) := by decide +kernel
theorem dX1_access_130 : decode cX1_access 130 = .ok (.getfield 35, 3) := by decide +kernel
theorem dX1_access_133 : decode cX1_access 133 = .ok (.iload 6, 2) := by decide +kernel
theorem dX1_access_135 : decode cX1_access 135 = .ok (.dup2, 1) := by decide +kernel
theorem dX1_access_136 : decode cX1_access 136 = .ok (.iaload, 1) := by decide +kernel
theorem dX1_access_137 : decode cX1_access 137 = .ok (.iconst 1, 1) := by decide +kernel
theorem dX1_access_138 : decode cX1_access 138 = .ok (.iadd, 1) := by decide +kernel
theorem dX1_access_139 : decode cX1_access 139 = .ok (.iastore, 1) := by decide +kernel
theorem dX1_access_140 : decode cX1_access 140 = .ok (.iload 5, 2) := by decide +kernel
theorem dX1_access_142 : decode cX1_access 142 = .ok (.iconst 1, 1) := by decide +kernel
theorem dX1_access_143 : decode cX1_access 143 = .ok (.iload 6, 2) := by decide +kernel
theorem dX1_access_145 : decode cX1_access 145 = .ok (.ishl, 1) := by decide +kernel
theorem dX1_access_146 : decode cX1_access 146 = .ok (.ior, 1) := by decide +kernel
theorem dX1_access_147 : decode cX1_access 147 = .ok (.istore 5, 2) := by decide +kernel
theorem dX1_access_149 : decode cX1_access 149 = .ok (.iinc 6 1, 3) := by decide +kernel
theorem dX1_access_152 : decode cX1_access 152 = .ok (.goto (-66), 3) := by decide +kernel
theorem dX1_access_155 : decode cX1_access 155 = .ok (.iload 5, 2) := by decide +kernel
theorem dX1_access_157 : decode cX1_access 157 = .ok (.ifCond .eq 11, 3) := by decide +kernel
theorem dX1_access_160 : decode cX1_access 160 = .ok (.aload_n 0, 1) := by decide +kernel
theorem dX1_access_161 : decode cX1_access 161 = .ok (.iload 5, 2) := by decide +kernel
theorem dX1_access_163 : decode cX1_access 163 = .ok (.iload_n 1, 1) := by decide +kernel
theorem dX1_access_164 : decode cX1_access 164 = .ok (.iload_n 2, 1) := by decide +kernel
theorem dX1_access_165 : decode cX1_access 165 = .ok (.invokevirtual 79, 3) := by decide +kernel
theorem dX1_access_168 : decode cX1_access 168 = .ok (.iload 5, 2) := by decide +kernel
theorem dX1_access_170 : decode cX1_access 170 = .ok (.ireturn, 1) := by decide +kernel
theorem dX1_hit_0 : decode cX1_hit 0 = .ok (.aload_n 0, 1) := by decide +kernel
theorem dX1_hit_1 : decode cX1_hit 1 = .ok (.getfield 16, 3) := by decide +kernel
theorem dX1_hit_4 : decode cX1_hit 4 = .ok (.iload_n 1, 1) := by decide +kernel
theorem dX1_hit_5 : decode cX1_hit 5 = .ok (.baload, 1) := by decide +kernel
theorem dX1_hit_6 : decode cX1_hit 6 = .ok (.ifCond .eq 12, 3) := by decide +kernel
theorem dX1_hit_9 : decode cX1_hit 9 = .ok (.aload_n 0, 1) := by decide +kernel
theorem dX1_hit_10 : decode cX1_hit 10 = .ok (.getfield 29, 3) := by decide +kernel
theorem dX1_hit_13 : decode cX1_hit 13 = .ok (.iload_n 1, 1) := by decide +kernel
theorem dX1_hit_14 : decode cX1_hit 14 = .ok (.baload, 1) := by decide +kernel
theorem dX1_hit_15 : decode cX1_hit 15 = .ok (.ifCond .eq 5, 3) := by decide +kernel
theorem dX1_hit_18 : decode cX1_hit 18 = .ok (.iconst 0, 1) := by decide +kernel
theorem dX1_hit_19 : decode cX1_hit 19 = .ok (.ireturn, 1) := by decide +kernel
theorem dX1_hit_20 : decode cX1_hit 20 = .ok (.iconst 0, 1) := by decide +kernel
theorem dX1_hit_21 : decode cX1_hit 21 = .ok (.istore 5, 2) := by decide +kernel
theorem dX1_hit_23 : decode cX1_hit 23 = .ok (.iconst 0, 1) := by decide +kernel
theorem dX1_hit_24 : decode cX1_hit 24 = .ok (.istore 6, 2) := by decide +kernel
theorem dX1_hit_26 : decode cX1_hit 26 = .ok (.iload_n 2, 1) := by decide +kernel
theorem dX1_hit_27 : decode cX1_hit 27 = .ok (.istore 7, 2) := by decide +kernel
theorem dX1_hit_29 : decode cX1_hit 29 = .ok (.iload 7, 2) := by decide +kernel
theorem dX1_hit_31 : decode cX1_hit 31 = .ok (.iload_n 2, 1) := by decide +kernel
theorem dX1_hit_32 : decode cX1_hit 32 = .ok (.iload_n 3, 1) := by decide +kernel
theorem dX1_hit_33 : decode cX1_hit 33 = .ok (.iadd, 1) := by decide +kernel
theorem dX1_hit_34 : decode cX1_hit 34 = .ok (.if_icmp .ge 49, 3) := by decide +kernel
theorem dX1_hit_37 : decode cX1_hit 37 = .ok (.iload 7, 2) := by decide +kernel
theorem dX1_hit_39 : decode cX1_hit 39 = .ok (.bipush 40, 2) := by decide +kernel
theorem dX1_hit_41 : decode cX1_hit 41 = .ok (.if_icmp .ge 42, 3) := by decide +kernel
theorem dX1_hit_44 : decode cX1_hit 44 = .ok (.aload_n 0, 1) := by decide +kernel
theorem dX1_hit_45 : decode cX1_hit 45 = .ok (.iload_n 1, 1) := by decide +kernel
theorem dX1_hit_46 : decode cX1_hit 46 = .ok (.iload 7, 2) := by decide +kernel
theorem dX1_hit_48 : decode cX1_hit 48 = .ok (.invokevirtual 57, 3) := by decide +kernel
theorem dX1_hit_51 : decode cX1_hit 51 = .ok (.ifCond .eq 26, 3) := by decide +kernel
theorem dX1_hit_54 : decode cX1_hit 54 = .ok (.iconst 1, 1) := by decide +kernel
theorem dX1_hit_55 : decode cX1_hit 55 = .ok (.istore 5, 2) := by decide +kernel
theorem dX1_hit_57 : decode cX1_hit 57 = .ok (.aload_n 0, 1) := by decide +kernel
theorem dX1_hit_58 : decode cX1_hit 58 = .ok (.getfield 7, 3) := by decide +kernel
theorem dX1_hit_61 : decode cX1_hit 61 = .ok (.iload 7, 2) := by decide +kernel
theorem dX1_hit_63 : decode cX1_hit 63 = .ok (.iaload, 1) := by decide +kernel
theorem dX1_hit_64 : decode cX1_hit 64 = .ok (.aload_n 0, 1) := by decide +kernel
theorem dX1_hit_65 : decode cX1_hit 65 = .ok (.getfield 13, 3) := by decide +kernel
theorem dX1_hit_68 : decode cX1_hit 68 = .ok (.iload 7, 2) := by decide +kernel
theorem dX1_hit_70 : decode cX1_hit 70 = .ok (.iaload, 1) := by decide +kernel
theorem dX1_hit_71 : decode cX1_hit 71 = .ok (.if_icmp .eq 6, 3) := by decide +kernel
theorem dX1_hit_74 : decode cX1_hit 74 = .ok (.iconst 1, 1) := by decide +kernel
theorem dX1_hit_75 : decode cX1_hit 75 = .ok (.istore 6, 2) := by decide +kernel
theorem dX1_hit_77 : decode cX1_hit 77 = .ok (.iinc 7 1, 3) := by decide +kernel
theorem dX1_hit_80 : decode cX1_hit 80 = .ok (.goto (-51), 3) := by decide +kernel
theorem dX1_hit_83 : decode cX1_hit 83 = .ok (.aload_n 0, 1) := by decide +kernel
theorem dX1_hit_84 : decode cX1_hit 84 = .ok (.getfield 26, 3) := by decide +kernel
theorem dX1_hit_87 : decode cX1_hit 87 = .ok (.iload_n 1, 1) := by decide +kernel
theorem dX1_hit_88 : decode cX1_hit 88 = .ok (.iaload, 1) := by decide +kernel
theorem dX1_hit_89 : decode cX1_hit 89 = .ok (.iconst 1, 1) := by decide +kernel
theorem dX1_hit_90 : decode cX1_hit 90 = .ok (.if_icmp .ne 19, 3) := by decide +kernel
theorem dX1_hit_93 : decode cX1_hit 93 = .ok (.iload 5, 2) := by decide +kernel
theorem dX1_hit_95 : decode cX1_hit 95 = .ok (.ifCond .eq 12, 3) := by decide +kernel
theorem dX1_hit_98 : decode cX1_hit 98 = .ok (.iload 4, 2) := by decide +kernel
theorem dX1_hit_100 : decode cX1_hit 100 = .ok (.ifCond .ne 7, 3) := by decide +kernel
theorem dX1_hit_103 : decode cX1_hit 103 = .ok (.iconst 1, 1) := by decide +kernel
theorem dX1_hit_104 : decode cX1_hit 104 = .ok (.goto 4, 3) := by decide +kernel
theorem dX1_hit_107 : decode cX1_hit 107 = .ok (.iconst 0, 1) := by decide +kernel
theorem dX1_hit_108 : decode cX1_hit 108 = .ok (.ireturn, 1) := by decide +kernel
theorem dX1_hit_109 : decode cX1_hit 109 = .ok (.aload_n 0, 1) := by decide +kernel
theorem dX1_hit_110 : decode cX1_hit 110 = .ok (.getfield 26, 3) := by decide +kernel
theorem dX1_hit_113 : decode cX1_hit 113 = .ok (.iload_n 1, 1) := by decide +kernel
theorem dX1_hit_114 : decode cX1_hit 114 = .ok (.iaload, 1) := by decide +kernel
theorem dX1_hit_115 : decode cX1_hit 115 = .ok (.iconst 2, 1) := by decide +kernel
theorem dX1_hit_116 : decode cX1_hit 116 = .ok (.if_icmp .ne 19, 3) := by decide +kernel
theorem dX1_hit_119 : decode cX1_hit 119 = .ok (.iload 5, 2) := by decide +kernel
theorem dX1_hit_121 : decode cX1_hit 121 = .ok (.ifCond .eq 12, 3) := by decide +kernel
theorem dX1_hit_124 : decode cX1_hit 124 = .ok (.iload 4, 2) := by decide +kernel
theorem dX1_hit_126 : decode cX1_hit 126 = .ok (.ifCond .eq 7, 3) := by decide +kernel
theorem dX1_hit_129 : decode cX1_hit 129 = .ok (.iconst 1, 1) := by decide +kernel
theorem dX1_hit_130 : decode cX1_hit 130 = .ok (.goto 4, 3) := by decide +kernel
theorem dX1_hit_133 : decode cX1_hit 133 = .ok (.iconst 0, 1) := by decide +kernel
theorem dX1_hit_134 : decode cX1_hit 134 = .ok (.ireturn, 1) := by decide +kernel
theorem dX1_hit_135 : decode cX1_hit 135 = .ok (.aload_n 0, 1) := by decide +kernel
theorem dX1_hit_136 : decode cX1_hit 136 = .ok (.getfield 26, 3) := by decide +kernel
theorem dX1_hit_139 : decode cX1_hit 139 = .ok (.iload_n 1, 1) := by decide +kernel
theorem dX1_hit_140 : decode cX1_hit 140 = .ok (.iaload, 1) := by decide +kernel
theorem dX1_hit_141 : decode cX1_hit 141 = .ok (.iconst 4, 1) := by decide +kernel
theorem dX1_hit_142 : decode cX1_hit 142 = .ok (.if_icmp .ne 19, 3) := by decide +kernel
theorem dX1_hit_145 : decode cX1_hit 145 = .ok (.iload 6, 2) := by decide +kernel
theorem dX1_hit_147 : decode cX1_hit 147 = .ok (.ifCond .eq 12, 3) := by decide +kernel
theorem dX1_hit_150 : decode cX1_hit 150 = .ok (.iload 4, 2) := by decide +kernel
theorem dX1_hit_152 : decode cX1_hit 152 = .ok (.ifCond .eq 7, 3) := by decide +kernel
theorem dX1_hit_155 : decode cX1_hit 155 = .ok (.iconst 1, 1) := by decide +kernel
theorem dX1_hit_156 : decode cX1_hit 156 = .ok (.goto 4, 3) := by decide +kernel
theorem dX1_hit_159 : decode cX1_hit 159 = .ok (.iconst 0, 1) := by decide +kernel
theorem dX1_hit_160 : decode cX1_hit 160 = .ok (.ireturn, 1) := by decide +kernel
theorem dX1_hit_161 : decode cX1_hit 161 = .ok (.iload 5, 2) := by decide +kernel
theorem dX1_hit_163 : decode cX1_hit 163 = .ok (.ireturn, 1) := by decide +kernel
theorem dX1_inRange_0 : decode cX1_inRange 0 = .ok (.iload_n 2, 1) := by decide +kernel
theorem dX1_inRange_1 : decode cX1_inRange 1 = .ok (.aload_n 0, 1) := by decide +kernel
theorem dX1_inRange_2 : decode cX1_inRange 2 = .ok (.getfield 20, 3) := by decide +kernel
theorem dX1_inRange_5 : decode cX1_inRange 5 = .ok (.iload_n 1, 1) := by decide +kernel
theorem dX1_inRange_6 : decode cX1_inRange 6 = .ok (.iaload, 1) := by decide +kernel
theorem dX1_inRange_7 : decode cX1_inRange 7 = .ok (.if_icmp .lt 24, 3) := by decide +kernel
theorem dX1_inRange_10 : decode cX1_inRange 10 = .ok (.iload_n 2, 1) := by decide +kernel
theorem dX1_inRange_11 : decode cX1_inRange 11 = .ok (.aload_n 0, 1) := by decide +kernel
theorem dX1_inRange_12 : decode cX1_inRange 12 = .ok (.getfield 20, 3) := by decide +kernel
theorem dX1_inRange_15 : decode cX1_inRange 15 = .ok (.iload_n 1, 1) := by decide +kernel
theorem dX1_inRange_16 : decode cX1_inRange 16 = .ok (.iaload, 1) := by decide +kernel
theorem dX1_inRange_17 : decode cX1_inRange 17 = .ok (.aload_n 0, 1) := by decide +kernel
theorem dX1_inRange_18 : decode cX1_inRange 18 = .ok (.getfield 23, 3) := by decide +kernel
theorem dX1_inRange_21 : decode cX1_inRange 21 = .ok (.iload_n 1, 1) := by decide +kernel
theorem dX1_inRange_22 : decode cX1_inRange 22 = .ok (.iaload, 1) := by decide +kernel
theorem dX1_inRange_23 : decode cX1_inRange 23 = .ok (.iadd, 1) := by decide +kernel
theorem dX1_inRange_24 : decode cX1_inRange 24 = .ok (.if_icmp .ge 7, 3) := by decide +kernel
theorem dX1_inRange_27 : decode cX1_inRange 27 = .ok (.iconst 1, 1) := by decide +kernel
theorem dX1_inRange_28 : decode cX1_inRange 28 = .ok (.goto 4, 3) := by decide +kernel
theorem dX1_inRange_31 : decode cX1_inRange 31 = .ok (.iconst 0, 1) := by decide +kernel
theorem dX1_inRange_32 : decode cX1_inRange 32 = .ok (.ireturn, 1) := by decide +kernel
theorem dX1_keep_0 : decode cX1_keep 0 = .ok (.bipush 7, 2) := by decide +kernel
theorem dX1_keep_2 : decode cX1_keep 2 = .ok (.istore 4, 2) := by decide +kernel
theorem dX1_keep_4 : decode cX1_keep 4 = .ok (.iload 4, 2) := by decide +kernel
theorem dX1_keep_6 : decode cX1_keep 6 = .ok (.ifCond .le 89, 3) := by decide +kernel
theorem dX1_keep_9 : decode cX1_keep 9 = .ok (.aload_n 0, 1) := by decide +kernel
theorem dX1_keep_10 : decode cX1_keep 10 = .ok (.getfield 38, 3) := by decide +kernel
theorem dX1_keep_13 : decode cX1_keep 13 = .ok (.iload 4, 2) := by decide +kernel
theorem dX1_keep_15 : decode cX1_keep 15 = .ok (.aload_n 0, 1) := by decide +kernel
theorem dX1_keep_16 : decode cX1_keep 16 = .ok (.getfield 38, 3) := by decide +kernel
theorem dX1_keep_19 : decode cX1_keep 19 = .ok (.iload 4, 2) := by decide +kernel
theorem dX1_keep_21 : decode cX1_keep 21 = .ok (.iconst 1, 1) := by decide +kernel
theorem dX1_keep_22 : decode cX1_keep 22 = .ok (.isub, 1) := by decide +kernel
theorem dX1_keep_23 : decode cX1_keep 23 = .ok (.iaload, 1) := by decide +kernel
theorem dX1_keep_24 : decode cX1_keep 24 = .ok (.iastore, 1) := by decide +kernel
theorem dX1_keep_25 : decode cX1_keep 25 = .ok (.aload_n 0, 1) := by decide +kernel
theorem dX1_keep_26 : decode cX1_keep 26 = .ok (.getfield 41, 3) := by decide +kernel
theorem dX1_keep_29 : decode cX1_keep 29 = .ok (.iload 4, 2) := by decide +kernel
theorem dX1_keep_31 : decode cX1_keep 31 = .ok (.aload_n 0, 1) := by decide +kernel
theorem dX1_keep_32 : decode cX1_keep 32 = .ok (.getfield 41, 3) := by decide +kernel
theorem dX1_keep_35 : decode cX1_keep 35 = .ok (.iload 4, 2) := by decide +kernel
theorem dX1_keep_37 : decode cX1_keep 37 = .ok (.iconst 1, 1) := by decide +kernel
theorem dX1_keep_38 : decode cX1_keep 38 = .ok (.isub, 1) := by decide +kernel
theorem dX1_keep_39 : decode cX1_keep 39 = .ok (.iaload, 1) := by decide +kernel
theorem dX1_keep_40 : decode cX1_keep 40 = .ok (.iastore, 1) := by decide +kernel
theorem dX1_keep_41 : decode cX1_keep 41 = .ok (.aload_n 0, 1) := by decide +kernel
theorem dX1_keep_42 : decode cX1_keep 42 = .ok (.getfield 44, 3) := by decide +kernel
theorem dX1_keep_45 : decode cX1_keep 45 = .ok (.iload 4, 2) := by decide +kernel
theorem dX1_keep_47 : decode cX1_keep 47 = .ok (.aload_n 0, 1) := by decide +kernel
theorem dX1_keep_48 : decode cX1_keep 48 = .ok (.getfield 44, 3) := by decide +kernel
theorem dX1_keep_51 : decode cX1_keep 51 = .ok (.iload 4, 2) := by decide +kernel
theorem dX1_keep_53 : decode cX1_keep 53 = .ok (.iconst 1, 1) := by decide +kernel
theorem dX1_keep_54 : decode cX1_keep 54 = .ok (.isub, 1) := by decide +kernel
theorem dX1_keep_55 : decode cX1_keep 55 = .ok (.iaload, 1) := by decide +kernel
theorem dX1_keep_56 : decode cX1_keep 56 = .ok (.iastore, 1) := by decide +kernel
theorem dX1_keep_57 : decode cX1_keep 57 = .ok (.aload_n 0, 1) := by decide +kernel
theorem dX1_keep_58 : decode cX1_keep 58 = .ok (.getfield 47, 3) := by decide +kernel
theorem dX1_keep_61 : decode cX1_keep 61 = .ok (.iload 4, 2) := by decide +kernel
theorem dX1_keep_63 : decode cX1_keep 63 = .ok (.aload_n 0, 1) := by decide +kernel
theorem dX1_keep_64 : decode cX1_keep 64 = .ok (.getfield 47, 3) := by decide +kernel
theorem dX1_keep_67 : decode cX1_keep 67 = .ok (.iload 4, 2) := by decide +kernel
theorem dX1_keep_69 : decode cX1_keep 69 = .ok (.iconst 1, 1) := by decide +kernel
theorem dX1_keep_70 : decode cX1_keep 70 = .ok (.isub, 1) := by decide +kernel
theorem dX1_keep_71 : decode cX1_keep 71 = .ok (.iaload, 1) := by decide +kernel
theorem dX1_keep_72 : decode cX1_keep 72 = .ok (.iastore, 1) := by decide +kernel
theorem dX1_keep_73 : decode cX1_keep 73 = .ok (.aload_n 0, 1) := by decide +kernel
theorem dX1_keep_74 : decode cX1_keep 74 = .ok (.getfield 50, 3) := by decide +kernel
theorem dX1_keep_77 : decode cX1_keep 77 = .ok (.iload 4, 2) := by decide +kernel
theorem dX1_keep_79 : decode cX1_keep 79 = .ok (.aload_n 0, 1) := by decide +kernel
theorem dX1_keep_80 : decode cX1_keep 80 = .ok (.getfield 50, 3) := by decide +kernel
theorem dX1_keep_83 : decode cX1_keep 83 = .ok (.iload 4, 2) := by decide +kernel
theorem dX1_keep_85 : decode cX1_keep 85 = .ok (.iconst 1, 1) := by decide +kernel
theorem dX1_keep_86 : decode cX1_keep 86 = .ok (.isub, 1) := by decide +kernel
theorem dX1_keep_87 : decode cX1_keep 87 = .ok (.iaload, 1) := by decide +kernel
theorem dX1_keep_88 : decode cX1_keep 88 = .ok (.iastore, 1) := by decide +kernel
theorem dX1_keep_89 : decode cX1_keep 89 = .ok (.iinc 4 (-1), 3) := by decide +kernel
theorem dX1_keep_92 : decode cX1_keep 92 = .ok (.goto (-88), 3) := by decide +kernel
theorem dX1_keep_95 : decode cX1_keep 95 = .ok (.aload_n 0, 1) := by decide +kernel
theorem dX1_keep_96 : decode cX1_keep 96 = .ok (.getfield 38, 3) := by decide +kernel
theorem dX1_keep_99 : decode cX1_keep 99 = .ok (.iconst 0, 1) := by decide +kernel
theorem dX1_keep_100 : decode cX1_keep 100 = .ok (.iload_n 1, 1) := by decide +kernel
theorem dX1_keep_101 : decode cX1_keep 101 = .ok (.iastore, 1) := by decide +kernel
theorem dX1_keep_102 : decode cX1_keep 102 = .ok (.aload_n 0, 1) := by decide +kernel
theorem dX1_keep_103 : decode cX1_keep 103 = .ok (.getfield 41, 3) := by decide +kernel
theorem dX1_keep_106 : decode cX1_keep 106 = .ok (.iconst 0, 1) := by decide +kernel
theorem dX1_keep_107 : decode cX1_keep 107 = .ok (.iload_n 2, 1) := by decide +kernel
theorem dX1_keep_108 : decode cX1_keep 108 = .ok (.iastore, 1) := by decide +kernel
theorem dX1_keep_109 : decode cX1_keep 109 = .ok (.aload_n 0, 1) := by decide +kernel
theorem dX1_keep_110 : decode cX1_keep 110 = .ok (.getfield 44, 3) := by decide +kernel
theorem dX1_keep_113 : decode cX1_keep 113 = .ok (.iconst 0, 1) := by decide +kernel
theorem dX1_keep_114 : decode cX1_keep 114 = .ok (.aload_n 0, 1) := by decide +kernel
theorem dX1_keep_115 : decode cX1_keep 115 = .ok (.getfield 61, 3) := by decide +kernel
theorem dX1_keep_118 : decode cX1_keep 118 = .ok (.iastore, 1) := by decide +kernel
theorem dX1_keep_119 : decode cX1_keep 119 = .ok (.aload_n 0, 1) := by decide +kernel
theorem dX1_keep_120 : decode cX1_keep 120 = .ok (.getfield 47, 3) := by decide +kernel
theorem dX1_keep_123 : decode cX1_keep 123 = .ok (.iconst 0, 1) := by decide +kernel
theorem dX1_keep_124 : decode cX1_keep 124 = .ok (.aload_n 0, 1) := by decide +kernel
theorem dX1_keep_125 : decode cX1_keep 125 = .ok (.iload_n 2, 1) := by decide +kernel
theorem dX1_keep_126 : decode cX1_keep 126 = .ok (.iload_n 3, 1) := by decide +kernel
theorem dX1_keep_127 : decode cX1_keep 127 = .ok (.iconst 0, 1) := by decide +kernel
theorem dX1_keep_128 : decode cX1_keep 128 = .ok (.invokevirtual 65, 3) := by decide +kernel
theorem dX1_keep_131 : decode cX1_keep 131 = .ok (.iastore, 1) := by decide +kernel
theorem dX1_keep_132 : decode cX1_keep 132 = .ok (.aload_n 0, 1) := by decide +kernel
theorem dX1_keep_133 : decode cX1_keep 133 = .ok (.getfield 50, 3) := by decide +kernel
theorem dX1_keep_136 : decode cX1_keep 136 = .ok (.iconst 0, 1) := by decide +kernel
theorem dX1_keep_137 : decode cX1_keep 137 = .ok (.aload_n 0, 1) := by decide +kernel
theorem dX1_keep_138 : decode cX1_keep 138 = .ok (.iload_n 2, 1) := by decide +kernel
theorem dX1_keep_139 : decode cX1_keep 139 = .ok (.iload_n 3, 1) := by decide +kernel
theorem dX1_keep_140 : decode cX1_keep 140 = .ok (.iconst 1, 1) := by decide +kernel
theorem dX1_keep_141 : decode cX1_keep 141 = .ok (.invokevirtual 65, 3) := by decide +kernel
theorem dX1_keep_144 : decode cX1_keep 144 = .ok (.iastore, 1) := by decide +kernel
theorem dX1_keep_145 : decode cX1_keep 145 = .ok (.aload_n 0, 1) := by decide +kernel
theorem dX1_keep_146 : decode cX1_keep 146 = .ok (.dup, 1) := by decide +kernel
theorem dX1_keep_147 : decode cX1_keep 147 = .ok (.getfield 69, 3) := by decide +kernel
theorem dX1_keep_150 : decode cX1_keep 150 = .ok (.iconst 1, 1) := by decide +kernel
theorem dX1_keep_151 : decode cX1_keep 151 = .ok (.iadd, 1) := by decide +kernel
theorem dX1_keep_152 : decode cX1_keep 152 = .ok (.putfield 69, 3) := by decide +kernel
theorem dX1_keep_155 : decode cX1_keep 155 = .ok (.aload_n 0, 1) := by decide +kernel
theorem dX1_keep_156 : decode cX1_keep 156 = .ok (.getfield 72, 3) := by decide +kernel
theorem dX1_keep_159 : decode cX1_keep 159 = .ok (.bipush 8, 2) := by decide +kernel
theorem dX1_keep_161 : decode cX1_keep 161 = .ok (.if_icmp .ge 13, 3) := by decide +kernel
theorem dX1_keep_164 : decode cX1_keep 164 = .ok (.aload_n 0, 1) := by decide +kernel
theorem dX1_keep_165 : decode cX1_keep 165 = .ok (.dup, 1) := by decide +kernel
theorem dX1_keep_166 : decode cX1_keep 166 = .ok (.getfield 72, 3) := by decide +kernel
theorem dX1_keep_169 : decode cX1_keep 169 = .ok (.iconst 1, 1) := by decide +kernel
theorem dX1_keep_170 : decode cX1_keep 170 = .ok (.iadd, 1) := by decide +kernel
theorem dX1_keep_171 : decode cX1_keep 171 = .ok (.putfield 72, 3) := by decide +kernel
theorem dX1_keep_174 : decode cX1_keep 174 = .ok (.return_, 1) := by decide +kernel
theorem dX1_number_0 : decode cX1_number 0 = .ok (.iconst 0, 1) := by decide +kernel
theorem dX1_number_1 : decode cX1_number 1 = .ok (.istore 4, 2) := by decide +kernel
theorem dX1_number_3 : decode cX1_number 3 = .ok (.iconst 0, 1) := by decide +kernel
theorem dX1_number_4 : decode cX1_number 4 = .ok (.istore 5, 2) := by decide +kernel
theorem dX1_number_6 : decode cX1_number 6 = .ok (.iload 5, 2) := by decide +kernel
theorem dX1_number_8 : decode cX1_number 8 = .ok (.iload_n 2, 1) := by decide +kernel
theorem dX1_number_9 : decode cX1_number 9 = .ok (.if_icmp .ge 49, 3) := by decide +kernel
theorem dX1_number_12 : decode cX1_number 12 = .ok (.iload_n 3, 1) := by decide +kernel
theorem dX1_number_13 : decode cX1_number 13 = .ok (.ifCond .eq 15, 3) := by decide +kernel
theorem dX1_number_16 : decode cX1_number 16 = .ok (.aload_n 0, 1) := by decide +kernel
theorem dX1_number_17 : decode cX1_number 17 = .ok (.getfield 7, 3) := by decide +kernel
theorem dX1_number_20 : decode cX1_number 20 = .ok (.iload_n 1, 1) := by decide +kernel
theorem dX1_number_21 : decode cX1_number 21 = .ok (.iload 5, 2) := by decide +kernel
theorem dX1_number_23 : decode cX1_number 23 = .ok (.iadd, 1) := by decide +kernel
theorem dX1_number_24 : decode cX1_number 24 = .ok (.iaload, 1) := by decide +kernel
theorem dX1_number_25 : decode cX1_number 25 = .ok (.goto 12, 3) := by decide +kernel
theorem dX1_number_28 : decode cX1_number 28 = .ok (.aload_n 0, 1) := by decide +kernel
theorem dX1_number_29 : decode cX1_number 29 = .ok (.getfield 13, 3) := by decide +kernel
end
section
set_option maxRecDepth 100000
theorem dX1_number_32 : decode cX1_number 32 = .ok (.iload_n 1, 1) := by decide +kernel
theorem dX1_number_33 : decode cX1_number 33 = .ok (.iload 5, 2) := by decide +kernel
theorem dX1_number_35 : decode cX1_number 35 = .ok (.iadd, 1) := by decide +kernel
theorem dX1_number_36 : decode cX1_number 36 = .ok (.iaload, 1) := by decide +kernel
theorem dX1_number_37 : decode cX1_number 37 = .ok (.istore 6, 2) := by decide +kernel
theorem dX1_number_39 : decode cX1_number 39 = .ok (.iload 4, 2) := by decide +kernel
theorem dX1_number_41 : decode cX1_number 41 = .ok (.iload 6, 2) := by decide +kernel
theorem dX1_number_43 : decode cX1_number 43 = .ok (.bipush 8, 2) := by decide +kernel
theorem dX1_number_45 : decode cX1_number 45 = .ok (.iload 5, 2) := by decide +kernel
theorem dX1_number_47 : decode cX1_number 47 = .ok (.imul, 1) := by decide +kernel
theorem dX1_number_48 : decode cX1_number 48 = .ok (.ishl, 1) := by decide +kernel
theorem dX1_number_49 : decode cX1_number 49 = .ok (.ior, 1) := by decide +kernel
theorem dX1_number_50 : decode cX1_number 50 = .ok (.istore 4, 2) := by decide +kernel
theorem dX1_number_52 : decode cX1_number 52 = .ok (.iinc 5 1, 3) := by decide +kernel
theorem dX1_number_55 : decode cX1_number 55 = .ok (.goto (-49), 3) := by decide +kernel
theorem dX1_number_58 : decode cX1_number 58 = .ok (.iload 4, 2) := by decide +kernel
theorem dX1_number_60 : decode cX1_number 60 = .ok (.ireturn, 1) := by decide +kernel
theorem dX1_store_0 : decode cX1_store 0 = .ok (.aload_n 0, 1) := by decide +kernel
theorem dX1_store_1 : decode cX1_store 1 = .ok (.iload_n 2, 1) := by decide +kernel
theorem dX1_store_2 : decode cX1_store 2 = .ok (.invokevirtual 83, 3) := by decide +kernel
theorem dX1_store_5 : decode cX1_store 5 = .ok (.ifCond .eq 5, 3) := by decide +kernel
theorem dX1_store_8 : decode cX1_store 8 = .ok (.iconst (-1), 1) := by decide +kernel
theorem dX1_store_9 : decode cX1_store 9 = .ok (.ireturn, 1) := by decide +kernel
theorem dX1_store_10 : decode cX1_store 10 = .ok (.iload_n 1, 1) := by decide +kernel
theorem dX1_store_11 : decode cX1_store 11 = .ok (.ifCond .lt 11, 3) := by decide +kernel
theorem dX1_store_14 : decode cX1_store 14 = .ok (.iload_n 1, 1) := by decide +kernel
theorem dX1_store_15 : decode cX1_store 15 = .ok (.bipush 40, 2) := by decide +kernel
theorem dX1_store_17 : decode cX1_store 17 = .ok (.iload_n 2, 1) := by decide +kernel
theorem dX1_store_18 : decode cX1_store 18 = .ok (.isub, 1) := by decide +kernel
theorem dX1_store_19 : decode cX1_store 19 = .ok (.if_icmp .le 6, 3) := by decide +kernel
theorem dX1_store_22 : decode cX1_store 22 = .ok (.bipush (-2), 2) := by decide +kernel
theorem dX1_store_24 : decode cX1_store 24 = .ok (.ireturn, 1) := by decide +kernel
theorem dX1_store_25 : decode cX1_store 25 = .ok (.aload_n 0, 1) := by decide +kernel
theorem dX1_store_26 : decode cX1_store 26 = .ok (.iload_n 1, 1) := by decide +kernel
theorem dX1_store_27 : decode cX1_store 27 = .ok (.iload_n 2, 1) := by decide +kernel
theorem dX1_store_28 : decode cX1_store 28 = .ok (.iconst 1, 1) := by decide +kernel
theorem dX1_store_29 : decode cX1_store 29 = .ok (.iload_n 3, 1) := by decide +kernel
theorem dX1_store_30 : decode cX1_store 30 = .ok (.invokevirtual 86, 3) := by decide +kernel
theorem dX1_store_33 : decode cX1_store 33 = .ok (.istore 4, 2) := by decide +kernel
theorem dX1_store_35 : decode cX1_store 35 = .ok (.iconst 0, 1) := by decide +kernel
theorem dX1_store_36 : decode cX1_store 36 = .ok (.istore 5, 2) := by decide +kernel
theorem dX1_store_38 : decode cX1_store 38 = .ok (.iconst 0, 1) := by decide +kernel
theorem dX1_store_39 : decode cX1_store 39 = .ok (.istore 6, 2) := by decide +kernel
theorem dX1_store_41 : decode cX1_store 41 = .ok (.iload 6, 2) := by decide +kernel
theorem dX1_store_43 : decode cX1_store 43 = .ok (.bipush 8, 2) := by decide +kernel
theorem dX1_store_45 : decode cX1_store 45 = .ok (.if_icmp .ge 21, 3) := by decide +kernel
theorem dX1_store_48 : decode cX1_store 48 = .ok (.iload 5, 2) := by decide +kernel
theorem dX1_store_50 : decode cX1_store 50 = .ok (.iload 4, 2) := by decide +kernel
theorem dX1_store_52 : decode cX1_store 52 = .ok (.iload 6, 2) := by decide +kernel
theorem dX1_store_54 : decode cX1_store 54 = .ok (.ishr, 1) := by decide +kernel
theorem dX1_store_55 : decode cX1_store 55 = .ok (.iconst 1, 1) := by decide +kernel
theorem dX1_store_56 : decode cX1_store 56 = .ok (.iand, 1) := by decide +kernel
theorem dX1_store_57 : decode cX1_store 57 = .ok (.iadd, 1) := by decide +kernel
theorem dX1_store_58 : decode cX1_store 58 = .ok (.istore 5, 2) := by decide +kernel
theorem dX1_store_60 : decode cX1_store 60 = .ok (.iinc 6 1, 3) := by decide +kernel
theorem dX1_store_63 : decode cX1_store 63 = .ok (.goto (-22), 3) := by decide +kernel
theorem dX1_store_66 : decode cX1_store 66 = .ok (.iload 5, 2) := by decide +kernel
theorem dX1_store_68 : decode cX1_store 68 = .ok (.ireturn, 1) := by decide +kernel
theorem dX1_sweep_0 : decode cX1_sweep 0 = .ok (.iload_n 1, 1) := by decide +kernel
theorem dX1_sweep_1 : decode cX1_sweep 1 = .ok (.ifCond .lt 14, 3) := by decide +kernel
theorem dX1_sweep_4 : decode cX1_sweep 4 = .ok (.iload_n 2, 1) := by decide +kernel
theorem dX1_sweep_5 : decode cX1_sweep 5 = .ok (.bipush 39, 2) := by decide +kernel
theorem dX1_sweep_7 : decode cX1_sweep 7 = .ok (.if_icmp .gt 8, 3) := by decide +kernel
theorem dX1_sweep_10 : decode cX1_sweep 10 = .ok (.iload_n 1, 1) := by decide +kernel
theorem dX1_sweep_11 : decode cX1_sweep 11 = .ok (.iload_n 2, 1) := by decide +kernel
theorem dX1_sweep_12 : decode cX1_sweep 12 = .ok (.if_icmp .le 5, 3) := by decide +kernel
theorem dX1_sweep_15 : decode cX1_sweep 15 = .ok (.iconst (-1), 1) := by decide +kernel
theorem dX1_sweep_16 : decode cX1_sweep 16 = .ok (.ireturn, 1) := by decide +kernel
theorem dX1_sweep_17 : decode cX1_sweep 17 = .ok (.iconst 0, 1) := by decide +kernel
theorem dX1_sweep_18 : decode cX1_sweep 18 = .ok (.istore_n 3, 1) := by decide +kernel
theorem dX1_sweep_19 : decode cX1_sweep 19 = .ok (.iload_n 1, 1) := by decide +kernel
theorem dX1_sweep_20 : decode cX1_sweep 20 = .ok (.istore 4, 2) := by decide +kernel
theorem dX1_sweep_22 : decode cX1_sweep 22 = .ok (.iload 4, 2) := by decide +kernel
theorem dX1_sweep_24 : decode cX1_sweep 24 = .ok (.iload_n 2, 1) := by decide +kernel
theorem dX1_sweep_25 : decode cX1_sweep 25 = .ok (.if_icmp .gt 28, 3) := by decide +kernel
theorem dX1_sweep_28 : decode cX1_sweep 28 = .ok (.aload_n 0, 1) := by decide +kernel
theorem dX1_sweep_29 : decode cX1_sweep 29 = .ok (.iload 4, 2) := by decide +kernel
theorem dX1_sweep_31 : decode cX1_sweep 31 = .ok (.iconst 1, 1) := by decide +kernel
theorem dX1_sweep_32 : decode cX1_sweep 32 = .ok (.iconst 0, 1) := by decide +kernel
theorem dX1_sweep_33 : decode cX1_sweep 33 = .ok (.iconst 0, 1) := by decide +kernel
theorem dX1_sweep_34 : decode cX1_sweep 34 = .ok (.invokevirtual 86, 3) := by decide +kernel
theorem dX1_sweep_37 : decode cX1_sweep 37 = .ok (.istore 5, 2) := by decide +kernel
theorem dX1_sweep_39 : decode cX1_sweep 39 = .ok (.iload 5, 2) := by decide +kernel
theorem dX1_sweep_41 : decode cX1_sweep 41 = .ok (.ifCond .eq 6, 3) := by decide +kernel
theorem dX1_sweep_44 : decode cX1_sweep 44 = .ok (.iinc 3 1, 3) := by decide +kernel
theorem dX1_sweep_47 : decode cX1_sweep 47 = .ok (.iinc 4 2, 3) := by decide +kernel
theorem dX1_sweep_50 : decode cX1_sweep 50 = .ok (.goto (-28), 3) := by decide +kernel
theorem dX1_sweep_53 : decode cX1_sweep 53 = .ok (.iload_n 3, 1) := by decide +kernel
theorem dX1_sweep_54 : decode cX1_sweep 54 = .ok (.ireturn, 1) := by decide +kernel
theorem dX1_peek_0 : decode cX1_peek 0 = .ok (.iload_n 1, 1) := by decide +kernel
theorem dX1_peek_1 : decode cX1_peek 1 = .ok (.ifCond .lt 9, 3) := by decide +kernel
theorem dX1_peek_4 : decode cX1_peek 4 = .ok (.iload_n 1, 1) := by decide +kernel
theorem dX1_peek_5 : decode cX1_peek 5 = .ok (.bipush 39, 2) := by decide +kernel
theorem dX1_peek_7 : decode cX1_peek 7 = .ok (.if_icmp .le 7, 3) := by decide +kernel
theorem dX1_peek_10 : decode cX1_peek 10 = .ok (.iconst (-1), 1) := by decide +kernel
theorem dX1_peek_11 : decode cX1_peek 11 = .ok (.goto 9, 3) := by decide +kernel
theorem dX1_peek_14 : decode cX1_peek 14 = .ok (.aload_n 0, 1) := by decide +kernel
theorem dX1_peek_15 : decode cX1_peek 15 = .ok (.getfield 7, 3) := by decide +kernel
theorem dX1_peek_18 : decode cX1_peek 18 = .ok (.iload_n 1, 1) := by decide +kernel
theorem dX1_peek_19 : decode cX1_peek 19 = .ok (.iaload, 1) := by decide +kernel
theorem dX1_peek_20 : decode cX1_peek 20 = .ok (.ireturn, 1) := by decide +kernel
theorem dX1_hits_0 : decode cX1_hits 0 = .ok (.aload_n 0, 1) := by decide +kernel
theorem dX1_hits_1 : decode cX1_hits 1 = .ok (.iload_n 1, 1) := by decide +kernel
theorem dX1_hits_2 : decode cX1_hits 2 = .ok (.invokevirtual 53, 3) := by decide +kernel
theorem dX1_hits_5 : decode cX1_hits 5 = .ok (.ifCond .eq 5, 3) := by decide +kernel
theorem dX1_hits_8 : decode cX1_hits 8 = .ok (.iconst (-1), 1) := by decide +kernel
theorem dX1_hits_9 : decode cX1_hits 9 = .ok (.ireturn, 1) := by decide +kernel
theorem dX1_hits_10 : decode cX1_hits 10 = .ok (.aload_n 0, 1) := by decide +kernel
theorem dX1_hits_11 : decode cX1_hits 11 = .ok (.getfield 16, 3) := by decide +kernel
theorem dX1_hits_14 : decode cX1_hits 14 = .ok (.iload_n 1, 1) := by decide +kernel
theorem dX1_hits_15 : decode cX1_hits 15 = .ok (.baload, 1) := by decide +kernel
theorem dX1_hits_16 : decode cX1_hits 16 = .ok (.ifCond .eq 12, 3) := by decide +kernel
theorem dX1_hits_19 : decode cX1_hits 19 = .ok (.aload_n 0, 1) := by decide +kernel
theorem dX1_hits_20 : decode cX1_hits 20 = .ok (.getfield 35, 3) := by decide +kernel
theorem dX1_hits_23 : decode cX1_hits 23 = .ok (.iload_n 1, 1) := by decide +kernel
theorem dX1_hits_24 : decode cX1_hits 24 = .ok (.iaload, 1) := by decide +kernel
theorem dX1_hits_25 : decode cX1_hits 25 = .ok (.goto 5, 3) := by decide +kernel
theorem dX1_hits_28 : decode cX1_hits 28 = .ok (.bipush (-2), 2) := by decide +kernel
theorem dX1_hits_30 : decode cX1_hits 30 = .ok (.ireturn, 1) := by decide +kernel
theorem dX1_skips_0 : decode cX1_skips 0 = .ok (.aload_n 0, 1) := by decide +kernel
theorem dX1_skips_1 : decode cX1_skips 1 = .ok (.iload_n 1, 1) := by decide +kernel
theorem dX1_skips_2 : decode cX1_skips 2 = .ok (.invokevirtual 53, 3) := by decide +kernel
theorem dX1_skips_5 : decode cX1_skips 5 = .ok (.ifCond .eq 5, 3) := by decide +kernel
theorem dX1_skips_8 : decode cX1_skips 8 = .ok (.iconst (-1), 1) := by decide +kernel
theorem dX1_skips_9 : decode cX1_skips 9 = .ok (.ireturn, 1) := by decide +kernel
theorem dX1_skips_10 : decode cX1_skips 10 = .ok (.aload_n 0, 1) := by decide +kernel
theorem dX1_skips_11 : decode cX1_skips 11 = .ok (.getfield 16, 3) := by decide +kernel
theorem dX1_skips_14 : decode cX1_skips 14 = .ok (.iload_n 1, 1) := by decide +kernel
theorem dX1_skips_15 : decode cX1_skips 15 = .ok (.baload, 1) := by decide +kernel
theorem dX1_skips_16 : decode cX1_skips 16 = .ok (.ifCond .eq 12, 3) := by decide +kernel
theorem dX1_skips_19 : decode cX1_skips 19 = .ok (.aload_n 0, 1) := by decide +kernel
theorem dX1_skips_20 : decode cX1_skips 20 = .ok (.getfield 32, 3) := by decide +kernel
theorem dX1_skips_23 : decode cX1_skips 23 = .ok (.iload_n 1, 1) := by decide +kernel
theorem dX1_skips_24 : decode cX1_skips 24 = .ok (.iaload, 1) := by decide +kernel
theorem dX1_skips_25 : decode cX1_skips 25 = .ok (.goto 5, 3) := by decide +kernel
theorem dX1_skips_28 : decode cX1_skips 28 = .ok (.bipush (-2), 2) := by decide +kernel
theorem dX1_skips_30 : decode cX1_skips 30 = .ok (.ireturn, 1) := by decide +kernel
theorem dX1_stops_0 : decode cX1_stops 0 = .ok (.aload_n 0, 1) := by decide +kernel
theorem dX1_stops_1 : decode cX1_stops 1 = .ok (.getfield 69, 3) := by decide +kernel
theorem dX1_stops_4 : decode cX1_stops 4 = .ok (.ireturn, 1) := by decide +kernel
theorem dX1_accesses_0 : decode cX1_accesses 0 = .ok (.aload_n 0, 1) := by decide +kernel
theorem dX1_accesses_1 : decode cX1_accesses 1 = .ok (.getfield 61, 3) := by decide +kernel
theorem dX1_accesses_4 : decode cX1_accesses 4 = .ok (.ireturn, 1) := by decide +kernel
theorem dX1_kept_0 : decode cX1_kept 0 = .ok (.aload_n 0, 1) := by decide +kernel
theorem dX1_kept_1 : decode cX1_kept 1 = .ok (.getfield 72, 3) := by decide +kernel
theorem dX1_kept_4 : decode cX1_kept 4 = .ok (.ireturn, 1) := by decide +kernel
theorem dX1_stopMask_0 : decode cX1_stopMask 0 = .ok (.aload_n 0, 1) := by decide +kernel
theorem dX1_stopMask_1 : decode cX1_stopMask 1 = .ok (.iload_n 1, 1) := by decide +kernel
theorem dX1_stopMask_2 : decode cX1_stopMask 2 = .ok (.invokevirtual 90, 3) := by decide +kernel
theorem dX1_stopMask_5 : decode cX1_stopMask 5 = .ok (.ifCond .eq 7, 3) := by decide +kernel
theorem dX1_stopMask_8 : decode cX1_stopMask 8 = .ok (.iconst (-1), 1) := by decide +kernel
theorem dX1_stopMask_9 : decode cX1_stopMask 9 = .ok (.goto 9, 3) := by decide +kernel
theorem dX1_stopMask_12 : decode cX1_stopMask 12 = .ok (.aload_n 0, 1) := by decide +kernel
theorem dX1_stopMask_13 : decode cX1_stopMask 13 = .ok (.getfield 38, 3) := by decide +kernel
theorem dX1_stopMask_16 : decode cX1_stopMask 16 = .ok (.iload_n 1, 1) := by decide +kernel
theorem dX1_stopMask_17 : decode cX1_stopMask 17 = .ok (.iaload, 1) := by decide +kernel
theorem dX1_stopMask_18 : decode cX1_stopMask 18 = .ok (.ireturn, 1) := by decide +kernel
theorem dX1_noStop_0 : decode cX1_noStop 0 = .ok (.iload_n 1, 1) := by decide +kernel
theorem dX1_noStop_1 : decode cX1_noStop 1 = .ok (.ifCond .lt 17, 3) := by decide +kernel
theorem dX1_noStop_4 : decode cX1_noStop 4 = .ok (.iload_n 1, 1) := by decide +kernel
theorem dX1_noStop_5 : decode cX1_noStop 5 = .ok (.aload_n 0, 1) := by decide +kernel
theorem dX1_noStop_6 : decode cX1_noStop 6 = .ok (.getfield 72, 3) := by decide +kernel
theorem dX1_noStop_9 : decode cX1_noStop 9 = .ok (.if_icmp .ge 9, 3) := by decide +kernel
theorem dX1_noStop_12 : decode cX1_noStop 12 = .ok (.iload_n 1, 1) := by decide +kernel
theorem dX1_noStop_13 : decode cX1_noStop 13 = .ok (.bipush 8, 2) := by decide +kernel
theorem dX1_noStop_15 : decode cX1_noStop 15 = .ok (.if_icmp .lt 7, 3) := by decide +kernel
theorem dX1_noStop_18 : decode cX1_noStop 18 = .ok (.iconst 1, 1) := by decide +kernel
theorem dX1_noStop_19 : decode cX1_noStop 19 = .ok (.goto 4, 3) := by decide +kernel
theorem dX1_noStop_22 : decode cX1_noStop 22 = .ok (.iconst 0, 1) := by decide +kernel
theorem dX1_noStop_23 : decode cX1_noStop 23 = .ok (.ireturn, 1) := by decide +kernel
theorem dX1_stopAddress_0 : decode cX1_stopAddress 0 = .ok (.aload_n 0, 1) := by decide +kernel
theorem dX1_stopAddress_1 : decode cX1_stopAddress 1 = .ok (.iload_n 1, 1) := by decide +kernel
theorem dX1_stopAddress_2 : decode cX1_stopAddress 2 = .ok (.invokevirtual 90, 3) := by decide +kernel
theorem dX1_stopAddress_5 : decode cX1_stopAddress 5 = .ok (.ifCond .eq 7, 3) := by decide +kernel
theorem dX1_stopAddress_8 : decode cX1_stopAddress 8 = .ok (.iconst (-1), 1) := by decide +kernel
theorem dX1_stopAddress_9 : decode cX1_stopAddress 9 = .ok (.goto 9, 3) := by decide +kernel
theorem dX1_stopAddress_12 : decode cX1_stopAddress 12 = .ok (.aload_n 0, 1) := by decide +kernel
theorem dX1_stopAddress_13 : decode cX1_stopAddress 13 = .ok (.getfield 41, 3) := by decide +kernel
theorem dX1_stopAddress_16 : decode cX1_stopAddress 16 = .ok (.iload_n 1, 1) := by decide +kernel
theorem dX1_stopAddress_17 : decode cX1_stopAddress 17 = .ok (.iaload, 1) := by decide +kernel
theorem dX1_stopAddress_18 : decode cX1_stopAddress 18 = .ok (.ireturn, 1) := by decide +kernel
theorem dX1_stopNumber_0 : decode cX1_stopNumber 0 = .ok (.aload_n 0, 1) := by decide +kernel
theorem dX1_stopNumber_1 : decode cX1_stopNumber 1 = .ok (.iload_n 1, 1) := by decide +kernel
theorem dX1_stopNumber_2 : decode cX1_stopNumber 2 = .ok (.invokevirtual 90, 3) := by decide +kernel
theorem dX1_stopNumber_5 : decode cX1_stopNumber 5 = .ok (.ifCond .eq 7, 3) := by decide +kernel
theorem dX1_stopNumber_8 : decode cX1_stopNumber 8 = .ok (.iconst (-1), 1) := by decide +kernel
theorem dX1_stopNumber_9 : decode cX1_stopNumber 9 = .ok (.goto 9, 3) := by decide +kernel
theorem dX1_stopNumber_12 : decode cX1_stopNumber 12 = .ok (.aload_n 0, 1) := by decide +kernel
theorem dX1_stopNumber_13 : decode cX1_stopNumber 13 = .ok (.getfield 44, 3) := by decide +kernel
theorem dX1_stopNumber_16 : decode cX1_stopNumber 16 = .ok (.iload_n 1, 1) := by decide +kernel
theorem dX1_stopNumber_17 : decode cX1_stopNumber 17 = .ok (.iaload, 1) := by decide +kernel
theorem dX1_stopNumber_18 : decode cX1_stopNumber 18 = .ok (.ireturn, 1) := by decide +kernel
theorem dX1_before_0 : decode cX1_before 0 = .ok (.aload_n 0, 1) := by decide +kernel
theorem dX1_before_1 : decode cX1_before 1 = .ok (.iload_n 1, 1) := by decide +kernel
theorem dX1_before_2 : decode cX1_before 2 = .ok (.invokevirtual 90, 3) := by decide +kernel
theorem dX1_before_5 : decode cX1_before 5 = .ok (.ifCond .eq 7, 3) := by decide +kernel
theorem dX1_before_8 : decode cX1_before 8 = .ok (.iconst 0, 1) := by decide +kernel
theorem dX1_before_9 : decode cX1_before 9 = .ok (.goto 9, 3) := by decide +kernel
theorem dX1_before_12 : decode cX1_before 12 = .ok (.aload_n 0, 1) := by decide +kernel
theorem dX1_before_13 : decode cX1_before 13 = .ok (.getfield 47, 3) := by decide +kernel
theorem dX1_before_16 : decode cX1_before 16 = .ok (.iload_n 1, 1) := by decide +kernel
theorem dX1_before_17 : decode cX1_before 17 = .ok (.iaload, 1) := by decide +kernel
theorem dX1_before_18 : decode cX1_before 18 = .ok (.ireturn, 1) := by decide +kernel
theorem dX1_after_0 : decode cX1_after 0 = .ok (.aload_n 0, 1) := by decide +kernel
theorem dX1_after_1 : decode cX1_after 1 = .ok (.iload_n 1, 1) := by decide +kernel
theorem dX1_after_2 : decode cX1_after 2 = .ok (.invokevirtual 90, 3) := by decide +kernel
theorem dX1_after_5 : decode cX1_after 5 = .ok (.ifCond .eq 7, 3) := by decide +kernel
theorem dX1_after_8 : decode cX1_after 8 = .ok (.iconst 0, 1) := by decide +kernel
theorem dX1_after_9 : decode cX1_after 9 = .ok (.goto 9, 3) := by decide +kernel
theorem dX1_after_12 : decode cX1_after 12 = .ok (.aload_n 0, 1) := by decide +kernel
theorem dX1_after_13 : decode cX1_after 13 = .ok (.getfield 50, 3) := by decide +kernel
theorem dX1_after_16 : decode cX1_after 16 = .ok (.iload_n 1, 1) := by decide +kernel
theorem dX1_after_17 : decode cX1_after 17 = .ok (.iaload, 1) := by decide +kernel
theorem dX1_after_18 : decode cX1_after 18 = .ok (.ireturn, 1) := by decide +kernel
theorem dX1_watched_0 : decode cX1_watched 0 = .ok (.iconst 0, 1) := by decide +kernel
theorem dX1_watched_1 : decode cX1_watched 1 = .ok (.istore_n 1, 1) := by decide +kernel
theorem dX1_watched_2 : decode cX1_watched 2 = .ok (.iconst 0, 1) := by decide +kernel
theorem dX1_watched_3 : decode cX1_watched 3 = .ok (.istore_n 2, 1) := by decide +kernel
theorem dX1_watched_4 : decode cX1_watched 4 = .ok (.iload_n 2, 1) := by decide +kernel
theorem dX1_watched_5 : decode cX1_watched 5 = .ok (.bipush 40, 2) := by decide +kernel
theorem dX1_watched_7 : decode cX1_watched 7 = .ok (.if_icmp .ge 66, 3) := by decide +kernel
theorem dX1_watched_10 : decode cX1_watched 10 = .ok (.iconst 0, 1) := by decide +kernel
theorem dX1_watched_11 : decode cX1_watched 11 = .ok (.istore_n 3, 1) := by decide +kernel
theorem dX1_watched_12 : decode cX1_watched 12 = .ok (.iconst 0, 1) := by decide +kernel
theorem dX1_watched_13 : decode cX1_watched 13 = .ok (.istore 4, 2) := by decide +kernel
theorem dX1_watched_15 : decode cX1_watched 15 = .ok (.iload 4, 2) := by decide +kernel
theorem dX1_watched_17 : decode cX1_watched 17 = .ok (.bipush 8, 2) := by decide +kernel
theorem dX1_watched_19 : decode cX1_watched 19 = .ok (.if_icmp .ge 41, 3) := by decide +kernel
theorem dX1_watched_22 : decode cX1_watched 22 = .ok (.aload_n 0, 1) := by decide +kernel
theorem dX1_watched_23 : decode cX1_watched 23 = .ok (.getfield 16, 3) := by decide +kernel
theorem dX1_watched_26 : decode cX1_watched 26 = .ok (.iload 4, 2) := by decide +kernel
theorem dX1_watched_28 : decode cX1_watched 28 = .ok (.baload, 1) := by decide +kernel
theorem dX1_watched_29 : decode cX1_watched 29 = .ok (.ifCond .eq 25, 3) := by decide +kernel
theorem dX1_watched_32 : decode cX1_watched 32 = .ok (.aload_n 0, 1) := by decide +kernel
theorem dX1_watched_33 : decode cX1_watched 33 = .ok (.getfield 29, 3) := by decide +kernel
theorem dX1_watched_36 : decode cX1_watched 36 = .ok (.iload 4, 2) := by decide +kernel
theorem dX1_watched_38 : decode cX1_watched 38 = .ok (.baload, 1) := by decide +kernel
theorem dX1_watched_39 : decode cX1_watched 39 = .ok (.ifCond .ne 15, 3) := by decide +kernel
theorem dX1_watched_42 : decode cX1_watched 42 = .ok (.aload_n 0, 1) := by decide +kernel
theorem dX1_watched_43 : decode cX1_watched 43 = .ok (.iload 4, 2) := by decide +kernel
theorem dX1_watched_45 : decode cX1_watched 45 = .ok (.iload_n 2, 1) := by decide +kernel
theorem dX1_watched_46 : decode cX1_watched 46 = .ok (.invokevirtual 57, 3) := by decide +kernel
theorem dX1_watched_49 : decode cX1_watched 49 = .ok (.ifCond .eq 5, 3) := by decide +kernel
theorem dX1_watched_52 : decode cX1_watched 52 = .ok (.iconst 1, 1) := by decide +kernel
theorem dX1_watched_53 : decode cX1_watched 53 = .ok (.istore_n 3, 1) := by decide +kernel
theorem dX1_watched_54 : decode cX1_watched 54 = .ok (.iinc 4 1, 3) := by decide +kernel
theorem dX1_watched_57 : decode cX1_watched 57 = .ok (.goto (-42), 3) := by decide +kernel
theorem dX1_watched_60 : decode cX1_watched 60 = .ok (.iload_n 3, 1) := by decide +kernel
theorem dX1_watched_61 : decode cX1_watched 61 = .ok (.ifCond .eq 6, 3) := by decide +kernel
theorem dX1_watched_64 : decode cX1_watched 64 = .ok (.iinc 1 1, 3) := by decide +kernel
theorem dX1_watched_67 : decode cX1_watched 67 = .ok (.iinc 2 1, 3) := by decide +kernel
theorem dX1_watched_70 : decode cX1_watched 70 = .ok (.goto (-66), 3) := by decide +kernel
theorem dX1_watched_73 : decode cX1_watched 73 = .ok (.iload_n 1, 1) := by decide +kernel
theorem dX1_watched_74 : decode cX1_watched 74 = .ok (.ireturn, 1) := by decide +kernel
theorem dJ0_init_0 : decode cJ0_init 0 = .ok (.return_, 1) := by decide +kernel
theorem dL_law_0 : decode cL_law 0 = .ok (.new 7, 3) := by decide +kernel
theorem dL_law_3 : decode cL_law 3 = .ok (.dup, 1) := by decide +kernel
theorem dL_law_4 : decode cL_law 4 = .ok (.invokespecial 9, 3) := by decide +kernel
theorem dL_law_7 : decode cL_law 7 = .ok (.astore_n 1, 1) := by decide +kernel
theorem dL_law_8 : decode cL_law 8 = .ok (.new 10, 3) := by decide +kernel
theorem dL_law_11 : decode cL_law 11 = .ok (.dup, 1) := by decide +kernel
theorem dL_law_12 : decode cL_law 12 = .ok (.invokespecial 12, 3) := by decide +kernel
theorem dL_law_15 : decode cL_law 15 = .ok (.astore_n 2, 1) := by decide +kernel
theorem dL_law_16 : decode cL_law 16 = .ok (.iconst 0, 1) := by decide +kernel
theorem dL_law_17 : decode cL_law 17 = .ok (.istore_n 3, 1) := by decide +kernel
theorem dL_law_18 : decode cL_law 18 = .ok (.iload_n 3, 1) := by decide +kernel
theorem dL_law_19 : decode cL_law 19 = .ok (.aload_n 0, 1) := by decide +kernel
theorem dL_law_20 : decode cL_law 20 = .ok (.arraylength, 1) := by decide +kernel
theorem dL_law_21 : decode cL_law 21 = .ok (.iconst 5, 1) := by decide +kernel
theorem dL_law_22 : decode cL_law 22 = .ok (.isub, 1) := by decide +kernel
theorem dL_law_23 : decode cL_law 23 = .ok (.if_icmp .gt 594, 3) := by decide +kernel
theorem dL_law_26 : decode cL_law 26 = .ok (.aload_n 0, 1) := by decide +kernel
theorem dL_law_27 : decode cL_law 27 = .ok (.iload_n 3, 1) := by decide +kernel
theorem dL_law_28 : decode cL_law 28 = .ok (.iaload, 1) := by decide +kernel
theorem dL_law_29 : decode cL_law 29 = .ok (.bipush 31, 2) := by decide +kernel
theorem dL_law_31 : decode cL_law 31 = .ok (.iand, 1) := by decide +kernel
theorem dL_law_32 : decode cL_law 32 = .ok (.tableswitch 579 0 18 #[92, 145, 168, 201, 234, 267, 310, 343, 366, 389, 412, 425, 438, 451, 474, 497, 520, 543, 566], 92) := by decide +kernel
theorem dL_law_124 : decode cL_law 124 = .ok (.aload_n 1, 1) := by decide +kernel
theorem dL_law_125 : decode cL_law 125 = .ok (.aload_n 0, 1) := by decide +kernel
theorem dL_law_126 : decode cL_law 126 = .ok (.iload_n 3, 1) := by decide +kernel
theorem dL_law_127 : decode cL_law 127 = .ok (.iconst 1, 1) := by decide +kernel
theorem dL_law_128 : decode cL_law 128 = .ok (.iadd, 1) := by decide +kernel
theorem dL_law_129 : decode cL_law 129 = .ok (.iaload, 1) := by decide +kernel
theorem dL_law_130 : decode cL_law 130 = .ok (.aload_n 0, 1) := by decide +kernel
theorem dL_law_131 : decode cL_law 131 = .ok (.iload_n 3, 1) := by decide +kernel
theorem dL_law_132 : decode cL_law 132 = .ok (.iconst 2, 1) := by decide +kernel
theorem dL_law_133 : decode cL_law 133 = .ok (.iadd, 1) := by decide +kernel
theorem dL_law_134 : decode cL_law 134 = .ok (.iaload, 1) := by decide +kernel
theorem dL_law_135 : decode cL_law 135 = .ok (.aload_n 0, 1) := by decide +kernel
theorem dL_law_136 : decode cL_law 136 = .ok (.iload_n 3, 1) := by decide +kernel
theorem dL_law_137 : decode cL_law 137 = .ok (.iconst 3, 1) := by decide +kernel
theorem dL_law_138 : decode cL_law 138 = .ok (.iadd, 1) := by decide +kernel
theorem dL_law_139 : decode cL_law 139 = .ok (.iaload, 1) := by decide +kernel
theorem dL_law_140 : decode cL_law 140 = .ok (.aload_n 0, 1) := by decide +kernel
theorem dL_law_141 : decode cL_law 141 = .ok (.iload_n 3, 1) := by decide +kernel
theorem dL_law_142 : decode cL_law 142 = .ok (.iconst 4, 1) := by decide +kernel
theorem dL_law_143 : decode cL_law 143 = .ok (.iadd, 1) := by decide +kernel
theorem dL_law_144 : decode cL_law 144 = .ok (.iaload, 1) := by decide +kernel
theorem dL_law_145 : decode cL_law 145 = .ok (.invokevirtual 13, 3) := by decide +kernel
theorem dL_law_148 : decode cL_law 148 = .ok (.aload_n 2, 1) := by decide +kernel
theorem dL_law_149 : decode cL_law 149 = .ok (.aload_n 0, 1) := by decide +kernel
theorem dL_law_150 : decode cL_law 150 = .ok (.iload_n 3, 1) := by decide +kernel
theorem dL_law_151 : decode cL_law 151 = .ok (.iconst 1, 1) := by decide +kernel
theorem dL_law_152 : decode cL_law 152 = .ok (.iadd, 1) := by decide +kernel
theorem dL_law_153 : decode cL_law 153 = .ok (.iaload, 1) := by decide +kernel
theorem dL_law_154 : decode cL_law 154 = .ok (.aload_n 0, 1) := by decide +kernel
theorem dL_law_155 : decode cL_law 155 = .ok (.iload_n 3, 1) := by decide +kernel
theorem dL_law_156 : decode cL_law 156 = .ok (.iconst 2, 1) := by decide +kernel
theorem dL_law_157 : decode cL_law 157 = .ok (.iadd, 1) := by decide +kernel
theorem dL_law_158 : decode cL_law 158 = .ok (.iaload, 1) := by decide +kernel
theorem dL_law_159 : decode cL_law 159 = .ok (.aload_n 0, 1) := by decide +kernel
theorem dL_law_160 : decode cL_law 160 = .ok (.iload_n 3, 1) := by decide +kernel
theorem dL_law_161 : decode cL_law 161 = .ok (.iconst 3, 1) := by decide +kernel
theorem dL_law_162 : decode cL_law 162 = .ok (.iadd, 1) := by decide +kernel
theorem dL_law_163 : decode cL_law 163 = .ok (.iaload, 1) := by decide +kernel
theorem dL_law_164 : decode cL_law 164 = .ok (.aload_n 0, 1) := by decide +kernel
theorem dL_law_165 : decode cL_law 165 = .ok (.iload_n 3, 1) := by decide +kernel
theorem dL_law_166 : decode cL_law 166 = .ok (.iconst 4, 1) := by decide +kernel
theorem dL_law_167 : decode cL_law 167 = .ok (.iadd, 1) := by decide +kernel
theorem dL_law_168 : decode cL_law 168 = .ok (.iaload, 1) := by decide +kernel
theorem dL_law_169 : decode cL_law 169 = .ok (.invokevirtual 17, 3) := by decide +kernel
theorem dL_law_172 : decode cL_law 172 = .ok (.if_icmp .eq 439, 3) := by decide +kernel
theorem dL_law_175 : decode cL_law 175 = .ok (.iconst 0, 1) := by decide +kernel
theorem dL_law_176 : decode cL_law 176 = .ok (.ireturn, 1) := by decide +kernel
theorem dL_law_177 : decode cL_law 177 = .ok (.aload_n 1, 1) := by decide +kernel
theorem dL_law_178 : decode cL_law 178 = .ok (.aload_n 0, 1) := by decide +kernel
theorem dL_law_179 : decode cL_law 179 = .ok (.iload_n 3, 1) := by decide +kernel
theorem dL_law_180 : decode cL_law 180 = .ok (.iconst 1, 1) := by decide +kernel
theorem dL_law_181 : decode cL_law 181 = .ok (.iadd, 1) := by decide +kernel
theorem dL_law_182 : decode cL_law 182 = .ok (.iaload, 1) := by decide +kernel
theorem dL_law_183 : decode cL_law 183 = .ok (.invokevirtual 18, 3) := by decide +kernel
theorem dL_law_186 : decode cL_law 186 = .ok (.aload_n 2, 1) := by decide +kernel
theorem dL_law_187 : decode cL_law 187 = .ok (.aload_n 0, 1) := by decide +kernel
theorem dL_law_188 : decode cL_law 188 = .ok (.iload_n 3, 1) := by decide +kernel
theorem dL_law_189 : decode cL_law 189 = .ok (.iconst 1, 1) := by decide +kernel
theorem dL_law_190 : decode cL_law 190 = .ok (.iadd, 1) := by decide +kernel
theorem dL_law_191 : decode cL_law 191 = .ok (.iaload, 1) := by decide +kernel
theorem dL_law_192 : decode cL_law 192 = .ok (.invokevirtual 22, 3) := by decide +kernel
theorem dL_law_195 : decode cL_law 195 = .ok (.if_icmp .eq 416, 3) := by decide +kernel
theorem dL_law_198 : decode cL_law 198 = .ok (.iconst 0, 1) := by decide +kernel
end
section
set_option maxRecDepth 100000
theorem dL_law_199 : decode cL_law 199 = .ok (.ireturn, 1) := by decide +kernel
theorem dL_law_200 : decode cL_law 200 = .ok (.aload_n 1, 1) := by decide +kernel
theorem dL_law_201 : decode cL_law 201 = .ok (.aload_n 0, 1) := by decide +kernel
theorem dL_law_202 : decode cL_law 202 = .ok (.iload_n 3, 1) := by decide +kernel
theorem dL_law_203 : decode cL_law 203 = .ok (.iconst 1, 1) := by decide +kernel
theorem dL_law_204 : decode cL_law 204 = .ok (.iadd, 1) := by decide +kernel
theorem dL_law_205 : decode cL_law 205 = .ok (.iaload, 1) := by decide +kernel
theorem dL_law_206 : decode cL_law 206 = .ok (.aload_n 0, 1) := by decide +kernel
theorem dL_law_207 : decode cL_law 207 = .ok (.iload_n 3, 1) := by decide +kernel
theorem dL_law_208 : decode cL_law 208 = .ok (.iconst 2, 1) := by decide +kernel
theorem dL_law_209 : decode cL_law 209 = .ok (.iadd, 1) := by decide +kernel
theorem dL_law_210 : decode cL_law 210 = .ok (.iaload, 1) := by decide +kernel
theorem dL_law_211 : decode cL_law 211 = .ok (.invokevirtual 23, 3) := by decide +kernel
theorem dL_law_214 : decode cL_law 214 = .ok (.aload_n 2, 1) := by decide +kernel
theorem dL_law_215 : decode cL_law 215 = .ok (.aload_n 0, 1) := by decide +kernel
theorem dL_law_216 : decode cL_law 216 = .ok (.iload_n 3, 1) := by decide +kernel
theorem dL_law_217 : decode cL_law 217 = .ok (.iconst 1, 1) := by decide +kernel
theorem dL_law_218 : decode cL_law 218 = .ok (.iadd, 1) := by decide +kernel
theorem dL_law_219 : decode cL_law 219 = .ok (.iaload, 1) := by decide +kernel
theorem dL_law_220 : decode cL_law 220 = .ok (.aload_n 0, 1) := by decide +kernel
theorem dL_law_221 : decode cL_law 221 = .ok (.iload_n 3, 1) := by decide +kernel
theorem dL_law_222 : decode cL_law 222 = .ok (.iconst 2, 1) := by decide +kernel
theorem dL_law_223 : decode cL_law 223 = .ok (.iadd, 1) := by decide +kernel
theorem dL_law_224 : decode cL_law 224 = .ok (.iaload, 1) := by decide +kernel
theorem dL_law_225 : decode cL_law 225 = .ok (.invokevirtual 27, 3) := by decide +kernel
theorem dL_law_228 : decode cL_law 228 = .ok (.if_icmp .eq 383, 3) := by decide +kernel
theorem dL_law_231 : decode cL_law 231 = .ok (.iconst 0, 1) := by decide +kernel
theorem dL_law_232 : decode cL_law 232 = .ok (.ireturn, 1) := by decide +kernel
theorem dL_law_233 : decode cL_law 233 = .ok (.aload_n 1, 1) := by decide +kernel
theorem dL_law_234 : decode cL_law 234 = .ok (.aload_n 0, 1) := by decide +kernel
theorem dL_law_235 : decode cL_law 235 = .ok (.iload_n 3, 1) := by decide +kernel
theorem dL_law_236 : decode cL_law 236 = .ok (.iconst 1, 1) := by decide +kernel
theorem dL_law_237 : decode cL_law 237 = .ok (.iadd, 1) := by decide +kernel
theorem dL_law_238 : decode cL_law 238 = .ok (.iaload, 1) := by decide +kernel
theorem dL_law_239 : decode cL_law 239 = .ok (.aload_n 0, 1) := by decide +kernel
theorem dL_law_240 : decode cL_law 240 = .ok (.iload_n 3, 1) := by decide +kernel
theorem dL_law_241 : decode cL_law 241 = .ok (.iconst 2, 1) := by decide +kernel
theorem dL_law_242 : decode cL_law 242 = .ok (.iadd, 1) := by decide +kernel
theorem dL_law_243 : decode cL_law 243 = .ok (.iaload, 1) := by decide +kernel
theorem dL_law_244 : decode cL_law 244 = .ok (.invokevirtual 28, 3) := by decide +kernel
theorem dL_law_247 : decode cL_law 247 = .ok (.aload_n 2, 1) := by decide +kernel
theorem dL_law_248 : decode cL_law 248 = .ok (.aload_n 0, 1) := by decide +kernel
theorem dL_law_249 : decode cL_law 249 = .ok (.iload_n 3, 1) := by decide +kernel
theorem dL_law_250 : decode cL_law 250 = .ok (.iconst 1, 1) := by decide +kernel
theorem dL_law_251 : decode cL_law 251 = .ok (.iadd, 1) := by decide +kernel
theorem dL_law_252 : decode cL_law 252 = .ok (.iaload, 1) := by decide +kernel
theorem dL_law_253 : decode cL_law 253 = .ok (.aload_n 0, 1) := by decide +kernel
theorem dL_law_254 : decode cL_law 254 = .ok (.iload_n 3, 1) := by decide +kernel
theorem dL_law_255 : decode cL_law 255 = .ok (.iconst 2, 1) := by decide +kernel
theorem dL_law_256 : decode cL_law 256 = .ok (.iadd, 1) := by decide +kernel
theorem dL_law_257 : decode cL_law 257 = .ok (.iaload, 1) := by decide +kernel
theorem dL_law_258 : decode cL_law 258 = .ok (.invokevirtual 31, 3) := by decide +kernel
theorem dL_law_261 : decode cL_law 261 = .ok (.if_icmp .eq 350, 3) := by decide +kernel
theorem dL_law_264 : decode cL_law 264 = .ok (.iconst 0, 1) := by decide +kernel
theorem dL_law_265 : decode cL_law 265 = .ok (.ireturn, 1) := by decide +kernel
theorem dL_law_266 : decode cL_law 266 = .ok (.aload_n 1, 1) := by decide +kernel
theorem dL_law_267 : decode cL_law 267 = .ok (.aload_n 0, 1) := by decide +kernel
theorem dL_law_268 : decode cL_law 268 = .ok (.iload_n 3, 1) := by decide +kernel
theorem dL_law_269 : decode cL_law 269 = .ok (.iconst 1, 1) := by decide +kernel
theorem dL_law_270 : decode cL_law 270 = .ok (.iadd, 1) := by decide +kernel
theorem dL_law_271 : decode cL_law 271 = .ok (.iaload, 1) := by decide +kernel
theorem dL_law_272 : decode cL_law 272 = .ok (.aload_n 0, 1) := by decide +kernel
theorem dL_law_273 : decode cL_law 273 = .ok (.iload_n 3, 1) := by decide +kernel
theorem dL_law_274 : decode cL_law 274 = .ok (.iconst 2, 1) := by decide +kernel
theorem dL_law_275 : decode cL_law 275 = .ok (.iadd, 1) := by decide +kernel
theorem dL_law_276 : decode cL_law 276 = .ok (.iaload, 1) := by decide +kernel
theorem dL_law_277 : decode cL_law 277 = .ok (.invokevirtual 32, 3) := by decide +kernel
theorem dL_law_280 : decode cL_law 280 = .ok (.aload_n 2, 1) := by decide +kernel
theorem dL_law_281 : decode cL_law 281 = .ok (.aload_n 0, 1) := by decide +kernel
theorem dL_law_282 : decode cL_law 282 = .ok (.iload_n 3, 1) := by decide +kernel
theorem dL_law_283 : decode cL_law 283 = .ok (.iconst 1, 1) := by decide +kernel
theorem dL_law_284 : decode cL_law 284 = .ok (.iadd, 1) := by decide +kernel
theorem dL_law_285 : decode cL_law 285 = .ok (.iaload, 1) := by decide +kernel
theorem dL_law_286 : decode cL_law 286 = .ok (.aload_n 0, 1) := by decide +kernel
theorem dL_law_287 : decode cL_law 287 = .ok (.iload_n 3, 1) := by decide +kernel
theorem dL_law_288 : decode cL_law 288 = .ok (.iconst 2, 1) := by decide +kernel
theorem dL_law_289 : decode cL_law 289 = .ok (.iadd, 1) := by decide +kernel
theorem dL_law_290 : decode cL_law 290 = .ok (.iaload, 1) := by decide +kernel
theorem dL_law_291 : decode cL_law 291 = .ok (.invokevirtual 35, 3) := by decide +kernel
theorem dL_law_294 : decode cL_law 294 = .ok (.if_icmp .eq 317, 3) := by decide +kernel
theorem dL_law_297 : decode cL_law 297 = .ok (.iconst 0, 1) := by decide +kernel
theorem dL_law_298 : decode cL_law 298 = .ok (.ireturn, 1) := by decide +kernel
theorem dL_law_299 : decode cL_law 299 = .ok (.aload_n 1, 1) := by decide +kernel
theorem dL_law_300 : decode cL_law 300 = .ok (.aload_n 0, 1) := by decide +kernel
theorem dL_law_301 : decode cL_law 301 = .ok (.iload_n 3, 1) := by decide +kernel
theorem dL_law_302 : decode cL_law 302 = .ok (.iconst 1, 1) := by decide +kernel
theorem dL_law_303 : decode cL_law 303 = .ok (.iadd, 1) := by decide +kernel
theorem dL_law_304 : decode cL_law 304 = .ok (.iaload, 1) := by decide +kernel
theorem dL_law_305 : decode cL_law 305 = .ok (.aload_n 0, 1) := by decide +kernel
theorem dL_law_306 : decode cL_law 306 = .ok (.iload_n 3, 1) := by decide +kernel
theorem dL_law_307 : decode cL_law 307 = .ok (.iconst 2, 1) := by decide +kernel
theorem dL_law_308 : decode cL_law 308 = .ok (.iadd, 1) := by decide +kernel
theorem dL_law_309 : decode cL_law 309 = .ok (.iaload, 1) := by decide +kernel
theorem dL_law_310 : decode cL_law 310 = .ok (.aload_n 0, 1) := by decide +kernel
theorem dL_law_311 : decode cL_law 311 = .ok (.iload_n 3, 1) := by decide +kernel
theorem dL_law_312 : decode cL_law 312 = .ok (.iconst 3, 1) := by decide +kernel
theorem dL_law_313 : decode cL_law 313 = .ok (.iadd, 1) := by decide +kernel
theorem dL_law_314 : decode cL_law 314 = .ok (.iaload, 1) := by decide +kernel
theorem dL_law_315 : decode cL_law 315 = .ok (.invokevirtual 36, 3) := by decide +kernel
theorem dL_law_318 : decode cL_law 318 = .ok (.aload_n 2, 1) := by decide +kernel
theorem dL_law_319 : decode cL_law 319 = .ok (.aload_n 0, 1) := by decide +kernel
theorem dL_law_320 : decode cL_law 320 = .ok (.iload_n 3, 1) := by decide +kernel
theorem dL_law_321 : decode cL_law 321 = .ok (.iconst 1, 1) := by decide +kernel
theorem dL_law_322 : decode cL_law 322 = .ok (.iadd, 1) := by decide +kernel
theorem dL_law_323 : decode cL_law 323 = .ok (.iaload, 1) := by decide +kernel
theorem dL_law_324 : decode cL_law 324 = .ok (.aload_n 0, 1) := by decide +kernel
theorem dL_law_325 : decode cL_law 325 = .ok (.iload_n 3, 1) := by decide +kernel
theorem dL_law_326 : decode cL_law 326 = .ok (.iconst 2, 1) := by decide +kernel
theorem dL_law_327 : decode cL_law 327 = .ok (.iadd, 1) := by decide +kernel
theorem dL_law_328 : decode cL_law 328 = .ok (.iaload, 1) := by decide +kernel
theorem dL_law_329 : decode cL_law 329 = .ok (.aload_n 0, 1) := by decide +kernel
theorem dL_law_330 : decode cL_law 330 = .ok (.iload_n 3, 1) := by decide +kernel
theorem dL_law_331 : decode cL_law 331 = .ok (.iconst 3, 1) := by decide +kernel
theorem dL_law_332 : decode cL_law 332 = .ok (.iadd, 1) := by decide +kernel
theorem dL_law_333 : decode cL_law 333 = .ok (.iaload, 1) := by decide +kernel
theorem dL_law_334 : decode cL_law 334 = .ok (.invokevirtual 40, 3) := by decide +kernel
theorem dL_law_337 : decode cL_law 337 = .ok (.if_icmp .eq 274, 3) := by decide +kernel
theorem dL_law_340 : decode cL_law 340 = .ok (.iconst 0, 1) := by decide +kernel
theorem dL_law_341 : decode cL_law 341 = .ok (.ireturn, 1) := by decide +kernel
theorem dL_law_342 : decode cL_law 342 = .ok (.aload_n 1, 1) := by decide +kernel
theorem dL_law_343 : decode cL_law 343 = .ok (.aload_n 0, 1) := by decide +kernel
theorem dL_law_344 : decode cL_law 344 = .ok (.iload_n 3, 1) := by decide +kernel
theorem dL_law_345 : decode cL_law 345 = .ok (.iconst 1, 1) := by decide +kernel
theorem dL_law_346 : decode cL_law 346 = .ok (.iadd, 1) := by decide +kernel
theorem dL_law_347 : decode cL_law 347 = .ok (.iaload, 1) := by decide +kernel
theorem dL_law_348 : decode cL_law 348 = .ok (.aload_n 0, 1) := by decide +kernel
theorem dL_law_349 : decode cL_law 349 = .ok (.iload_n 3, 1) := by decide +kernel
theorem dL_law_350 : decode cL_law 350 = .ok (.iconst 2, 1) := by decide +kernel
theorem dL_law_351 : decode cL_law 351 = .ok (.iadd, 1) := by decide +kernel
theorem dL_law_352 : decode cL_law 352 = .ok (.iaload, 1) := by decide +kernel
theorem dL_law_353 : decode cL_law 353 = .ok (.invokevirtual 41, 3) := by decide +kernel
theorem dL_law_356 : decode cL_law 356 = .ok (.aload_n 2, 1) := by decide +kernel
theorem dL_law_357 : decode cL_law 357 = .ok (.aload_n 0, 1) := by decide +kernel
theorem dL_law_358 : decode cL_law 358 = .ok (.iload_n 3, 1) := by decide +kernel
theorem dL_law_359 : decode cL_law 359 = .ok (.iconst 1, 1) := by decide +kernel
theorem dL_law_360 : decode cL_law 360 = .ok (.iadd, 1) := by decide +kernel
theorem dL_law_361 : decode cL_law 361 = .ok (.iaload, 1) := by decide +kernel
theorem dL_law_362 : decode cL_law 362 = .ok (.aload_n 0, 1) := by decide +kernel
theorem dL_law_363 : decode cL_law 363 = .ok (.iload_n 3, 1) := by decide +kernel
theorem dL_law_364 : decode cL_law 364 = .ok (.iconst 2, 1) := by decide +kernel
theorem dL_law_365 : decode cL_law 365 = .ok (.iadd, 1) := by decide +kernel
theorem dL_law_366 : decode cL_law 366 = .ok (.iaload, 1) := by decide +kernel
theorem dL_law_367 : decode cL_law 367 = .ok (.invokevirtual 44, 3) := by decide +kernel
theorem dL_law_370 : decode cL_law 370 = .ok (.if_icmp .eq 241, 3) := by decide +kernel
theorem dL_law_373 : decode cL_law 373 = .ok (.iconst 0, 1) := by decide +kernel
theorem dL_law_374 : decode cL_law 374 = .ok (.ireturn, 1) := by decide +kernel
theorem dL_law_375 : decode cL_law 375 = .ok (.aload_n 1, 1) := by decide +kernel
theorem dL_law_376 : decode cL_law 376 = .ok (.aload_n 0, 1) := by decide +kernel
theorem dL_law_377 : decode cL_law 377 = .ok (.iload_n 3, 1) := by decide +kernel
theorem dL_law_378 : decode cL_law 378 = .ok (.iconst 1, 1) := by decide +kernel
theorem dL_law_379 : decode cL_law 379 = .ok (.iadd, 1) := by decide +kernel
theorem dL_law_380 : decode cL_law 380 = .ok (.iaload, 1) := by decide +kernel
theorem dL_law_381 : decode cL_law 381 = .ok (.invokevirtual 45, 3) := by decide +kernel
theorem dL_law_384 : decode cL_law 384 = .ok (.aload_n 2, 1) := by decide +kernel
theorem dL_law_385 : decode cL_law 385 = .ok (.aload_n 0, 1) := by decide +kernel
theorem dL_law_386 : decode cL_law 386 = .ok (.iload_n 3, 1) := by decide +kernel
theorem dL_law_387 : decode cL_law 387 = .ok (.iconst 1, 1) := by decide +kernel
theorem dL_law_388 : decode cL_law 388 = .ok (.iadd, 1) := by decide +kernel
theorem dL_law_389 : decode cL_law 389 = .ok (.iaload, 1) := by decide +kernel
theorem dL_law_390 : decode cL_law 390 = .ok (.invokevirtual 48, 3) := by decide +kernel
theorem dL_law_393 : decode cL_law 393 = .ok (.if_icmp .eq 218, 3) := by decide +kernel
theorem dL_law_396 : decode cL_law 396 = .ok (.iconst 0, 1) := by decide +kernel
theorem dL_law_397 : decode cL_law 397 = .ok (.ireturn, 1) := by decide +kernel
theorem dL_law_398 : decode cL_law 398 = .ok (.aload_n 1, 1) := by decide +kernel
theorem dL_law_399 : decode cL_law 399 = .ok (.aload_n 0, 1) := by decide +kernel
theorem dL_law_400 : decode cL_law 400 = .ok (.iload_n 3, 1) := by decide +kernel
theorem dL_law_401 : decode cL_law 401 = .ok (.iconst 1, 1) := by decide +kernel
theorem dL_law_402 : decode cL_law 402 = .ok (.iadd, 1) := by decide +kernel
theorem dL_law_403 : decode cL_law 403 = .ok (.iaload, 1) := by decide +kernel
theorem dL_law_404 : decode cL_law 404 = .ok (.invokevirtual 49, 3) := by decide +kernel
theorem dL_law_407 : decode cL_law 407 = .ok (.aload_n 2, 1) := by decide +kernel
theorem dL_law_408 : decode cL_law 408 = .ok (.aload_n 0, 1) := by decide +kernel
theorem dL_law_409 : decode cL_law 409 = .ok (.iload_n 3, 1) := by decide +kernel
theorem dL_law_410 : decode cL_law 410 = .ok (.iconst 1, 1) := by decide +kernel
theorem dL_law_411 : decode cL_law 411 = .ok (.iadd, 1) := by decide +kernel
theorem dL_law_412 : decode cL_law 412 = .ok (.iaload, 1) := by decide +kernel
theorem dL_law_413 : decode cL_law 413 = .ok (.invokevirtual 52, 3) := by decide +kernel
theorem dL_law_416 : decode cL_law 416 = .ok (.if_icmp .eq 195, 3) := by decide +kernel
theorem dL_law_419 : decode cL_law 419 = .ok (.iconst 0, 1) := by decide +kernel
theorem dL_law_420 : decode cL_law 420 = .ok (.ireturn, 1) := by decide +kernel
theorem dL_law_421 : decode cL_law 421 = .ok (.aload_n 1, 1) := by decide +kernel
theorem dL_law_422 : decode cL_law 422 = .ok (.aload_n 0, 1) := by decide +kernel
theorem dL_law_423 : decode cL_law 423 = .ok (.iload_n 3, 1) := by decide +kernel
theorem dL_law_424 : decode cL_law 424 = .ok (.iconst 1, 1) := by decide +kernel
theorem dL_law_425 : decode cL_law 425 = .ok (.iadd, 1) := by decide +kernel
theorem dL_law_426 : decode cL_law 426 = .ok (.iaload, 1) := by decide +kernel
theorem dL_law_427 : decode cL_law 427 = .ok (.invokevirtual 53, 3) := by decide +kernel
theorem dL_law_430 : decode cL_law 430 = .ok (.aload_n 2, 1) := by decide +kernel
theorem dL_law_431 : decode cL_law 431 = .ok (.aload_n 0, 1) := by decide +kernel
theorem dL_law_432 : decode cL_law 432 = .ok (.iload_n 3, 1) := by decide +kernel
theorem dL_law_433 : decode cL_law 433 = .ok (.iconst 1, 1) := by decide +kernel
theorem dL_law_434 : decode cL_law 434 = .ok (.iadd, 1) := by decide +kernel
theorem dL_law_435 : decode cL_law 435 = .ok (.iaload, 1) := by decide +kernel
theorem dL_law_436 : decode cL_law 436 = .ok (.invokevirtual 56, 3) := by decide +kernel
theorem dL_law_439 : decode cL_law 439 = .ok (.if_icmp .eq 172, 3) := by decide +kernel
theorem dL_law_442 : decode cL_law 442 = .ok (.iconst 0, 1) := by decide +kernel
theorem dL_law_443 : decode cL_law 443 = .ok (.ireturn, 1) := by decide +kernel
theorem dL_law_444 : decode cL_law 444 = .ok (.aload_n 1, 1) := by decide +kernel
theorem dL_law_445 : decode cL_law 445 = .ok (.invokevirtual 57, 3) := by decide +kernel
theorem dL_law_448 : decode cL_law 448 = .ok (.aload_n 2, 1) := by decide +kernel
theorem dL_law_449 : decode cL_law 449 = .ok (.invokevirtual 61, 3) := by decide +kernel
theorem dL_law_452 : decode cL_law 452 = .ok (.if_icmp .eq 159, 3) := by decide +kernel
theorem dL_law_455 : decode cL_law 455 = .ok (.iconst 0, 1) := by decide +kernel
theorem dL_law_456 : decode cL_law 456 = .ok (.ireturn, 1) := by decide +kernel
theorem dL_law_457 : decode cL_law 457 = .ok (.aload_n 1, 1) := by decide +kernel
theorem dL_law_458 : decode cL_law 458 = .ok (.invokevirtual 62, 3) := by decide +kernel
theorem dL_law_461 : decode cL_law 461 = .ok (.aload_n 2, 1) := by decide +kernel
theorem dL_law_462 : decode cL_law 462 = .ok (.invokevirtual 65, 3) := by decide +kernel
theorem dL_law_465 : decode cL_law 465 = .ok (.if_icmp .eq 146, 3) := by decide +kernel
theorem dL_law_468 : decode cL_law 468 = .ok (.iconst 0, 1) := by decide +kernel
theorem dL_law_469 : decode cL_law 469 = .ok (.ireturn, 1) := by decide +kernel
theorem dL_law_470 : decode cL_law 470 = .ok (.aload_n 1, 1) := by decide +kernel
theorem dL_law_471 : decode cL_law 471 = .ok (.invokevirtual 66, 3) := by decide +kernel
theorem dL_law_474 : decode cL_law 474 = .ok (.aload_n 2, 1) := by decide +kernel
theorem dL_law_475 : decode cL_law 475 = .ok (.invokevirtual 69, 3) := by decide +kernel
theorem dL_law_478 : decode cL_law 478 = .ok (.if_icmp .eq 133, 3) := by decide +kernel
theorem dL_law_481 : decode cL_law 481 = .ok (.iconst 0, 1) := by decide +kernel
theorem dL_law_482 : decode cL_law 482 = .ok (.ireturn, 1) := by decide +kernel
theorem dL_law_483 : decode cL_law 483 = .ok (.aload_n 1, 1) := by decide +kernel
theorem dL_law_484 : decode cL_law 484 = .ok (.aload_n 0, 1) := by decide +kernel
theorem dL_law_485 : decode cL_law 485 = .ok (.iload_n 3, 1) := by decide +kernel
theorem dL_law_486 : decode cL_law 486 = .ok (.iconst 1, 1) := by decide +kernel
theorem dL_law_487 : decode cL_law 487 = .ok (.iadd, 1) := by decide +kernel
theorem dL_law_488 : decode cL_law 488 = .ok (.iaload, 1) := by decide +kernel
theorem dL_law_489 : decode cL_law 489 = .ok (.invokevirtual 70, 3) := by decide +kernel
theorem dL_law_492 : decode cL_law 492 = .ok (.aload_n 2, 1) := by decide +kernel
theorem dL_law_493 : decode cL_law 493 = .ok (.aload_n 0, 1) := by decide +kernel
theorem dL_law_494 : decode cL_law 494 = .ok (.iload_n 3, 1) := by decide +kernel
theorem dL_law_495 : decode cL_law 495 = .ok (.iconst 1, 1) := by decide +kernel
theorem dL_law_496 : decode cL_law 496 = .ok (.iadd, 1) := by decide +kernel
theorem dL_law_497 : decode cL_law 497 = .ok (.iaload, 1) := by decide +kernel
theorem dL_law_498 : decode cL_law 498 = .ok (.invokevirtual 73, 3) := by decide +kernel
theorem dL_law_501 : decode cL_law 501 = .ok (.if_icmp .eq 110, 3) := by decide +kernel
theorem dL_law_504 : decode cL_law 504 = .ok (.iconst 0, 1) := by decide +kernel
theorem dL_law_505 : decode cL_law 505 = .ok (.ireturn, 1) := by decide +kernel
theorem dL_law_506 : decode cL_law 506 = .ok (.aload_n 1, 1) := by decide +kernel
theorem dL_law_507 : decode cL_law 507 = .ok (.aload_n 0, 1) := by decide +kernel
theorem dL_law_508 : decode cL_law 508 = .ok (.iload_n 3, 1) := by decide +kernel
theorem dL_law_509 : decode cL_law 509 = .ok (.iconst 1, 1) := by decide +kernel
theorem dL_law_510 : decode cL_law 510 = .ok (.iadd, 1) := by decide +kernel
theorem dL_law_511 : decode cL_law 511 = .ok (.iaload, 1) := by decide +kernel
theorem dL_law_512 : decode cL_law 512 = .ok (.invokevirtual 74, 3) := by decide +kernel
theorem dL_law_515 : decode cL_law 515 = .ok (.aload_n 2, 1) := by decide +kernel
theorem dL_law_516 : decode cL_law 516 = .ok (.aload_n 0, 1) := by decide +kernel
theorem dL_law_517 : decode cL_law 517 = .ok (.iload_n 3, 1) := by decide +kernel
theorem dL_law_518 : decode cL_law 518 = .ok (.iconst 1, 1) := by decide +kernel
theorem dL_law_519 : decode cL_law 519 = .ok (.iadd, 1) := by decide +kernel
theorem dL_law_520 : decode cL_law 520 = .ok (.iaload, 1) := by decide +kernel
theorem dL_law_521 : decode cL_law 521 = .ok (.invokevirtual 77, 3) := by decide +kernel
theorem dL_law_524 : decode cL_law 524 = .ok (.if_icmp .eq 87, 3) := by decide +kernel
theorem dL_law_527 : decode cL_law 527 = .ok (.iconst 0, 1) := by decide +kernel
theorem dL_law_528 : decode cL_law 528 = .ok (.ireturn, 1) := by decide +kernel
theorem dL_law_529 : decode cL_law 529 = .ok (.aload_n 1, 1) := by decide +kernel
theorem dL_law_530 : decode cL_law 530 = .ok (.aload_n 0, 1) := by decide +kernel
theorem dL_law_531 : decode cL_law 531 = .ok (.iload_n 3, 1) := by decide +kernel
theorem dL_law_532 : decode cL_law 532 = .ok (.iconst 1, 1) := by decide +kernel
theorem dL_law_533 : decode cL_law 533 = .ok (.iadd, 1) := by decide +kernel
theorem dL_law_534 : decode cL_law 534 = .ok (.iaload, 1) := by decide +kernel
theorem dL_law_535 : decode cL_law 535 = .ok (.invokevirtual 78, 3) := by decide +kernel
theorem dL_law_538 : decode cL_law 538 = .ok (.aload_n 2, 1) := by decide +kernel
theorem dL_law_539 : decode cL_law 539 = .ok (.aload_n 0, 1) := by decide +kernel
theorem dL_law_540 : decode cL_law 540 = .ok (.iload_n 3, 1) := by decide +kernel
theorem dL_law_541 : decode cL_law 541 = .ok (.iconst 1, 1) := by decide +kernel
theorem dL_law_542 : decode cL_law 542 = .ok (.iadd, 1) := by decide +kernel
theorem dL_law_543 : decode cL_law 543 = .ok (.iaload, 1) := by decide +kernel
theorem dL_law_544 : decode cL_law 544 = .ok (.invokevirtual 81, 3) := by decide +kernel
theorem dL_law_547 : decode cL_law 547 = .ok (.if_icmp .eq 64, 3) := by decide +kernel
theorem dL_law_550 : decode cL_law 550 = .ok (.iconst 0, 1) := by decide +kernel
theorem dL_law_551 : decode cL_law 551 = .ok (.ireturn, 1) := by decide +kernel
theorem dL_law_552 : decode cL_law 552 = .ok (.aload_n 1, 1) := by decide +kernel
theorem dL_law_553 : decode cL_law 553 = .ok (.aload_n 0, 1) := by decide +kernel
theorem dL_law_554 : decode cL_law 554 = .ok (.iload_n 3, 1) := by decide +kernel
theorem dL_law_555 : decode cL_law 555 = .ok (.iconst 1, 1) := by decide +kernel
theorem dL_law_556 : decode cL_law 556 = .ok (.iadd, 1) := by decide +kernel
theorem dL_law_557 : decode cL_law 557 = .ok (.iaload, 1) := by decide +kernel
theorem dL_law_558 : decode cL_law 558 = .ok (.invokevirtual 82, 3) := by decide +kernel
theorem dL_law_561 : decode cL_law 561 = .ok (.aload_n 2, 1) := by decide +kernel
theorem dL_law_562 : decode cL_law 562 = .ok (.aload_n 0, 1) := by decide +kernel
theorem dL_law_563 : decode cL_law 563 = .ok (.iload_n 3, 1) := by decide +kernel
theorem dL_law_564 : decode cL_law 564 = .ok (.iconst 1, 1) := by decide +kernel
theorem dL_law_565 : decode cL_law 565 = .ok (.iadd, 1) := by decide +kernel
theorem dL_law_566 : decode cL_law 566 = .ok (.iaload, 1) := by decide +kernel
theorem dL_law_567 : decode cL_law 567 = .ok (.invokevirtual 85, 3) := by decide +kernel
theorem dL_law_570 : decode cL_law 570 = .ok (.if_icmp .eq 41, 3) := by decide +kernel
theorem dL_law_573 : decode cL_law 573 = .ok (.iconst 0, 1) := by decide +kernel
theorem dL_law_574 : decode cL_law 574 = .ok (.ireturn, 1) := by decide +kernel
theorem dL_law_575 : decode cL_law 575 = .ok (.aload_n 1, 1) := by decide +kernel
theorem dL_law_576 : decode cL_law 576 = .ok (.aload_n 0, 1) := by decide +kernel
theorem dL_law_577 : decode cL_law 577 = .ok (.iload_n 3, 1) := by decide +kernel
theorem dL_law_578 : decode cL_law 578 = .ok (.iconst 1, 1) := by decide +kernel
theorem dL_law_579 : decode cL_law 579 = .ok (.iadd, 1) := by decide +kernel
theorem dL_law_580 : decode cL_law 580 = .ok (.iaload, 1) := by decide +kernel
theorem dL_law_581 : decode cL_law 581 = .ok (.invokevirtual 86, 3) := by decide +kernel
theorem dL_law_584 : decode cL_law 584 = .ok (.aload_n 2, 1) := by decide +kernel
theorem dL_law_585 : decode cL_law 585 = .ok (.aload_n 0, 1) := by decide +kernel
theorem dL_law_586 : decode cL_law 586 = .ok (.iload_n 3, 1) := by decide +kernel
theorem dL_law_587 : decode cL_law 587 = .ok (.iconst 1, 1) := by decide +kernel
theorem dL_law_588 : decode cL_law 588 = .ok (.iadd, 1) := by decide +kernel
theorem dL_law_589 : decode cL_law 589 = .ok (.iaload, 1) := by decide +kernel
theorem dL_law_590 : decode cL_law 590 = .ok (.invokevirtual 89, 3) := by decide +kernel
theorem dL_law_593 : decode cL_law 593 = .ok (.if_icmp .eq 18, 3) := by decide +kernel
theorem dL_law_596 : decode cL_law 596 = .ok (.iconst 0, 1) := by decide +kernel
theorem dL_law_597 : decode cL_law 597 = .ok (.ireturn, 1) := by decide +kernel
theorem dL_law_598 : decode cL_law 598 = .ok (.aload_n 1, 1) := by decide +kernel
theorem dL_law_599 : decode cL_law 599 = .ok (.invokevirtual 90, 3) := by decide +kernel
theorem dL_law_602 : decode cL_law 602 = .ok (.aload_n 2, 1) := by decide +kernel
theorem dL_law_603 : decode cL_law 603 = .ok (.invokevirtual 93, 3) := by decide +kernel
theorem dL_law_606 : decode cL_law 606 = .ok (.if_icmp .eq 5, 3) := by decide +kernel
theorem dL_law_609 : decode cL_law 609 = .ok (.iconst 0, 1) := by decide +kernel
theorem dL_law_610 : decode cL_law 610 = .ok (.ireturn, 1) := by decide +kernel
theorem dL_law_611 : decode cL_law 611 = .ok (.iinc 3 5, 3) := by decide +kernel
theorem dL_law_614 : decode cL_law 614 = .ok (.goto (-596), 3) := by decide +kernel
theorem dL_law_617 : decode cL_law 617 = .ok (.iconst 1, 1) := by decide +kernel
theorem dL_law_618 : decode cL_law 618 = .ok (.ireturn, 1) := by decide +kernel
end
section
set_option maxRecDepth 100000
/-- a state of a class: its arrays, its numbers, by the fields' places -/
abbrev St : Type := (Nat → Nat → Int32) × (Nat → Int32)
def sA (σ : St) (k i : Nat) (x : Int32) : St := (va_up σ.1 k (upd (σ.1 k) i x), σ.2)
def sV (σ : St) (k : Nat) (x : Int32) : St := (σ.1, va_up σ.2 k x)
abbrev vwCl : List vw_C := [(RX0, TX0, 24), (RX1, TX1, 17)]
abbrev Fx (p : Program) (m : MethodId) (c : Code) (cc : ByteArray) (nL : Nat) (s : State) (args : Array Value) (own : String) : Prop := p.tables.exec = Jvm.exec ∧ c.code = cc ∧ c.maxLocals = nL ∧ s.vm.findClass own = some m.cls ∧ (∀ w ∈ lw_all, w.before args s = true)
def w0 (h0 : Nat) (h : Nat → Nat) (ca : Nat → ClassId) (σ : St) : va_W := [(h0, .inr (0, [.ref (h 0), .ref (h 1), .ref (h 2), .ref (h 3), .ref (h 4), .ref (h 5), .ref (h 6), .ref (h 7), .ref (h 8), .ref (h 9), .ref (h 10), .ref (h 11), .ref (h 12), .ref (h 13), .ref (h 14), .ref (h 15), .ref (h 16), .ref (h 17), .int (σ.2 18), .int (σ.2 19), .int (σ.2 20), .int (σ.2 21), .int (σ.2 22), .int (σ.2 23)])), (h 0, .inl (ca 0, 40, .inl (σ.1 0))), (h 1, .inl (ca 1, 8, .inl (σ.1 1))), (h 2, .inl (ca 2, 8, .inl (σ.1 2))), (h 3, .inl (ca 3, 8, .inl (σ.1 3))), (h 4, .inl (ca 4, 8, .inl (σ.1 4))), (h 5, .inl (ca 5, 8, .inl (σ.1 5))), (h 6, .inl (ca 6, 8, .inl (σ.1 6))), (h 7, .inl (ca 7, 8, .inl (σ.1 7))), (h 8, .inl (ca 8, 4, .inl (σ.1 8))), (h 9, .inl (ca 9, 4, .inl (σ.1 9))), (h 10, .inl (ca 10, 4, .inl (σ.1 10))), (h 11, .inl (ca 11, 4, .inl (σ.1 11))), (h 12, .inl (ca 12, 8, .inl (σ.1 12))), (h 13, .inl (ca 13, 8, .inl (σ.1 13))), (h 14, .inl (ca 14, 8, .inl (σ.1 14))), (h 15, .inl (ca 15, 8, .inl (σ.1 15))), (h 16, .inl (ca 16, 8, .inl (σ.1 16))), (h 17, .inl (ca 17, 4, .inl (σ.1 17)))]
def t0 (ca : Nat → ClassId) : List (ClassId × FieldType) := [(ca 0, .int), (ca 1, .boolean), (ca 2, .boolean), (ca 3, .int), (ca 4, .int), (ca 5, .int), (ca 6, .int), (ca 7, .int), (ca 8, .int), (ca 9, .int), (ca 10, .int), (ca 11, .int), (ca 12, .int), (ca 13, .int), (ca 14, .int), (ca 15, .int), (ca 16, .int), (ca 17, .int)]
def Wd0 (D : va_G) (s : State) (A : Nat → Prop) (h0 : Nat) (h : Nat → Nat) (ca : Nat → ClassId) (σ : St) (H : Heap) (locs : List Loc) : Prop := va_K D vwCl (t0 ca) s ∧ va_P D vwCl (w0 h0 h ca σ) H ∧ va_D A (w0 h0 h ca σ) ∧ va_S A s.heap H locs ∧ ∀ q : Nat, s.heap.size ≤ q → A q
def w1 (h0 : Nat) (h : Nat → Nat) (ca : Nat → ClassId) (σ : St) : va_W := [(h0, .inr (1, [.ref (h 0), .ref (h 1), .ref (h 2), .ref (h 3), .ref (h 4), .ref (h 5), .ref (h 6), .ref (h 7), .ref (h 8), .int (σ.2 9), .int (σ.2 10), .int (σ.2 11), .ref (h 12), .ref (h 13), .ref (h 14), .ref (h 15), .ref (h 16)])), (h 0, .inl (ca 0, 40, .inl (σ.1 0))), (h 1, .inl (ca 1, 40, .inl (σ.1 1))), (h 2, .inl (ca 2, 8, .inl (σ.1 2))), (h 3, .inl (ca 3, 8, .inl (σ.1 3))), (h 4, .inl (ca 4, 8, .inl (σ.1 4))), (h 5, .inl (ca 5, 8, .inl (σ.1 5))), (h 6, .inl (ca 6, 8, .inl (σ.1 6))), (h 7, .inl (ca 7, 8, .inl (σ.1 7))), (h 8, .inl (ca 8, 8, .inl (σ.1 8))), (h 12, .inl (ca 12, 8, .inl (σ.1 12))), (h 13, .inl (ca 13, 8, .inl (σ.1 13))), (h 14, .inl (ca 14, 8, .inl (σ.1 14))), (h 15, .inl (ca 15, 8, .inl (σ.1 15))), (h 16, .inl (ca 16, 8, .inl (σ.1 16)))]
def t1 (ca : Nat → ClassId) : List (ClassId × FieldType) := [(ca 0, .int), (ca 1, .int), (ca 2, .boolean), (ca 3, .int), (ca 4, .int), (ca 5, .int), (ca 6, .boolean), (ca 7, .int), (ca 8, .int), (ca 12, .int), (ca 13, .int), (ca 14, .int), (ca 15, .int), (ca 16, .int)]
def Wd1 (D : va_G) (s : State) (A : Nat → Prop) (h0 : Nat) (h : Nat → Nat) (ca : Nat → ClassId) (σ : St) (H : Heap) (locs : List Loc) : Prop := va_K D vwCl (t1 ca) s ∧ va_P D vwCl (w1 h0 h ca σ) H ∧ va_D A (w1 h0 h ca σ) ∧ va_S A s.heap H locs ∧ ∀ q : Nat, s.heap.size ≤ q → A q
section R0
variable {p : Program} {l : Launch} {e : Env} {R : Room} {s : State} {m : MethodId} {args : Array Value} {below : List Frame} {meth : Method} {c : Code} {H : Heap} {locs : List Loc} {cells slots : Nat} {Q : State → Prop}
variable {cc : ByteArray} {pc : Nat} {ls : Array Slot} {rest : List Value} {D : va_G} {A : Nat → Prop} {h0 : Nat} {h : Nat → Nat} {ca : Nat → ClassId} {σ : St}
theorem g0_0 (hx : p.tables.exec = Jvm.exec) (hb : c.code = cc) (hts : ∀ w ∈ lw_all, w.before args s = true) (hown : s.vm.findClass RX0 = some m.cls) (G : Wd0 D s A h0 h ca σ H locs) (hdg : decode cc pc = .ok (.getfield 7, 3)) (kk : W p l e R s m args below meth c H locs cells slots Q (F0 m (pc + 3) ls (.ref (h 0) :: rest))) : W p l e R s m args below meth c H locs cells slots Q (F0 m pc ls (.ref h0 :: rest)) :=
  va_get (D := D) (ci := 0) (v := .ref (h 0)) (C := RX0) (T := TX0) (N := 24) hx hb hts in_X0 hown G.1 G.2.1 0 rfl rfl 0 (by decide) (hts _ q31) (fun _ h9 => h9) rfl hdg kk
theorem l0_0 (i : Nat) {x : Int32} (hx : p.tables.exec = Jvm.exec) (hb : c.code = cc) (G : Wd0 D s A h0 h ca σ H locs) (hi : x = nI i) (hl : i < 40) (hdg : decode cc pc = .ok (.iaload, 1)) (kk : W p l e R s m args below meth c H locs cells slots Q (F0 m (pc + 1) ls (.int (σ.1 0 i) :: rest))) : W p l e R s m args below meth c H locs cells slots Q (F0 m pc ls (.int x :: .ref (h 0) :: rest)) := by
  subst hi
  refine va_iald hx hb G.1 G.2.1 1 0 rfl rfl (vp_in_nI hl (by decide)) hdg ?_
  rw [nI_clamp (by omega)]
  exact kk
theorem a0_0 (i : Nat) {x v : Int32} (hx : p.tables.exec = Jvm.exec) (hb : c.code = cc) (G : Wd0 D s A h0 h ca σ H locs) (hi : x = nI i) (hl : i < 40) (hdg : decode cc pc = .ok (.iastore, 1)) (kk : ∀ (H : Heap) (locs : List Loc), Wd0 D s A h0 h ca (sA σ 0 i v) H locs → W p l e R s m args below meth c H locs cells slots Q (F0 m (pc + 1) ls rest)) : W p l e R s m args below meth c H locs cells slots Q (F0 m pc ls (.int v :: .int x :: .ref (h 0) :: rest)) := by
  subst hi
  refine va_iast hx hb G.1 G.2.1 G.2.2.1 G.2.2.2.1 1 0 rfl rfl (vp_in_nI hl (by decide)) hdg (fun H1 locs1 hP hD hS => ?_)
  rw [nI_clamp (by omega)] at hP hD
  exact kk H1 locs1 ⟨G.1, hP, hD, hS, G.2.2.2.2⟩
theorem g0_1 (hx : p.tables.exec = Jvm.exec) (hb : c.code = cc) (hts : ∀ w ∈ lw_all, w.before args s = true) (hown : s.vm.findClass RX0 = some m.cls) (G : Wd0 D s A h0 h ca σ H locs) (hdg : decode cc pc = .ok (.getfield 13, 3)) (kk : W p l e R s m args below meth c H locs cells slots Q (F0 m (pc + 3) ls (.ref (h 1) :: rest))) : W p l e R s m args below meth c H locs cells slots Q (F0 m pc ls (.ref h0 :: rest)) :=
  va_get (D := D) (ci := 0) (v := .ref (h 1)) (C := RX0) (T := TX0) (N := 24) hx hb hts in_X0 hown G.1 G.2.1 0 rfl rfl 1 (by decide) (hts _ q32) (fun _ h9 => h9) rfl hdg kk
theorem l0_1 (i : Nat) {x : Int32} (hx : p.tables.exec = Jvm.exec) (hb : c.code = cc) (G : Wd0 D s A h0 h ca σ H locs) (hi : x = nI i) (hl : i < 8) (hdg : decode cc pc = .ok (.baload, 1)) (kk : W p l e R s m args below meth c H locs cells slots Q (F0 m (pc + 1) ls (.int (σ.1 1 i) :: rest))) : W p l e R s m args below meth c H locs cells slots Q (F0 m pc ls (.int x :: .ref (h 1) :: rest)) := by
  subst hi
  refine va_zald hx hb G.1 G.2.1 2 1 rfl rfl (vp_in_nI hl (by decide)) hdg ?_
  rw [nI_clamp (by omega)]
  exact kk
theorem a0_1 (i : Nat) {x v : Int32} (hx : p.tables.exec = Jvm.exec) (hb : c.code = cc) (G : Wd0 D s A h0 h ca σ H locs) (hi : x = nI i) (hl : i < 8) (hz : vp_nar .boolean v = v) (hdg : decode cc pc = .ok (.bastore, 1)) (kk : ∀ (H : Heap) (locs : List Loc), Wd0 D s A h0 h ca (sA σ 1 i v) H locs → W p l e R s m args below meth c H locs cells slots Q (F0 m (pc + 1) ls rest)) : W p l e R s m args below meth c H locs cells slots Q (F0 m pc ls (.int v :: .int x :: .ref (h 1) :: rest)) := by
  subst hi
  refine va_zast hx hb G.1 G.2.1 G.2.2.1 G.2.2.2.1 2 1 rfl rfl (vp_in_nI hl (by decide)) hdg (fun H1 locs1 hP hD hS => ?_)
  rw [nI_clamp (by omega), hz] at hP hD
  exact kk H1 locs1 ⟨G.1, hP, hD, hS, G.2.2.2.2⟩
theorem g0_2 (hx : p.tables.exec = Jvm.exec) (hb : c.code = cc) (hts : ∀ w ∈ lw_all, w.before args s = true) (hown : s.vm.findClass RX0 = some m.cls) (G : Wd0 D s A h0 h ca σ H locs) (hdg : decode cc pc = .ok (.getfield 17, 3)) (kk : W p l e R s m args below meth c H locs cells slots Q (F0 m (pc + 3) ls (.ref (h 2) :: rest))) : W p l e R s m args below meth c H locs cells slots Q (F0 m pc ls (.ref h0 :: rest)) :=
  va_get (D := D) (ci := 0) (v := .ref (h 2)) (C := RX0) (T := TX0) (N := 24) hx hb hts in_X0 hown G.1 G.2.1 0 rfl rfl 2 (by decide) (hts _ q33) (fun _ h9 => h9) rfl hdg kk
theorem l0_2 (i : Nat) {x : Int32} (hx : p.tables.exec = Jvm.exec) (hb : c.code = cc) (G : Wd0 D s A h0 h ca σ H locs) (hi : x = nI i) (hl : i < 8) (hdg : decode cc pc = .ok (.baload, 1)) (kk : W p l e R s m args below meth c H locs cells slots Q (F0 m (pc + 1) ls (.int (σ.1 2 i) :: rest))) : W p l e R s m args below meth c H locs cells slots Q (F0 m pc ls (.int x :: .ref (h 2) :: rest)) := by
  subst hi
  refine va_zald hx hb G.1 G.2.1 3 2 rfl rfl (vp_in_nI hl (by decide)) hdg ?_
  rw [nI_clamp (by omega)]
  exact kk
theorem a0_2 (i : Nat) {x v : Int32} (hx : p.tables.exec = Jvm.exec) (hb : c.code = cc) (G : Wd0 D s A h0 h ca σ H locs) (hi : x = nI i) (hl : i < 8) (hz : vp_nar .boolean v = v) (hdg : decode cc pc = .ok (.bastore, 1)) (kk : ∀ (H : Heap) (locs : List Loc), Wd0 D s A h0 h ca (sA σ 2 i v) H locs → W p l e R s m args below meth c H locs cells slots Q (F0 m (pc + 1) ls rest)) : W p l e R s m args below meth c H locs cells slots Q (F0 m pc ls (.int v :: .int x :: .ref (h 2) :: rest)) := by
  subst hi
  refine va_zast hx hb G.1 G.2.1 G.2.2.1 G.2.2.2.1 3 2 rfl rfl (vp_in_nI hl (by decide)) hdg (fun H1 locs1 hP hD hS => ?_)
  rw [nI_clamp (by omega), hz] at hP hD
  exact kk H1 locs1 ⟨G.1, hP, hD, hS, G.2.2.2.2⟩
theorem g0_3 (hx : p.tables.exec = Jvm.exec) (hb : c.code = cc) (hts : ∀ w ∈ lw_all, w.before args s = true) (hown : s.vm.findClass RX0 = some m.cls) (G : Wd0 D s A h0 h ca σ H locs) (hdg : decode cc pc = .ok (.getfield 20, 3)) (kk : W p l e R s m args below meth c H locs cells slots Q (F0 m (pc + 3) ls (.ref (h 3) :: rest))) : W p l e R s m args below meth c H locs cells slots Q (F0 m pc ls (.ref h0 :: rest)) :=
  va_get (D := D) (ci := 0) (v := .ref (h 3)) (C := RX0) (T := TX0) (N := 24) hx hb hts in_X0 hown G.1 G.2.1 0 rfl rfl 3 (by decide) (hts _ q34) (fun _ h9 => h9) rfl hdg kk
theorem l0_3 (i : Nat) {x : Int32} (hx : p.tables.exec = Jvm.exec) (hb : c.code = cc) (G : Wd0 D s A h0 h ca σ H locs) (hi : x = nI i) (hl : i < 8) (hdg : decode cc pc = .ok (.iaload, 1)) (kk : W p l e R s m args below meth c H locs cells slots Q (F0 m (pc + 1) ls (.int (σ.1 3 i) :: rest))) : W p l e R s m args below meth c H locs cells slots Q (F0 m pc ls (.int x :: .ref (h 3) :: rest)) := by
  subst hi
  refine va_iald hx hb G.1 G.2.1 4 3 rfl rfl (vp_in_nI hl (by decide)) hdg ?_
  rw [nI_clamp (by omega)]
  exact kk
theorem a0_3 (i : Nat) {x v : Int32} (hx : p.tables.exec = Jvm.exec) (hb : c.code = cc) (G : Wd0 D s A h0 h ca σ H locs) (hi : x = nI i) (hl : i < 8) (hdg : decode cc pc = .ok (.iastore, 1)) (kk : ∀ (H : Heap) (locs : List Loc), Wd0 D s A h0 h ca (sA σ 3 i v) H locs → W p l e R s m args below meth c H locs cells slots Q (F0 m (pc + 1) ls rest)) : W p l e R s m args below meth c H locs cells slots Q (F0 m pc ls (.int v :: .int x :: .ref (h 3) :: rest)) := by
  subst hi
  refine va_iast hx hb G.1 G.2.1 G.2.2.1 G.2.2.2.1 4 3 rfl rfl (vp_in_nI hl (by decide)) hdg (fun H1 locs1 hP hD hS => ?_)
  rw [nI_clamp (by omega)] at hP hD
  exact kk H1 locs1 ⟨G.1, hP, hD, hS, G.2.2.2.2⟩
theorem g0_4 (hx : p.tables.exec = Jvm.exec) (hb : c.code = cc) (hts : ∀ w ∈ lw_all, w.before args s = true) (hown : s.vm.findClass RX0 = some m.cls) (G : Wd0 D s A h0 h ca σ H locs) (hdg : decode cc pc = .ok (.getfield 23, 3)) (kk : W p l e R s m args below meth c H locs cells slots Q (F0 m (pc + 3) ls (.ref (h 4) :: rest))) : W p l e R s m args below meth c H locs cells slots Q (F0 m pc ls (.ref h0 :: rest)) :=
  va_get (D := D) (ci := 0) (v := .ref (h 4)) (C := RX0) (T := TX0) (N := 24) hx hb hts in_X0 hown G.1 G.2.1 0 rfl rfl 4 (by decide) (hts _ q35) (fun _ h9 => h9) rfl hdg kk
theorem l0_4 (i : Nat) {x : Int32} (hx : p.tables.exec = Jvm.exec) (hb : c.code = cc) (G : Wd0 D s A h0 h ca σ H locs) (hi : x = nI i) (hl : i < 8) (hdg : decode cc pc = .ok (.iaload, 1)) (kk : W p l e R s m args below meth c H locs cells slots Q (F0 m (pc + 1) ls (.int (σ.1 4 i) :: rest))) : W p l e R s m args below meth c H locs cells slots Q (F0 m pc ls (.int x :: .ref (h 4) :: rest)) := by
  subst hi
  refine va_iald hx hb G.1 G.2.1 5 4 rfl rfl (vp_in_nI hl (by decide)) hdg ?_
  rw [nI_clamp (by omega)]
  exact kk
theorem a0_4 (i : Nat) {x v : Int32} (hx : p.tables.exec = Jvm.exec) (hb : c.code = cc) (G : Wd0 D s A h0 h ca σ H locs) (hi : x = nI i) (hl : i < 8) (hdg : decode cc pc = .ok (.iastore, 1)) (kk : ∀ (H : Heap) (locs : List Loc), Wd0 D s A h0 h ca (sA σ 4 i v) H locs → W p l e R s m args below meth c H locs cells slots Q (F0 m (pc + 1) ls rest)) : W p l e R s m args below meth c H locs cells slots Q (F0 m pc ls (.int v :: .int x :: .ref (h 4) :: rest)) := by
  subst hi
  refine va_iast hx hb G.1 G.2.1 G.2.2.1 G.2.2.2.1 5 4 rfl rfl (vp_in_nI hl (by decide)) hdg (fun H1 locs1 hP hD hS => ?_)
  rw [nI_clamp (by omega)] at hP hD
  exact kk H1 locs1 ⟨G.1, hP, hD, hS, G.2.2.2.2⟩
theorem g0_5 (hx : p.tables.exec = Jvm.exec) (hb : c.code = cc) (hts : ∀ w ∈ lw_all, w.before args s = true) (hown : s.vm.findClass RX0 = some m.cls) (G : Wd0 D s A h0 h ca σ H locs) (hdg : decode cc pc = .ok (.getfield 26, 3)) (kk : W p l e R s m args below meth c H locs cells slots Q (F0 m (pc + 3) ls (.ref (h 5) :: rest))) : W p l e R s m args below meth c H locs cells slots Q (F0 m pc ls (.ref h0 :: rest)) :=
  va_get (D := D) (ci := 0) (v := .ref (h 5)) (C := RX0) (T := TX0) (N := 24) hx hb hts in_X0 hown G.1 G.2.1 0 rfl rfl 5 (by decide) (hts _ q36) (fun _ h9 => h9) rfl hdg kk
theorem l0_5 (i : Nat) {x : Int32} (hx : p.tables.exec = Jvm.exec) (hb : c.code = cc) (G : Wd0 D s A h0 h ca σ H locs) (hi : x = nI i) (hl : i < 8) (hdg : decode cc pc = .ok (.iaload, 1)) (kk : W p l e R s m args below meth c H locs cells slots Q (F0 m (pc + 1) ls (.int (σ.1 5 i) :: rest))) : W p l e R s m args below meth c H locs cells slots Q (F0 m pc ls (.int x :: .ref (h 5) :: rest)) := by
  subst hi
  refine va_iald hx hb G.1 G.2.1 6 5 rfl rfl (vp_in_nI hl (by decide)) hdg ?_
  rw [nI_clamp (by omega)]
  exact kk
theorem a0_5 (i : Nat) {x v : Int32} (hx : p.tables.exec = Jvm.exec) (hb : c.code = cc) (G : Wd0 D s A h0 h ca σ H locs) (hi : x = nI i) (hl : i < 8) (hdg : decode cc pc = .ok (.iastore, 1)) (kk : ∀ (H : Heap) (locs : List Loc), Wd0 D s A h0 h ca (sA σ 5 i v) H locs → W p l e R s m args below meth c H locs cells slots Q (F0 m (pc + 1) ls rest)) : W p l e R s m args below meth c H locs cells slots Q (F0 m pc ls (.int v :: .int x :: .ref (h 5) :: rest)) := by
  subst hi
  refine va_iast hx hb G.1 G.2.1 G.2.2.1 G.2.2.2.1 6 5 rfl rfl (vp_in_nI hl (by decide)) hdg (fun H1 locs1 hP hD hS => ?_)
  rw [nI_clamp (by omega)] at hP hD
  exact kk H1 locs1 ⟨G.1, hP, hD, hS, G.2.2.2.2⟩
theorem g0_6 (hx : p.tables.exec = Jvm.exec) (hb : c.code = cc) (hts : ∀ w ∈ lw_all, w.before args s = true) (hown : s.vm.findClass RX0 = some m.cls) (G : Wd0 D s A h0 h ca σ H locs) (hdg : decode cc pc = .ok (.getfield 29, 3)) (kk : W p l e R s m args below meth c H locs cells slots Q (F0 m (pc + 3) ls (.ref (h 6) :: rest))) : W p l e R s m args below meth c H locs cells slots Q (F0 m pc ls (.ref h0 :: rest)) :=
  va_get (D := D) (ci := 0) (v := .ref (h 6)) (C := RX0) (T := TX0) (N := 24) hx hb hts in_X0 hown G.1 G.2.1 0 rfl rfl 6 (by decide) (hts _ q37) (fun _ h9 => h9) rfl hdg kk
theorem l0_6 (i : Nat) {x : Int32} (hx : p.tables.exec = Jvm.exec) (hb : c.code = cc) (G : Wd0 D s A h0 h ca σ H locs) (hi : x = nI i) (hl : i < 8) (hdg : decode cc pc = .ok (.iaload, 1)) (kk : W p l e R s m args below meth c H locs cells slots Q (F0 m (pc + 1) ls (.int (σ.1 6 i) :: rest))) : W p l e R s m args below meth c H locs cells slots Q (F0 m pc ls (.int x :: .ref (h 6) :: rest)) := by
  subst hi
  refine va_iald hx hb G.1 G.2.1 7 6 rfl rfl (vp_in_nI hl (by decide)) hdg ?_
  rw [nI_clamp (by omega)]
  exact kk
theorem a0_6 (i : Nat) {x v : Int32} (hx : p.tables.exec = Jvm.exec) (hb : c.code = cc) (G : Wd0 D s A h0 h ca σ H locs) (hi : x = nI i) (hl : i < 8) (hdg : decode cc pc = .ok (.iastore, 1)) (kk : ∀ (H : Heap) (locs : List Loc), Wd0 D s A h0 h ca (sA σ 6 i v) H locs → W p l e R s m args below meth c H locs cells slots Q (F0 m (pc + 1) ls rest)) : W p l e R s m args below meth c H locs cells slots Q (F0 m pc ls (.int v :: .int x :: .ref (h 6) :: rest)) := by
  subst hi
  refine va_iast hx hb G.1 G.2.1 G.2.2.1 G.2.2.2.1 7 6 rfl rfl (vp_in_nI hl (by decide)) hdg (fun H1 locs1 hP hD hS => ?_)
  rw [nI_clamp (by omega)] at hP hD
  exact kk H1 locs1 ⟨G.1, hP, hD, hS, G.2.2.2.2⟩
theorem g0_7 (hx : p.tables.exec = Jvm.exec) (hb : c.code = cc) (hts : ∀ w ∈ lw_all, w.before args s = true) (hown : s.vm.findClass RX0 = some m.cls) (G : Wd0 D s A h0 h ca σ H locs) (hdg : decode cc pc = .ok (.getfield 32, 3)) (kk : W p l e R s m args below meth c H locs cells slots Q (F0 m (pc + 3) ls (.ref (h 7) :: rest))) : W p l e R s m args below meth c H locs cells slots Q (F0 m pc ls (.ref h0 :: rest)) :=
  va_get (D := D) (ci := 0) (v := .ref (h 7)) (C := RX0) (T := TX0) (N := 24) hx hb hts in_X0 hown G.1 G.2.1 0 rfl rfl 7 (by decide) (hts _ q38) (fun _ h9 => h9) rfl hdg kk
theorem l0_7 (i : Nat) {x : Int32} (hx : p.tables.exec = Jvm.exec) (hb : c.code = cc) (G : Wd0 D s A h0 h ca σ H locs) (hi : x = nI i) (hl : i < 8) (hdg : decode cc pc = .ok (.iaload, 1)) (kk : W p l e R s m args below meth c H locs cells slots Q (F0 m (pc + 1) ls (.int (σ.1 7 i) :: rest))) : W p l e R s m args below meth c H locs cells slots Q (F0 m pc ls (.int x :: .ref (h 7) :: rest)) := by
  subst hi
  refine va_iald hx hb G.1 G.2.1 8 7 rfl rfl (vp_in_nI hl (by decide)) hdg ?_
  rw [nI_clamp (by omega)]
  exact kk
theorem a0_7 (i : Nat) {x v : Int32} (hx : p.tables.exec = Jvm.exec) (hb : c.code = cc) (G : Wd0 D s A h0 h ca σ H locs) (hi : x = nI i) (hl : i < 8) (hdg : decode cc pc = .ok (.iastore, 1)) (kk : ∀ (H : Heap) (locs : List Loc), Wd0 D s A h0 h ca (sA σ 7 i v) H locs → W p l e R s m args below meth c H locs cells slots Q (F0 m (pc + 1) ls rest)) : W p l e R s m args below meth c H locs cells slots Q (F0 m pc ls (.int v :: .int x :: .ref (h 7) :: rest)) := by
  subst hi
  refine va_iast hx hb G.1 G.2.1 G.2.2.1 G.2.2.2.1 8 7 rfl rfl (vp_in_nI hl (by decide)) hdg (fun H1 locs1 hP hD hS => ?_)
  rw [nI_clamp (by omega)] at hP hD
  exact kk H1 locs1 ⟨G.1, hP, hD, hS, G.2.2.2.2⟩
theorem g0_8 (hx : p.tables.exec = Jvm.exec) (hb : c.code = cc) (hts : ∀ w ∈ lw_all, w.before args s = true) (hown : s.vm.findClass RX0 = some m.cls) (G : Wd0 D s A h0 h ca σ H locs) (hdg : decode cc pc = .ok (.getfield 35, 3)) (kk : W p l e R s m args below meth c H locs cells slots Q (F0 m (pc + 3) ls (.ref (h 8) :: rest))) : W p l e R s m args below meth c H locs cells slots Q (F0 m pc ls (.ref h0 :: rest)) :=
  va_get (D := D) (ci := 0) (v := .ref (h 8)) (C := RX0) (T := TX0) (N := 24) hx hb hts in_X0 hown G.1 G.2.1 0 rfl rfl 8 (by decide) (hts _ q39) (fun _ h9 => h9) rfl hdg kk
theorem l0_8 (i : Nat) {x : Int32} (hx : p.tables.exec = Jvm.exec) (hb : c.code = cc) (G : Wd0 D s A h0 h ca σ H locs) (hi : x = nI i) (hl : i < 4) (hdg : decode cc pc = .ok (.iaload, 1)) (kk : W p l e R s m args below meth c H locs cells slots Q (F0 m (pc + 1) ls (.int (σ.1 8 i) :: rest))) : W p l e R s m args below meth c H locs cells slots Q (F0 m pc ls (.int x :: .ref (h 8) :: rest)) := by
  subst hi
  refine va_iald hx hb G.1 G.2.1 9 8 rfl rfl (vp_in_nI hl (by decide)) hdg ?_
  rw [nI_clamp (by omega)]
  exact kk
theorem a0_8 (i : Nat) {x v : Int32} (hx : p.tables.exec = Jvm.exec) (hb : c.code = cc) (G : Wd0 D s A h0 h ca σ H locs) (hi : x = nI i) (hl : i < 4) (hdg : decode cc pc = .ok (.iastore, 1)) (kk : ∀ (H : Heap) (locs : List Loc), Wd0 D s A h0 h ca (sA σ 8 i v) H locs → W p l e R s m args below meth c H locs cells slots Q (F0 m (pc + 1) ls rest)) : W p l e R s m args below meth c H locs cells slots Q (F0 m pc ls (.int v :: .int x :: .ref (h 8) :: rest)) := by
  subst hi
  refine va_iast hx hb G.1 G.2.1 G.2.2.1 G.2.2.2.1 9 8 rfl rfl (vp_in_nI hl (by decide)) hdg (fun H1 locs1 hP hD hS => ?_)
  rw [nI_clamp (by omega)] at hP hD
  exact kk H1 locs1 ⟨G.1, hP, hD, hS, G.2.2.2.2⟩
theorem g0_9 (hx : p.tables.exec = Jvm.exec) (hb : c.code = cc) (hts : ∀ w ∈ lw_all, w.before args s = true) (hown : s.vm.findClass RX0 = some m.cls) (G : Wd0 D s A h0 h ca σ H locs) (hdg : decode cc pc = .ok (.getfield 38, 3)) (kk : W p l e R s m args below meth c H locs cells slots Q (F0 m (pc + 3) ls (.ref (h 9) :: rest))) : W p l e R s m args below meth c H locs cells slots Q (F0 m pc ls (.ref h0 :: rest)) :=
  va_get (D := D) (ci := 0) (v := .ref (h 9)) (C := RX0) (T := TX0) (N := 24) hx hb hts in_X0 hown G.1 G.2.1 0 rfl rfl 9 (by decide) (hts _ q40) (fun _ h9 => h9) rfl hdg kk
theorem l0_9 (i : Nat) {x : Int32} (hx : p.tables.exec = Jvm.exec) (hb : c.code = cc) (G : Wd0 D s A h0 h ca σ H locs) (hi : x = nI i) (hl : i < 4) (hdg : decode cc pc = .ok (.iaload, 1)) (kk : W p l e R s m args below meth c H locs cells slots Q (F0 m (pc + 1) ls (.int (σ.1 9 i) :: rest))) : W p l e R s m args below meth c H locs cells slots Q (F0 m pc ls (.int x :: .ref (h 9) :: rest)) := by
  subst hi
  refine va_iald hx hb G.1 G.2.1 10 9 rfl rfl (vp_in_nI hl (by decide)) hdg ?_
  rw [nI_clamp (by omega)]
  exact kk
theorem a0_9 (i : Nat) {x v : Int32} (hx : p.tables.exec = Jvm.exec) (hb : c.code = cc) (G : Wd0 D s A h0 h ca σ H locs) (hi : x = nI i) (hl : i < 4) (hdg : decode cc pc = .ok (.iastore, 1)) (kk : ∀ (H : Heap) (locs : List Loc), Wd0 D s A h0 h ca (sA σ 9 i v) H locs → W p l e R s m args below meth c H locs cells slots Q (F0 m (pc + 1) ls rest)) : W p l e R s m args below meth c H locs cells slots Q (F0 m pc ls (.int v :: .int x :: .ref (h 9) :: rest)) := by
  subst hi
  refine va_iast hx hb G.1 G.2.1 G.2.2.1 G.2.2.2.1 10 9 rfl rfl (vp_in_nI hl (by decide)) hdg (fun H1 locs1 hP hD hS => ?_)
  rw [nI_clamp (by omega)] at hP hD
  exact kk H1 locs1 ⟨G.1, hP, hD, hS, G.2.2.2.2⟩
theorem g0_10 (hx : p.tables.exec = Jvm.exec) (hb : c.code = cc) (hts : ∀ w ∈ lw_all, w.before args s = true) (hown : s.vm.findClass RX0 = some m.cls) (G : Wd0 D s A h0 h ca σ H locs) (hdg : decode cc pc = .ok (.getfield 41, 3)) (kk : W p l e R s m args below meth c H locs cells slots Q (F0 m (pc + 3) ls (.ref (h 10) :: rest))) : W p l e R s m args below meth c H locs cells slots Q (F0 m pc ls (.ref h0 :: rest)) :=
  va_get (D := D) (ci := 0) (v := .ref (h 10)) (C := RX0) (T := TX0) (N := 24) hx hb hts in_X0 hown G.1 G.2.1 0 rfl rfl 10 (by decide) (hts _ q41) (fun _ h9 => h9) rfl hdg kk
theorem l0_10 (i : Nat) {x : Int32} (hx : p.tables.exec = Jvm.exec) (hb : c.code = cc) (G : Wd0 D s A h0 h ca σ H locs) (hi : x = nI i) (hl : i < 4) (hdg : decode cc pc = .ok (.iaload, 1)) (kk : W p l e R s m args below meth c H locs cells slots Q (F0 m (pc + 1) ls (.int (σ.1 10 i) :: rest))) : W p l e R s m args below meth c H locs cells slots Q (F0 m pc ls (.int x :: .ref (h 10) :: rest)) := by
  subst hi
  refine va_iald hx hb G.1 G.2.1 11 10 rfl rfl (vp_in_nI hl (by decide)) hdg ?_
  rw [nI_clamp (by omega)]
  exact kk
theorem a0_10 (i : Nat) {x v : Int32} (hx : p.tables.exec = Jvm.exec) (hb : c.code = cc) (G : Wd0 D s A h0 h ca σ H locs) (hi : x = nI i) (hl : i < 4) (hdg : decode cc pc = .ok (.iastore, 1)) (kk : ∀ (H : Heap) (locs : List Loc), Wd0 D s A h0 h ca (sA σ 10 i v) H locs → W p l e R s m args below meth c H locs cells slots Q (F0 m (pc + 1) ls rest)) : W p l e R s m args below meth c H locs cells slots Q (F0 m pc ls (.int v :: .int x :: .ref (h 10) :: rest)) := by
  subst hi
  refine va_iast hx hb G.1 G.2.1 G.2.2.1 G.2.2.2.1 11 10 rfl rfl (vp_in_nI hl (by decide)) hdg (fun H1 locs1 hP hD hS => ?_)
  rw [nI_clamp (by omega)] at hP hD
  exact kk H1 locs1 ⟨G.1, hP, hD, hS, G.2.2.2.2⟩
theorem g0_11 (hx : p.tables.exec = Jvm.exec) (hb : c.code = cc) (hts : ∀ w ∈ lw_all, w.before args s = true) (hown : s.vm.findClass RX0 = some m.cls) (G : Wd0 D s A h0 h ca σ H locs) (hdg : decode cc pc = .ok (.getfield 44, 3)) (kk : W p l e R s m args below meth c H locs cells slots Q (F0 m (pc + 3) ls (.ref (h 11) :: rest))) : W p l e R s m args below meth c H locs cells slots Q (F0 m pc ls (.ref h0 :: rest)) :=
  va_get (D := D) (ci := 0) (v := .ref (h 11)) (C := RX0) (T := TX0) (N := 24) hx hb hts in_X0 hown G.1 G.2.1 0 rfl rfl 11 (by decide) (hts _ q42) (fun _ h9 => h9) rfl hdg kk
theorem l0_11 (i : Nat) {x : Int32} (hx : p.tables.exec = Jvm.exec) (hb : c.code = cc) (G : Wd0 D s A h0 h ca σ H locs) (hi : x = nI i) (hl : i < 4) (hdg : decode cc pc = .ok (.iaload, 1)) (kk : W p l e R s m args below meth c H locs cells slots Q (F0 m (pc + 1) ls (.int (σ.1 11 i) :: rest))) : W p l e R s m args below meth c H locs cells slots Q (F0 m pc ls (.int x :: .ref (h 11) :: rest)) := by
  subst hi
  refine va_iald hx hb G.1 G.2.1 12 11 rfl rfl (vp_in_nI hl (by decide)) hdg ?_
  rw [nI_clamp (by omega)]
  exact kk
theorem a0_11 (i : Nat) {x v : Int32} (hx : p.tables.exec = Jvm.exec) (hb : c.code = cc) (G : Wd0 D s A h0 h ca σ H locs) (hi : x = nI i) (hl : i < 4) (hdg : decode cc pc = .ok (.iastore, 1)) (kk : ∀ (H : Heap) (locs : List Loc), Wd0 D s A h0 h ca (sA σ 11 i v) H locs → W p l e R s m args below meth c H locs cells slots Q (F0 m (pc + 1) ls rest)) : W p l e R s m args below meth c H locs cells slots Q (F0 m pc ls (.int v :: .int x :: .ref (h 11) :: rest)) := by
  subst hi
  refine va_iast hx hb G.1 G.2.1 G.2.2.1 G.2.2.2.1 12 11 rfl rfl (vp_in_nI hl (by decide)) hdg (fun H1 locs1 hP hD hS => ?_)
  rw [nI_clamp (by omega)] at hP hD
  exact kk H1 locs1 ⟨G.1, hP, hD, hS, G.2.2.2.2⟩
theorem g0_12 (hx : p.tables.exec = Jvm.exec) (hb : c.code = cc) (hts : ∀ w ∈ lw_all, w.before args s = true) (hown : s.vm.findClass RX0 = some m.cls) (G : Wd0 D s A h0 h ca σ H locs) (hdg : decode cc pc = .ok (.getfield 47, 3)) (kk : W p l e R s m args below meth c H locs cells slots Q (F0 m (pc + 3) ls (.ref (h 12) :: rest))) : W p l e R s m args below meth c H locs cells slots Q (F0 m pc ls (.ref h0 :: rest)) :=
  va_get (D := D) (ci := 0) (v := .ref (h 12)) (C := RX0) (T := TX0) (N := 24) hx hb hts in_X0 hown G.1 G.2.1 0 rfl rfl 12 (by decide) (hts _ q43) (fun _ h9 => h9) rfl hdg kk
theorem l0_12 (i : Nat) {x : Int32} (hx : p.tables.exec = Jvm.exec) (hb : c.code = cc) (G : Wd0 D s A h0 h ca σ H locs) (hi : x = nI i) (hl : i < 8) (hdg : decode cc pc = .ok (.iaload, 1)) (kk : W p l e R s m args below meth c H locs cells slots Q (F0 m (pc + 1) ls (.int (σ.1 12 i) :: rest))) : W p l e R s m args below meth c H locs cells slots Q (F0 m pc ls (.int x :: .ref (h 12) :: rest)) := by
  subst hi
  refine va_iald hx hb G.1 G.2.1 13 12 rfl rfl (vp_in_nI hl (by decide)) hdg ?_
  rw [nI_clamp (by omega)]
  exact kk
theorem a0_12 (i : Nat) {x v : Int32} (hx : p.tables.exec = Jvm.exec) (hb : c.code = cc) (G : Wd0 D s A h0 h ca σ H locs) (hi : x = nI i) (hl : i < 8) (hdg : decode cc pc = .ok (.iastore, 1)) (kk : ∀ (H : Heap) (locs : List Loc), Wd0 D s A h0 h ca (sA σ 12 i v) H locs → W p l e R s m args below meth c H locs cells slots Q (F0 m (pc + 1) ls rest)) : W p l e R s m args below meth c H locs cells slots Q (F0 m pc ls (.int v :: .int x :: .ref (h 12) :: rest)) := by
  subst hi
  refine va_iast hx hb G.1 G.2.1 G.2.2.1 G.2.2.2.1 13 12 rfl rfl (vp_in_nI hl (by decide)) hdg (fun H1 locs1 hP hD hS => ?_)
  rw [nI_clamp (by omega)] at hP hD
  exact kk H1 locs1 ⟨G.1, hP, hD, hS, G.2.2.2.2⟩
theorem g0_13 (hx : p.tables.exec = Jvm.exec) (hb : c.code = cc) (hts : ∀ w ∈ lw_all, w.before args s = true) (hown : s.vm.findClass RX0 = some m.cls) (G : Wd0 D s A h0 h ca σ H locs) (hdg : decode cc pc = .ok (.getfield 50, 3)) (kk : W p l e R s m args below meth c H locs cells slots Q (F0 m (pc + 3) ls (.ref (h 13) :: rest))) : W p l e R s m args below meth c H locs cells slots Q (F0 m pc ls (.ref h0 :: rest)) :=
  va_get (D := D) (ci := 0) (v := .ref (h 13)) (C := RX0) (T := TX0) (N := 24) hx hb hts in_X0 hown G.1 G.2.1 0 rfl rfl 13 (by decide) (hts _ q44) (fun _ h9 => h9) rfl hdg kk
theorem l0_13 (i : Nat) {x : Int32} (hx : p.tables.exec = Jvm.exec) (hb : c.code = cc) (G : Wd0 D s A h0 h ca σ H locs) (hi : x = nI i) (hl : i < 8) (hdg : decode cc pc = .ok (.iaload, 1)) (kk : W p l e R s m args below meth c H locs cells slots Q (F0 m (pc + 1) ls (.int (σ.1 13 i) :: rest))) : W p l e R s m args below meth c H locs cells slots Q (F0 m pc ls (.int x :: .ref (h 13) :: rest)) := by
  subst hi
  refine va_iald hx hb G.1 G.2.1 14 13 rfl rfl (vp_in_nI hl (by decide)) hdg ?_
  rw [nI_clamp (by omega)]
  exact kk
theorem a0_13 (i : Nat) {x v : Int32} (hx : p.tables.exec = Jvm.exec) (hb : c.code = cc) (G : Wd0 D s A h0 h ca σ H locs) (hi : x = nI i) (hl : i < 8) (hdg : decode cc pc = .ok (.iastore, 1)) (kk : ∀ (H : Heap) (locs : List Loc), Wd0 D s A h0 h ca (sA σ 13 i v) H locs → W p l e R s m args below meth c H locs cells slots Q (F0 m (pc + 1) ls rest)) : W p l e R s m args below meth c H locs cells slots Q (F0 m pc ls (.int v :: .int x :: .ref (h 13) :: rest)) := by
  subst hi
  refine va_iast hx hb G.1 G.2.1 G.2.2.1 G.2.2.2.1 14 13 rfl rfl (vp_in_nI hl (by decide)) hdg (fun H1 locs1 hP hD hS => ?_)
  rw [nI_clamp (by omega)] at hP hD
  exact kk H1 locs1 ⟨G.1, hP, hD, hS, G.2.2.2.2⟩
theorem g0_14 (hx : p.tables.exec = Jvm.exec) (hb : c.code = cc) (hts : ∀ w ∈ lw_all, w.before args s = true) (hown : s.vm.findClass RX0 = some m.cls) (G : Wd0 D s A h0 h ca σ H locs) (hdg : decode cc pc = .ok (.getfield 53, 3)) (kk : W p l e R s m args below meth c H locs cells slots Q (F0 m (pc + 3) ls (.ref (h 14) :: rest))) : W p l e R s m args below meth c H locs cells slots Q (F0 m pc ls (.ref h0 :: rest)) :=
  va_get (D := D) (ci := 0) (v := .ref (h 14)) (C := RX0) (T := TX0) (N := 24) hx hb hts in_X0 hown G.1 G.2.1 0 rfl rfl 14 (by decide) (hts _ q45) (fun _ h9 => h9) rfl hdg kk
theorem l0_14 (i : Nat) {x : Int32} (hx : p.tables.exec = Jvm.exec) (hb : c.code = cc) (G : Wd0 D s A h0 h ca σ H locs) (hi : x = nI i) (hl : i < 8) (hdg : decode cc pc = .ok (.iaload, 1)) (kk : W p l e R s m args below meth c H locs cells slots Q (F0 m (pc + 1) ls (.int (σ.1 14 i) :: rest))) : W p l e R s m args below meth c H locs cells slots Q (F0 m pc ls (.int x :: .ref (h 14) :: rest)) := by
  subst hi
  refine va_iald hx hb G.1 G.2.1 15 14 rfl rfl (vp_in_nI hl (by decide)) hdg ?_
  rw [nI_clamp (by omega)]
  exact kk
theorem a0_14 (i : Nat) {x v : Int32} (hx : p.tables.exec = Jvm.exec) (hb : c.code = cc) (G : Wd0 D s A h0 h ca σ H locs) (hi : x = nI i) (hl : i < 8) (hdg : decode cc pc = .ok (.iastore, 1)) (kk : ∀ (H : Heap) (locs : List Loc), Wd0 D s A h0 h ca (sA σ 14 i v) H locs → W p l e R s m args below meth c H locs cells slots Q (F0 m (pc + 1) ls rest)) : W p l e R s m args below meth c H locs cells slots Q (F0 m pc ls (.int v :: .int x :: .ref (h 14) :: rest)) := by
  subst hi
  refine va_iast hx hb G.1 G.2.1 G.2.2.1 G.2.2.2.1 15 14 rfl rfl (vp_in_nI hl (by decide)) hdg (fun H1 locs1 hP hD hS => ?_)
  rw [nI_clamp (by omega)] at hP hD
  exact kk H1 locs1 ⟨G.1, hP, hD, hS, G.2.2.2.2⟩
theorem g0_15 (hx : p.tables.exec = Jvm.exec) (hb : c.code = cc) (hts : ∀ w ∈ lw_all, w.before args s = true) (hown : s.vm.findClass RX0 = some m.cls) (G : Wd0 D s A h0 h ca σ H locs) (hdg : decode cc pc = .ok (.getfield 56, 3)) (kk : W p l e R s m args below meth c H locs cells slots Q (F0 m (pc + 3) ls (.ref (h 15) :: rest))) : W p l e R s m args below meth c H locs cells slots Q (F0 m pc ls (.ref h0 :: rest)) :=
  va_get (D := D) (ci := 0) (v := .ref (h 15)) (C := RX0) (T := TX0) (N := 24) hx hb hts in_X0 hown G.1 G.2.1 0 rfl rfl 15 (by decide) (hts _ q46) (fun _ h9 => h9) rfl hdg kk
theorem l0_15 (i : Nat) {x : Int32} (hx : p.tables.exec = Jvm.exec) (hb : c.code = cc) (G : Wd0 D s A h0 h ca σ H locs) (hi : x = nI i) (hl : i < 8) (hdg : decode cc pc = .ok (.iaload, 1)) (kk : W p l e R s m args below meth c H locs cells slots Q (F0 m (pc + 1) ls (.int (σ.1 15 i) :: rest))) : W p l e R s m args below meth c H locs cells slots Q (F0 m pc ls (.int x :: .ref (h 15) :: rest)) := by
  subst hi
  refine va_iald hx hb G.1 G.2.1 16 15 rfl rfl (vp_in_nI hl (by decide)) hdg ?_
  rw [nI_clamp (by omega)]
  exact kk
theorem a0_15 (i : Nat) {x v : Int32} (hx : p.tables.exec = Jvm.exec) (hb : c.code = cc) (G : Wd0 D s A h0 h ca σ H locs) (hi : x = nI i) (hl : i < 8) (hdg : decode cc pc = .ok (.iastore, 1)) (kk : ∀ (H : Heap) (locs : List Loc), Wd0 D s A h0 h ca (sA σ 15 i v) H locs → W p l e R s m args below meth c H locs cells slots Q (F0 m (pc + 1) ls rest)) : W p l e R s m args below meth c H locs cells slots Q (F0 m pc ls (.int v :: .int x :: .ref (h 15) :: rest)) := by
  subst hi
  refine va_iast hx hb G.1 G.2.1 G.2.2.1 G.2.2.2.1 16 15 rfl rfl (vp_in_nI hl (by decide)) hdg (fun H1 locs1 hP hD hS => ?_)
  rw [nI_clamp (by omega)] at hP hD
  exact kk H1 locs1 ⟨G.1, hP, hD, hS, G.2.2.2.2⟩
theorem g0_16 (hx : p.tables.exec = Jvm.exec) (hb : c.code = cc) (hts : ∀ w ∈ lw_all, w.before args s = true) (hown : s.vm.findClass RX0 = some m.cls) (G : Wd0 D s A h0 h ca σ H locs) (hdg : decode cc pc = .ok (.getfield 59, 3)) (kk : W p l e R s m args below meth c H locs cells slots Q (F0 m (pc + 3) ls (.ref (h 16) :: rest))) : W p l e R s m args below meth c H locs cells slots Q (F0 m pc ls (.ref h0 :: rest)) :=
  va_get (D := D) (ci := 0) (v := .ref (h 16)) (C := RX0) (T := TX0) (N := 24) hx hb hts in_X0 hown G.1 G.2.1 0 rfl rfl 16 (by decide) (hts _ q47) (fun _ h9 => h9) rfl hdg kk
theorem l0_16 (i : Nat) {x : Int32} (hx : p.tables.exec = Jvm.exec) (hb : c.code = cc) (G : Wd0 D s A h0 h ca σ H locs) (hi : x = nI i) (hl : i < 8) (hdg : decode cc pc = .ok (.iaload, 1)) (kk : W p l e R s m args below meth c H locs cells slots Q (F0 m (pc + 1) ls (.int (σ.1 16 i) :: rest))) : W p l e R s m args below meth c H locs cells slots Q (F0 m pc ls (.int x :: .ref (h 16) :: rest)) := by
  subst hi
  refine va_iald hx hb G.1 G.2.1 17 16 rfl rfl (vp_in_nI hl (by decide)) hdg ?_
  rw [nI_clamp (by omega)]
  exact kk
theorem a0_16 (i : Nat) {x v : Int32} (hx : p.tables.exec = Jvm.exec) (hb : c.code = cc) (G : Wd0 D s A h0 h ca σ H locs) (hi : x = nI i) (hl : i < 8) (hdg : decode cc pc = .ok (.iastore, 1)) (kk : ∀ (H : Heap) (locs : List Loc), Wd0 D s A h0 h ca (sA σ 16 i v) H locs → W p l e R s m args below meth c H locs cells slots Q (F0 m (pc + 1) ls rest)) : W p l e R s m args below meth c H locs cells slots Q (F0 m pc ls (.int v :: .int x :: .ref (h 16) :: rest)) := by
  subst hi
  refine va_iast hx hb G.1 G.2.1 G.2.2.1 G.2.2.2.1 17 16 rfl rfl (vp_in_nI hl (by decide)) hdg (fun H1 locs1 hP hD hS => ?_)
  rw [nI_clamp (by omega)] at hP hD
  exact kk H1 locs1 ⟨G.1, hP, hD, hS, G.2.2.2.2⟩
theorem g0_17 (hx : p.tables.exec = Jvm.exec) (hb : c.code = cc) (hts : ∀ w ∈ lw_all, w.before args s = true) (hown : s.vm.findClass RX0 = some m.cls) (G : Wd0 D s A h0 h ca σ H locs) (hdg : decode cc pc = .ok (.getfield 62, 3)) (kk : W p l e R s m args below meth c H locs cells slots Q (F0 m (pc + 3) ls (.ref (h 17) :: rest))) : W p l e R s m args below meth c H locs cells slots Q (F0 m pc ls (.ref h0 :: rest)) :=
  va_get (D := D) (ci := 0) (v := .ref (h 17)) (C := RX0) (T := TX0) (N := 24) hx hb hts in_X0 hown G.1 G.2.1 0 rfl rfl 17 (by decide) (hts _ q48) (fun _ h9 => h9) rfl hdg kk
theorem l0_17 (i : Nat) {x : Int32} (hx : p.tables.exec = Jvm.exec) (hb : c.code = cc) (G : Wd0 D s A h0 h ca σ H locs) (hi : x = nI i) (hl : i < 4) (hdg : decode cc pc = .ok (.iaload, 1)) (kk : W p l e R s m args below meth c H locs cells slots Q (F0 m (pc + 1) ls (.int (σ.1 17 i) :: rest))) : W p l e R s m args below meth c H locs cells slots Q (F0 m pc ls (.int x :: .ref (h 17) :: rest)) := by
  subst hi
  refine va_iald hx hb G.1 G.2.1 18 17 rfl rfl (vp_in_nI hl (by decide)) hdg ?_
  rw [nI_clamp (by omega)]
  exact kk
theorem a0_17 (i : Nat) {x v : Int32} (hx : p.tables.exec = Jvm.exec) (hb : c.code = cc) (G : Wd0 D s A h0 h ca σ H locs) (hi : x = nI i) (hl : i < 4) (hdg : decode cc pc = .ok (.iastore, 1)) (kk : ∀ (H : Heap) (locs : List Loc), Wd0 D s A h0 h ca (sA σ 17 i v) H locs → W p l e R s m args below meth c H locs cells slots Q (F0 m (pc + 1) ls rest)) : W p l e R s m args below meth c H locs cells slots Q (F0 m pc ls (.int v :: .int x :: .ref (h 17) :: rest)) := by
  subst hi
  refine va_iast hx hb G.1 G.2.1 G.2.2.1 G.2.2.2.1 18 17 rfl rfl (vp_in_nI hl (by decide)) hdg (fun H1 locs1 hP hD hS => ?_)
  rw [nI_clamp (by omega)] at hP hD
  exact kk H1 locs1 ⟨G.1, hP, hD, hS, G.2.2.2.2⟩
theorem g0_20 (hx : p.tables.exec = Jvm.exec) (hb : c.code = cc) (hts : ∀ w ∈ lw_all, w.before args s = true) (hown : s.vm.findClass RX0 = some m.cls) (G : Wd0 D s A h0 h ca σ H locs) (hdg : decode cc pc = .ok (.getfield 65, 3)) (kk : W p l e R s m args below meth c H locs cells slots Q (F0 m (pc + 3) ls (.int (σ.2 20) :: rest))) : W p l e R s m args below meth c H locs cells slots Q (F0 m pc ls (.ref h0 :: rest)) :=
  va_get (D := D) (ci := 0) (v := .int (σ.2 20)) (C := RX0) (T := TX0) (N := 24) hx hb hts in_X0 hown G.1 G.2.1 0 rfl rfl 20 (by decide) (hts _ q51) (fun _ h9 => h9) rfl hdg kk
theorem p0_20 {v : Int32} (hx : p.tables.exec = Jvm.exec) (hb : c.code = cc) (hts : ∀ w ∈ lw_all, w.before args s = true) (hown : s.vm.findClass RX0 = some m.cls) (G : Wd0 D s A h0 h ca σ H locs) (hz : narrow .boolean (.int v) = .int v) (hf : fits .boolean (.int v) = true) (hdg : decode cc pc = .ok (.putfield 65, 3)) (kk : ∀ (H : Heap) (locs : List Loc), Wd0 D s A h0 h ca (sV σ 20 v) H locs → W p l e R s m args below meth c H locs cells slots Q (F0 m (pc + 3) ls rest)) : W p l e R s m args below meth c H locs cells slots Q (F0 m pc ls (.int v :: .ref h0 :: rest)) :=
  va_put (D := D) (ci := 0) (v := .int v) (ty := .boolean) (C := RX0) (T := TX0) (N := 24) hx hb hts in_X0 tyX0 tyX0_ok nmX0 hown G.1 G.2.1 G.2.2.1 G.2.2.2.1 0 rfl rfl 20 (by decide) (hts _ q51) (fun _ h9 => h9) rfl (by decide +kernel) hz hf (Nat.le_of_ble_eq_true rfl) hdg (fun H locs hP hD hS => kk H locs ⟨G.1, hP, hD, hS, G.2.2.2.2⟩)
theorem g0_23 (hx : p.tables.exec = Jvm.exec) (hb : c.code = cc) (hts : ∀ w ∈ lw_all, w.before args s = true) (hown : s.vm.findClass RX0 = some m.cls) (G : Wd0 D s A h0 h ca σ H locs) (hdg : decode cc pc = .ok (.getfield 96, 3)) (kk : W p l e R s m args below meth c H locs cells slots Q (F0 m (pc + 3) ls (.int (σ.2 23) :: rest))) : W p l e R s m args below meth c H locs cells slots Q (F0 m pc ls (.ref h0 :: rest)) :=
  va_get (D := D) (ci := 0) (v := .int (σ.2 23)) (C := RX0) (T := TX0) (N := 24) hx hb hts in_X0 hown G.1 G.2.1 0 rfl rfl 23 (by decide) (hts _ q54) (fun _ h9 => h9) rfl hdg kk
theorem p0_23 {v : Int32} (hx : p.tables.exec = Jvm.exec) (hb : c.code = cc) (hts : ∀ w ∈ lw_all, w.before args s = true) (hown : s.vm.findClass RX0 = some m.cls) (G : Wd0 D s A h0 h ca σ H locs) (hdg : decode cc pc = .ok (.putfield 96, 3)) (kk : ∀ (H : Heap) (locs : List Loc), Wd0 D s A h0 h ca (sV σ 23 v) H locs → W p l e R s m args below meth c H locs cells slots Q (F0 m (pc + 3) ls rest)) : W p l e R s m args below meth c H locs cells slots Q (F0 m pc ls (.int v :: .ref h0 :: rest)) :=
  va_put (D := D) (ci := 0) (v := .int v) (ty := .int) (C := RX0) (T := TX0) (N := 24) hx hb hts in_X0 tyX0 tyX0_ok nmX0 hown G.1 G.2.1 G.2.2.1 G.2.2.2.1 0 rfl rfl 23 (by decide) (hts _ q54) (fun _ h9 => h9) rfl (by decide +kernel) rfl rfl (Nat.le_of_ble_eq_true rfl) hdg (fun H locs hP hD hS => kk H locs ⟨G.1, hP, hD, hS, G.2.2.2.2⟩)
theorem g0_22 (hx : p.tables.exec = Jvm.exec) (hb : c.code = cc) (hts : ∀ w ∈ lw_all, w.before args s = true) (hown : s.vm.findClass RX0 = some m.cls) (G : Wd0 D s A h0 h ca σ H locs) (hdg : decode cc pc = .ok (.getfield 100, 3)) (kk : W p l e R s m args below meth c H locs cells slots Q (F0 m (pc + 3) ls (.int (σ.2 22) :: rest))) : W p l e R s m args below meth c H locs cells slots Q (F0 m pc ls (.ref h0 :: rest)) :=
  va_get (D := D) (ci := 0) (v := .int (σ.2 22)) (C := RX0) (T := TX0) (N := 24) hx hb hts in_X0 hown G.1 G.2.1 0 rfl rfl 22 (by decide) (hts _ q53) (fun _ h9 => h9) rfl hdg kk
theorem p0_22 {v : Int32} (hx : p.tables.exec = Jvm.exec) (hb : c.code = cc) (hts : ∀ w ∈ lw_all, w.before args s = true) (hown : s.vm.findClass RX0 = some m.cls) (G : Wd0 D s A h0 h ca σ H locs) (hdg : decode cc pc = .ok (.putfield 100, 3)) (kk : ∀ (H : Heap) (locs : List Loc), Wd0 D s A h0 h ca (sV σ 22 v) H locs → W p l e R s m args below meth c H locs cells slots Q (F0 m (pc + 3) ls rest)) : W p l e R s m args below meth c H locs cells slots Q (F0 m pc ls (.int v :: .ref h0 :: rest)) :=
  va_put (D := D) (ci := 0) (v := .int v) (ty := .int) (C := RX0) (T := TX0) (N := 24) hx hb hts in_X0 tyX0 tyX0_ok nmX0 hown G.1 G.2.1 G.2.2.1 G.2.2.2.1 0 rfl rfl 22 (by decide) (hts _ q53) (fun _ h9 => h9) rfl (by decide +kernel) rfl rfl (Nat.le_of_ble_eq_true rfl) hdg (fun H locs hP hD hS => kk H locs ⟨G.1, hP, hD, hS, G.2.2.2.2⟩)
theorem g0_19 (hx : p.tables.exec = Jvm.exec) (hb : c.code = cc) (hts : ∀ w ∈ lw_all, w.before args s = true) (hown : s.vm.findClass RX0 = some m.cls) (G : Wd0 D s A h0 h ca σ H locs) (hdg : decode cc pc = .ok (.getfield 109, 3)) (kk : W p l e R s m args below meth c H locs cells slots Q (F0 m (pc + 3) ls (.int (σ.2 19) :: rest))) : W p l e R s m args below meth c H locs cells slots Q (F0 m pc ls (.ref h0 :: rest)) :=
  va_get (D := D) (ci := 0) (v := .int (σ.2 19)) (C := RX0) (T := TX0) (N := 24) hx hb hts in_X0 hown G.1 G.2.1 0 rfl rfl 19 (by decide) (hts _ q50) (fun _ h9 => h9) rfl hdg kk
theorem p0_19 {v : Int32} (hx : p.tables.exec = Jvm.exec) (hb : c.code = cc) (hts : ∀ w ∈ lw_all, w.before args s = true) (hown : s.vm.findClass RX0 = some m.cls) (G : Wd0 D s A h0 h ca σ H locs) (hz : narrow .boolean (.int v) = .int v) (hf : fits .boolean (.int v) = true) (hdg : decode cc pc = .ok (.putfield 109, 3)) (kk : ∀ (H : Heap) (locs : List Loc), Wd0 D s A h0 h ca (sV σ 19 v) H locs → W p l e R s m args below meth c H locs cells slots Q (F0 m (pc + 3) ls rest)) : W p l e R s m args below meth c H locs cells slots Q (F0 m pc ls (.int v :: .ref h0 :: rest)) :=
  va_put (D := D) (ci := 0) (v := .int v) (ty := .boolean) (C := RX0) (T := TX0) (N := 24) hx hb hts in_X0 tyX0 tyX0_ok nmX0 hown G.1 G.2.1 G.2.2.1 G.2.2.2.1 0 rfl rfl 19 (by decide) (hts _ q50) (fun _ h9 => h9) rfl (by decide +kernel) hz hf (Nat.le_of_ble_eq_true rfl) hdg (fun H locs hP hD hS => kk H locs ⟨G.1, hP, hD, hS, G.2.2.2.2⟩)
theorem g0_18 (hx : p.tables.exec = Jvm.exec) (hb : c.code = cc) (hts : ∀ w ∈ lw_all, w.before args s = true) (hown : s.vm.findClass RX0 = some m.cls) (G : Wd0 D s A h0 h ca σ H locs) (hdg : decode cc pc = .ok (.getfield 112, 3)) (kk : W p l e R s m args below meth c H locs cells slots Q (F0 m (pc + 3) ls (.int (σ.2 18) :: rest))) : W p l e R s m args below meth c H locs cells slots Q (F0 m pc ls (.ref h0 :: rest)) :=
  va_get (D := D) (ci := 0) (v := .int (σ.2 18)) (C := RX0) (T := TX0) (N := 24) hx hb hts in_X0 hown G.1 G.2.1 0 rfl rfl 18 (by decide) (hts _ q49) (fun _ h9 => h9) rfl hdg kk
theorem p0_18 {v : Int32} (hx : p.tables.exec = Jvm.exec) (hb : c.code = cc) (hts : ∀ w ∈ lw_all, w.before args s = true) (hown : s.vm.findClass RX0 = some m.cls) (G : Wd0 D s A h0 h ca σ H locs) (hdg : decode cc pc = .ok (.putfield 112, 3)) (kk : ∀ (H : Heap) (locs : List Loc), Wd0 D s A h0 h ca (sV σ 18 v) H locs → W p l e R s m args below meth c H locs cells slots Q (F0 m (pc + 3) ls rest)) : W p l e R s m args below meth c H locs cells slots Q (F0 m pc ls (.int v :: .ref h0 :: rest)) :=
  va_put (D := D) (ci := 0) (v := .int v) (ty := .int) (C := RX0) (T := TX0) (N := 24) hx hb hts in_X0 tyX0 tyX0_ok nmX0 hown G.1 G.2.1 G.2.2.1 G.2.2.2.1 0 rfl rfl 18 (by decide) (hts _ q49) (fun _ h9 => h9) rfl (by decide +kernel) rfl rfl (Nat.le_of_ble_eq_true rfl) hdg (fun H locs hP hD hS => kk H locs ⟨G.1, hP, hD, hS, G.2.2.2.2⟩)
theorem g0_21 (hx : p.tables.exec = Jvm.exec) (hb : c.code = cc) (hts : ∀ w ∈ lw_all, w.before args s = true) (hown : s.vm.findClass RX0 = some m.cls) (G : Wd0 D s A h0 h ca σ H locs) (hdg : decode cc pc = .ok (.getfield 115, 3)) (kk : W p l e R s m args below meth c H locs cells slots Q (F0 m (pc + 3) ls (.int (σ.2 21) :: rest))) : W p l e R s m args below meth c H locs cells slots Q (F0 m pc ls (.ref h0 :: rest)) :=
  va_get (D := D) (ci := 0) (v := .int (σ.2 21)) (C := RX0) (T := TX0) (N := 24) hx hb hts in_X0 hown G.1 G.2.1 0 rfl rfl 21 (by decide) (hts _ q52) (fun _ h9 => h9) rfl hdg kk
theorem p0_21 {v : Int32} (hx : p.tables.exec = Jvm.exec) (hb : c.code = cc) (hts : ∀ w ∈ lw_all, w.before args s = true) (hown : s.vm.findClass RX0 = some m.cls) (G : Wd0 D s A h0 h ca σ H locs) (hdg : decode cc pc = .ok (.putfield 115, 3)) (kk : ∀ (H : Heap) (locs : List Loc), Wd0 D s A h0 h ca (sV σ 21 v) H locs → W p l e R s m args below meth c H locs cells slots Q (F0 m (pc + 3) ls rest)) : W p l e R s m args below meth c H locs cells slots Q (F0 m pc ls (.int v :: .ref h0 :: rest)) :=
  va_put (D := D) (ci := 0) (v := .int v) (ty := .int) (C := RX0) (T := TX0) (N := 24) hx hb hts in_X0 tyX0 tyX0_ok nmX0 hown G.1 G.2.1 G.2.2.1 G.2.2.2.1 0 rfl rfl 21 (by decide) (hts _ q52) (fun _ h9 => h9) rfl (by decide +kernel) rfl rfl (Nat.le_of_ble_eq_true rfl) hdg (fun H locs hP hD hS => kk H locs ⟨G.1, hP, hD, hS, G.2.2.2.2⟩)
/-- the contract of a method of class 0 with an int (or boolean) answer -/
def C0 (l : Launch) (y : MethodName) (cc : ByteArray) (nL : Nat) (rt : Option FieldType) (rm : Room) (av : List Value) (σ : St) (res : Int32 × St) : Prop := ∀ (D : va_G) (h0 : Nat) (h : Nat → Nat) (ca : Nat → ClassId) (sz : Nat), Met l y (ws_ y cc nL rt) rm (va_Pc (.ref h0 :: av) (fun U => U.heap.size = sz ∧ va_P D vwCl (w0 h0 h ca σ) U.heap ∧ va_K D vwCl (t0 ca) U ∧ va_D (fun _ => True) (w0 h0 h ca σ))) (va_Qi (fun (r : Int32) (u : St) => r = res.1 ∧ u = res.2) (fun (u : St) t => va_P D vwCl (w0 h0 h ca u) t.heap ∧ va_K D vwCl (t0 ca) t ∧ va_D (va_A (w0 h0 h ca σ) sz) (w0 h0 h ca u)) (va_A (w0 h0 h ca σ) sz)) 0 0 (va_A (w0 h0 h ca σ) sz)
def V0 (l : Launch) (y : MethodName) (cc : ByteArray) (nL : Nat) (rm : Room) (av : List Value) (σ : St) (res : St) : Prop := ∀ (D : va_G) (h0 : Nat) (h : Nat → Nat) (ca : Nat → ClassId) (sz : Nat), Met l y (ws_ y cc nL none) rm (va_Pc (.ref h0 :: av) (fun U => U.heap.size = sz ∧ va_P D vwCl (w0 h0 h ca σ) U.heap ∧ va_K D vwCl (t0 ca) U ∧ va_D (fun _ => True) (w0 h0 h ca σ))) (va_Qv (fun (u : St) => u = res) (fun (u : St) t => va_P D vwCl (w0 h0 h ca u) t.heap ∧ va_K D vwCl (t0 ca) t ∧ va_D (va_A (w0 h0 h ca σ) sz) (w0 h0 h ca u)) (va_A (w0 h0 h ca σ) sz)) 0 0 (va_A (w0 h0 h ca σ) sz)
def RetI0 (p : Program) (l : Launch) (e : Env) (R : Room) (s : State) (m : MethodId) (args : Array Value) (below : List Frame) (meth : Method) (c : Code) (cc : ByteArray) (Q : State → Prop) (D : va_G) (A : Nat → Prop) (h0 : Nat) (h : Nat → Nat) (ca : Nat → ClassId) (res : Int32 × St) : Prop := ∀ (H : Heap) (locs : List Loc) (ls : Array Slot) (pc : Nat) (v : Int32) (σ1 : St), Wd0 D s A h0 h ca σ1 H locs → res = (v, σ1) → decode cc pc = .ok (.ireturn, 1) → W p l e R s m args below meth c H locs 0 0 Q (F0 m pc ls [.int v])
def RetV0 (p : Program) (l : Launch) (e : Env) (R : Room) (s : State) (m : MethodId) (args : Array Value) (below : List Frame) (meth : Method) (c : Code) (cc : ByteArray) (Q : State → Prop) (D : va_G) (A : Nat → Prop) (h0 : Nat) (h : Nat → Nat) (ca : Nat → ClassId) (res : St) : Prop := ∀ (H : Heap) (locs : List Loc) (ls : Array Slot) (pc : Nat) (σ1 : St), Wd0 D s A h0 h ca σ1 H locs → res = σ1 → decode cc pc = .ok (.return_, 1) → W p l e R s m args below meth c H locs 0 0 Q (F0 m pc ls [])
theorem C0.of {l : Launch} {y : MethodName} {cc : ByteArray} {nL : Nat} {ty : FieldType} {rm : Room} {av : List Value} {σ : St} {res : Int32 × St} (hy : plainName y.cls = true) (hc : y.cls = RX0) (hn : ∀ h0 : Nat, (lg_sl (.ref h0 :: av)).length ≤ nL) (hz : narrow ty (.int res.1) = .int res.1)
    (body : ∀ (p : Program) (e : Env) (s : State) (m : MethodId) (args : Array Value) (below : List Frame) (meth : Method) (c : Code) (Q : State → Prop) (D : va_G) (A : Nat → Prop) (h0 : Nat) (h : Nat → Nat) (ca : Nat → ClassId) (ls : Array Slot), Fx p m c cc nL s args RX0 → Wd0 D s A h0 h ca σ s.heap [] → lv_has ls nL (lv_args 0 (.ref h0 :: av)) → RetI0 p l e rm s m args below meth c cc Q D A h0 h ca res → W p l e rm s m args below meth c s.heap [] 0 0 Q (F0 m 0 ls [])) : C0 l y cc nL (some ty) rm av σ res := by
  intro D h0 h ca sz
  refine Met.ofW (cc := cc) (maxL := nL) (ret := some ty) hy rfl ?_
  intro p e s m args below meth c s₁ B hml hv
  obtain ⟨rfl, hsz, hP, hK, hD0⟩ := hv
  have hx := B.exec
  have hb := B.bytes
  have hr := B.returns
  have hts := atoms_spec (ws := ws_ y cc nL (some ty)) B.pre
  have hts : ∀ w ∈ lw_all, w.before _ s = true := fun w h => hts w (List.mem_cons_of_mem _ h)
  have hown : s.vm.findClass RX0 = some m.cls := hc ▸ findClass_of_methodNamed B.named
  have hlocks := B.notSynchronized
  subst hsz
  have hD := hD0.self (sz := s.heap.size)
  have hA : ∀ q : Nat, s.heap.size ≤ q → va_A (w0 h0 h ca σ) s.heap.size q := fun q h => Or.inr h
  have hl := lv_entry (.ref h0 :: av) (n := nL) (hn h0)
  rw [lg_entry_eq]
  refine body p e s m _ below meth c _ D _ h0 h ca _ ⟨hx, hb, hml, hown, hts⟩ ⟨hK, hP, hD, va_S.rf, hA⟩ hl ?_
  intro H locs ls pc v σ1 G e hd
  exact W.zret (v := v) hx hb hr (by rw [e] at hz; exact hz) (fun t ht hW => ⟨⟨v, σ1, rfl, ⟨by rw [e], by rw [e]⟩, by rw [ht]; exact G.2.1, va_K.moved hW.alike G.1, G.2.2.1⟩, G.2.2.2.1.F ht⟩) G.2.2.2.1.2.2 hd
/-- a call of a method of this class on this very object -/
theorem call0I {nL : Nat} {y : MethodName} {cc1 : ByteArray} {nL1 n idx : Nat} {rt : Option FieldType} {rm : Room} {av st : List Value} {res : Int32 × St} (hx : p.tables.exec = Jvm.exec) (hb : c.code = cc) (hml : c.maxLocals = nL) (hts : ∀ w ∈ lw_all, w.before args s = true) (hown : s.vm.findClass RX0 = some m.cls) (hC : C0 l y cc1 nL1 rt rm av σ res) (cw : CallW R s args RX0 RX0 idx y cc1 nL1 rt (ws_ y cc1 nL1 rt) rm 0 0 n) (G : Wd0 D s A h0 h ca σ H locs) (hn : av.length = n) (hls : ls.size = nL) (hst : st = av.reverse ++ .ref h0 :: rest) (hro : (rest.map fun v => v.category).sum ≤ 8) (hdg : decode cc pc = .ok (.invokevirtual idx, 3)) (hcs : cells ≤ R.cells ∧ slots ≤ R.slots)
    (kk : ∀ (H : Heap) (locs : List Loc), Wd0 D s A h0 h ca res.2 H locs → W p l e R s m args below meth c H locs cells slots Q (F0 m (pc + 3) ls (.int res.1 :: rest))) : W p l e R s m args below meth c H locs cells slots Q (F0 m pc ls st) := by
  obtain ⟨hK, hP, hD, hS, hA⟩ := G
  have hFc : ∀ q, va_A (w0 h0 h ca σ) H.size q → A q := fun q h => by
    rcases h with ⟨k, e, h⟩ | h
    · exact hD.2 k (q, e) h
    · exact hA q (Nat.le_trans hS.1 h)
  refine va_calli (va_runV (As := av) (rest := rest) ⟨hx, hb, hml, hown, hts⟩ (hC D h0 h ca H.size) cw ⟨fun a U g mk q => by obtain ⟨q0, q1, qP, qK, qD⟩ := q; exact ⟨q0, q1, qP, va_K.moved (u := U) (U := U.calling g mk a) (Vm.Alike.refl U.vm) qK, qD⟩, va_recv hK hP (ci := 0) (q0 := 0) rfl rfl, fun U hU hW => ⟨rfl, by rw [hU], by rw [hU]; exact hP, va_K.moved hW.alike hK, hD.weaken (fun _ _ _ _ => trivial)⟩⟩ rfl hn hls hst (lv_room hro) hdg ⟨hcs.1, hcs.2⟩) hS (fun q _ h => hFc q h) hFc ?_
  intro r u t H1 locs1 ht hvm hw hB hz1 hk1 hS1
  obtain ⟨rfl, rfl⟩ := hw
  obtain ⟨hP1, hK1, hD1⟩ := hB
  rw [ht] at hP1
  exact kk H1 locs1 ⟨va_K.moved hvm.symm hK1, hP1, hD1.weaken (fun _ q _ h => hFc q.1 h), hS1, hA⟩
theorem V0.of {l : Launch} {y : MethodName} {cc : ByteArray} {nL : Nat} {rm : Room} {av : List Value} {σ : St} {res : St} (hy : plainName y.cls = true) (hc : y.cls = RX0) (hn : ∀ h0 : Nat, (lg_sl (.ref h0 :: av)).length ≤ nL) 
    (body : ∀ (p : Program) (e : Env) (s : State) (m : MethodId) (args : Array Value) (below : List Frame) (meth : Method) (c : Code) (Q : State → Prop) (D : va_G) (A : Nat → Prop) (h0 : Nat) (h : Nat → Nat) (ca : Nat → ClassId) (ls : Array Slot), Fx p m c cc nL s args RX0 → Wd0 D s A h0 h ca σ s.heap [] → lv_has ls nL (lv_args 0 (.ref h0 :: av)) → RetV0 p l e rm s m args below meth c cc Q D A h0 h ca res → W p l e rm s m args below meth c s.heap [] 0 0 Q (F0 m 0 ls [])) : V0 l y cc nL rm av σ res := by
  intro D h0 h ca sz
  refine Met.ofW (cc := cc) (maxL := nL) (ret := none) hy rfl ?_
  intro p e s m args below meth c s₁ B hml hv
  obtain ⟨rfl, hsz, hP, hK, hD0⟩ := hv
  have hx := B.exec
  have hb := B.bytes
  have hr := B.returns
  have hts := atoms_spec (ws := ws_ y cc nL none) B.pre
  have hts : ∀ w ∈ lw_all, w.before _ s = true := fun w h => hts w (List.mem_cons_of_mem _ h)
  have hown : s.vm.findClass RX0 = some m.cls := hc ▸ findClass_of_methodNamed B.named
  have hlocks := B.notSynchronized
  subst hsz
  have hD := hD0.self (sz := s.heap.size)
  have hA : ∀ q : Nat, s.heap.size ≤ q → va_A (w0 h0 h ca σ) s.heap.size q := fun q h => Or.inr h
  have hl := lv_entry (.ref h0 :: av) (n := nL) (hn h0)
  rw [lg_entry_eq]
  refine body p e s m _ below meth c _ D _ h0 h ca _ ⟨hx, hb, hml, hown, hts⟩ ⟨hK, hP, hD, va_S.rf, hA⟩ hl ?_
  intro H locs ls pc σ1 G e hd
  exact W.vret hx hb hr (fun t ht hW => ⟨⟨σ1, rfl, e.symm, by rw [ht]; exact G.2.1, va_K.moved hW.alike G.1, G.2.2.1⟩, G.2.2.2.1.F ht⟩) G.2.2.2.1.2.2 hd
/-- a call of a method of this class on this very object -/
theorem call0V {nL : Nat} {y : MethodName} {cc1 : ByteArray} {nL1 n idx : Nat} {rm : Room} {av st : List Value} {res : St} (hx : p.tables.exec = Jvm.exec) (hb : c.code = cc) (hml : c.maxLocals = nL) (hts : ∀ w ∈ lw_all, w.before args s = true) (hown : s.vm.findClass RX0 = some m.cls) (hC : V0 l y cc1 nL1 rm av σ res) (cw : CallW R s args RX0 RX0 idx y cc1 nL1 none (ws_ y cc1 nL1 none) rm 0 0 n) (G : Wd0 D s A h0 h ca σ H locs) (hn : av.length = n) (hls : ls.size = nL) (hst : st = av.reverse ++ .ref h0 :: rest) (hro : (rest.map fun v => v.category).sum ≤ 8) (hdg : decode cc pc = .ok (.invokevirtual idx, 3)) (hcs : cells ≤ R.cells ∧ slots ≤ R.slots)
    (kk : ∀ (H : Heap) (locs : List Loc), Wd0 D s A h0 h ca res H locs → W p l e R s m args below meth c H locs cells slots Q (F0 m (pc + 3) ls (rest))) : W p l e R s m args below meth c H locs cells slots Q (F0 m pc ls st) := by
  obtain ⟨hK, hP, hD, hS, hA⟩ := G
  have hFc : ∀ q, va_A (w0 h0 h ca σ) H.size q → A q := fun q h => by
    rcases h with ⟨k, e, h⟩ | h
    · exact hD.2 k (q, e) h
    · exact hA q (Nat.le_trans hS.1 h)
  refine va_callv (va_runV (As := av) (rest := rest) ⟨hx, hb, hml, hown, hts⟩ (hC D h0 h ca H.size) cw ⟨fun a U g mk q => by obtain ⟨q0, q1, qP, qK, qD⟩ := q; exact ⟨q0, q1, qP, va_K.moved (u := U) (U := U.calling g mk a) (Vm.Alike.refl U.vm) qK, qD⟩, va_recv hK hP (ci := 0) (q0 := 0) rfl rfl, fun U hU hW => ⟨rfl, by rw [hU], by rw [hU]; exact hP, va_K.moved hW.alike hK, hD.weaken (fun _ _ _ _ => trivial)⟩⟩ rfl hn hls hst (lv_room hro) hdg ⟨hcs.1, hcs.2⟩) hS (fun q _ h => hFc q h) hFc ?_
  intro u t H1 locs1 ht hvm hw hB hz1 hk1 hS1
  subst hw
  obtain ⟨hP1, hK1, hD1⟩ := hB
  rw [ht] at hP1
  exact kk H1 locs1 ⟨va_K.moved hvm.symm hK1, hP1, hD1.weaken (fun _ q _ h => hFc q.1 h), hS1, hA⟩
end R0
section R1
variable {p : Program} {l : Launch} {e : Env} {R : Room} {s : State} {m : MethodId} {args : Array Value} {below : List Frame} {meth : Method} {c : Code} {H : Heap} {locs : List Loc} {cells slots : Nat} {Q : State → Prop}
variable {cc : ByteArray} {pc : Nat} {ls : Array Slot} {rest : List Value} {D : va_G} {A : Nat → Prop} {h0 : Nat} {h : Nat → Nat} {ca : Nat → ClassId} {σ : St}
theorem g1_0 (hx : p.tables.exec = Jvm.exec) (hb : c.code = cc) (hts : ∀ w ∈ lw_all, w.before args s = true) (hown : s.vm.findClass RX1 = some m.cls) (G : Wd1 D s A h0 h ca σ H locs) (hdg : decode cc pc = .ok (.getfield 7, 3)) (kk : W p l e R s m args below meth c H locs cells slots Q (F0 m (pc + 3) ls (.ref (h 0) :: rest))) : W p l e R s m args below meth c H locs cells slots Q (F0 m pc ls (.ref h0 :: rest)) :=
  va_get (D := D) (ci := 1) (v := .ref (h 0)) (C := RX1) (T := TX1) (N := 17) hx hb hts in_X1 hown G.1 G.2.1 0 rfl rfl 0 (by decide) (hts _ q245) (fun _ h9 => h9) rfl hdg kk
theorem l1_0 (i : Nat) {x : Int32} (hx : p.tables.exec = Jvm.exec) (hb : c.code = cc) (G : Wd1 D s A h0 h ca σ H locs) (hi : x = nI i) (hl : i < 40) (hdg : decode cc pc = .ok (.iaload, 1)) (kk : W p l e R s m args below meth c H locs cells slots Q (F0 m (pc + 1) ls (.int (σ.1 0 i) :: rest))) : W p l e R s m args below meth c H locs cells slots Q (F0 m pc ls (.int x :: .ref (h 0) :: rest)) := by
  subst hi
  refine va_iald hx hb G.1 G.2.1 1 0 rfl rfl (vp_in_nI hl (by decide)) hdg ?_
  rw [nI_clamp (by omega)]
  exact kk
theorem a1_0 (i : Nat) {x v : Int32} (hx : p.tables.exec = Jvm.exec) (hb : c.code = cc) (G : Wd1 D s A h0 h ca σ H locs) (hi : x = nI i) (hl : i < 40) (hdg : decode cc pc = .ok (.iastore, 1)) (kk : ∀ (H : Heap) (locs : List Loc), Wd1 D s A h0 h ca (sA σ 0 i v) H locs → W p l e R s m args below meth c H locs cells slots Q (F0 m (pc + 1) ls rest)) : W p l e R s m args below meth c H locs cells slots Q (F0 m pc ls (.int v :: .int x :: .ref (h 0) :: rest)) := by
  subst hi
  refine va_iast hx hb G.1 G.2.1 G.2.2.1 G.2.2.2.1 1 0 rfl rfl (vp_in_nI hl (by decide)) hdg (fun H1 locs1 hP hD hS => ?_)
  rw [nI_clamp (by omega)] at hP hD
  exact kk H1 locs1 ⟨G.1, hP, hD, hS, G.2.2.2.2⟩
theorem g1_1 (hx : p.tables.exec = Jvm.exec) (hb : c.code = cc) (hts : ∀ w ∈ lw_all, w.before args s = true) (hown : s.vm.findClass RX1 = some m.cls) (G : Wd1 D s A h0 h ca σ H locs) (hdg : decode cc pc = .ok (.getfield 13, 3)) (kk : W p l e R s m args below meth c H locs cells slots Q (F0 m (pc + 3) ls (.ref (h 1) :: rest))) : W p l e R s m args below meth c H locs cells slots Q (F0 m pc ls (.ref h0 :: rest)) :=
  va_get (D := D) (ci := 1) (v := .ref (h 1)) (C := RX1) (T := TX1) (N := 17) hx hb hts in_X1 hown G.1 G.2.1 0 rfl rfl 1 (by decide) (hts _ q246) (fun _ h9 => h9) rfl hdg kk
theorem l1_1 (i : Nat) {x : Int32} (hx : p.tables.exec = Jvm.exec) (hb : c.code = cc) (G : Wd1 D s A h0 h ca σ H locs) (hi : x = nI i) (hl : i < 40) (hdg : decode cc pc = .ok (.iaload, 1)) (kk : W p l e R s m args below meth c H locs cells slots Q (F0 m (pc + 1) ls (.int (σ.1 1 i) :: rest))) : W p l e R s m args below meth c H locs cells slots Q (F0 m pc ls (.int x :: .ref (h 1) :: rest)) := by
  subst hi
  refine va_iald hx hb G.1 G.2.1 2 1 rfl rfl (vp_in_nI hl (by decide)) hdg ?_
  rw [nI_clamp (by omega)]
  exact kk
theorem a1_1 (i : Nat) {x v : Int32} (hx : p.tables.exec = Jvm.exec) (hb : c.code = cc) (G : Wd1 D s A h0 h ca σ H locs) (hi : x = nI i) (hl : i < 40) (hdg : decode cc pc = .ok (.iastore, 1)) (kk : ∀ (H : Heap) (locs : List Loc), Wd1 D s A h0 h ca (sA σ 1 i v) H locs → W p l e R s m args below meth c H locs cells slots Q (F0 m (pc + 1) ls rest)) : W p l e R s m args below meth c H locs cells slots Q (F0 m pc ls (.int v :: .int x :: .ref (h 1) :: rest)) := by
  subst hi
  refine va_iast hx hb G.1 G.2.1 G.2.2.1 G.2.2.2.1 2 1 rfl rfl (vp_in_nI hl (by decide)) hdg (fun H1 locs1 hP hD hS => ?_)
  rw [nI_clamp (by omega)] at hP hD
  exact kk H1 locs1 ⟨G.1, hP, hD, hS, G.2.2.2.2⟩
theorem g1_2 (hx : p.tables.exec = Jvm.exec) (hb : c.code = cc) (hts : ∀ w ∈ lw_all, w.before args s = true) (hown : s.vm.findClass RX1 = some m.cls) (G : Wd1 D s A h0 h ca σ H locs) (hdg : decode cc pc = .ok (.getfield 16, 3)) (kk : W p l e R s m args below meth c H locs cells slots Q (F0 m (pc + 3) ls (.ref (h 2) :: rest))) : W p l e R s m args below meth c H locs cells slots Q (F0 m pc ls (.ref h0 :: rest)) :=
  va_get (D := D) (ci := 1) (v := .ref (h 2)) (C := RX1) (T := TX1) (N := 17) hx hb hts in_X1 hown G.1 G.2.1 0 rfl rfl 2 (by decide) (hts _ q247) (fun _ h9 => h9) rfl hdg kk
theorem l1_2 (i : Nat) {x : Int32} (hx : p.tables.exec = Jvm.exec) (hb : c.code = cc) (G : Wd1 D s A h0 h ca σ H locs) (hi : x = nI i) (hl : i < 8) (hdg : decode cc pc = .ok (.baload, 1)) (kk : W p l e R s m args below meth c H locs cells slots Q (F0 m (pc + 1) ls (.int (σ.1 2 i) :: rest))) : W p l e R s m args below meth c H locs cells slots Q (F0 m pc ls (.int x :: .ref (h 2) :: rest)) := by
  subst hi
  refine va_zald hx hb G.1 G.2.1 3 2 rfl rfl (vp_in_nI hl (by decide)) hdg ?_
  rw [nI_clamp (by omega)]
  exact kk
theorem a1_2 (i : Nat) {x v : Int32} (hx : p.tables.exec = Jvm.exec) (hb : c.code = cc) (G : Wd1 D s A h0 h ca σ H locs) (hi : x = nI i) (hl : i < 8) (hz : vp_nar .boolean v = v) (hdg : decode cc pc = .ok (.bastore, 1)) (kk : ∀ (H : Heap) (locs : List Loc), Wd1 D s A h0 h ca (sA σ 2 i v) H locs → W p l e R s m args below meth c H locs cells slots Q (F0 m (pc + 1) ls rest)) : W p l e R s m args below meth c H locs cells slots Q (F0 m pc ls (.int v :: .int x :: .ref (h 2) :: rest)) := by
  subst hi
  refine va_zast hx hb G.1 G.2.1 G.2.2.1 G.2.2.2.1 3 2 rfl rfl (vp_in_nI hl (by decide)) hdg (fun H1 locs1 hP hD hS => ?_)
  rw [nI_clamp (by omega), hz] at hP hD
  exact kk H1 locs1 ⟨G.1, hP, hD, hS, G.2.2.2.2⟩
theorem g1_3 (hx : p.tables.exec = Jvm.exec) (hb : c.code = cc) (hts : ∀ w ∈ lw_all, w.before args s = true) (hown : s.vm.findClass RX1 = some m.cls) (G : Wd1 D s A h0 h ca σ H locs) (hdg : decode cc pc = .ok (.getfield 20, 3)) (kk : W p l e R s m args below meth c H locs cells slots Q (F0 m (pc + 3) ls (.ref (h 3) :: rest))) : W p l e R s m args below meth c H locs cells slots Q (F0 m pc ls (.ref h0 :: rest)) :=
  va_get (D := D) (ci := 1) (v := .ref (h 3)) (C := RX1) (T := TX1) (N := 17) hx hb hts in_X1 hown G.1 G.2.1 0 rfl rfl 3 (by decide) (hts _ q248) (fun _ h9 => h9) rfl hdg kk
theorem l1_3 (i : Nat) {x : Int32} (hx : p.tables.exec = Jvm.exec) (hb : c.code = cc) (G : Wd1 D s A h0 h ca σ H locs) (hi : x = nI i) (hl : i < 8) (hdg : decode cc pc = .ok (.iaload, 1)) (kk : W p l e R s m args below meth c H locs cells slots Q (F0 m (pc + 1) ls (.int (σ.1 3 i) :: rest))) : W p l e R s m args below meth c H locs cells slots Q (F0 m pc ls (.int x :: .ref (h 3) :: rest)) := by
  subst hi
  refine va_iald hx hb G.1 G.2.1 4 3 rfl rfl (vp_in_nI hl (by decide)) hdg ?_
  rw [nI_clamp (by omega)]
  exact kk
theorem a1_3 (i : Nat) {x v : Int32} (hx : p.tables.exec = Jvm.exec) (hb : c.code = cc) (G : Wd1 D s A h0 h ca σ H locs) (hi : x = nI i) (hl : i < 8) (hdg : decode cc pc = .ok (.iastore, 1)) (kk : ∀ (H : Heap) (locs : List Loc), Wd1 D s A h0 h ca (sA σ 3 i v) H locs → W p l e R s m args below meth c H locs cells slots Q (F0 m (pc + 1) ls rest)) : W p l e R s m args below meth c H locs cells slots Q (F0 m pc ls (.int v :: .int x :: .ref (h 3) :: rest)) := by
  subst hi
  refine va_iast hx hb G.1 G.2.1 G.2.2.1 G.2.2.2.1 4 3 rfl rfl (vp_in_nI hl (by decide)) hdg (fun H1 locs1 hP hD hS => ?_)
  rw [nI_clamp (by omega)] at hP hD
  exact kk H1 locs1 ⟨G.1, hP, hD, hS, G.2.2.2.2⟩
theorem g1_4 (hx : p.tables.exec = Jvm.exec) (hb : c.code = cc) (hts : ∀ w ∈ lw_all, w.before args s = true) (hown : s.vm.findClass RX1 = some m.cls) (G : Wd1 D s A h0 h ca σ H locs) (hdg : decode cc pc = .ok (.getfield 23, 3)) (kk : W p l e R s m args below meth c H locs cells slots Q (F0 m (pc + 3) ls (.ref (h 4) :: rest))) : W p l e R s m args below meth c H locs cells slots Q (F0 m pc ls (.ref h0 :: rest)) :=
  va_get (D := D) (ci := 1) (v := .ref (h 4)) (C := RX1) (T := TX1) (N := 17) hx hb hts in_X1 hown G.1 G.2.1 0 rfl rfl 4 (by decide) (hts _ q249) (fun _ h9 => h9) rfl hdg kk
theorem l1_4 (i : Nat) {x : Int32} (hx : p.tables.exec = Jvm.exec) (hb : c.code = cc) (G : Wd1 D s A h0 h ca σ H locs) (hi : x = nI i) (hl : i < 8) (hdg : decode cc pc = .ok (.iaload, 1)) (kk : W p l e R s m args below meth c H locs cells slots Q (F0 m (pc + 1) ls (.int (σ.1 4 i) :: rest))) : W p l e R s m args below meth c H locs cells slots Q (F0 m pc ls (.int x :: .ref (h 4) :: rest)) := by
  subst hi
  refine va_iald hx hb G.1 G.2.1 5 4 rfl rfl (vp_in_nI hl (by decide)) hdg ?_
  rw [nI_clamp (by omega)]
  exact kk
theorem a1_4 (i : Nat) {x v : Int32} (hx : p.tables.exec = Jvm.exec) (hb : c.code = cc) (G : Wd1 D s A h0 h ca σ H locs) (hi : x = nI i) (hl : i < 8) (hdg : decode cc pc = .ok (.iastore, 1)) (kk : ∀ (H : Heap) (locs : List Loc), Wd1 D s A h0 h ca (sA σ 4 i v) H locs → W p l e R s m args below meth c H locs cells slots Q (F0 m (pc + 1) ls rest)) : W p l e R s m args below meth c H locs cells slots Q (F0 m pc ls (.int v :: .int x :: .ref (h 4) :: rest)) := by
  subst hi
  refine va_iast hx hb G.1 G.2.1 G.2.2.1 G.2.2.2.1 5 4 rfl rfl (vp_in_nI hl (by decide)) hdg (fun H1 locs1 hP hD hS => ?_)
  rw [nI_clamp (by omega)] at hP hD
  exact kk H1 locs1 ⟨G.1, hP, hD, hS, G.2.2.2.2⟩
theorem g1_5 (hx : p.tables.exec = Jvm.exec) (hb : c.code = cc) (hts : ∀ w ∈ lw_all, w.before args s = true) (hown : s.vm.findClass RX1 = some m.cls) (G : Wd1 D s A h0 h ca σ H locs) (hdg : decode cc pc = .ok (.getfield 26, 3)) (kk : W p l e R s m args below meth c H locs cells slots Q (F0 m (pc + 3) ls (.ref (h 5) :: rest))) : W p l e R s m args below meth c H locs cells slots Q (F0 m pc ls (.ref h0 :: rest)) :=
  va_get (D := D) (ci := 1) (v := .ref (h 5)) (C := RX1) (T := TX1) (N := 17) hx hb hts in_X1 hown G.1 G.2.1 0 rfl rfl 5 (by decide) (hts _ q250) (fun _ h9 => h9) rfl hdg kk
theorem l1_5 (i : Nat) {x : Int32} (hx : p.tables.exec = Jvm.exec) (hb : c.code = cc) (G : Wd1 D s A h0 h ca σ H locs) (hi : x = nI i) (hl : i < 8) (hdg : decode cc pc = .ok (.iaload, 1)) (kk : W p l e R s m args below meth c H locs cells slots Q (F0 m (pc + 1) ls (.int (σ.1 5 i) :: rest))) : W p l e R s m args below meth c H locs cells slots Q (F0 m pc ls (.int x :: .ref (h 5) :: rest)) := by
  subst hi
  refine va_iald hx hb G.1 G.2.1 6 5 rfl rfl (vp_in_nI hl (by decide)) hdg ?_
  rw [nI_clamp (by omega)]
  exact kk
theorem a1_5 (i : Nat) {x v : Int32} (hx : p.tables.exec = Jvm.exec) (hb : c.code = cc) (G : Wd1 D s A h0 h ca σ H locs) (hi : x = nI i) (hl : i < 8) (hdg : decode cc pc = .ok (.iastore, 1)) (kk : ∀ (H : Heap) (locs : List Loc), Wd1 D s A h0 h ca (sA σ 5 i v) H locs → W p l e R s m args below meth c H locs cells slots Q (F0 m (pc + 1) ls rest)) : W p l e R s m args below meth c H locs cells slots Q (F0 m pc ls (.int v :: .int x :: .ref (h 5) :: rest)) := by
  subst hi
  refine va_iast hx hb G.1 G.2.1 G.2.2.1 G.2.2.2.1 6 5 rfl rfl (vp_in_nI hl (by decide)) hdg (fun H1 locs1 hP hD hS => ?_)
  rw [nI_clamp (by omega)] at hP hD
  exact kk H1 locs1 ⟨G.1, hP, hD, hS, G.2.2.2.2⟩
theorem g1_6 (hx : p.tables.exec = Jvm.exec) (hb : c.code = cc) (hts : ∀ w ∈ lw_all, w.before args s = true) (hown : s.vm.findClass RX1 = some m.cls) (G : Wd1 D s A h0 h ca σ H locs) (hdg : decode cc pc = .ok (.getfield 29, 3)) (kk : W p l e R s m args below meth c H locs cells slots Q (F0 m (pc + 3) ls (.ref (h 6) :: rest))) : W p l e R s m args below meth c H locs cells slots Q (F0 m pc ls (.ref h0 :: rest)) :=
  va_get (D := D) (ci := 1) (v := .ref (h 6)) (C := RX1) (T := TX1) (N := 17) hx hb hts in_X1 hown G.1 G.2.1 0 rfl rfl 6 (by decide) (hts _ q251) (fun _ h9 => h9) rfl hdg kk
theorem l1_6 (i : Nat) {x : Int32} (hx : p.tables.exec = Jvm.exec) (hb : c.code = cc) (G : Wd1 D s A h0 h ca σ H locs) (hi : x = nI i) (hl : i < 8) (hdg : decode cc pc = .ok (.baload, 1)) (kk : W p l e R s m args below meth c H locs cells slots Q (F0 m (pc + 1) ls (.int (σ.1 6 i) :: rest))) : W p l e R s m args below meth c H locs cells slots Q (F0 m pc ls (.int x :: .ref (h 6) :: rest)) := by
  subst hi
  refine va_zald hx hb G.1 G.2.1 7 6 rfl rfl (vp_in_nI hl (by decide)) hdg ?_
  rw [nI_clamp (by omega)]
  exact kk
theorem a1_6 (i : Nat) {x v : Int32} (hx : p.tables.exec = Jvm.exec) (hb : c.code = cc) (G : Wd1 D s A h0 h ca σ H locs) (hi : x = nI i) (hl : i < 8) (hz : vp_nar .boolean v = v) (hdg : decode cc pc = .ok (.bastore, 1)) (kk : ∀ (H : Heap) (locs : List Loc), Wd1 D s A h0 h ca (sA σ 6 i v) H locs → W p l e R s m args below meth c H locs cells slots Q (F0 m (pc + 1) ls rest)) : W p l e R s m args below meth c H locs cells slots Q (F0 m pc ls (.int v :: .int x :: .ref (h 6) :: rest)) := by
  subst hi
  refine va_zast hx hb G.1 G.2.1 G.2.2.1 G.2.2.2.1 7 6 rfl rfl (vp_in_nI hl (by decide)) hdg (fun H1 locs1 hP hD hS => ?_)
  rw [nI_clamp (by omega), hz] at hP hD
  exact kk H1 locs1 ⟨G.1, hP, hD, hS, G.2.2.2.2⟩
theorem g1_7 (hx : p.tables.exec = Jvm.exec) (hb : c.code = cc) (hts : ∀ w ∈ lw_all, w.before args s = true) (hown : s.vm.findClass RX1 = some m.cls) (G : Wd1 D s A h0 h ca σ H locs) (hdg : decode cc pc = .ok (.getfield 32, 3)) (kk : W p l e R s m args below meth c H locs cells slots Q (F0 m (pc + 3) ls (.ref (h 7) :: rest))) : W p l e R s m args below meth c H locs cells slots Q (F0 m pc ls (.ref h0 :: rest)) :=
  va_get (D := D) (ci := 1) (v := .ref (h 7)) (C := RX1) (T := TX1) (N := 17) hx hb hts in_X1 hown G.1 G.2.1 0 rfl rfl 7 (by decide) (hts _ q252) (fun _ h9 => h9) rfl hdg kk
theorem l1_7 (i : Nat) {x : Int32} (hx : p.tables.exec = Jvm.exec) (hb : c.code = cc) (G : Wd1 D s A h0 h ca σ H locs) (hi : x = nI i) (hl : i < 8) (hdg : decode cc pc = .ok (.iaload, 1)) (kk : W p l e R s m args below meth c H locs cells slots Q (F0 m (pc + 1) ls (.int (σ.1 7 i) :: rest))) : W p l e R s m args below meth c H locs cells slots Q (F0 m pc ls (.int x :: .ref (h 7) :: rest)) := by
  subst hi
  refine va_iald hx hb G.1 G.2.1 8 7 rfl rfl (vp_in_nI hl (by decide)) hdg ?_
  rw [nI_clamp (by omega)]
  exact kk
theorem a1_7 (i : Nat) {x v : Int32} (hx : p.tables.exec = Jvm.exec) (hb : c.code = cc) (G : Wd1 D s A h0 h ca σ H locs) (hi : x = nI i) (hl : i < 8) (hdg : decode cc pc = .ok (.iastore, 1)) (kk : ∀ (H : Heap) (locs : List Loc), Wd1 D s A h0 h ca (sA σ 7 i v) H locs → W p l e R s m args below meth c H locs cells slots Q (F0 m (pc + 1) ls rest)) : W p l e R s m args below meth c H locs cells slots Q (F0 m pc ls (.int v :: .int x :: .ref (h 7) :: rest)) := by
  subst hi
  refine va_iast hx hb G.1 G.2.1 G.2.2.1 G.2.2.2.1 8 7 rfl rfl (vp_in_nI hl (by decide)) hdg (fun H1 locs1 hP hD hS => ?_)
  rw [nI_clamp (by omega)] at hP hD
  exact kk H1 locs1 ⟨G.1, hP, hD, hS, G.2.2.2.2⟩
theorem g1_8 (hx : p.tables.exec = Jvm.exec) (hb : c.code = cc) (hts : ∀ w ∈ lw_all, w.before args s = true) (hown : s.vm.findClass RX1 = some m.cls) (G : Wd1 D s A h0 h ca σ H locs) (hdg : decode cc pc = .ok (.getfield 35, 3)) (kk : W p l e R s m args below meth c H locs cells slots Q (F0 m (pc + 3) ls (.ref (h 8) :: rest))) : W p l e R s m args below meth c H locs cells slots Q (F0 m pc ls (.ref h0 :: rest)) :=
  va_get (D := D) (ci := 1) (v := .ref (h 8)) (C := RX1) (T := TX1) (N := 17) hx hb hts in_X1 hown G.1 G.2.1 0 rfl rfl 8 (by decide) (hts _ q253) (fun _ h9 => h9) rfl hdg kk
theorem l1_8 (i : Nat) {x : Int32} (hx : p.tables.exec = Jvm.exec) (hb : c.code = cc) (G : Wd1 D s A h0 h ca σ H locs) (hi : x = nI i) (hl : i < 8) (hdg : decode cc pc = .ok (.iaload, 1)) (kk : W p l e R s m args below meth c H locs cells slots Q (F0 m (pc + 1) ls (.int (σ.1 8 i) :: rest))) : W p l e R s m args below meth c H locs cells slots Q (F0 m pc ls (.int x :: .ref (h 8) :: rest)) := by
  subst hi
  refine va_iald hx hb G.1 G.2.1 9 8 rfl rfl (vp_in_nI hl (by decide)) hdg ?_
  rw [nI_clamp (by omega)]
  exact kk
theorem a1_8 (i : Nat) {x v : Int32} (hx : p.tables.exec = Jvm.exec) (hb : c.code = cc) (G : Wd1 D s A h0 h ca σ H locs) (hi : x = nI i) (hl : i < 8) (hdg : decode cc pc = .ok (.iastore, 1)) (kk : ∀ (H : Heap) (locs : List Loc), Wd1 D s A h0 h ca (sA σ 8 i v) H locs → W p l e R s m args below meth c H locs cells slots Q (F0 m (pc + 1) ls rest)) : W p l e R s m args below meth c H locs cells slots Q (F0 m pc ls (.int v :: .int x :: .ref (h 8) :: rest)) := by
  subst hi
  refine va_iast hx hb G.1 G.2.1 G.2.2.1 G.2.2.2.1 9 8 rfl rfl (vp_in_nI hl (by decide)) hdg (fun H1 locs1 hP hD hS => ?_)
  rw [nI_clamp (by omega)] at hP hD
  exact kk H1 locs1 ⟨G.1, hP, hD, hS, G.2.2.2.2⟩
theorem g1_12 (hx : p.tables.exec = Jvm.exec) (hb : c.code = cc) (hts : ∀ w ∈ lw_all, w.before args s = true) (hown : s.vm.findClass RX1 = some m.cls) (G : Wd1 D s A h0 h ca σ H locs) (hdg : decode cc pc = .ok (.getfield 38, 3)) (kk : W p l e R s m args below meth c H locs cells slots Q (F0 m (pc + 3) ls (.ref (h 12) :: rest))) : W p l e R s m args below meth c H locs cells slots Q (F0 m pc ls (.ref h0 :: rest)) :=
  va_get (D := D) (ci := 1) (v := .ref (h 12)) (C := RX1) (T := TX1) (N := 17) hx hb hts in_X1 hown G.1 G.2.1 0 rfl rfl 12 (by decide) (hts _ q257) (fun _ h9 => h9) rfl hdg kk
theorem l1_12 (i : Nat) {x : Int32} (hx : p.tables.exec = Jvm.exec) (hb : c.code = cc) (G : Wd1 D s A h0 h ca σ H locs) (hi : x = nI i) (hl : i < 8) (hdg : decode cc pc = .ok (.iaload, 1)) (kk : W p l e R s m args below meth c H locs cells slots Q (F0 m (pc + 1) ls (.int (σ.1 12 i) :: rest))) : W p l e R s m args below meth c H locs cells slots Q (F0 m pc ls (.int x :: .ref (h 12) :: rest)) := by
  subst hi
  refine va_iald hx hb G.1 G.2.1 10 9 rfl rfl (vp_in_nI hl (by decide)) hdg ?_
  rw [nI_clamp (by omega)]
  exact kk
theorem a1_12 (i : Nat) {x v : Int32} (hx : p.tables.exec = Jvm.exec) (hb : c.code = cc) (G : Wd1 D s A h0 h ca σ H locs) (hi : x = nI i) (hl : i < 8) (hdg : decode cc pc = .ok (.iastore, 1)) (kk : ∀ (H : Heap) (locs : List Loc), Wd1 D s A h0 h ca (sA σ 12 i v) H locs → W p l e R s m args below meth c H locs cells slots Q (F0 m (pc + 1) ls rest)) : W p l e R s m args below meth c H locs cells slots Q (F0 m pc ls (.int v :: .int x :: .ref (h 12) :: rest)) := by
  subst hi
  refine va_iast hx hb G.1 G.2.1 G.2.2.1 G.2.2.2.1 10 9 rfl rfl (vp_in_nI hl (by decide)) hdg (fun H1 locs1 hP hD hS => ?_)
  rw [nI_clamp (by omega)] at hP hD
  exact kk H1 locs1 ⟨G.1, hP, hD, hS, G.2.2.2.2⟩
theorem g1_13 (hx : p.tables.exec = Jvm.exec) (hb : c.code = cc) (hts : ∀ w ∈ lw_all, w.before args s = true) (hown : s.vm.findClass RX1 = some m.cls) (G : Wd1 D s A h0 h ca σ H locs) (hdg : decode cc pc = .ok (.getfield 41, 3)) (kk : W p l e R s m args below meth c H locs cells slots Q (F0 m (pc + 3) ls (.ref (h 13) :: rest))) : W p l e R s m args below meth c H locs cells slots Q (F0 m pc ls (.ref h0 :: rest)) :=
  va_get (D := D) (ci := 1) (v := .ref (h 13)) (C := RX1) (T := TX1) (N := 17) hx hb hts in_X1 hown G.1 G.2.1 0 rfl rfl 13 (by decide) (hts _ q258) (fun _ h9 => h9) rfl hdg kk
theorem l1_13 (i : Nat) {x : Int32} (hx : p.tables.exec = Jvm.exec) (hb : c.code = cc) (G : Wd1 D s A h0 h ca σ H locs) (hi : x = nI i) (hl : i < 8) (hdg : decode cc pc = .ok (.iaload, 1)) (kk : W p l e R s m args below meth c H locs cells slots Q (F0 m (pc + 1) ls (.int (σ.1 13 i) :: rest))) : W p l e R s m args below meth c H locs cells slots Q (F0 m pc ls (.int x :: .ref (h 13) :: rest)) := by
  subst hi
  refine va_iald hx hb G.1 G.2.1 11 10 rfl rfl (vp_in_nI hl (by decide)) hdg ?_
  rw [nI_clamp (by omega)]
  exact kk
theorem a1_13 (i : Nat) {x v : Int32} (hx : p.tables.exec = Jvm.exec) (hb : c.code = cc) (G : Wd1 D s A h0 h ca σ H locs) (hi : x = nI i) (hl : i < 8) (hdg : decode cc pc = .ok (.iastore, 1)) (kk : ∀ (H : Heap) (locs : List Loc), Wd1 D s A h0 h ca (sA σ 13 i v) H locs → W p l e R s m args below meth c H locs cells slots Q (F0 m (pc + 1) ls rest)) : W p l e R s m args below meth c H locs cells slots Q (F0 m pc ls (.int v :: .int x :: .ref (h 13) :: rest)) := by
  subst hi
  refine va_iast hx hb G.1 G.2.1 G.2.2.1 G.2.2.2.1 11 10 rfl rfl (vp_in_nI hl (by decide)) hdg (fun H1 locs1 hP hD hS => ?_)
  rw [nI_clamp (by omega)] at hP hD
  exact kk H1 locs1 ⟨G.1, hP, hD, hS, G.2.2.2.2⟩
theorem g1_14 (hx : p.tables.exec = Jvm.exec) (hb : c.code = cc) (hts : ∀ w ∈ lw_all, w.before args s = true) (hown : s.vm.findClass RX1 = some m.cls) (G : Wd1 D s A h0 h ca σ H locs) (hdg : decode cc pc = .ok (.getfield 44, 3)) (kk : W p l e R s m args below meth c H locs cells slots Q (F0 m (pc + 3) ls (.ref (h 14) :: rest))) : W p l e R s m args below meth c H locs cells slots Q (F0 m pc ls (.ref h0 :: rest)) :=
  va_get (D := D) (ci := 1) (v := .ref (h 14)) (C := RX1) (T := TX1) (N := 17) hx hb hts in_X1 hown G.1 G.2.1 0 rfl rfl 14 (by decide) (hts _ q259) (fun _ h9 => h9) rfl hdg kk
theorem l1_14 (i : Nat) {x : Int32} (hx : p.tables.exec = Jvm.exec) (hb : c.code = cc) (G : Wd1 D s A h0 h ca σ H locs) (hi : x = nI i) (hl : i < 8) (hdg : decode cc pc = .ok (.iaload, 1)) (kk : W p l e R s m args below meth c H locs cells slots Q (F0 m (pc + 1) ls (.int (σ.1 14 i) :: rest))) : W p l e R s m args below meth c H locs cells slots Q (F0 m pc ls (.int x :: .ref (h 14) :: rest)) := by
  subst hi
  refine va_iald hx hb G.1 G.2.1 12 11 rfl rfl (vp_in_nI hl (by decide)) hdg ?_
  rw [nI_clamp (by omega)]
  exact kk
theorem a1_14 (i : Nat) {x v : Int32} (hx : p.tables.exec = Jvm.exec) (hb : c.code = cc) (G : Wd1 D s A h0 h ca σ H locs) (hi : x = nI i) (hl : i < 8) (hdg : decode cc pc = .ok (.iastore, 1)) (kk : ∀ (H : Heap) (locs : List Loc), Wd1 D s A h0 h ca (sA σ 14 i v) H locs → W p l e R s m args below meth c H locs cells slots Q (F0 m (pc + 1) ls rest)) : W p l e R s m args below meth c H locs cells slots Q (F0 m pc ls (.int v :: .int x :: .ref (h 14) :: rest)) := by
  subst hi
  refine va_iast hx hb G.1 G.2.1 G.2.2.1 G.2.2.2.1 12 11 rfl rfl (vp_in_nI hl (by decide)) hdg (fun H1 locs1 hP hD hS => ?_)
  rw [nI_clamp (by omega)] at hP hD
  exact kk H1 locs1 ⟨G.1, hP, hD, hS, G.2.2.2.2⟩
theorem g1_15 (hx : p.tables.exec = Jvm.exec) (hb : c.code = cc) (hts : ∀ w ∈ lw_all, w.before args s = true) (hown : s.vm.findClass RX1 = some m.cls) (G : Wd1 D s A h0 h ca σ H locs) (hdg : decode cc pc = .ok (.getfield 47, 3)) (kk : W p l e R s m args below meth c H locs cells slots Q (F0 m (pc + 3) ls (.ref (h 15) :: rest))) : W p l e R s m args below meth c H locs cells slots Q (F0 m pc ls (.ref h0 :: rest)) :=
  va_get (D := D) (ci := 1) (v := .ref (h 15)) (C := RX1) (T := TX1) (N := 17) hx hb hts in_X1 hown G.1 G.2.1 0 rfl rfl 15 (by decide) (hts _ q260) (fun _ h9 => h9) rfl hdg kk
theorem l1_15 (i : Nat) {x : Int32} (hx : p.tables.exec = Jvm.exec) (hb : c.code = cc) (G : Wd1 D s A h0 h ca σ H locs) (hi : x = nI i) (hl : i < 8) (hdg : decode cc pc = .ok (.iaload, 1)) (kk : W p l e R s m args below meth c H locs cells slots Q (F0 m (pc + 1) ls (.int (σ.1 15 i) :: rest))) : W p l e R s m args below meth c H locs cells slots Q (F0 m pc ls (.int x :: .ref (h 15) :: rest)) := by
  subst hi
  refine va_iald hx hb G.1 G.2.1 13 12 rfl rfl (vp_in_nI hl (by decide)) hdg ?_
  rw [nI_clamp (by omega)]
  exact kk
theorem a1_15 (i : Nat) {x v : Int32} (hx : p.tables.exec = Jvm.exec) (hb : c.code = cc) (G : Wd1 D s A h0 h ca σ H locs) (hi : x = nI i) (hl : i < 8) (hdg : decode cc pc = .ok (.iastore, 1)) (kk : ∀ (H : Heap) (locs : List Loc), Wd1 D s A h0 h ca (sA σ 15 i v) H locs → W p l e R s m args below meth c H locs cells slots Q (F0 m (pc + 1) ls rest)) : W p l e R s m args below meth c H locs cells slots Q (F0 m pc ls (.int v :: .int x :: .ref (h 15) :: rest)) := by
  subst hi
  refine va_iast hx hb G.1 G.2.1 G.2.2.1 G.2.2.2.1 13 12 rfl rfl (vp_in_nI hl (by decide)) hdg (fun H1 locs1 hP hD hS => ?_)
  rw [nI_clamp (by omega)] at hP hD
  exact kk H1 locs1 ⟨G.1, hP, hD, hS, G.2.2.2.2⟩
theorem g1_16 (hx : p.tables.exec = Jvm.exec) (hb : c.code = cc) (hts : ∀ w ∈ lw_all, w.before args s = true) (hown : s.vm.findClass RX1 = some m.cls) (G : Wd1 D s A h0 h ca σ H locs) (hdg : decode cc pc = .ok (.getfield 50, 3)) (kk : W p l e R s m args below meth c H locs cells slots Q (F0 m (pc + 3) ls (.ref (h 16) :: rest))) : W p l e R s m args below meth c H locs cells slots Q (F0 m pc ls (.ref h0 :: rest)) :=
  va_get (D := D) (ci := 1) (v := .ref (h 16)) (C := RX1) (T := TX1) (N := 17) hx hb hts in_X1 hown G.1 G.2.1 0 rfl rfl 16 (by decide) (hts _ q261) (fun _ h9 => h9) rfl hdg kk
theorem l1_16 (i : Nat) {x : Int32} (hx : p.tables.exec = Jvm.exec) (hb : c.code = cc) (G : Wd1 D s A h0 h ca σ H locs) (hi : x = nI i) (hl : i < 8) (hdg : decode cc pc = .ok (.iaload, 1)) (kk : W p l e R s m args below meth c H locs cells slots Q (F0 m (pc + 1) ls (.int (σ.1 16 i) :: rest))) : W p l e R s m args below meth c H locs cells slots Q (F0 m pc ls (.int x :: .ref (h 16) :: rest)) := by
  subst hi
  refine va_iald hx hb G.1 G.2.1 14 13 rfl rfl (vp_in_nI hl (by decide)) hdg ?_
  rw [nI_clamp (by omega)]
  exact kk
theorem a1_16 (i : Nat) {x v : Int32} (hx : p.tables.exec = Jvm.exec) (hb : c.code = cc) (G : Wd1 D s A h0 h ca σ H locs) (hi : x = nI i) (hl : i < 8) (hdg : decode cc pc = .ok (.iastore, 1)) (kk : ∀ (H : Heap) (locs : List Loc), Wd1 D s A h0 h ca (sA σ 16 i v) H locs → W p l e R s m args below meth c H locs cells slots Q (F0 m (pc + 1) ls rest)) : W p l e R s m args below meth c H locs cells slots Q (F0 m pc ls (.int v :: .int x :: .ref (h 16) :: rest)) := by
  subst hi
  refine va_iast hx hb G.1 G.2.1 G.2.2.1 G.2.2.2.1 14 13 rfl rfl (vp_in_nI hl (by decide)) hdg (fun H1 locs1 hP hD hS => ?_)
  rw [nI_clamp (by omega)] at hP hD
  exact kk H1 locs1 ⟨G.1, hP, hD, hS, G.2.2.2.2⟩
theorem g1_9 (hx : p.tables.exec = Jvm.exec) (hb : c.code = cc) (hts : ∀ w ∈ lw_all, w.before args s = true) (hown : s.vm.findClass RX1 = some m.cls) (G : Wd1 D s A h0 h ca σ H locs) (hdg : decode cc pc = .ok (.getfield 61, 3)) (kk : W p l e R s m args below meth c H locs cells slots Q (F0 m (pc + 3) ls (.int (σ.2 9) :: rest))) : W p l e R s m args below meth c H locs cells slots Q (F0 m pc ls (.ref h0 :: rest)) :=
  va_get (D := D) (ci := 1) (v := .int (σ.2 9)) (C := RX1) (T := TX1) (N := 17) hx hb hts in_X1 hown G.1 G.2.1 0 rfl rfl 9 (by decide) (hts _ q254) (fun _ h9 => h9) rfl hdg kk
theorem p1_9 {v : Int32} (hx : p.tables.exec = Jvm.exec) (hb : c.code = cc) (hts : ∀ w ∈ lw_all, w.before args s = true) (hown : s.vm.findClass RX1 = some m.cls) (G : Wd1 D s A h0 h ca σ H locs) (hdg : decode cc pc = .ok (.putfield 61, 3)) (kk : ∀ (H : Heap) (locs : List Loc), Wd1 D s A h0 h ca (sV σ 9 v) H locs → W p l e R s m args below meth c H locs cells slots Q (F0 m (pc + 3) ls rest)) : W p l e R s m args below meth c H locs cells slots Q (F0 m pc ls (.int v :: .ref h0 :: rest)) :=
  va_put (D := D) (ci := 1) (v := .int v) (ty := .int) (C := RX1) (T := TX1) (N := 17) hx hb hts in_X1 tyX1 tyX1_ok nmX1 hown G.1 G.2.1 G.2.2.1 G.2.2.2.1 0 rfl rfl 9 (by decide) (hts _ q254) (fun _ h9 => h9) rfl (by decide +kernel) rfl rfl (Nat.le_of_ble_eq_true rfl) hdg (fun H locs hP hD hS => kk H locs ⟨G.1, hP, hD, hS, G.2.2.2.2⟩)
theorem g1_10 (hx : p.tables.exec = Jvm.exec) (hb : c.code = cc) (hts : ∀ w ∈ lw_all, w.before args s = true) (hown : s.vm.findClass RX1 = some m.cls) (G : Wd1 D s A h0 h ca σ H locs) (hdg : decode cc pc = .ok (.getfield 69, 3)) (kk : W p l e R s m args below meth c H locs cells slots Q (F0 m (pc + 3) ls (.int (σ.2 10) :: rest))) : W p l e R s m args below meth c H locs cells slots Q (F0 m pc ls (.ref h0 :: rest)) :=
  va_get (D := D) (ci := 1) (v := .int (σ.2 10)) (C := RX1) (T := TX1) (N := 17) hx hb hts in_X1 hown G.1 G.2.1 0 rfl rfl 10 (by decide) (hts _ q255) (fun _ h9 => h9) rfl hdg kk
theorem p1_10 {v : Int32} (hx : p.tables.exec = Jvm.exec) (hb : c.code = cc) (hts : ∀ w ∈ lw_all, w.before args s = true) (hown : s.vm.findClass RX1 = some m.cls) (G : Wd1 D s A h0 h ca σ H locs) (hdg : decode cc pc = .ok (.putfield 69, 3)) (kk : ∀ (H : Heap) (locs : List Loc), Wd1 D s A h0 h ca (sV σ 10 v) H locs → W p l e R s m args below meth c H locs cells slots Q (F0 m (pc + 3) ls rest)) : W p l e R s m args below meth c H locs cells slots Q (F0 m pc ls (.int v :: .ref h0 :: rest)) :=
  va_put (D := D) (ci := 1) (v := .int v) (ty := .int) (C := RX1) (T := TX1) (N := 17) hx hb hts in_X1 tyX1 tyX1_ok nmX1 hown G.1 G.2.1 G.2.2.1 G.2.2.2.1 0 rfl rfl 10 (by decide) (hts _ q255) (fun _ h9 => h9) rfl (by decide +kernel) rfl rfl (Nat.le_of_ble_eq_true rfl) hdg (fun H locs hP hD hS => kk H locs ⟨G.1, hP, hD, hS, G.2.2.2.2⟩)
theorem g1_11 (hx : p.tables.exec = Jvm.exec) (hb : c.code = cc) (hts : ∀ w ∈ lw_all, w.before args s = true) (hown : s.vm.findClass RX1 = some m.cls) (G : Wd1 D s A h0 h ca σ H locs) (hdg : decode cc pc = .ok (.getfield 72, 3)) (kk : W p l e R s m args below meth c H locs cells slots Q (F0 m (pc + 3) ls (.int (σ.2 11) :: rest))) : W p l e R s m args below meth c H locs cells slots Q (F0 m pc ls (.ref h0 :: rest)) :=
  va_get (D := D) (ci := 1) (v := .int (σ.2 11)) (C := RX1) (T := TX1) (N := 17) hx hb hts in_X1 hown G.1 G.2.1 0 rfl rfl 11 (by decide) (hts _ q256) (fun _ h9 => h9) rfl hdg kk
theorem p1_11 {v : Int32} (hx : p.tables.exec = Jvm.exec) (hb : c.code = cc) (hts : ∀ w ∈ lw_all, w.before args s = true) (hown : s.vm.findClass RX1 = some m.cls) (G : Wd1 D s A h0 h ca σ H locs) (hdg : decode cc pc = .ok (.putfield 72, 3)) (kk : ∀ (H : Heap) (locs : List Loc), Wd1 D s A h0 h ca (sV σ 11 v) H locs → W p l e R s m args below meth c H locs cells slots Q (F0 m (pc + 3) ls rest)) : W p l e R s m args below meth c H locs cells slots Q (F0 m pc ls (.int v :: .ref h0 :: rest)) :=
  va_put (D := D) (ci := 1) (v := .int v) (ty := .int) (C := RX1) (T := TX1) (N := 17) hx hb hts in_X1 tyX1 tyX1_ok nmX1 hown G.1 G.2.1 G.2.2.1 G.2.2.2.1 0 rfl rfl 11 (by decide) (hts _ q256) (fun _ h9 => h9) rfl (by decide +kernel) rfl rfl (Nat.le_of_ble_eq_true rfl) hdg (fun H locs hP hD hS => kk H locs ⟨G.1, hP, hD, hS, G.2.2.2.2⟩)
/-- the contract of a method of class 1 with an int (or boolean) answer -/
def C1 (l : Launch) (y : MethodName) (cc : ByteArray) (nL : Nat) (rt : Option FieldType) (rm : Room) (av : List Value) (σ : St) (res : Int32 × St) : Prop := ∀ (D : va_G) (h0 : Nat) (h : Nat → Nat) (ca : Nat → ClassId) (sz : Nat), Met l y (ws_ y cc nL rt) rm (va_Pc (.ref h0 :: av) (fun U => U.heap.size = sz ∧ va_P D vwCl (w1 h0 h ca σ) U.heap ∧ va_K D vwCl (t1 ca) U ∧ va_D (fun _ => True) (w1 h0 h ca σ))) (va_Qi (fun (r : Int32) (u : St) => r = res.1 ∧ u = res.2) (fun (u : St) t => va_P D vwCl (w1 h0 h ca u) t.heap ∧ va_K D vwCl (t1 ca) t ∧ va_D (va_A (w1 h0 h ca σ) sz) (w1 h0 h ca u)) (va_A (w1 h0 h ca σ) sz)) 0 0 (va_A (w1 h0 h ca σ) sz)
def V1 (l : Launch) (y : MethodName) (cc : ByteArray) (nL : Nat) (rm : Room) (av : List Value) (σ : St) (res : St) : Prop := ∀ (D : va_G) (h0 : Nat) (h : Nat → Nat) (ca : Nat → ClassId) (sz : Nat), Met l y (ws_ y cc nL none) rm (va_Pc (.ref h0 :: av) (fun U => U.heap.size = sz ∧ va_P D vwCl (w1 h0 h ca σ) U.heap ∧ va_K D vwCl (t1 ca) U ∧ va_D (fun _ => True) (w1 h0 h ca σ))) (va_Qv (fun (u : St) => u = res) (fun (u : St) t => va_P D vwCl (w1 h0 h ca u) t.heap ∧ va_K D vwCl (t1 ca) t ∧ va_D (va_A (w1 h0 h ca σ) sz) (w1 h0 h ca u)) (va_A (w1 h0 h ca σ) sz)) 0 0 (va_A (w1 h0 h ca σ) sz)
def RetI1 (p : Program) (l : Launch) (e : Env) (R : Room) (s : State) (m : MethodId) (args : Array Value) (below : List Frame) (meth : Method) (c : Code) (cc : ByteArray) (Q : State → Prop) (D : va_G) (A : Nat → Prop) (h0 : Nat) (h : Nat → Nat) (ca : Nat → ClassId) (res : Int32 × St) : Prop := ∀ (H : Heap) (locs : List Loc) (ls : Array Slot) (pc : Nat) (v : Int32) (σ1 : St), Wd1 D s A h0 h ca σ1 H locs → res = (v, σ1) → decode cc pc = .ok (.ireturn, 1) → W p l e R s m args below meth c H locs 0 0 Q (F0 m pc ls [.int v])
def RetV1 (p : Program) (l : Launch) (e : Env) (R : Room) (s : State) (m : MethodId) (args : Array Value) (below : List Frame) (meth : Method) (c : Code) (cc : ByteArray) (Q : State → Prop) (D : va_G) (A : Nat → Prop) (h0 : Nat) (h : Nat → Nat) (ca : Nat → ClassId) (res : St) : Prop := ∀ (H : Heap) (locs : List Loc) (ls : Array Slot) (pc : Nat) (σ1 : St), Wd1 D s A h0 h ca σ1 H locs → res = σ1 → decode cc pc = .ok (.return_, 1) → W p l e R s m args below meth c H locs 0 0 Q (F0 m pc ls [])
theorem C1.of {l : Launch} {y : MethodName} {cc : ByteArray} {nL : Nat} {ty : FieldType} {rm : Room} {av : List Value} {σ : St} {res : Int32 × St} (hy : plainName y.cls = true) (hc : y.cls = RX1) (hn : ∀ h0 : Nat, (lg_sl (.ref h0 :: av)).length ≤ nL) (hz : narrow ty (.int res.1) = .int res.1)
    (body : ∀ (p : Program) (e : Env) (s : State) (m : MethodId) (args : Array Value) (below : List Frame) (meth : Method) (c : Code) (Q : State → Prop) (D : va_G) (A : Nat → Prop) (h0 : Nat) (h : Nat → Nat) (ca : Nat → ClassId) (ls : Array Slot), Fx p m c cc nL s args RX1 → Wd1 D s A h0 h ca σ s.heap [] → lv_has ls nL (lv_args 0 (.ref h0 :: av)) → RetI1 p l e rm s m args below meth c cc Q D A h0 h ca res → W p l e rm s m args below meth c s.heap [] 0 0 Q (F0 m 0 ls [])) : C1 l y cc nL (some ty) rm av σ res := by
  intro D h0 h ca sz
  refine Met.ofW (cc := cc) (maxL := nL) (ret := some ty) hy rfl ?_
  intro p e s m args below meth c s₁ B hml hv
  obtain ⟨rfl, hsz, hP, hK, hD0⟩ := hv
  have hx := B.exec
  have hb := B.bytes
  have hr := B.returns
  have hts := atoms_spec (ws := ws_ y cc nL (some ty)) B.pre
  have hts : ∀ w ∈ lw_all, w.before _ s = true := fun w h => hts w (List.mem_cons_of_mem _ h)
  have hown : s.vm.findClass RX1 = some m.cls := hc ▸ findClass_of_methodNamed B.named
  have hlocks := B.notSynchronized
  subst hsz
  have hD := hD0.self (sz := s.heap.size)
  have hA : ∀ q : Nat, s.heap.size ≤ q → va_A (w1 h0 h ca σ) s.heap.size q := fun q h => Or.inr h
  have hl := lv_entry (.ref h0 :: av) (n := nL) (hn h0)
  rw [lg_entry_eq]
  refine body p e s m _ below meth c _ D _ h0 h ca _ ⟨hx, hb, hml, hown, hts⟩ ⟨hK, hP, hD, va_S.rf, hA⟩ hl ?_
  intro H locs ls pc v σ1 G e hd
  exact W.zret (v := v) hx hb hr (by rw [e] at hz; exact hz) (fun t ht hW => ⟨⟨v, σ1, rfl, ⟨by rw [e], by rw [e]⟩, by rw [ht]; exact G.2.1, va_K.moved hW.alike G.1, G.2.2.1⟩, G.2.2.2.1.F ht⟩) G.2.2.2.1.2.2 hd
/-- a call of a method of this class on this very object -/
theorem call1I {nL : Nat} {y : MethodName} {cc1 : ByteArray} {nL1 n idx : Nat} {rt : Option FieldType} {rm : Room} {av st : List Value} {res : Int32 × St} (hx : p.tables.exec = Jvm.exec) (hb : c.code = cc) (hml : c.maxLocals = nL) (hts : ∀ w ∈ lw_all, w.before args s = true) (hown : s.vm.findClass RX1 = some m.cls) (hC : C1 l y cc1 nL1 rt rm av σ res) (cw : CallW R s args RX1 RX1 idx y cc1 nL1 rt (ws_ y cc1 nL1 rt) rm 0 0 n) (G : Wd1 D s A h0 h ca σ H locs) (hn : av.length = n) (hls : ls.size = nL) (hst : st = av.reverse ++ .ref h0 :: rest) (hro : (rest.map fun v => v.category).sum ≤ 8) (hdg : decode cc pc = .ok (.invokevirtual idx, 3)) (hcs : cells ≤ R.cells ∧ slots ≤ R.slots)
    (kk : ∀ (H : Heap) (locs : List Loc), Wd1 D s A h0 h ca res.2 H locs → W p l e R s m args below meth c H locs cells slots Q (F0 m (pc + 3) ls (.int res.1 :: rest))) : W p l e R s m args below meth c H locs cells slots Q (F0 m pc ls st) := by
  obtain ⟨hK, hP, hD, hS, hA⟩ := G
  have hFc : ∀ q, va_A (w1 h0 h ca σ) H.size q → A q := fun q h => by
    rcases h with ⟨k, e, h⟩ | h
    · exact hD.2 k (q, e) h
    · exact hA q (Nat.le_trans hS.1 h)
  refine va_calli (va_runV (As := av) (rest := rest) ⟨hx, hb, hml, hown, hts⟩ (hC D h0 h ca H.size) cw ⟨fun a U g mk q => by obtain ⟨q0, q1, qP, qK, qD⟩ := q; exact ⟨q0, q1, qP, va_K.moved (u := U) (U := U.calling g mk a) (Vm.Alike.refl U.vm) qK, qD⟩, va_recv hK hP (ci := 1) (q0 := 0) rfl rfl, fun U hU hW => ⟨rfl, by rw [hU], by rw [hU]; exact hP, va_K.moved hW.alike hK, hD.weaken (fun _ _ _ _ => trivial)⟩⟩ rfl hn hls hst (lv_room hro) hdg ⟨hcs.1, hcs.2⟩) hS (fun q _ h => hFc q h) hFc ?_
  intro r u t H1 locs1 ht hvm hw hB hz1 hk1 hS1
  obtain ⟨rfl, rfl⟩ := hw
  obtain ⟨hP1, hK1, hD1⟩ := hB
  rw [ht] at hP1
  exact kk H1 locs1 ⟨va_K.moved hvm.symm hK1, hP1, hD1.weaken (fun _ q _ h => hFc q.1 h), hS1, hA⟩
theorem V1.of {l : Launch} {y : MethodName} {cc : ByteArray} {nL : Nat} {rm : Room} {av : List Value} {σ : St} {res : St} (hy : plainName y.cls = true) (hc : y.cls = RX1) (hn : ∀ h0 : Nat, (lg_sl (.ref h0 :: av)).length ≤ nL) 
    (body : ∀ (p : Program) (e : Env) (s : State) (m : MethodId) (args : Array Value) (below : List Frame) (meth : Method) (c : Code) (Q : State → Prop) (D : va_G) (A : Nat → Prop) (h0 : Nat) (h : Nat → Nat) (ca : Nat → ClassId) (ls : Array Slot), Fx p m c cc nL s args RX1 → Wd1 D s A h0 h ca σ s.heap [] → lv_has ls nL (lv_args 0 (.ref h0 :: av)) → RetV1 p l e rm s m args below meth c cc Q D A h0 h ca res → W p l e rm s m args below meth c s.heap [] 0 0 Q (F0 m 0 ls [])) : V1 l y cc nL rm av σ res := by
  intro D h0 h ca sz
  refine Met.ofW (cc := cc) (maxL := nL) (ret := none) hy rfl ?_
  intro p e s m args below meth c s₁ B hml hv
  obtain ⟨rfl, hsz, hP, hK, hD0⟩ := hv
  have hx := B.exec
  have hb := B.bytes
  have hr := B.returns
  have hts := atoms_spec (ws := ws_ y cc nL none) B.pre
  have hts : ∀ w ∈ lw_all, w.before _ s = true := fun w h => hts w (List.mem_cons_of_mem _ h)
  have hown : s.vm.findClass RX1 = some m.cls := hc ▸ findClass_of_methodNamed B.named
  have hlocks := B.notSynchronized
  subst hsz
  have hD := hD0.self (sz := s.heap.size)
  have hA : ∀ q : Nat, s.heap.size ≤ q → va_A (w1 h0 h ca σ) s.heap.size q := fun q h => Or.inr h
  have hl := lv_entry (.ref h0 :: av) (n := nL) (hn h0)
  rw [lg_entry_eq]
  refine body p e s m _ below meth c _ D _ h0 h ca _ ⟨hx, hb, hml, hown, hts⟩ ⟨hK, hP, hD, va_S.rf, hA⟩ hl ?_
  intro H locs ls pc σ1 G e hd
  exact W.vret hx hb hr (fun t ht hW => ⟨⟨σ1, rfl, e.symm, by rw [ht]; exact G.2.1, va_K.moved hW.alike G.1, G.2.2.1⟩, G.2.2.2.1.F ht⟩) G.2.2.2.1.2.2 hd
/-- a call of a method of this class on this very object -/
theorem call1V {nL : Nat} {y : MethodName} {cc1 : ByteArray} {nL1 n idx : Nat} {rm : Room} {av st : List Value} {res : St} (hx : p.tables.exec = Jvm.exec) (hb : c.code = cc) (hml : c.maxLocals = nL) (hts : ∀ w ∈ lw_all, w.before args s = true) (hown : s.vm.findClass RX1 = some m.cls) (hC : V1 l y cc1 nL1 rm av σ res) (cw : CallW R s args RX1 RX1 idx y cc1 nL1 none (ws_ y cc1 nL1 none) rm 0 0 n) (G : Wd1 D s A h0 h ca σ H locs) (hn : av.length = n) (hls : ls.size = nL) (hst : st = av.reverse ++ .ref h0 :: rest) (hro : (rest.map fun v => v.category).sum ≤ 8) (hdg : decode cc pc = .ok (.invokevirtual idx, 3)) (hcs : cells ≤ R.cells ∧ slots ≤ R.slots)
    (kk : ∀ (H : Heap) (locs : List Loc), Wd1 D s A h0 h ca res H locs → W p l e R s m args below meth c H locs cells slots Q (F0 m (pc + 3) ls (rest))) : W p l e R s m args below meth c H locs cells slots Q (F0 m pc ls st) := by
  obtain ⟨hK, hP, hD, hS, hA⟩ := G
  have hFc : ∀ q, va_A (w1 h0 h ca σ) H.size q → A q := fun q h => by
    rcases h with ⟨k, e, h⟩ | h
    · exact hD.2 k (q, e) h
    · exact hA q (Nat.le_trans hS.1 h)
  refine va_callv (va_runV (As := av) (rest := rest) ⟨hx, hb, hml, hown, hts⟩ (hC D h0 h ca H.size) cw ⟨fun a U g mk q => by obtain ⟨q0, q1, qP, qK, qD⟩ := q; exact ⟨q0, q1, qP, va_K.moved (u := U) (U := U.calling g mk a) (Vm.Alike.refl U.vm) qK, qD⟩, va_recv hK hP (ci := 1) (q0 := 0) rfl rfl, fun U hU hW => ⟨rfl, by rw [hU], by rw [hU]; exact hP, va_K.moved hW.alike hK, hD.weaken (fun _ _ _ _ => trivial)⟩⟩ rfl hn hls hst (lv_room hro) hdg ⟨hcs.1, hcs.2⟩) hS (fun q _ h => hFc q h) hFc ?_
  intro u t H1 locs1 ht hvm hw hB hz1 hk1 hS1
  subst hw
  obtain ⟨hP1, hK1, hD1⟩ := hB
  rw [ht] at hP1
  exact kk H1 locs1 ⟨va_K.moved hvm.symm hK1, hP1, hD1.weaken (fun _ q _ h => hFc q.1 h), hS1, hA⟩
end R1
end
section
set_option maxRecDepth 100000
abbrev tn (x : Int32) : Nat := x.toNatClampNeg
theorem tn_of {x : Int32} {n : Nat} (hn : n < 2 ^ 31) (h0 : ¬ x < 0) (h : ¬ nI n ≤ x) : x = nI (tn x) ∧ tn x < n := by
  obtain ⟨j, hj, rfl⟩ := nI_of h0
  rw [nI_leI hn hj] at h
  show nI j = nI (nI j).toNatClampNeg ∧ (nI j).toNatClampNeg < n
  rw [nI_clamp hj]
  exact ⟨rfl, by omega⟩
theorem and7_in (x : Int32) : x &&& 7 = nI (tn (x &&& 7)) ∧ tn (x &&& 7) < 8 := by
  obtain ⟨j, hj, e⟩ := pk_andE x (m := 7) 3 (by decide)
  rw [e]
  show nI j = nI (nI j).toNatClampNeg ∧ (nI j).toNatClampNeg < 8
  rw [nI_clamp (by omega)]
  exact ⟨rfl, by omega⟩
/-- the contract of a static method of ints -/
def CS (l : Launch) (y : MethodName) (cc : ByteArray) (nL : Nat) (rt : Option FieldType) (rm : Room) (av : List Value) (r : Int32) : Prop := Met l y (ws_ y cc nL rt) rm (va_Pc av (fun _ => True)) (va_Qi (fun (r1 : Int32) (_ : Unit) => r1 = r) (fun _ _ => True) (fun _ => False)) 0 0 (fun _ => False)
theorem CS.of {l : Launch} {y : MethodName} {cc : ByteArray} {nL : Nat} {ty : FieldType} {rm : Room} {av : List Value} {r : Int32} (hy : plainName y.cls = true) (hn : (lg_sl av).length ≤ nL) (hz : narrow ty (.int r) = .int r)
    (body : ∀ (p : Program) (e : Env) (s : State) (m : MethodId) (args : Array Value) (below : List Frame) (meth : Method) (c : Code) (Q : State → Prop) (ls : Array Slot), Fx p m c cc nL s args y.cls → lv_has ls nL (lv_args 0 av) → (∀ (ls : Array Slot) (pc : Nat) (v : Int32), r = v → decode cc pc = .ok (.ireturn, 1) → W p l e rm s m args below meth c s.heap [] 0 0 Q (F0 m pc ls [.int v])) → W p l e rm s m args below meth c s.heap [] 0 0 Q (F0 m 0 ls [])) : CS l y cc nL (some ty) rm av r := by
  refine Met.ofW (cc := cc) (maxL := nL) (ret := some ty) hy rfl ?_
  intro p e s m args below meth c s₁ B hml hv
  obtain ⟨rfl, -⟩ := hv
  have hx := B.exec
  have hb := B.bytes
  have hr := B.returns
  have hts := atoms_spec (ws := ws_ y cc nL (some ty)) B.pre
  have hts : ∀ w ∈ lw_all, w.before _ s = true := fun w h => hts w (List.mem_cons_of_mem _ h)
  have hown : s.vm.findClass y.cls = some m.cls := findClass_of_methodNamed B.named
  have hlocks := B.notSynchronized
  have hl := lv_entry av (n := nL) hn
  rw [lg_entry_eq]
  refine body p e s m _ below meth c _ _ ⟨hx, hb, hml, hown, hts⟩ hl ?_
  intro ls pc v e hd
  subst e
  exact W.zret (v := r) hx hb hr hz (fun t ht hW => ⟨⟨r, (), rfl, rfl, trivial⟩, ⟨by rw [ht]; exact Nat.le_refl _, fun q _ _ => by rw [ht]⟩⟩) (fun q h => by cases h) hd
section HP
variable {p : Program} {l : Launch} {e : Env} {R : Room} {s : State} {m : MethodId} {args : Array Value} {below : List Frame} {meth : Method} {c : Code} {H : Heap} {locs : List Loc} {cells slots : Nat} {Q : State → Prop}
variable {cc : ByteArray} {pc : Nat} {ls : Array Slot} {rest : List Value} {D : va_G} {A : Nat → Prop} {h0 : Nat} {h : Nat → Nat} {ca : Nat → ClassId} {σ : St}
/-- a join: the value on top there has a name -/
theorem lv_cut {J : Nat} {st rest : List Value} (z : Int32) (hh : (∀ y : Int32, z = y → W p l e R s m args below meth c H locs cells slots Q (F0 m J ls (.int y :: rest))) → W p l e R s m args below meth c H locs cells slots Q (F0 m pc ls st)) (k : W p l e R s m args below meth c H locs cells slots Q (F0 m J ls (.int z :: rest))) : W p l e R s m args below meth c H locs cells slots Q (F0 m pc ls st) := hh (fun y e => e ▸ k)
theorem lv_ren {x y : Int32} (hh : x = y) (k : W p l e R s m args below meth c H locs cells slots Q (F0 m pc ls (.int y :: rest))) : W p l e R s m args below meth c H locs cells slots Q (F0 m pc ls (.int x :: rest)) := hh ▸ k
theorem callS0 {nL : Nat} {y : MethodName} {cc1 : ByteArray} {nL1 n idx : Nat} {rt : Option FieldType} {rm : Room} {av st : List Value} {r : Int32} (hx : p.tables.exec = Jvm.exec) (hb : c.code = cc) (hml : c.maxLocals = nL) (hts : ∀ w ∈ lw_all, w.before args s = true) (hown : s.vm.findClass RX0 = some m.cls) (hC : CS l y cc1 nL1 rt rm av r) (cw : CallB R s args RX0 idx y cc1 nL1 rt (ws_ y cc1 nL1 rt) rm 0 0 n ∧ (Cond.static y).before args s = true) (G : Wd0 D s A h0 h ca σ H locs) (hn : av.length = n) (hls : ls.size = nL) (hst : st = av.reverse ++ rest) (hro : (rest.map fun v => v.category).sum ≤ 8) (hdg : decode cc pc = .ok (.invokestatic idx, 3)) (hcs : cells ≤ R.cells ∧ slots ≤ R.slots)
    (kk : ∀ (H : Heap) (locs : List Loc), Wd0 D s A h0 h ca σ H locs → W p l e R s m args below meth c H locs cells slots Q (F0 m (pc + 3) ls (.int r :: rest))) : W p l e R s m args below meth c H locs cells slots Q (F0 m pc ls st) := by
  obtain ⟨hK, hP, hD, hS, hA⟩ := G
  refine va_calli (va_runS (As := av) (rest := rest) ⟨hx, hb, hml, hown, hts⟩ hC cw ⟨fun a U g mk q => ⟨q.1, trivial⟩, fun U hU hW => ⟨rfl, trivial⟩⟩ rfl hn hls hst (lv_room hro) hdg ⟨hcs.1, hcs.2⟩) hS (fun q _ h => h.elim) (fun q h => h.elim) ?_
  intro r1 u t H1 locs1 ht hvm hw hB hz1 hk1 hS1
  subst hw
  exact kk H1 locs1 ⟨hK, hP.kept (fun k q hq => hk1 q.1 ((hP k q hq).lt) (fun h => h)), hD, hS1, hA⟩
end HP
abbrev rm0_accesses : Room := { frames := 0, cells := 0, slots := 0, locals := 0 }
abbrev rm0_after : Room := { frames := 1, cells := 0, slots := 0, locals := 21 }
abbrev rm0_before : Room := { frames := 1, cells := 0, slots := 0, locals := 21 }
abbrev rm0_cellOf : Room := { frames := 0, cells := 0, slots := 0, locals := 0 }
abbrev rm0_clear : Room := { frames := 2, cells := 0, slots := 0, locals := 41 }
abbrev rm0_finish : Room := { frames := 3, cells := 0, slots := 0, locals := 70 }
abbrev rm0_fits : Room := { frames := 0, cells := 0, slots := 0, locals := 0 }
abbrev rm0_hits : Room := { frames := 2, cells := 0, slots := 0, locals := 41 }
abbrev rm0_isHit : Room := { frames := 0, cells := 0, slots := 0, locals := 0 }
abbrev rm0_isKept : Room := { frames := 0, cells := 0, slots := 0, locals := 0 }
abbrev rm0_isSize : Room := { frames := 0, cells := 0, slots := 0, locals := 0 }
abbrev rm0_isWatch : Room := { frames := 0, cells := 0, slots := 0, locals := 0 }
abbrev rm0_kept : Room := { frames := 0, cells := 0, slots := 0, locals := 0 }
abbrev rm0_load : Room := { frames := 4, cells := 0, slots := 0, locals := 97 }
abbrev rm0_loadRegisters : Room := { frames := 2, cells := 0, slots := 0, locals := 49 }
abbrev rm0_occupy : Room := { frames := 0, cells := 0, slots := 0, locals := 0 }
abbrev rm0_oldValue : Room := { frames := 0, cells := 0, slots := 0, locals := 0 }
abbrev rm0_pause : Room := { frames := 2, cells := 0, slots := 0, locals := 41 }
abbrev rm0_peek : Room := { frames := 0, cells := 0, slots := 0, locals := 0 }
abbrev rm0_refused : Room := { frames := 1, cells := 0, slots := 0, locals := 20 }
abbrev rm0_remember : Room := { frames := 0, cells := 0, slots := 0, locals := 0 }
abbrev rm0_set : Room := { frames := 1, cells := 0, slots := 0, locals := 20 }
abbrev rm0_skip : Room := { frames := 2, cells := 0, slots := 0, locals := 41 }
abbrev rm0_skips : Room := { frames := 2, cells := 0, slots := 0, locals := 41 }
abbrev rm0_split : Room := { frames := 1, cells := 0, slots := 0, locals := 25 }
abbrev rm0_stopAddress : Room := { frames := 1, cells := 0, slots := 0, locals := 21 }
abbrev rm0_stopMask : Room := { frames := 1, cells := 0, slots := 0, locals := 21 }
abbrev rm0_stopNumber : Room := { frames := 1, cells := 0, slots := 0, locals := 21 }
abbrev rm0_stops : Room := { frames := 0, cells := 0, slots := 0, locals := 0 }
abbrev rm0_store : Room := { frames := 4, cells := 0, slots := 0, locals := 97 }
abbrev rm0_suspects : Room := { frames := 0, cells := 0, slots := 0, locals := 0 }
abbrev rm0_sweep : Room := { frames := 4, cells := 0, slots := 0, locals := 97 }
abbrev rm0_valueAt : Room := { frames := 0, cells := 0, slots := 0, locals := 0 }
abbrev rm0_watched : Room := { frames := 0, cells := 0, slots := 0, locals := 0 }
abbrev rm1_access : Room := { frames := 2, cells := 0, slots := 0, locals := 50 }
abbrev rm1_accesses : Room := { frames := 0, cells := 0, slots := 0, locals := 0 }
abbrev rm1_after : Room := { frames := 1, cells := 0, slots := 0, locals := 21 }
abbrev rm1_bad : Room := { frames := 0, cells := 0, slots := 0, locals := 0 }
abbrev rm1_badSize : Room := { frames := 0, cells := 0, slots := 0, locals := 0 }
abbrev rm1_before : Room := { frames := 1, cells := 0, slots := 0, locals := 21 }
abbrev rm1_clear : Room := { frames := 1, cells := 0, slots := 0, locals := 21 }
abbrev rm1_hit : Room := { frames := 1, cells := 0, slots := 0, locals := 22 }
abbrev rm1_hits : Room := { frames := 1, cells := 0, slots := 0, locals := 21 }
abbrev rm1_inRange : Room := { frames := 0, cells := 0, slots := 0, locals := 0 }
abbrev rm1_keep : Room := { frames := 1, cells := 0, slots := 0, locals := 26 }
abbrev rm1_kept : Room := { frames := 0, cells := 0, slots := 0, locals := 0 }
abbrev rm1_load : Room := { frames := 3, cells := 0, slots := 0, locals := 76 }
abbrev rm1_noStop : Room := { frames := 0, cells := 0, slots := 0, locals := 0 }
abbrev rm1_number : Room := { frames := 0, cells := 0, slots := 0, locals := 0 }
abbrev rm1_pause : Room := { frames := 1, cells := 0, slots := 0, locals := 21 }
abbrev rm1_peek : Room := { frames := 0, cells := 0, slots := 0, locals := 0 }
abbrev rm1_set : Room := { frames := 1, cells := 0, slots := 0, locals := 21 }
abbrev rm1_skip : Room := { frames := 1, cells := 0, slots := 0, locals := 21 }
abbrev rm1_skips : Room := { frames := 1, cells := 0, slots := 0, locals := 21 }
abbrev rm1_stopAddress : Room := { frames := 1, cells := 0, slots := 0, locals := 21 }
abbrev rm1_stopMask : Room := { frames := 1, cells := 0, slots := 0, locals := 21 }
abbrev rm1_stopNumber : Room := { frames := 1, cells := 0, slots := 0, locals := 21 }
abbrev rm1_stops : Room := { frames := 0, cells := 0, slots := 0, locals := 0 }
abbrev rm1_store : Room := { frames := 3, cells := 0, slots := 0, locals := 76 }
abbrev rm1_sweep : Room := { frames := 3, cells := 0, slots := 0, locals := 76 }
abbrev rm1_watched : Room := { frames := 1, cells := 0, slots := 0, locals := 22 }
theorem cwL0_accesses {R : Room} {s : State} {args : Array Value} (hts : ∀ w ∈ lw_all, w.before args s = true) (hR : rm0_accesses.frames + 1 ≤ R.frames ∧ 8 + (1 + 11) + rm0_accesses.locals ≤ R.locals) : CallW R s args "WatchpointUnitLaw" RX0 62 yX0_accesses cX0_accesses 1 (some .int) (ws_ yX0_accesses cX0_accesses 1 (some .int)) rm0_accesses 0 0 0 := cwV 0 hts (lw_V q199 q200 q201 q21 q202) rfl rfl rfl (by decide +kernel) hR
theorem cwL0_after {R : Room} {s : State} {args : Array Value} (hts : ∀ w ∈ lw_all, w.before args s = true) (hR : rm0_after.frames + 1 ≤ R.frames ∧ 8 + (2 + 11) + rm0_after.locals ≤ R.locals) : CallW R s args "WatchpointUnitLaw" RX0 86 yX0_after cX0_after 2 (some .int) (ws_ yX0_after cX0_after 2 (some .int)) rm0_after 0 0 1 := cwV 1 hts (lw_V q231 q232 q233 q21 q234) rfl rfl rfl (by decide +kernel) hR
theorem cwL0_before {R : Room} {s : State} {args : Array Value} (hts : ∀ w ∈ lw_all, w.before args s = true) (hR : rm0_before.frames + 1 ≤ R.frames ∧ 8 + (2 + 11) + rm0_before.locals ≤ R.locals) : CallW R s args "WatchpointUnitLaw" RX0 82 yX0_before cX0_before 2 (some .int) (ws_ yX0_before cX0_before 2 (some .int)) rm0_before 0 0 1 := cwV 1 hts (lw_V q227 q228 q229 q21 q230) rfl rfl rfl (by decide +kernel) hR
theorem cw0_cellOf {R : Room} {s : State} {args : Array Value} (hts : ∀ w ∈ lw_all, w.before args s = true) (hR : rm0_cellOf.frames + 1 ≤ R.frames ∧ 8 + (2 + 11) + rm0_cellOf.locals ≤ R.locals) : CallW R s args RX0 RX0 106 yX0_cellOf cX0_cellOf 2 (some .int) (ws_ yX0_cellOf cX0_cellOf 2 (some .int)) rm0_cellOf 0 0 1 := cwV 1 hts (lw_V q215 q217 qs11 q21 q218) rfl rfl rfl (by decide +kernel) hR
theorem cwL0_clear {R : Room} {s : State} {args : Array Value} (hts : ∀ w ∈ lw_all, w.before args s = true) (hR : rm0_clear.frames + 1 ≤ R.frames ∧ 8 + (3 + 11) + rm0_clear.locals ≤ R.locals) : CallW R s args "WatchpointUnitLaw" RX0 18 yX0_clear cX0_clear 3 (some .int) (ws_ yX0_clear cX0_clear 3 (some .int)) rm0_clear 0 0 1 := cwV 1 hts (lw_V q113 q114 q115 q21 q116) rfl rfl rfl (by decide +kernel) hR
theorem cw0_finish {R : Room} {s : State} {args : Array Value} (hts : ∀ w ∈ lw_all, w.before args s = true) (hR : rm0_finish.frames + 1 ≤ R.frames ∧ 8 + (8 + 11) + rm0_finish.locals ≤ R.locals) : CallW R s args RX0 RX0 92 yX0_finish cX0_finish 8 (some .int) (ws_ yX0_finish cX0_finish 8 (some .int)) rm0_finish 0 0 3 := cwV 3 hts (lw_V q147 q149 qs3 q21 q150) rfl rfl rfl (by decide +kernel) hR
theorem cw0_fits {R : Room} {s : State} {args : Array Value} (hts : ∀ w ∈ lw_all, w.before args s = true) (hR : rm0_fits.frames + 1 ≤ R.frames ∧ 8 + (2 + 11) + rm0_fits.locals ≤ R.locals) : CallB R s args RX0 80 yX0_fits cX0_fits 2 (some .boolean) (ws_ yX0_fits cX0_fits 2 (some .boolean)) rm0_fits 0 0 2 ∧ (Cond.static yX0_fits).before args s = true := va_cwS 2 hts (lw_S q136 q137 q21 q138) rfl rfl rfl (by decide +kernel) hR
theorem cwL0_hits {R : Room} {s : State} {args : Array Value} (hts : ∀ w ∈ lw_all, w.before args s = true) (hR : rm0_hits.frames + 1 ≤ R.frames ∧ 8 + (3 + 11) + rm0_hits.locals ≤ R.locals) : CallW R s args "WatchpointUnitLaw" RX0 49 yX0_hits cX0_hits 3 (some .int) (ws_ yX0_hits cX0_hits 3 (some .int)) rm0_hits 0 0 1 := cwV 1 hts (lw_V q187 q188 q189 q21 q190) rfl rfl rfl (by decide +kernel) hR
theorem cw0_isHit {R : Room} {s : State} {args : Array Value} (hts : ∀ w ∈ lw_all, w.before args s = true) (hR : rm0_isHit.frames + 1 ≤ R.frames ∧ 8 + (8 + 11) + rm0_isHit.locals ≤ R.locals) : CallW R s args RX0 RX0 133 yX0_isHit cX0_isHit 8 (some .boolean) (ws_ yX0_isHit cX0_isHit 8 (some .boolean)) rm0_isHit 0 0 4 := cwV 4 hts (lw_V q167 q169 qs8 q21 q170) rfl rfl rfl (by decide +kernel) hR
theorem cw0_isKept {R : Room} {s : State} {args : Array Value} (hts : ∀ w ∈ lw_all, w.before args s = true) (hR : rm0_isKept.frames + 1 ≤ R.frames ∧ 8 + (2 + 11) + rm0_isKept.locals ≤ R.locals) : CallW R s args RX0 RX0 103 yX0_isKept cX0_isKept 2 (some .boolean) (ws_ yX0_isKept cX0_isKept 2 (some .boolean)) rm0_isKept 0 0 1 := cwV 1 hts (lw_V q211 q213 qs10 q21 q214) rfl rfl rfl (by decide +kernel) hR
theorem cw0_isSize {R : Room} {s : State} {args : Array Value} (hts : ∀ w ∈ lw_all, w.before args s = true) (hR : rm0_isSize.frames + 1 ≤ R.frames ∧ 8 + (1 + 11) + rm0_isSize.locals ≤ R.locals) : CallB R s args RX0 77 yX0_isSize cX0_isSize 1 (some .boolean) (ws_ yX0_isSize cX0_isSize 1 (some .boolean)) rm0_isSize 0 0 1 ∧ (Cond.static yX0_isSize).before args s = true := va_cwS 1 hts (lw_S q133 q134 q21 q135) rfl rfl rfl (by decide +kernel) hR
theorem cw0_isWatch {R : Room} {s : State} {args : Array Value} (hts : ∀ w ∈ lw_all, w.before args s = true) (hR : rm0_isWatch.frames + 1 ≤ R.frames ∧ 8 + (1 + 11) + rm0_isWatch.locals ≤ R.locals) : CallB R s args RX0 69 yX0_isWatch cX0_isWatch 1 (some .boolean) (ws_ yX0_isWatch cX0_isWatch 1 (some .boolean)) rm0_isWatch 0 0 1 ∧ (Cond.static yX0_isWatch).before args s = true := va_cwS 1 hts (lw_S q110 q111 q21 q112) rfl rfl rfl (by decide +kernel) hR
theorem cwL0_kept {R : Room} {s : State} {args : Array Value} (hts : ∀ w ∈ lw_all, w.before args s = true) (hR : rm0_kept.frames + 1 ≤ R.frames ∧ 8 + (1 + 11) + rm0_kept.locals ≤ R.locals) : CallW R s args "WatchpointUnitLaw" RX0 66 yX0_kept cX0_kept 1 (some .int) (ws_ yX0_kept cX0_kept 1 (some .int)) rm0_kept 0 0 0 := cwV 0 hts (lw_V q203 q204 q205 q21 q206) rfl rfl rfl (by decide +kernel) hR
theorem cwL0_load {R : Room} {s : State} {args : Array Value} (hts : ∀ w ∈ lw_all, w.before args s = true) (hR : rm0_load.frames + 1 ≤ R.frames ∧ 8 + (4 + 11) + rm0_load.locals ≤ R.locals) : CallW R s args "WatchpointUnitLaw" RX0 32 yX0_load cX0_load 4 (some .int) (ws_ yX0_load cX0_load 4 (some .int)) rm0_load 0 0 2 := cwV 2 hts (lw_V q129 q130 q131 q21 q132) rfl rfl rfl (by decide +kernel) hR
theorem cw0_loadRegisters {R : Room} {s : State} {args : Array Value} (hts : ∀ w ∈ lw_all, w.before args s = true) (hR : rm0_loadRegisters.frames + 1 ≤ R.frames ∧ 8 + (2 + 11) + rm0_loadRegisters.locals ≤ R.locals) : CallW R s args RX0 RX0 126 yX0_loadRegisters cX0_loadRegisters 2 none (ws_ yX0_loadRegisters cX0_loadRegisters 2 none) rm0_loadRegisters 0 0 0 := cwV 0 hts (lw_V q151 q153 qs4 q21 q154) rfl rfl rfl (by decide +kernel) hR
theorem cw0_occupy {R : Room} {s : State} {args : Array Value} (hts : ∀ w ∈ lw_all, w.before args s = true) (hR : rm0_occupy.frames + 1 ≤ R.frames ∧ 8 + (6 + 11) + rm0_occupy.locals ≤ R.locals) : CallW R s args RX0 RX0 122 yX0_occupy cX0_occupy 6 none (ws_ yX0_occupy cX0_occupy 6 none) rm0_occupy 0 0 3 := cwV 3 hts (lw_V q159 q161 qs6 q21 q162) rfl rfl rfl (by decide +kernel) hR
theorem cw0_oldValue {R : Room} {s : State} {args : Array Value} (hts : ∀ w ∈ lw_all, w.before args s = true) (hR : rm0_oldValue.frames + 1 ≤ R.frames ∧ 8 + (4 + 11) + rm0_oldValue.locals ≤ R.locals) : CallW R s args RX0 RX0 137 yX0_oldValue cX0_oldValue 4 (some .int) (ws_ yX0_oldValue cX0_oldValue 4 (some .int)) rm0_oldValue 0 0 1 := cwV 1 hts (lw_V q171 q173 qs9 q21 q174) rfl rfl rfl (by decide +kernel) hR
theorem cwL0_pause {R : Room} {s : State} {args : Array Value} (hts : ∀ w ∈ lw_all, w.before args s = true) (hR : rm0_pause.frames + 1 ≤ R.frames ∧ 8 + (5 + 11) + rm0_pause.locals ≤ R.locals) : CallW R s args "WatchpointUnitLaw" RX0 23 yX0_pause cX0_pause 5 (some .int) (ws_ yX0_pause cX0_pause 5 (some .int)) rm0_pause 0 0 2 := cwV 2 hts (lw_V q121 q122 q123 q21 q124) rfl rfl rfl (by decide +kernel) hR
theorem cwL0_peek {R : Room} {s : State} {args : Array Value} (hts : ∀ w ∈ lw_all, w.before args s = true) (hR : rm0_peek.frames + 1 ≤ R.frames ∧ 8 + (2 + 11) + rm0_peek.locals ≤ R.locals) : CallW R s args "WatchpointUnitLaw" RX0 45 yX0_peek cX0_peek 2 (some .int) (ws_ yX0_peek cX0_peek 2 (some .int)) rm0_peek 0 0 1 := cwV 1 hts (lw_V q183 q184 q185 q21 q186) rfl rfl rfl (by decide +kernel) hR
theorem cw0_refused {R : Room} {s : State} {args : Array Value} (hts : ∀ w ∈ lw_all, w.before args s = true) (hR : rm0_refused.frames + 1 ≤ R.frames ∧ 8 + (2 + 11) + rm0_refused.locals ≤ R.locals) : CallW R s args RX0 RX0 73 yX0_refused cX0_refused 2 (some .int) (ws_ yX0_refused cX0_refused 2 (some .int)) rm0_refused 0 0 1 := cwV 1 hts (lw_V q117 q119 qs0 q21 q120) rfl rfl rfl (by decide +kernel) hR
theorem cw0_remember {R : Room} {s : State} {args : Array Value} (hts : ∀ w ∈ lw_all, w.before args s = true) (hR : rm0_remember.frames + 1 ≤ R.frames ∧ 8 + (4 + 11) + rm0_remember.locals ≤ R.locals) : CallW R s args RX0 RX0 88 yX0_remember cX0_remember 4 none (ws_ yX0_remember cX0_remember 4 none) rm0_remember 0 0 2 := cwV 2 hts (lw_V q143 q145 qs2 q21 q146) rfl rfl rfl (by decide +kernel) hR
theorem cwL0_set {R : Room} {s : State} {args : Array Value} (hts : ∀ w ∈ lw_all, w.before args s = true) (hR : rm0_set.frames + 1 ≤ R.frames ∧ 8 + (6 + 11) + rm0_set.locals ≤ R.locals) : CallW R s args "WatchpointUnitLaw" RX0 13 yX0_set cX0_set 6 (some .int) (ws_ yX0_set cX0_set 6 (some .int)) rm0_set 0 0 4 := cwV 4 hts (lw_V q106 q107 q108 q21 q109) rfl rfl rfl (by decide +kernel) hR
theorem cwL0_skip {R : Room} {s : State} {args : Array Value} (hts : ∀ w ∈ lw_all, w.before args s = true) (hR : rm0_skip.frames + 1 ≤ R.frames ∧ 8 + (5 + 11) + rm0_skip.locals ≤ R.locals) : CallW R s args "WatchpointUnitLaw" RX0 28 yX0_skip cX0_skip 5 (some .int) (ws_ yX0_skip cX0_skip 5 (some .int)) rm0_skip 0 0 2 := cwV 2 hts (lw_V q125 q126 q127 q21 q128) rfl rfl rfl (by decide +kernel) hR
theorem cwL0_skips {R : Room} {s : State} {args : Array Value} (hts : ∀ w ∈ lw_all, w.before args s = true) (hR : rm0_skips.frames + 1 ≤ R.frames ∧ 8 + (3 + 11) + rm0_skips.locals ≤ R.locals) : CallW R s args "WatchpointUnitLaw" RX0 53 yX0_skips cX0_skips 3 (some .int) (ws_ yX0_skips cX0_skips 3 (some .int)) rm0_skips 0 0 1 := cwV 1 hts (lw_V q191 q192 q193 q21 q194) rfl rfl rfl (by decide +kernel) hR
theorem cw0_split {R : Room} {s : State} {args : Array Value} (hts : ∀ w ∈ lw_all, w.before args s = true) (hR : rm0_split.frames + 1 ≤ R.frames ∧ 8 + (5 + 11) + rm0_split.locals ≤ R.locals) : CallW R s args RX0 RX0 118 yX0_split cX0_split 5 none (ws_ yX0_split cX0_split 5 none) rm0_split 0 0 1 := cwV 1 hts (lw_V q155 q157 qs5 q21 q158) rfl rfl rfl (by decide +kernel) hR
theorem cwL0_stopAddress {R : Room} {s : State} {args : Array Value} (hts : ∀ w ∈ lw_all, w.before args s = true) (hR : rm0_stopAddress.frames + 1 ≤ R.frames ∧ 8 + (2 + 11) + rm0_stopAddress.locals ≤ R.locals) : CallW R s args "WatchpointUnitLaw" RX0 74 yX0_stopAddress cX0_stopAddress 2 (some .int) (ws_ yX0_stopAddress cX0_stopAddress 2 (some .int)) rm0_stopAddress 0 0 1 := cwV 1 hts (lw_V q219 q220 q221 q21 q222) rfl rfl rfl (by decide +kernel) hR
theorem cwL0_stopMask {R : Room} {s : State} {args : Array Value} (hts : ∀ w ∈ lw_all, w.before args s = true) (hR : rm0_stopMask.frames + 1 ≤ R.frames ∧ 8 + (2 + 11) + rm0_stopMask.locals ≤ R.locals) : CallW R s args "WatchpointUnitLaw" RX0 70 yX0_stopMask cX0_stopMask 2 (some .int) (ws_ yX0_stopMask cX0_stopMask 2 (some .int)) rm0_stopMask 0 0 1 := cwV 1 hts (lw_V q207 q208 q209 q21 q210) rfl rfl rfl (by decide +kernel) hR
theorem cwL0_stopNumber {R : Room} {s : State} {args : Array Value} (hts : ∀ w ∈ lw_all, w.before args s = true) (hR : rm0_stopNumber.frames + 1 ≤ R.frames ∧ 8 + (2 + 11) + rm0_stopNumber.locals ≤ R.locals) : CallW R s args "WatchpointUnitLaw" RX0 78 yX0_stopNumber cX0_stopNumber 2 (some .int) (ws_ yX0_stopNumber cX0_stopNumber 2 (some .int)) rm0_stopNumber 0 0 1 := cwV 1 hts (lw_V q223 q224 q225 q21 q226) rfl rfl rfl (by decide +kernel) hR
theorem cwL0_stops {R : Room} {s : State} {args : Array Value} (hts : ∀ w ∈ lw_all, w.before args s = true) (hR : rm0_stops.frames + 1 ≤ R.frames ∧ 8 + (1 + 11) + rm0_stops.locals ≤ R.locals) : CallW R s args "WatchpointUnitLaw" RX0 57 yX0_stops cX0_stops 1 (some .int) (ws_ yX0_stops cX0_stops 1 (some .int)) rm0_stops 0 0 0 := cwV 0 hts (lw_V q195 q196 q197 q21 q198) rfl rfl rfl (by decide +kernel) hR
theorem cwL0_store {R : Room} {s : State} {args : Array Value} (hts : ∀ w ∈ lw_all, w.before args s = true) (hR : rm0_store.frames + 1 ≤ R.frames ∧ 8 + (5 + 11) + rm0_store.locals ≤ R.locals) : CallW R s args "WatchpointUnitLaw" RX0 36 yX0_store cX0_store 5 (some .int) (ws_ yX0_store cX0_store 5 (some .int)) rm0_store 0 0 3 := cwV 3 hts (lw_V q175 q176 q177 q21 q178) rfl rfl rfl (by decide +kernel) hR
theorem cw0_suspects {R : Room} {s : State} {args : Array Value} (hts : ∀ w ∈ lw_all, w.before args s = true) (hR : rm0_suspects.frames + 1 ≤ R.frames ∧ 8 + (7 + 11) + rm0_suspects.locals ≤ R.locals) : CallW R s args RX0 RX0 129 yX0_suspects cX0_suspects 7 (some .int) (ws_ yX0_suspects cX0_suspects 7 (some .int)) rm0_suspects 0 0 3 := cwV 3 hts (lw_V q163 q165 qs7 q21 q166) rfl rfl rfl (by decide +kernel) hR
theorem cwL0_sweep {R : Room} {s : State} {args : Array Value} (hts : ∀ w ∈ lw_all, w.before args s = true) (hR : rm0_sweep.frames + 1 ≤ R.frames ∧ 8 + (5 + 11) + rm0_sweep.locals ≤ R.locals) : CallW R s args "WatchpointUnitLaw" RX0 41 yX0_sweep cX0_sweep 5 (some .int) (ws_ yX0_sweep cX0_sweep 5 (some .int)) rm0_sweep 0 0 2 := cwV 2 hts (lw_V q179 q180 q181 q21 q182) rfl rfl rfl (by decide +kernel) hR
theorem cw0_valueAt {R : Room} {s : State} {args : Array Value} (hts : ∀ w ∈ lw_all, w.before args s = true) (hR : rm0_valueAt.frames + 1 ≤ R.frames ∧ 8 + (5 + 11) + rm0_valueAt.locals ≤ R.locals) : CallW R s args RX0 RX0 84 yX0_valueAt cX0_valueAt 5 (some .int) (ws_ yX0_valueAt cX0_valueAt 5 (some .int)) rm0_valueAt 0 0 2 := cwV 2 hts (lw_V q139 q141 qs1 q21 q142) rfl rfl rfl (by decide +kernel) hR
theorem cwL0_watched {R : Room} {s : State} {args : Array Value} (hts : ∀ w ∈ lw_all, w.before args s = true) (hR : rm0_watched.frames + 1 ≤ R.frames ∧ 8 + (5 + 11) + rm0_watched.locals ≤ R.locals) : CallW R s args "WatchpointUnitLaw" RX0 90 yX0_watched cX0_watched 5 (some .int) (ws_ yX0_watched cX0_watched 5 (some .int)) rm0_watched 0 0 0 := cwV 0 hts (lw_V q235 q236 q237 q21 q238) rfl rfl rfl (by decide +kernel) hR
theorem cw1_access {R : Room} {s : State} {args : Array Value} (hts : ∀ w ∈ lw_all, w.before args s = true) (hR : rm1_access.frames + 1 ≤ R.frames ∧ 8 + (7 + 11) + rm1_access.locals ≤ R.locals) : CallW R s args RX1 RX1 86 yX1_access cX1_access 7 (some .int) (ws_ yX1_access cX1_access 7 (some .int)) rm1_access 0 0 4 := cwV 4 hts (lw_V q325 q327 qs14 q22 q328) rfl rfl rfl (by decide +kernel) hR
theorem cwL1_accesses {R : Room} {s : State} {args : Array Value} (hts : ∀ w ∈ lw_all, w.before args s = true) (hR : rm1_accesses.frames + 1 ≤ R.frames ∧ 8 + (1 + 11) + rm1_accesses.locals ≤ R.locals) : CallW R s args "WatchpointUnitLaw" RX1 65 yX1_accesses cX1_accesses 1 (some .int) (ws_ yX1_accesses cX1_accesses 1 (some .int)) rm1_accesses 0 0 0 := cwV 0 hts (lw_V q369 q370 q371 q22 q372) rfl rfl rfl (by decide +kernel) hR
theorem cwL1_after {R : Room} {s : State} {args : Array Value} (hts : ∀ w ∈ lw_all, w.before args s = true) (hR : rm1_after.frames + 1 ≤ R.frames ∧ 8 + (2 + 11) + rm1_after.locals ≤ R.locals) : CallW R s args "WatchpointUnitLaw" RX1 89 yX1_after cX1_after 2 (some .int) (ws_ yX1_after cX1_after 2 (some .int)) rm1_after 0 0 1 := cwV 1 hts (lw_V q397 q398 q399 q22 q400) rfl rfl rfl (by decide +kernel) hR
theorem cw1_bad {R : Room} {s : State} {args : Array Value} (hts : ∀ w ∈ lw_all, w.before args s = true) (hR : rm1_bad.frames + 1 ≤ R.frames ∧ 8 + (2 + 11) + rm1_bad.locals ≤ R.locals) : CallW R s args RX1 RX1 53 yX1_bad cX1_bad 2 (some .boolean) (ws_ yX1_bad cX1_bad 2 (some .boolean)) rm1_bad 0 0 1 := cwV 1 hts (lw_V q301 q303 qs12 q22 q304) rfl rfl rfl (by decide +kernel) hR
theorem cw1_badSize {R : Room} {s : State} {args : Array Value} (hts : ∀ w ∈ lw_all, w.before args s = true) (hR : rm1_badSize.frames + 1 ≤ R.frames ∧ 8 + (2 + 11) + rm1_badSize.locals ≤ R.locals) : CallW R s args RX1 RX1 83 yX1_badSize cX1_badSize 2 (some .boolean) (ws_ yX1_badSize cX1_badSize 2 (some .boolean)) rm1_badSize 0 0 1 := cwV 1 hts (lw_V q321 q323 qs13 q22 q324) rfl rfl rfl (by decide +kernel) hR
theorem cwL1_before {R : Room} {s : State} {args : Array Value} (hts : ∀ w ∈ lw_all, w.before args s = true) (hR : rm1_before.frames + 1 ≤ R.frames ∧ 8 + (2 + 11) + rm1_before.locals ≤ R.locals) : CallW R s args "WatchpointUnitLaw" RX1 85 yX1_before cX1_before 2 (some .int) (ws_ yX1_before cX1_before 2 (some .int)) rm1_before 0 0 1 := cwV 1 hts (lw_V q393 q394 q395 q22 q396) rfl rfl rfl (by decide +kernel) hR
theorem cwL1_clear {R : Room} {s : State} {args : Array Value} (hts : ∀ w ∈ lw_all, w.before args s = true) (hR : rm1_clear.frames + 1 ≤ R.frames ∧ 8 + (2 + 11) + rm1_clear.locals ≤ R.locals) : CallW R s args "WatchpointUnitLaw" RX1 22 yX1_clear cX1_clear 2 (some .int) (ws_ yX1_clear cX1_clear 2 (some .int)) rm1_clear 0 0 1 := cwV 1 hts (lw_V q305 q306 q307 q22 q308) rfl rfl rfl (by decide +kernel) hR
theorem cw1_hit {R : Room} {s : State} {args : Array Value} (hts : ∀ w ∈ lw_all, w.before args s = true) (hR : rm1_hit.frames + 1 ≤ R.frames ∧ 8 + (8 + 11) + rm1_hit.locals ≤ R.locals) : CallW R s args RX1 RX1 75 yX1_hit cX1_hit 8 (some .boolean) (ws_ yX1_hit cX1_hit 8 (some .boolean)) rm1_hit 0 0 4 := cwV 4 hts (lw_V q329 q331 qs15 q22 q332) rfl rfl rfl (by decide +kernel) hR
theorem cwL1_hits {R : Room} {s : State} {args : Array Value} (hts : ∀ w ∈ lw_all, w.before args s = true) (hR : rm1_hits.frames + 1 ≤ R.frames ∧ 8 + (2 + 11) + rm1_hits.locals ≤ R.locals) : CallW R s args "WatchpointUnitLaw" RX1 52 yX1_hits cX1_hits 2 (some .int) (ws_ yX1_hits cX1_hits 2 (some .int)) rm1_hits 0 0 1 := cwV 1 hts (lw_V q357 q358 q359 q22 q360) rfl rfl rfl (by decide +kernel) hR
theorem cw1_inRange {R : Room} {s : State} {args : Array Value} (hts : ∀ w ∈ lw_all, w.before args s = true) (hR : rm1_inRange.frames + 1 ≤ R.frames ∧ 8 + (3 + 11) + rm1_inRange.locals ≤ R.locals) : CallW R s args RX1 RX1 57 yX1_inRange cX1_inRange 3 (some .boolean) (ws_ yX1_inRange cX1_inRange 3 (some .boolean)) rm1_inRange 0 0 2 := cwV 2 hts (lw_V q333 q335 qs16 q22 q336) rfl rfl rfl (by decide +kernel) hR
theorem cw1_keep {R : Room} {s : State} {args : Array Value} (hts : ∀ w ∈ lw_all, w.before args s = true) (hR : rm1_keep.frames + 1 ≤ R.frames ∧ 8 + (5 + 11) + rm1_keep.locals ≤ R.locals) : CallW R s args RX1 RX1 79 yX1_keep cX1_keep 5 none (ws_ yX1_keep cX1_keep 5 none) rm1_keep 0 0 3 := cwV 3 hts (lw_V q337 q339 qs17 q22 q340) rfl rfl rfl (by decide +kernel) hR
theorem cwL1_kept {R : Room} {s : State} {args : Array Value} (hts : ∀ w ∈ lw_all, w.before args s = true) (hR : rm1_kept.frames + 1 ≤ R.frames ∧ 8 + (1 + 11) + rm1_kept.locals ≤ R.locals) : CallW R s args "WatchpointUnitLaw" RX1 69 yX1_kept cX1_kept 1 (some .int) (ws_ yX1_kept cX1_kept 1 (some .int)) rm1_kept 0 0 0 := cwV 0 hts (lw_V q373 q374 q375 q22 q376) rfl rfl rfl (by decide +kernel) hR
theorem cwL1_load {R : Room} {s : State} {args : Array Value} (hts : ∀ w ∈ lw_all, w.before args s = true) (hR : rm1_load.frames + 1 ≤ R.frames ∧ 8 + (3 + 11) + rm1_load.locals ≤ R.locals) : CallW R s args "WatchpointUnitLaw" RX1 35 yX1_load cX1_load 3 (some .int) (ws_ yX1_load cX1_load 3 (some .int)) rm1_load 0 0 2 := cwV 2 hts (lw_V q317 q318 q319 q22 q320) rfl rfl rfl (by decide +kernel) hR
theorem cw1_noStop {R : Room} {s : State} {args : Array Value} (hts : ∀ w ∈ lw_all, w.before args s = true) (hR : rm1_noStop.frames + 1 ≤ R.frames ∧ 8 + (2 + 11) + rm1_noStop.locals ≤ R.locals) : CallW R s args RX1 RX1 90 yX1_noStop cX1_noStop 2 (some .boolean) (ws_ yX1_noStop cX1_noStop 2 (some .boolean)) rm1_noStop 0 0 1 := cwV 1 hts (lw_V q381 q383 qs19 q22 q384) rfl rfl rfl (by decide +kernel) hR
theorem cw1_number {R : Room} {s : State} {args : Array Value} (hts : ∀ w ∈ lw_all, w.before args s = true) (hR : rm1_number.frames + 1 ≤ R.frames ∧ 8 + (7 + 11) + rm1_number.locals ≤ R.locals) : CallW R s args RX1 RX1 65 yX1_number cX1_number 7 (some .int) (ws_ yX1_number cX1_number 7 (some .int)) rm1_number 0 0 3 := cwV 3 hts (lw_V q341 q343 qs18 q22 q344) rfl rfl rfl (by decide +kernel) hR
theorem cwL1_pause {R : Room} {s : State} {args : Array Value} (hts : ∀ w ∈ lw_all, w.before args s = true) (hR : rm1_pause.frames + 1 ≤ R.frames ∧ 8 + (4 + 11) + rm1_pause.locals ≤ R.locals) : CallW R s args "WatchpointUnitLaw" RX1 27 yX1_pause cX1_pause 4 (some .int) (ws_ yX1_pause cX1_pause 4 (some .int)) rm1_pause 0 0 2 := cwV 2 hts (lw_V q309 q310 q311 q22 q312) rfl rfl rfl (by decide +kernel) hR
theorem cwL1_peek {R : Room} {s : State} {args : Array Value} (hts : ∀ w ∈ lw_all, w.before args s = true) (hR : rm1_peek.frames + 1 ≤ R.frames ∧ 8 + (2 + 11) + rm1_peek.locals ≤ R.locals) : CallW R s args "WatchpointUnitLaw" RX1 48 yX1_peek cX1_peek 2 (some .int) (ws_ yX1_peek cX1_peek 2 (some .int)) rm1_peek 0 0 1 := cwV 1 hts (lw_V q353 q354 q355 q22 q356) rfl rfl rfl (by decide +kernel) hR
theorem cwL1_set {R : Room} {s : State} {args : Array Value} (hts : ∀ w ∈ lw_all, w.before args s = true) (hR : rm1_set.frames + 1 ≤ R.frames ∧ 8 + (6 + 11) + rm1_set.locals ≤ R.locals) : CallW R s args "WatchpointUnitLaw" RX1 17 yX1_set cX1_set 6 (some .int) (ws_ yX1_set cX1_set 6 (some .int)) rm1_set 0 0 4 := cwV 4 hts (lw_V q297 q298 q299 q22 q300) rfl rfl rfl (by decide +kernel) hR
theorem cwL1_skip {R : Room} {s : State} {args : Array Value} (hts : ∀ w ∈ lw_all, w.before args s = true) (hR : rm1_skip.frames + 1 ≤ R.frames ∧ 8 + (4 + 11) + rm1_skip.locals ≤ R.locals) : CallW R s args "WatchpointUnitLaw" RX1 31 yX1_skip cX1_skip 4 (some .int) (ws_ yX1_skip cX1_skip 4 (some .int)) rm1_skip 0 0 2 := cwV 2 hts (lw_V q313 q314 q315 q22 q316) rfl rfl rfl (by decide +kernel) hR
theorem cwL1_skips {R : Room} {s : State} {args : Array Value} (hts : ∀ w ∈ lw_all, w.before args s = true) (hR : rm1_skips.frames + 1 ≤ R.frames ∧ 8 + (2 + 11) + rm1_skips.locals ≤ R.locals) : CallW R s args "WatchpointUnitLaw" RX1 56 yX1_skips cX1_skips 2 (some .int) (ws_ yX1_skips cX1_skips 2 (some .int)) rm1_skips 0 0 1 := cwV 1 hts (lw_V q361 q362 q363 q22 q364) rfl rfl rfl (by decide +kernel) hR
theorem cwL1_stopAddress {R : Room} {s : State} {args : Array Value} (hts : ∀ w ∈ lw_all, w.before args s = true) (hR : rm1_stopAddress.frames + 1 ≤ R.frames ∧ 8 + (2 + 11) + rm1_stopAddress.locals ≤ R.locals) : CallW R s args "WatchpointUnitLaw" RX1 77 yX1_stopAddress cX1_stopAddress 2 (some .int) (ws_ yX1_stopAddress cX1_stopAddress 2 (some .int)) rm1_stopAddress 0 0 1 := cwV 1 hts (lw_V q385 q386 q387 q22 q388) rfl rfl rfl (by decide +kernel) hR
theorem cwL1_stopMask {R : Room} {s : State} {args : Array Value} (hts : ∀ w ∈ lw_all, w.before args s = true) (hR : rm1_stopMask.frames + 1 ≤ R.frames ∧ 8 + (2 + 11) + rm1_stopMask.locals ≤ R.locals) : CallW R s args "WatchpointUnitLaw" RX1 73 yX1_stopMask cX1_stopMask 2 (some .int) (ws_ yX1_stopMask cX1_stopMask 2 (some .int)) rm1_stopMask 0 0 1 := cwV 1 hts (lw_V q377 q378 q379 q22 q380) rfl rfl rfl (by decide +kernel) hR
theorem cwL1_stopNumber {R : Room} {s : State} {args : Array Value} (hts : ∀ w ∈ lw_all, w.before args s = true) (hR : rm1_stopNumber.frames + 1 ≤ R.frames ∧ 8 + (2 + 11) + rm1_stopNumber.locals ≤ R.locals) : CallW R s args "WatchpointUnitLaw" RX1 81 yX1_stopNumber cX1_stopNumber 2 (some .int) (ws_ yX1_stopNumber cX1_stopNumber 2 (some .int)) rm1_stopNumber 0 0 1 := cwV 1 hts (lw_V q389 q390 q391 q22 q392) rfl rfl rfl (by decide +kernel) hR
theorem cwL1_stops {R : Room} {s : State} {args : Array Value} (hts : ∀ w ∈ lw_all, w.before args s = true) (hR : rm1_stops.frames + 1 ≤ R.frames ∧ 8 + (1 + 11) + rm1_stops.locals ≤ R.locals) : CallW R s args "WatchpointUnitLaw" RX1 61 yX1_stops cX1_stops 1 (some .int) (ws_ yX1_stops cX1_stops 1 (some .int)) rm1_stops 0 0 0 := cwV 0 hts (lw_V q365 q366 q367 q22 q368) rfl rfl rfl (by decide +kernel) hR
theorem cwL1_store {R : Room} {s : State} {args : Array Value} (hts : ∀ w ∈ lw_all, w.before args s = true) (hR : rm1_store.frames + 1 ≤ R.frames ∧ 8 + (7 + 11) + rm1_store.locals ≤ R.locals) : CallW R s args "WatchpointUnitLaw" RX1 40 yX1_store cX1_store 7 (some .int) (ws_ yX1_store cX1_store 7 (some .int)) rm1_store 0 0 3 := cwV 3 hts (lw_V q345 q346 q347 q22 q348) rfl rfl rfl (by decide +kernel) hR
theorem cwL1_sweep {R : Room} {s : State} {args : Array Value} (hts : ∀ w ∈ lw_all, w.before args s = true) (hR : rm1_sweep.frames + 1 ≤ R.frames ∧ 8 + (6 + 11) + rm1_sweep.locals ≤ R.locals) : CallW R s args "WatchpointUnitLaw" RX1 44 yX1_sweep cX1_sweep 6 (some .int) (ws_ yX1_sweep cX1_sweep 6 (some .int)) rm1_sweep 0 0 2 := cwV 2 hts (lw_V q349 q350 q351 q22 q352) rfl rfl rfl (by decide +kernel) hR
theorem cwL1_watched {R : Room} {s : State} {args : Array Value} (hts : ∀ w ∈ lw_all, w.before args s = true) (hR : rm1_watched.frames + 1 ≤ R.frames ∧ 8 + (5 + 11) + rm1_watched.locals ≤ R.locals) : CallW R s args "WatchpointUnitLaw" RX1 93 yX1_watched cX1_watched 5 (some .int) (ws_ yX1_watched cX1_watched 5 (some .int)) rm1_watched 0 0 0 := cwV 0 hts (lw_V q401 q402 q403 q22 q404) rfl rfl rfl (by decide +kernel) hR
end
section
set_option maxRecDepth 100000
def isWatchX (x : Int32) : Int32 := (if x < 0 then 0 else (if 8 ≤ x then 0 else 1))
set_option maxHeartbeats 1000000 in
theorem b0_isWatch {p : Program} {l : Launch} {e : Env} {R : Room} {s : State} {m : MethodId} {args : Array Value} {below : List Frame} {meth : Method} {c : Code} {Q : State → Prop} {ls : Array Slot} (x : Int32) (F : Fx p m c cX0_isWatch 1 s args (yX0_isWatch).cls) (hl : lv_has ls 1 [(0, .int x)]) (hret : ∀ (ls : Array Slot) (pc : Nat) (v : Int32), isWatchX x = v → decode cX0_isWatch pc = .ok (.ireturn, 1) → W p l e R s m args below meth c s.heap [] 0 0 Q (F0 m pc ls [.int v])) : W p l e R s m args below meth c s.heap [] 0 0 Q (F0 m 0 ls []) := by
  obtain ⟨hx, hb, hml, hown, hts⟩ := F
  refine lv_iload_n hx hb dX0_isWatch_0 rfl (lv_at hl 0 rfl) ?_
  refine lv_cut (J := 15) (rest := []) (if x < 0 then 0 else (if 8 ≤ x then 0 else 1)) (fun kj => ?_) ?_
  · refine lv_if_lt (tgt := 14) hx hb dX0_isWatch_1 (by decide) (fun c_1 => ?_) (fun c_1 => ?_)
    · refine lv_iconst (v := 0) hx hb dX0_isWatch_14 (by decide) ?_
      exact kj _ (by rw [if_pos c_1])
    · refine lv_iload_n hx hb dX0_isWatch_4 rfl (lv_at hl 0 rfl) ?_
      refine lv_bipush (v := 8) hx hb dX0_isWatch_5 (by decide) ?_
      refine lv_icmp_ge (tgt := 14) hx hb dX0_isWatch_7 (by decide) (fun c_7 => ?_) (fun c_7 => ?_)
      · refine lv_iconst (v := 0) hx hb dX0_isWatch_14 (by decide) ?_
        exact kj _ (by rw [if_neg c_1, if_pos c_7])
      · refine lv_iconst (v := 1) hx hb dX0_isWatch_10 (by decide) ?_
        refine lv_goto (tgt := 15) hx hb dX0_isWatch_11 (by decide) ?_
        exact kj _ (by rw [if_neg c_1, if_neg c_7])
  exact hret _ _ _ (rfl) dX0_isWatch_15
theorem c0_isWatch (l : Launch) (x : Int32) : CS l yX0_isWatch cX0_isWatch 1 (some .boolean) rm0_isWatch [.int x] (isWatchX x) := CS.of (by decide) (Nat.le_of_ble_eq_true rfl) (by show narrow .boolean (.int (isWatchX x)) = .int (isWatchX x); unfold isWatchX; (repeat' split) <;> rfl) (fun p e s m args below meth c Q ls F hl hret => b0_isWatch x F hl hret)
def isSizeX (x : Int32) : Int32 := (if x = 1 then 1 else (if x = 2 then 1 else (if x = 4 then 1 else 0)))
set_option maxHeartbeats 1000000 in
theorem b0_isSize {p : Program} {l : Launch} {e : Env} {R : Room} {s : State} {m : MethodId} {args : Array Value} {below : List Frame} {meth : Method} {c : Code} {Q : State → Prop} {ls : Array Slot} (x : Int32) (F : Fx p m c cX0_isSize 1 s args (yX0_isSize).cls) (hl : lv_has ls 1 [(0, .int x)]) (hret : ∀ (ls : Array Slot) (pc : Nat) (v : Int32), isSizeX x = v → decode cX0_isSize pc = .ok (.ireturn, 1) → W p l e R s m args below meth c s.heap [] 0 0 Q (F0 m pc ls [.int v])) : W p l e R s m args below meth c s.heap [] 0 0 Q (F0 m 0 ls []) := by
  obtain ⟨hx, hb, hml, hown, hts⟩ := F
  refine lv_iload_n hx hb dX0_isSize_0 rfl (lv_at hl 0 rfl) ?_
  refine lv_iconst (v := 1) hx hb dX0_isSize_1 (by decide) ?_
  refine lv_cut (J := 20) (rest := []) (if x = 1 then 1 else (if x = 2 then 1 else (if x = 4 then 1 else 0))) (fun kj => ?_) ?_
  · refine lv_icmp_eq (tgt := 15) hx hb dX0_isSize_2 (by decide) (fun c_2 => ?_) (fun c_2 => ?_)
    · refine lv_iconst (v := 1) hx hb dX0_isSize_15 (by decide) ?_
      refine lv_goto (tgt := 20) hx hb dX0_isSize_16 (by decide) ?_
      exact kj _ (by rw [if_pos c_2])
    · refine lv_iload_n hx hb dX0_isSize_5 rfl (lv_at hl 0 rfl) ?_
      refine lv_iconst (v := 2) hx hb dX0_isSize_6 (by decide) ?_
      refine lv_icmp_eq (tgt := 15) hx hb dX0_isSize_7 (by decide) (fun c_7 => ?_) (fun c_7 => ?_)
      · refine lv_iconst (v := 1) hx hb dX0_isSize_15 (by decide) ?_
        refine lv_goto (tgt := 20) hx hb dX0_isSize_16 (by decide) ?_
        exact kj _ (by rw [if_neg c_2, if_pos c_7])
      · refine lv_iload_n hx hb dX0_isSize_10 rfl (lv_at hl 0 rfl) ?_
        refine lv_iconst (v := 4) hx hb dX0_isSize_11 (by decide) ?_
        refine lv_icmp_ne (tgt := 19) hx hb dX0_isSize_12 (by decide) (fun c_12 => ?_) (fun c_12 => ?_)
        · refine lv_iconst (v := 0) hx hb dX0_isSize_19 (by decide) ?_
          exact kj _ (by rw [if_neg c_2, if_neg c_7, if_neg c_12])
        · refine lv_iconst (v := 1) hx hb dX0_isSize_15 (by decide) ?_
          refine lv_goto (tgt := 20) hx hb dX0_isSize_16 (by decide) ?_
          exact kj _ (by rw [if_neg c_2, if_neg c_7, if_pos c_12])
  exact hret _ _ _ (rfl) dX0_isSize_20
theorem c0_isSize (l : Launch) (x : Int32) : CS l yX0_isSize cX0_isSize 1 (some .boolean) rm0_isSize [.int x] (isSizeX x) := CS.of (by decide) (Nat.le_of_ble_eq_true rfl) (by show narrow .boolean (.int (isSizeX x)) = .int (isSizeX x); unfold isSizeX; (repeat' split) <;> rfl) (fun p e s m args below meth c Q ls F hl hret => b0_isSize x F hl hret)
def fitsX (x y : Int32) : Int32 := (if x < 0 then 0 else (if (40 - y) < x then 0 else 1))
set_option maxHeartbeats 1000000 in
theorem b0_fits {p : Program} {l : Launch} {e : Env} {R : Room} {s : State} {m : MethodId} {args : Array Value} {below : List Frame} {meth : Method} {c : Code} {Q : State → Prop} {ls : Array Slot} (x y : Int32) (F : Fx p m c cX0_fits 2 s args (yX0_fits).cls) (hl : lv_has ls 2 [(0, .int x), (1, .int y)]) (hret : ∀ (ls : Array Slot) (pc : Nat) (v : Int32), fitsX x y = v → decode cX0_fits pc = .ok (.ireturn, 1) → W p l e R s m args below meth c s.heap [] 0 0 Q (F0 m pc ls [.int v])) : W p l e R s m args below meth c s.heap [] 0 0 Q (F0 m 0 ls []) := by
  obtain ⟨hx, hb, hml, hown, hts⟩ := F
  refine lv_iload_n hx hb dX0_fits_0 rfl (lv_at hl 0 rfl) ?_
  refine lv_cut (J := 17) (rest := []) (if x < 0 then 0 else (if (40 - y) < x then 0 else 1)) (fun kj => ?_) ?_
  · refine lv_if_lt (tgt := 16) hx hb dX0_fits_1 (by decide) (fun c_1 => ?_) (fun c_1 => ?_)
    · refine lv_iconst (v := 0) hx hb dX0_fits_16 (by decide) ?_
      exact kj _ (by rw [if_pos c_1])
    · refine lv_iload_n hx hb dX0_fits_4 rfl (lv_at hl 0 rfl) ?_
      refine lv_bipush (v := 40) hx hb dX0_fits_5 (by decide) ?_
      refine lv_iload_n hx hb dX0_fits_7 rfl (lv_at hl 1 rfl) ?_
      refine lv_isub hx hb dX0_fits_8 ?_
      refine lv_icmp_gt (tgt := 16) hx hb dX0_fits_9 (by decide) (fun c_9 => ?_) (fun c_9 => ?_)
      · refine lv_iconst (v := 0) hx hb dX0_fits_16 (by decide) ?_
        exact kj _ (by rw [if_neg c_1, if_pos c_9])
      · refine lv_iconst (v := 1) hx hb dX0_fits_12 (by decide) ?_
        refine lv_goto (tgt := 17) hx hb dX0_fits_13 (by decide) ?_
        exact kj _ (by rw [if_neg c_1, if_neg c_9])
  exact hret _ _ _ (rfl) dX0_fits_17
theorem c0_fits (l : Launch) (x y : Int32) : CS l yX0_fits cX0_fits 2 (some .boolean) rm0_fits [.int x, .int y] (fitsX x y) := CS.of (by decide) (Nat.le_of_ble_eq_true rfl) (by show narrow .boolean (.int (fitsX x y)) = .int (fitsX x y); unfold fitsX; (repeat' split) <;> rfl) (fun p e s m args below meth c Q ls F hl hret => b0_fits x y F hl hret)
theorem isWatch_in {x : Int32} (hh : ¬ isWatchX x = 0) : x = nI (tn x) ∧ tn x < 8 := by
  unfold isWatchX at hh
  by_cases h1 : x < 0
  · exact absurd (if_pos h1) hh
  · rw [if_neg h1] at hh
    by_cases h2 : 8 ≤ x
    · exact absurd (if_pos h2) hh
    · exact tn_of (n := 8) (by decide) h1 h2
def refusedX (σ : St) (x : Int32) : Int32 := (if (isWatchX x) = 0 then (-1) else (if (σ.1 1 (tn x)) = 0 then (-2) else 0))
set_option maxHeartbeats 1000000 in
theorem b0_refused {p : Program} {l : Launch} {e : Env} {s : State} {m : MethodId} {args : Array Value} {below : List Frame} {meth : Method} {c : Code} {Q : State → Prop} {D : va_G} {A : Nat → Prop} {h0 : Nat} {h : Nat → Nat} {ca : Nat → ClassId} {σ : St} {H : Heap} {locs : List Loc} {ls : Array Slot} (x : Int32) (F : Fx p m c cX0_refused 2 s args RX0) (G : Wd0 D s A h0 h ca σ H locs) (hl : lv_has ls 2 [(0, .ref h0), (1, .int x)]) (hret : RetI0 p l e rm0_refused s m args below meth c cX0_refused Q D A h0 h ca (refusedX σ x, σ)) : W p l e rm0_refused s m args below meth c H locs 0 0 Q (F0 m 0 ls []) := by
  obtain ⟨hx, hb, hml, hown, hts⟩ := F
  refine lv_iload_n hx hb dX0_refused_0 rfl (lv_at hl 1 rfl) ?_
  refine callS0 (av := [.int x]) (rest := []) hx hb hml hts hown (c0_isWatch l x) (cw0_isWatch hts ⟨Nat.le_of_ble_eq_true rfl, Nat.le_of_ble_eq_true rfl⟩) G rfl hl.1 rfl (Nat.le_of_ble_eq_true rfl) dX0_refused_1 ⟨Nat.zero_le _, Nat.zero_le _⟩ (fun H locs G => ?_)
  refine lv_if_ne (tgt := 9) hx hb dX0_refused_4 (by decide) (fun c_4 => ?_) (fun c_4 => ?_)
  · have hw := isWatch_in c_4
    refine lv_aload_n hx hb dX0_refused_9 rfl (lv_at hl 0 rfl) ?_
    refine g0_1 hx hb hts hown G dX0_refused_10 ?_
    refine lv_iload_n hx hb dX0_refused_13 rfl (lv_at hl 1 rfl) ?_
    refine l0_1 (tn x) hx hb G hw.1 hw.2 dX0_refused_14 ?_
    refine lv_cut (J := 24) (rest := []) (if (σ.1 1 (tn x)) = 0 then (-2) else 0) (fun kj => ?_) ?_
    · refine lv_if_eq (tgt := 22) hx hb dX0_refused_15 (by decide) (fun c_15 => ?_) (fun c_15 => ?_)
      · refine lv_bipush (v := -2) hx hb dX0_refused_22 (by decide) ?_
        exact kj _ (by rw [if_pos c_15])
      · refine lv_iconst (v := 0) hx hb dX0_refused_18 (by decide) ?_
        refine lv_goto (tgt := 24) hx hb dX0_refused_19 (by decide) ?_
        exact kj _ (by rw [if_neg c_15])
    exact hret _ _ _ _ _ _ G (by unfold refusedX; rw [if_neg c_4]) dX0_refused_24
  · refine lv_iconst (v := -1) hx hb dX0_refused_7 (by decide) ?_
    exact hret _ _ _ _ _ _ G (by unfold refusedX; rw [if_pos c_4]) dX0_refused_8
theorem c0_refused (l : Launch) (σ : St) (x : Int32) : C0 l yX0_refused cX0_refused 2 (some .int) rm0_refused [.int x] σ (refusedX σ x, σ) := C0.of (by decide) rfl (fun _ => Nat.le_of_ble_eq_true rfl) rfl (fun p e s m args below meth c Q D A h0 h ca ls F G hl hret => b0_refused x F G hl hret)
theorem refused_in {σ : St} {x : Int32} (hh : 0 ≤ refusedX σ x) : x = nI (tn x) ∧ tn x < 8 := by
  unfold refusedX at hh
  by_cases h1 : isWatchX x = 0
  · rw [if_pos h1] at hh
    exact absurd hh (by decide)
  · exact isWatch_in h1
def isKeptX (σ : St) (x : Int32) : Int32 := (if x < 0 then 0 else (if 8 ≤ x then 0 else (if (σ.2 23) ≤ x then 0 else 1)))
set_option maxHeartbeats 1000000 in
theorem b0_isKept {p : Program} {l : Launch} {e : Env} {R : Room} {s : State} {m : MethodId} {args : Array Value} {below : List Frame} {meth : Method} {c : Code} {Q : State → Prop} {D : va_G} {A : Nat → Prop} {h0 : Nat} {h : Nat → Nat} {ca : Nat → ClassId} {σ : St} {H : Heap} {locs : List Loc} {ls : Array Slot} (x : Int32) (F : Fx p m c cX0_isKept 2 s args RX0) (G : Wd0 D s A h0 h ca σ H locs) (hl : lv_has ls 2 [(0, .ref h0), (1, .int x)]) (hret : RetI0 p l e R s m args below meth c cX0_isKept Q D A h0 h ca (isKeptX σ x, σ)) : W p l e R s m args below meth c H locs 0 0 Q (F0 m 0 ls []) := by
  obtain ⟨hx, hb, hml, hown, hts⟩ := F
  refine lv_iload_n hx hb dX0_isKept_0 rfl (lv_at hl 1 rfl) ?_
  refine lv_cut (J := 23) (rest := []) (if x < 0 then 0 else (if 8 ≤ x then 0 else (if (σ.2 23) ≤ x then 0 else 1))) (fun kj => ?_) ?_
  · refine lv_if_lt (tgt := 22) hx hb dX0_isKept_1 (by decide) (fun c_1 => ?_) (fun c_1 => ?_)
    · refine lv_iconst (v := 0) hx hb dX0_isKept_22 (by decide) ?_
      exact kj _ (by rw [if_pos c_1])
    · refine lv_iload_n hx hb dX0_isKept_4 rfl (lv_at hl 1 rfl) ?_
      refine lv_bipush (v := 8) hx hb dX0_isKept_5 (by decide) ?_
      refine lv_icmp_ge (tgt := 22) hx hb dX0_isKept_7 (by decide) (fun c_7 => ?_) (fun c_7 => ?_)
      · refine lv_iconst (v := 0) hx hb dX0_isKept_22 (by decide) ?_
        exact kj _ (by rw [if_neg c_1, if_pos c_7])
      · refine lv_iload_n hx hb dX0_isKept_10 rfl (lv_at hl 1 rfl) ?_
        refine lv_aload_n hx hb dX0_isKept_11 rfl (lv_at hl 0 rfl) ?_
        refine g0_23 hx hb hts hown G dX0_isKept_12 ?_
        refine lv_icmp_ge (tgt := 22) hx hb dX0_isKept_15 (by decide) (fun c_15 => ?_) (fun c_15 => ?_)
        · refine lv_iconst (v := 0) hx hb dX0_isKept_22 (by decide) ?_
          exact kj _ (by rw [if_neg c_1, if_neg c_7, if_pos c_15])
        · refine lv_iconst (v := 1) hx hb dX0_isKept_18 (by decide) ?_
          refine lv_goto (tgt := 23) hx hb dX0_isKept_19 (by decide) ?_
          exact kj _ (by rw [if_neg c_1, if_neg c_7, if_neg c_15])
  exact hret _ _ _ _ _ _ G (rfl) dX0_isKept_23
theorem c0_isKept (l : Launch) (σ : St) (x : Int32) : C0 l yX0_isKept cX0_isKept 2 (some .boolean) rm0_isKept [.int x] σ (isKeptX σ x, σ) := C0.of (by decide) rfl (fun _ => Nat.le_of_ble_eq_true rfl) (by show narrow .boolean (.int (isKeptX σ x)) = .int (isKeptX σ x); unfold isKeptX; (repeat' split) <;> rfl) (fun p e s m args below meth c Q D A h0 h ca ls F G hl hret => b0_isKept x F G hl hret)
def cellOfX (σ : St) (x : Int32) : Int32 := ((((σ.2 23) - 1) - x) &&& 7)
set_option maxHeartbeats 1000000 in
theorem b0_cellOf {p : Program} {l : Launch} {e : Env} {R : Room} {s : State} {m : MethodId} {args : Array Value} {below : List Frame} {meth : Method} {c : Code} {Q : State → Prop} {D : va_G} {A : Nat → Prop} {h0 : Nat} {h : Nat → Nat} {ca : Nat → ClassId} {σ : St} {H : Heap} {locs : List Loc} {ls : Array Slot} (x : Int32) (F : Fx p m c cX0_cellOf 2 s args RX0) (G : Wd0 D s A h0 h ca σ H locs) (hl : lv_has ls 2 [(0, .ref h0), (1, .int x)]) (hret : RetI0 p l e R s m args below meth c cX0_cellOf Q D A h0 h ca (cellOfX σ x, σ)) : W p l e R s m args below meth c H locs 0 0 Q (F0 m 0 ls []) := by
  obtain ⟨hx, hb, hml, hown, hts⟩ := F
  refine lv_aload_n hx hb dX0_cellOf_0 rfl (lv_at hl 0 rfl) ?_
  refine g0_23 hx hb hts hown G dX0_cellOf_1 ?_
  refine lv_iconst (v := 1) hx hb dX0_cellOf_4 (by decide) ?_
  refine lv_isub hx hb dX0_cellOf_5 ?_
  refine lv_iload_n hx hb dX0_cellOf_6 rfl (lv_at hl 1 rfl) ?_
  refine lv_isub hx hb dX0_cellOf_7 ?_
  refine lv_bipush (v := 7) hx hb dX0_cellOf_8 (by decide) ?_
  refine lv_iand hx hb dX0_cellOf_10 ?_
  exact hret _ _ _ _ _ _ G (rfl) dX0_cellOf_11
theorem c0_cellOf (l : Launch) (σ : St) (x : Int32) : C0 l yX0_cellOf cX0_cellOf 2 (some .int) rm0_cellOf [.int x] σ (cellOfX σ x, σ) := C0.of (by decide) rfl (fun _ => Nat.le_of_ble_eq_true rfl) rfl (fun p e s m args below meth c Q D A h0 h ca ls F G hl hret => b0_cellOf x F G hl hret)
def setX (σ : St) (x y z u : Int32) : Int32 × St := (if (isWatchX x) = 0 then ((-1), σ) else (if z < 1 then ((-2), σ) else (if z ≤ 16 then (if y < 0 then ((-3), σ) else (if y ≤ (40 - z) then (if u < 1 then ((-4), σ) else (if u ≤ 4 then (if (σ.1 1 (tn x)) = 0 then 0 else 1, sV (sA (sA (sA (sA (sA (sA (sA σ 1 (tn x) 1) 2 (tn x) 0) 3 (tn x) y) 4 (tn x) ((y + z) - 1)) 5 (tn x) u) 6 (tn x) 0) 7 (tn x) 0) 20 0) else ((-4), σ))) else ((-3), σ))) else ((-2), σ))))
set_option maxHeartbeats 1000000 in
theorem b0_set {p : Program} {l : Launch} {e : Env} {s : State} {m : MethodId} {args : Array Value} {below : List Frame} {meth : Method} {c : Code} {Q : State → Prop} {D : va_G} {A : Nat → Prop} {h0 : Nat} {h : Nat → Nat} {ca : Nat → ClassId} {σ : St} {H : Heap} {locs : List Loc} {ls : Array Slot} (x y z u : Int32) (F : Fx p m c cX0_set 6 s args RX0) (G : Wd0 D s A h0 h ca σ H locs) (hl : lv_has ls 6 [(0, .ref h0), (1, .int x), (2, .int y), (3, .int z), (4, .int u)]) (hret : RetI0 p l e rm0_set s m args below meth c cX0_set Q D A h0 h ca (setX σ x y z u)) : W p l e rm0_set s m args below meth c H locs 0 0 Q (F0 m 0 ls []) := by
  obtain ⟨hx, hb, hml, hown, hts⟩ := F
  refine lv_iload_n hx hb dX0_set_0 rfl (lv_at hl 1 rfl) ?_
  refine callS0 (av := [.int x]) (rest := []) hx hb hml hts hown (c0_isWatch l x) (cw0_isWatch hts ⟨Nat.le_of_ble_eq_true rfl, Nat.le_of_ble_eq_true rfl⟩) G rfl hl.1 rfl (Nat.le_of_ble_eq_true rfl) dX0_set_1 ⟨Nat.zero_le _, Nat.zero_le _⟩ (fun H locs G => ?_)
  refine lv_if_ne (tgt := 9) hx hb dX0_set_4 (by decide) (fun c_4 => ?_) (fun c_4 => ?_)
  · refine lv_iload_n hx hb dX0_set_9 rfl (lv_at hl 3 rfl) ?_
    refine lv_iconst (v := 1) hx hb dX0_set_10 (by decide) ?_
    refine lv_icmp_lt (tgt := 20) hx hb dX0_set_11 (by decide) (fun c_11 => ?_) (fun c_11 => ?_)
    · refine lv_bipush (v := -2) hx hb dX0_set_20 (by decide) ?_
      exact hret _ _ _ _ _ _ G (by unfold setX; rw [if_neg c_4, if_pos c_11]) dX0_set_22
    · refine lv_iload_n hx hb dX0_set_14 rfl (lv_at hl 3 rfl) ?_
      refine lv_bipush (v := 16) hx hb dX0_set_15 (by decide) ?_
      refine lv_icmp_le (tgt := 23) hx hb dX0_set_17 (by decide) (fun c_17 => ?_) (fun c_17 => ?_)
      · refine lv_iload_n hx hb dX0_set_23 rfl (lv_at hl 2 rfl) ?_
        refine lv_if_lt (tgt := 35) hx hb dX0_set_24 (by decide) (fun c_24 => ?_) (fun c_24 => ?_)
        · refine lv_bipush (v := -3) hx hb dX0_set_35 (by decide) ?_
          exact hret _ _ _ _ _ _ G (by unfold setX; rw [if_neg c_4, if_neg c_11, if_pos c_17, if_pos c_24]) dX0_set_37
        · refine lv_iload_n hx hb dX0_set_27 rfl (lv_at hl 2 rfl) ?_
          refine lv_bipush (v := 40) hx hb dX0_set_28 (by decide) ?_
          refine lv_iload_n hx hb dX0_set_30 rfl (lv_at hl 3 rfl) ?_
          refine lv_isub hx hb dX0_set_31 ?_
          refine lv_icmp_le (tgt := 38) hx hb dX0_set_32 (by decide) (fun c_32 => ?_) (fun c_32 => ?_)
          · refine lv_iload hx hb dX0_set_38 (lv_at hl 4 rfl) ?_
            refine lv_iconst (v := 1) hx hb dX0_set_40 (by decide) ?_
            refine lv_icmp_lt (tgt := 50) hx hb dX0_set_41 (by decide) (fun c_41 => ?_) (fun c_41 => ?_)
            · refine lv_bipush (v := -4) hx hb dX0_set_50 (by decide) ?_
              exact hret _ _ _ _ _ _ G (by unfold setX; rw [if_neg c_4, if_neg c_11, if_pos c_17, if_neg c_24, if_pos c_32, if_pos c_41]) dX0_set_52
            · refine lv_iload hx hb dX0_set_44 (lv_at hl 4 rfl) ?_
              refine lv_iconst (v := 4) hx hb dX0_set_46 (by decide) ?_
              refine lv_icmp_le (tgt := 53) hx hb dX0_set_47 (by decide) (fun c_47 => ?_) (fun c_47 => ?_)
              · have hw := isWatch_in c_4
                refine lv_aload_n hx hb dX0_set_53 rfl (lv_at hl 0 rfl) ?_
                refine g0_1 hx hb hts hown G dX0_set_54 ?_
                refine lv_iload_n hx hb dX0_set_57 rfl (lv_at hl 1 rfl) ?_
                refine l0_1 (tn x) hx hb G hw.1 hw.2 dX0_set_58 ?_
                refine lv_cut (J := 67) (rest := []) (if (σ.1 1 (tn x)) = 0 then 0 else 1) (fun kj => ?_) ?_
                · refine lv_if_eq (tgt := 66) hx hb dX0_set_59 (by decide) (fun c_59 => ?_) (fun c_59 => ?_)
                  · refine lv_iconst (v := 0) hx hb dX0_set_66 (by decide) ?_
                    exact kj _ (by rw [if_pos c_59])
                  · refine lv_iconst (v := 1) hx hb dX0_set_62 (by decide) ?_
                    refine lv_goto (tgt := 67) hx hb dX0_set_63 (by decide) ?_
                    exact kj _ (by rw [if_neg c_59])
                refine lv_istore (lv' := [(5, .int (if (σ.1 1 (tn x)) = 0 then 0 else 1)), (0, .ref h0), (1, .int x), (2, .int y), (3, .int z), (4, .int u)]) hx hb dX0_set_67 hl (by decide) rfl (fun ls hl => ?_)
                refine lv_aload_n hx hb dX0_set_69 rfl (lv_at hl 1 rfl) ?_
                refine g0_1 hx hb hts hown G dX0_set_70 ?_
                refine lv_iload_n hx hb dX0_set_73 rfl (lv_at hl 2 rfl) ?_
                refine lv_iconst (v := 1) hx hb dX0_set_74 (by decide) ?_
                refine a0_1 (tn x) hx hb G hw.1 hw.2 (by decide) dX0_set_75 (fun H locs G => ?_)
                refine lv_aload_n hx hb dX0_set_76 rfl (lv_at hl 1 rfl) ?_
                refine g0_2 hx hb hts hown G dX0_set_77 ?_
                refine lv_iload_n hx hb dX0_set_80 rfl (lv_at hl 2 rfl) ?_
                refine lv_iconst (v := 0) hx hb dX0_set_81 (by decide) ?_
                refine a0_2 (tn x) hx hb G hw.1 hw.2 (by decide) dX0_set_82 (fun H locs G => ?_)
                refine lv_aload_n hx hb dX0_set_83 rfl (lv_at hl 1 rfl) ?_
                refine g0_3 hx hb hts hown G dX0_set_84 ?_
                refine lv_iload_n hx hb dX0_set_87 rfl (lv_at hl 2 rfl) ?_
                refine lv_iload_n hx hb dX0_set_88 rfl (lv_at hl 3 rfl) ?_
                refine a0_3 (tn x) hx hb G hw.1 hw.2 dX0_set_89 (fun H locs G => ?_)
                refine lv_aload_n hx hb dX0_set_90 rfl (lv_at hl 1 rfl) ?_
                refine g0_4 hx hb hts hown G dX0_set_91 ?_
                refine lv_iload_n hx hb dX0_set_94 rfl (lv_at hl 2 rfl) ?_
                refine lv_iload_n hx hb dX0_set_95 rfl (lv_at hl 3 rfl) ?_
                refine lv_iload_n hx hb dX0_set_96 rfl (lv_at hl 4 rfl) ?_
                refine lv_iadd hx hb dX0_set_97 ?_
                refine lv_iconst (v := 1) hx hb dX0_set_98 (by decide) ?_
                refine lv_isub hx hb dX0_set_99 ?_
                refine a0_4 (tn x) hx hb G hw.1 hw.2 dX0_set_100 (fun H locs G => ?_)
                refine lv_aload_n hx hb dX0_set_101 rfl (lv_at hl 1 rfl) ?_
                refine g0_5 hx hb hts hown G dX0_set_102 ?_
                refine lv_iload_n hx hb dX0_set_105 rfl (lv_at hl 2 rfl) ?_
                refine lv_iload hx hb dX0_set_106 (lv_at hl 5 rfl) ?_
                refine a0_5 (tn x) hx hb G hw.1 hw.2 dX0_set_108 (fun H locs G => ?_)
                refine lv_aload_n hx hb dX0_set_109 rfl (lv_at hl 1 rfl) ?_
                refine g0_6 hx hb hts hown G dX0_set_110 ?_
                refine lv_iload_n hx hb dX0_set_113 rfl (lv_at hl 2 rfl) ?_
                refine lv_iconst (v := 0) hx hb dX0_set_114 (by decide) ?_
                refine a0_6 (tn x) hx hb G hw.1 hw.2 dX0_set_115 (fun H locs G => ?_)
                refine lv_aload_n hx hb dX0_set_116 rfl (lv_at hl 1 rfl) ?_
                refine g0_7 hx hb hts hown G dX0_set_117 ?_
                refine lv_iload_n hx hb dX0_set_120 rfl (lv_at hl 2 rfl) ?_
                refine lv_iconst (v := 0) hx hb dX0_set_121 (by decide) ?_
                refine a0_7 (tn x) hx hb G hw.1 hw.2 dX0_set_122 (fun H locs G => ?_)
                refine lv_aload_n hx hb dX0_set_123 rfl (lv_at hl 1 rfl) ?_
                refine lv_iconst (v := 0) hx hb dX0_set_124 (by decide) ?_
                refine p0_20 hx hb hts hown G (by decide) (by decide) dX0_set_125 (fun H locs G => ?_)
                refine lv_iload hx hb dX0_set_128 (lv_at hl 0 rfl) ?_
                exact hret _ _ _ _ _ _ G (by unfold setX; rw [if_neg c_4, if_neg c_11, if_pos c_17, if_neg c_24, if_pos c_32, if_neg c_41, if_pos c_47]) dX0_set_130
              · refine lv_bipush (v := -4) hx hb dX0_set_50 (by decide) ?_
                exact hret _ _ _ _ _ _ G (by unfold setX; rw [if_neg c_4, if_neg c_11, if_pos c_17, if_neg c_24, if_pos c_32, if_neg c_41, if_neg c_47]) dX0_set_52
          · refine lv_bipush (v := -3) hx hb dX0_set_35 (by decide) ?_
            exact hret _ _ _ _ _ _ G (by unfold setX; rw [if_neg c_4, if_neg c_11, if_pos c_17, if_neg c_24, if_neg c_32]) dX0_set_37
      · refine lv_bipush (v := -2) hx hb dX0_set_20 (by decide) ?_
        exact hret _ _ _ _ _ _ G (by unfold setX; rw [if_neg c_4, if_neg c_11, if_neg c_17]) dX0_set_22
  · refine lv_iconst (v := -1) hx hb dX0_set_7 (by decide) ?_
    exact hret _ _ _ _ _ _ G (by unfold setX; rw [if_pos c_4]) dX0_set_8
theorem c0_set (l : Launch) (σ : St) (x y z u : Int32) : C0 l yX0_set cX0_set 6 (some .int) rm0_set [.int x, .int y, .int z, .int u] σ (setX σ x y z u) := C0.of (by decide) rfl (fun _ => Nat.le_of_ble_eq_true rfl) rfl (fun p e s m args below meth c Q D A h0 h ca ls F G hl hret => b0_set x y z u F G hl hret)
def clearX (σ : St) (x : Int32) : Int32 × St := (if 0 ≤ (refusedX σ x) then ((sV (sA σ 1 (tn x) 0) 20 0).1 7 (tn x), sV (sA σ 1 (tn x) 0) 20 0) else (refusedX σ x, σ))
set_option maxHeartbeats 1000000 in
theorem b0_clear {p : Program} {l : Launch} {e : Env} {s : State} {m : MethodId} {args : Array Value} {below : List Frame} {meth : Method} {c : Code} {Q : State → Prop} {D : va_G} {A : Nat → Prop} {h0 : Nat} {h : Nat → Nat} {ca : Nat → ClassId} {σ : St} {H : Heap} {locs : List Loc} {ls : Array Slot} (x : Int32) (F : Fx p m c cX0_clear 3 s args RX0) (G : Wd0 D s A h0 h ca σ H locs) (hl : lv_has ls 3 [(0, .ref h0), (1, .int x)]) (hret : RetI0 p l e rm0_clear s m args below meth c cX0_clear Q D A h0 h ca (clearX σ x)) : W p l e rm0_clear s m args below meth c H locs 0 0 Q (F0 m 0 ls []) := by
  obtain ⟨hx, hb, hml, hown, hts⟩ := F
  refine lv_aload_n hx hb dX0_clear_0 rfl (lv_at hl 0 rfl) ?_
  refine lv_iload_n hx hb dX0_clear_1 rfl (lv_at hl 1 rfl) ?_
  refine call0I (av := [.int x]) (rest := []) hx hb hml hts hown (c0_refused l σ x) (cw0_refused hts ⟨Nat.le_of_ble_eq_true rfl, Nat.le_of_ble_eq_true rfl⟩) G rfl hl.1 rfl (Nat.le_of_ble_eq_true rfl) dX0_clear_2 ⟨Nat.zero_le _, Nat.zero_le _⟩ (fun H locs G => ?_)
  refine lv_istore_n (lv' := [(2, .int (refusedX σ x)), (0, .ref h0), (1, .int x)]) hx hb dX0_clear_5 rfl hl (by decide) rfl (fun ls hl => ?_)
  refine lv_iload_n hx hb dX0_clear_6 rfl (lv_at hl 0 rfl) ?_
  refine lv_if_ge (tgt := 12) hx hb dX0_clear_7 (by decide) (fun c_7 => ?_) (fun c_7 => ?_)
  · have hw := refused_in c_7
    refine lv_aload_n hx hb dX0_clear_12 rfl (lv_at hl 1 rfl) ?_
    refine g0_1 hx hb hts hown G dX0_clear_13 ?_
    refine lv_iload_n hx hb dX0_clear_16 rfl (lv_at hl 2 rfl) ?_
    refine lv_iconst (v := 0) hx hb dX0_clear_17 (by decide) ?_
    refine a0_1 (tn x) hx hb G hw.1 hw.2 (by decide) dX0_clear_18 (fun H locs G => ?_)
    refine lv_aload_n hx hb dX0_clear_19 rfl (lv_at hl 1 rfl) ?_
    refine lv_iconst (v := 0) hx hb dX0_clear_20 (by decide) ?_
    refine p0_20 hx hb hts hown G (by decide) (by decide) dX0_clear_21 (fun H locs G => ?_)
    refine lv_aload_n hx hb dX0_clear_24 rfl (lv_at hl 1 rfl) ?_
    refine g0_7 hx hb hts hown G dX0_clear_25 ?_
    refine lv_iload_n hx hb dX0_clear_28 rfl (lv_at hl 2 rfl) ?_
    refine l0_7 (tn x) hx hb G hw.1 hw.2 dX0_clear_29 ?_
    exact hret _ _ _ _ _ _ G (by unfold clearX; rw [if_pos c_7]) dX0_clear_30
  · refine lv_iload_n hx hb dX0_clear_10 rfl (lv_at hl 0 rfl) ?_
    exact hret _ _ _ _ _ _ G (by unfold clearX; rw [if_neg c_7]) dX0_clear_11
theorem c0_clear (l : Launch) (σ : St) (x : Int32) : C0 l yX0_clear cX0_clear 3 (some .int) rm0_clear [.int x] σ (clearX σ x) := C0.of (by decide) rfl (fun _ => Nat.le_of_ble_eq_true rfl) rfl (fun p e s m args below meth c Q D A h0 h ca ls F G hl hret => b0_clear x F G hl hret)
def pauseX (σ : St) (x y : Int32) : Int32 × St := (if 0 ≤ (refusedX σ x) then (if (σ.1 2 (tn x)) = 0 then 0 else 1, sV (sA σ 2 (tn x) (if y = 0 then 0 else 1)) 20 0) else (refusedX σ x, σ))
set_option maxHeartbeats 1000000 in
theorem b0_pause {p : Program} {l : Launch} {e : Env} {s : State} {m : MethodId} {args : Array Value} {below : List Frame} {meth : Method} {c : Code} {Q : State → Prop} {D : va_G} {A : Nat → Prop} {h0 : Nat} {h : Nat → Nat} {ca : Nat → ClassId} {σ : St} {H : Heap} {locs : List Loc} {ls : Array Slot} (x y : Int32) (F : Fx p m c cX0_pause 5 s args RX0) (G : Wd0 D s A h0 h ca σ H locs) (hl : lv_has ls 5 [(0, .ref h0), (1, .int x), (2, .int y)]) (hret : RetI0 p l e rm0_pause s m args below meth c cX0_pause Q D A h0 h ca (pauseX σ x y)) : W p l e rm0_pause s m args below meth c H locs 0 0 Q (F0 m 0 ls []) := by
  obtain ⟨hx, hb, hml, hown, hts⟩ := F
  refine lv_aload_n hx hb dX0_pause_0 rfl (lv_at hl 0 rfl) ?_
  refine lv_iload_n hx hb dX0_pause_1 rfl (lv_at hl 1 rfl) ?_
  refine call0I (av := [.int x]) (rest := []) hx hb hml hts hown (c0_refused l σ x) (cw0_refused hts ⟨Nat.le_of_ble_eq_true rfl, Nat.le_of_ble_eq_true rfl⟩) G rfl hl.1 rfl (Nat.le_of_ble_eq_true rfl) dX0_pause_2 ⟨Nat.zero_le _, Nat.zero_le _⟩ (fun H locs G => ?_)
  refine lv_istore_n (lv' := [(3, .int (refusedX σ x)), (0, .ref h0), (1, .int x), (2, .int y)]) hx hb dX0_pause_5 rfl hl (by decide) rfl (fun ls hl => ?_)
  refine lv_iload_n hx hb dX0_pause_6 rfl (lv_at hl 0 rfl) ?_
  refine lv_if_ge (tgt := 12) hx hb dX0_pause_7 (by decide) (fun c_7 => ?_) (fun c_7 => ?_)
  · have hw := refused_in c_7
    refine lv_aload_n hx hb dX0_pause_12 rfl (lv_at hl 1 rfl) ?_
    refine g0_2 hx hb hts hown G dX0_pause_13 ?_
    refine lv_iload_n hx hb dX0_pause_16 rfl (lv_at hl 2 rfl) ?_
    refine l0_2 (tn x) hx hb G hw.1 hw.2 dX0_pause_17 ?_
    refine lv_cut (J := 26) (rest := []) (if (σ.1 2 (tn x)) = 0 then 0 else 1) (fun kj => ?_) ?_
    · refine lv_if_eq (tgt := 25) hx hb dX0_pause_18 (by decide) (fun c_18 => ?_) (fun c_18 => ?_)
      · refine lv_iconst (v := 0) hx hb dX0_pause_25 (by decide) ?_
        exact kj _ (by rw [if_pos c_18])
      · refine lv_iconst (v := 1) hx hb dX0_pause_21 (by decide) ?_
        refine lv_goto (tgt := 26) hx hb dX0_pause_22 (by decide) ?_
        exact kj _ (by rw [if_neg c_18])
    refine lv_istore (lv' := [(4, .int (if (σ.1 2 (tn x)) = 0 then 0 else 1)), (3, .int (refusedX σ x)), (0, .ref h0), (1, .int x), (2, .int y)]) hx hb dX0_pause_26 hl (by decide) rfl (fun ls hl => ?_)
    refine lv_aload_n hx hb dX0_pause_28 rfl (lv_at hl 2 rfl) ?_
    refine g0_2 hx hb hts hown G dX0_pause_29 ?_
    refine lv_iload_n hx hb dX0_pause_32 rfl (lv_at hl 3 rfl) ?_
    refine lv_iload_n hx hb dX0_pause_33 rfl (lv_at hl 4 rfl) ?_
    refine lv_cut (J := 42) (rest := [.int x, .ref (h 2)]) (if y = 0 then 0 else 1) (fun kj => ?_) ?_
    · refine lv_if_eq (tgt := 41) hx hb dX0_pause_34 (by decide) (fun c_34 => ?_) (fun c_34 => ?_)
      · refine lv_iconst (v := 0) hx hb dX0_pause_41 (by decide) ?_
        exact kj _ (by rw [if_pos c_34])
      · refine lv_iconst (v := 1) hx hb dX0_pause_37 (by decide) ?_
        refine lv_goto (tgt := 42) hx hb dX0_pause_38 (by decide) ?_
        exact kj _ (by rw [if_neg c_34])
    refine a0_2 (tn x) hx hb G hw.1 hw.2 (by split <;> rfl) dX0_pause_42 (fun H locs G => ?_)
    refine lv_aload_n hx hb dX0_pause_43 rfl (lv_at hl 2 rfl) ?_
    refine lv_iconst (v := 0) hx hb dX0_pause_44 (by decide) ?_
    refine p0_20 hx hb hts hown G (by decide) (by decide) dX0_pause_45 (fun H locs G => ?_)
    refine lv_iload hx hb dX0_pause_48 (lv_at hl 0 rfl) ?_
    exact hret _ _ _ _ _ _ G (by unfold pauseX; rw [if_pos c_7]) dX0_pause_50
  · refine lv_iload_n hx hb dX0_pause_10 rfl (lv_at hl 0 rfl) ?_
    exact hret _ _ _ _ _ _ G (by unfold pauseX; rw [if_neg c_7]) dX0_pause_11
theorem c0_pause (l : Launch) (σ : St) (x y : Int32) : C0 l yX0_pause cX0_pause 5 (some .int) rm0_pause [.int x, .int y] σ (pauseX σ x y) := C0.of (by decide) rfl (fun _ => Nat.le_of_ble_eq_true rfl) rfl (fun p e s m args below meth c Q D A h0 h ca ls F G hl hret => b0_pause x y F G hl hret)
def skipX (σ : St) (x y : Int32) : Int32 × St := (if 0 ≤ (refusedX σ x) then (if y < 0 then ((-3), σ) else (if y ≤ 100 then (σ.1 6 (tn x), sA σ 6 (tn x) y) else ((-3), σ))) else (refusedX σ x, σ))
set_option maxHeartbeats 1000000 in
theorem b0_skip {p : Program} {l : Launch} {e : Env} {s : State} {m : MethodId} {args : Array Value} {below : List Frame} {meth : Method} {c : Code} {Q : State → Prop} {D : va_G} {A : Nat → Prop} {h0 : Nat} {h : Nat → Nat} {ca : Nat → ClassId} {σ : St} {H : Heap} {locs : List Loc} {ls : Array Slot} (x y : Int32) (F : Fx p m c cX0_skip 5 s args RX0) (G : Wd0 D s A h0 h ca σ H locs) (hl : lv_has ls 5 [(0, .ref h0), (1, .int x), (2, .int y)]) (hret : RetI0 p l e rm0_skip s m args below meth c cX0_skip Q D A h0 h ca (skipX σ x y)) : W p l e rm0_skip s m args below meth c H locs 0 0 Q (F0 m 0 ls []) := by
  obtain ⟨hx, hb, hml, hown, hts⟩ := F
  refine lv_aload_n hx hb dX0_skip_0 rfl (lv_at hl 0 rfl) ?_
  refine lv_iload_n hx hb dX0_skip_1 rfl (lv_at hl 1 rfl) ?_
  refine call0I (av := [.int x]) (rest := []) hx hb hml hts hown (c0_refused l σ x) (cw0_refused hts ⟨Nat.le_of_ble_eq_true rfl, Nat.le_of_ble_eq_true rfl⟩) G rfl hl.1 rfl (Nat.le_of_ble_eq_true rfl) dX0_skip_2 ⟨Nat.zero_le _, Nat.zero_le _⟩ (fun H locs G => ?_)
  refine lv_istore_n (lv' := [(3, .int (refusedX σ x)), (0, .ref h0), (1, .int x), (2, .int y)]) hx hb dX0_skip_5 rfl hl (by decide) rfl (fun ls hl => ?_)
  refine lv_iload_n hx hb dX0_skip_6 rfl (lv_at hl 0 rfl) ?_
  refine lv_if_ge (tgt := 12) hx hb dX0_skip_7 (by decide) (fun c_7 => ?_) (fun c_7 => ?_)
  · have hw := refused_in c_7
    refine lv_iload_n hx hb dX0_skip_12 rfl (lv_at hl 3 rfl) ?_
    refine lv_if_lt (tgt := 22) hx hb dX0_skip_13 (by decide) (fun c_13 => ?_) (fun c_13 => ?_)
    · refine lv_bipush (v := -3) hx hb dX0_skip_22 (by decide) ?_
      exact hret _ _ _ _ _ _ G (by unfold skipX; rw [if_pos c_7, if_pos c_13]) dX0_skip_24
    · refine lv_iload_n hx hb dX0_skip_16 rfl (lv_at hl 3 rfl) ?_
      refine lv_bipush (v := 100) hx hb dX0_skip_17 (by decide) ?_
      refine lv_icmp_le (tgt := 25) hx hb dX0_skip_19 (by decide) (fun c_19 => ?_) (fun c_19 => ?_)
      · refine lv_aload_n hx hb dX0_skip_25 rfl (lv_at hl 1 rfl) ?_
        refine g0_6 hx hb hts hown G dX0_skip_26 ?_
        refine lv_iload_n hx hb dX0_skip_29 rfl (lv_at hl 2 rfl) ?_
        refine l0_6 (tn x) hx hb G hw.1 hw.2 dX0_skip_30 ?_
        refine lv_istore (lv' := [(4, .int (σ.1 6 (tn x))), (3, .int (refusedX σ x)), (0, .ref h0), (1, .int x), (2, .int y)]) hx hb dX0_skip_31 hl (by decide) rfl (fun ls hl => ?_)
        refine lv_aload_n hx hb dX0_skip_33 rfl (lv_at hl 2 rfl) ?_
        refine g0_6 hx hb hts hown G dX0_skip_34 ?_
        refine lv_iload_n hx hb dX0_skip_37 rfl (lv_at hl 3 rfl) ?_
        refine lv_iload_n hx hb dX0_skip_38 rfl (lv_at hl 4 rfl) ?_
        refine a0_6 (tn x) hx hb G hw.1 hw.2 dX0_skip_39 (fun H locs G => ?_)
        refine lv_iload hx hb dX0_skip_40 (lv_at hl 0 rfl) ?_
        exact hret _ _ _ _ _ _ G (by unfold skipX; rw [if_pos c_7, if_neg c_13, if_pos c_19]) dX0_skip_42
      · refine lv_bipush (v := -3) hx hb dX0_skip_22 (by decide) ?_
        exact hret _ _ _ _ _ _ G (by unfold skipX; rw [if_pos c_7, if_neg c_13, if_neg c_19]) dX0_skip_24
  · refine lv_iload_n hx hb dX0_skip_10 rfl (lv_at hl 0 rfl) ?_
    exact hret _ _ _ _ _ _ G (by unfold skipX; rw [if_neg c_7]) dX0_skip_11
theorem c0_skip (l : Launch) (σ : St) (x y : Int32) : C0 l yX0_skip cX0_skip 5 (some .int) rm0_skip [.int x, .int y] σ (skipX σ x y) := C0.of (by decide) rfl (fun _ => Nat.le_of_ble_eq_true rfl) rfl (fun p e s m args below meth c Q D A h0 h ca ls F G hl hret => b0_skip x y F G hl hret)
def peekX (σ : St) (x : Int32) : Int32 := (if x < 0 then (-1) else (if 40 ≤ x then (-1) else (σ.1 0 (tn x))))
set_option maxHeartbeats 1000000 in
theorem b0_peek {p : Program} {l : Launch} {e : Env} {R : Room} {s : State} {m : MethodId} {args : Array Value} {below : List Frame} {meth : Method} {c : Code} {Q : State → Prop} {D : va_G} {A : Nat → Prop} {h0 : Nat} {h : Nat → Nat} {ca : Nat → ClassId} {σ : St} {H : Heap} {locs : List Loc} {ls : Array Slot} (x : Int32) (F : Fx p m c cX0_peek 2 s args RX0) (G : Wd0 D s A h0 h ca σ H locs) (hl : lv_has ls 2 [(0, .ref h0), (1, .int x)]) (hret : RetI0 p l e R s m args below meth c cX0_peek Q D A h0 h ca (peekX σ x, σ)) : W p l e R s m args below meth c H locs 0 0 Q (F0 m 0 ls []) := by
  obtain ⟨hx, hb, hml, hown, hts⟩ := F
  refine lv_iload_n hx hb dX0_peek_0 rfl (lv_at hl 1 rfl) ?_
  refine lv_if_lt (tgt := 19) hx hb dX0_peek_1 (by decide) (fun c_1 => ?_) (fun c_1 => ?_)
  · refine lv_iconst (v := -1) hx hb dX0_peek_19 (by decide) ?_
    exact hret _ _ _ _ _ _ G (by unfold peekX; rw [if_pos c_1]) dX0_peek_20
  · refine lv_iload_n hx hb dX0_peek_4 rfl (lv_at hl 1 rfl) ?_
    refine lv_bipush (v := 40) hx hb dX0_peek_5 (by decide) ?_
    refine lv_icmp_ge (tgt := 19) hx hb dX0_peek_7 (by decide) (fun c_7 => ?_) (fun c_7 => ?_)
    · refine lv_iconst (v := -1) hx hb dX0_peek_19 (by decide) ?_
      exact hret _ _ _ _ _ _ G (by unfold peekX; rw [if_neg c_1, if_pos c_7]) dX0_peek_20
    · have hw := tn_of (n := 40) (by decide) c_1 c_7
      refine lv_aload_n hx hb dX0_peek_10 rfl (lv_at hl 0 rfl) ?_
      refine g0_0 hx hb hts hown G dX0_peek_11 ?_
      refine lv_iload_n hx hb dX0_peek_14 rfl (lv_at hl 1 rfl) ?_
      refine l0_0 (tn x) hx hb G hw.1 hw.2 dX0_peek_15 ?_
      refine lv_goto (tgt := 20) hx hb dX0_peek_16 (by decide) ?_
      exact hret _ _ _ _ _ _ G (by unfold peekX; rw [if_neg c_1, if_neg c_7]) dX0_peek_20
theorem c0_peek (l : Launch) (σ : St) (x : Int32) : C0 l yX0_peek cX0_peek 2 (some .int) rm0_peek [.int x] σ (peekX σ x, σ) := C0.of (by decide) rfl (fun _ => Nat.le_of_ble_eq_true rfl) rfl (fun p e s m args below meth c Q D A h0 h ca ls F G hl hret => b0_peek x F G hl hret)
def hitsX (σ : St) (x : Int32) : Int32 := (if 0 ≤ (refusedX σ x) then (σ.1 7 (tn x)) else (refusedX σ x))
set_option maxHeartbeats 1000000 in
theorem b0_hits {p : Program} {l : Launch} {e : Env} {s : State} {m : MethodId} {args : Array Value} {below : List Frame} {meth : Method} {c : Code} {Q : State → Prop} {D : va_G} {A : Nat → Prop} {h0 : Nat} {h : Nat → Nat} {ca : Nat → ClassId} {σ : St} {H : Heap} {locs : List Loc} {ls : Array Slot} (x : Int32) (F : Fx p m c cX0_hits 3 s args RX0) (G : Wd0 D s A h0 h ca σ H locs) (hl : lv_has ls 3 [(0, .ref h0), (1, .int x)]) (hret : RetI0 p l e rm0_hits s m args below meth c cX0_hits Q D A h0 h ca (hitsX σ x, σ)) : W p l e rm0_hits s m args below meth c H locs 0 0 Q (F0 m 0 ls []) := by
  obtain ⟨hx, hb, hml, hown, hts⟩ := F
  refine lv_aload_n hx hb dX0_hits_0 rfl (lv_at hl 0 rfl) ?_
  refine lv_iload_n hx hb dX0_hits_1 rfl (lv_at hl 1 rfl) ?_
  refine call0I (av := [.int x]) (rest := []) hx hb hml hts hown (c0_refused l σ x) (cw0_refused hts ⟨Nat.le_of_ble_eq_true rfl, Nat.le_of_ble_eq_true rfl⟩) G rfl hl.1 rfl (Nat.le_of_ble_eq_true rfl) dX0_hits_2 ⟨Nat.zero_le _, Nat.zero_le _⟩ (fun H locs G => ?_)
  refine lv_istore_n (lv' := [(2, .int (refusedX σ x)), (0, .ref h0), (1, .int x)]) hx hb dX0_hits_5 rfl hl (by decide) rfl (fun ls hl => ?_)
  refine lv_iload_n hx hb dX0_hits_6 rfl (lv_at hl 0 rfl) ?_
  refine lv_if_ge (tgt := 14) hx hb dX0_hits_7 (by decide) (fun c_7 => ?_) (fun c_7 => ?_)
  · have hw := refused_in c_7
    refine lv_aload_n hx hb dX0_hits_14 rfl (lv_at hl 1 rfl) ?_
    refine g0_7 hx hb hts hown G dX0_hits_15 ?_
    refine lv_iload_n hx hb dX0_hits_18 rfl (lv_at hl 2 rfl) ?_
    refine l0_7 (tn x) hx hb G hw.1 hw.2 dX0_hits_19 ?_
    exact hret _ _ _ _ _ _ G (by unfold hitsX; rw [if_pos c_7]) dX0_hits_20
  · refine lv_iload_n hx hb dX0_hits_10 rfl (lv_at hl 0 rfl) ?_
    refine lv_goto (tgt := 20) hx hb dX0_hits_11 (by decide) ?_
    exact hret _ _ _ _ _ _ G (by unfold hitsX; rw [if_neg c_7]) dX0_hits_20
theorem c0_hits (l : Launch) (σ : St) (x : Int32) : C0 l yX0_hits cX0_hits 3 (some .int) rm0_hits [.int x] σ (hitsX σ x, σ) := C0.of (by decide) rfl (fun _ => Nat.le_of_ble_eq_true rfl) rfl (fun p e s m args below meth c Q D A h0 h ca ls F G hl hret => b0_hits x F G hl hret)
def skipsX (σ : St) (x : Int32) : Int32 := (if 0 ≤ (refusedX σ x) then (σ.1 6 (tn x)) else (refusedX σ x))
set_option maxHeartbeats 1000000 in
theorem b0_skips {p : Program} {l : Launch} {e : Env} {s : State} {m : MethodId} {args : Array Value} {below : List Frame} {meth : Method} {c : Code} {Q : State → Prop} {D : va_G} {A : Nat → Prop} {h0 : Nat} {h : Nat → Nat} {ca : Nat → ClassId} {σ : St} {H : Heap} {locs : List Loc} {ls : Array Slot} (x : Int32) (F : Fx p m c cX0_skips 3 s args RX0) (G : Wd0 D s A h0 h ca σ H locs) (hl : lv_has ls 3 [(0, .ref h0), (1, .int x)]) (hret : RetI0 p l e rm0_skips s m args below meth c cX0_skips Q D A h0 h ca (skipsX σ x, σ)) : W p l e rm0_skips s m args below meth c H locs 0 0 Q (F0 m 0 ls []) := by
  obtain ⟨hx, hb, hml, hown, hts⟩ := F
  refine lv_aload_n hx hb dX0_skips_0 rfl (lv_at hl 0 rfl) ?_
  refine lv_iload_n hx hb dX0_skips_1 rfl (lv_at hl 1 rfl) ?_
  refine call0I (av := [.int x]) (rest := []) hx hb hml hts hown (c0_refused l σ x) (cw0_refused hts ⟨Nat.le_of_ble_eq_true rfl, Nat.le_of_ble_eq_true rfl⟩) G rfl hl.1 rfl (Nat.le_of_ble_eq_true rfl) dX0_skips_2 ⟨Nat.zero_le _, Nat.zero_le _⟩ (fun H locs G => ?_)
  refine lv_istore_n (lv' := [(2, .int (refusedX σ x)), (0, .ref h0), (1, .int x)]) hx hb dX0_skips_5 rfl hl (by decide) rfl (fun ls hl => ?_)
  refine lv_iload_n hx hb dX0_skips_6 rfl (lv_at hl 0 rfl) ?_
  refine lv_if_ge (tgt := 14) hx hb dX0_skips_7 (by decide) (fun c_7 => ?_) (fun c_7 => ?_)
  · have hw := refused_in c_7
    refine lv_aload_n hx hb dX0_skips_14 rfl (lv_at hl 1 rfl) ?_
    refine g0_6 hx hb hts hown G dX0_skips_15 ?_
    refine lv_iload_n hx hb dX0_skips_18 rfl (lv_at hl 2 rfl) ?_
    refine l0_6 (tn x) hx hb G hw.1 hw.2 dX0_skips_19 ?_
    exact hret _ _ _ _ _ _ G (by unfold skipsX; rw [if_pos c_7]) dX0_skips_20
  · refine lv_iload_n hx hb dX0_skips_10 rfl (lv_at hl 0 rfl) ?_
    refine lv_goto (tgt := 20) hx hb dX0_skips_11 (by decide) ?_
    exact hret _ _ _ _ _ _ G (by unfold skipsX; rw [if_neg c_7]) dX0_skips_20
theorem c0_skips (l : Launch) (σ : St) (x : Int32) : C0 l yX0_skips cX0_skips 3 (some .int) rm0_skips [.int x] σ (skipsX σ x, σ) := C0.of (by decide) rfl (fun _ => Nat.le_of_ble_eq_true rfl) rfl (fun p e s m args below meth c Q D A h0 h ca ls F G hl hret => b0_skips x F G hl hret)
def stopsX (σ : St) : Int32 := (σ.2 23)
set_option maxHeartbeats 1000000 in
theorem b0_stops {p : Program} {l : Launch} {e : Env} {R : Room} {s : State} {m : MethodId} {args : Array Value} {below : List Frame} {meth : Method} {c : Code} {Q : State → Prop} {D : va_G} {A : Nat → Prop} {h0 : Nat} {h : Nat → Nat} {ca : Nat → ClassId} {σ : St} {H : Heap} {locs : List Loc} {ls : Array Slot} (F : Fx p m c cX0_stops 1 s args RX0) (G : Wd0 D s A h0 h ca σ H locs) (hl : lv_has ls 1 [(0, .ref h0)]) (hret : RetI0 p l e R s m args below meth c cX0_stops Q D A h0 h ca (stopsX σ, σ)) : W p l e R s m args below meth c H locs 0 0 Q (F0 m 0 ls []) := by
  obtain ⟨hx, hb, hml, hown, hts⟩ := F
  refine lv_aload_n hx hb dX0_stops_0 rfl (lv_at hl 0 rfl) ?_
  refine g0_23 hx hb hts hown G dX0_stops_1 ?_
  exact hret _ _ _ _ _ _ G (rfl) dX0_stops_4
theorem c0_stops (l : Launch) (σ : St) : C0 l yX0_stops cX0_stops 1 (some .int) rm0_stops [] σ (stopsX σ, σ) := C0.of (by decide) rfl (fun _ => Nat.le_of_ble_eq_true rfl) rfl (fun p e s m args below meth c Q D A h0 h ca ls F G hl hret => b0_stops F G hl hret)
def accessesX (σ : St) : Int32 := (σ.2 22)
set_option maxHeartbeats 1000000 in
theorem b0_accesses {p : Program} {l : Launch} {e : Env} {R : Room} {s : State} {m : MethodId} {args : Array Value} {below : List Frame} {meth : Method} {c : Code} {Q : State → Prop} {D : va_G} {A : Nat → Prop} {h0 : Nat} {h : Nat → Nat} {ca : Nat → ClassId} {σ : St} {H : Heap} {locs : List Loc} {ls : Array Slot} (F : Fx p m c cX0_accesses 1 s args RX0) (G : Wd0 D s A h0 h ca σ H locs) (hl : lv_has ls 1 [(0, .ref h0)]) (hret : RetI0 p l e R s m args below meth c cX0_accesses Q D A h0 h ca (accessesX σ, σ)) : W p l e R s m args below meth c H locs 0 0 Q (F0 m 0 ls []) := by
  obtain ⟨hx, hb, hml, hown, hts⟩ := F
  refine lv_aload_n hx hb dX0_accesses_0 rfl (lv_at hl 0 rfl) ?_
  refine g0_22 hx hb hts hown G dX0_accesses_1 ?_
  exact hret _ _ _ _ _ _ G (rfl) dX0_accesses_4
theorem c0_accesses (l : Launch) (σ : St) : C0 l yX0_accesses cX0_accesses 1 (some .int) rm0_accesses [] σ (accessesX σ, σ) := C0.of (by decide) rfl (fun _ => Nat.le_of_ble_eq_true rfl) rfl (fun p e s m args below meth c Q D A h0 h ca ls F G hl hret => b0_accesses F G hl hret)
def keptX (σ : St) : Int32 := (if 8 ≤ (σ.2 23) then 8 else (σ.2 23))
set_option maxHeartbeats 1000000 in
theorem b0_kept {p : Program} {l : Launch} {e : Env} {R : Room} {s : State} {m : MethodId} {args : Array Value} {below : List Frame} {meth : Method} {c : Code} {Q : State → Prop} {D : va_G} {A : Nat → Prop} {h0 : Nat} {h : Nat → Nat} {ca : Nat → ClassId} {σ : St} {H : Heap} {locs : List Loc} {ls : Array Slot} (F : Fx p m c cX0_kept 1 s args RX0) (G : Wd0 D s A h0 h ca σ H locs) (hl : lv_has ls 1 [(0, .ref h0)]) (hret : RetI0 p l e R s m args below meth c cX0_kept Q D A h0 h ca (keptX σ, σ)) : W p l e R s m args below meth c H locs 0 0 Q (F0 m 0 ls []) := by
  obtain ⟨hx, hb, hml, hown, hts⟩ := F
  refine lv_aload_n hx hb dX0_kept_0 rfl (lv_at hl 0 rfl) ?_
  refine g0_23 hx hb hts hown G dX0_kept_1 ?_
  refine lv_bipush (v := 8) hx hb dX0_kept_4 (by decide) ?_
  refine lv_cut (J := 18) (rest := []) (if 8 ≤ (σ.2 23) then 8 else (σ.2 23)) (fun kj => ?_) ?_
  · refine lv_icmp_ge (tgt := 16) hx hb dX0_kept_6 (by decide) (fun c_6 => ?_) (fun c_6 => ?_)
    · refine lv_bipush (v := 8) hx hb dX0_kept_16 (by decide) ?_
      exact kj _ (by rw [if_pos c_6])
    · refine lv_aload_n hx hb dX0_kept_9 rfl (lv_at hl 0 rfl) ?_
      refine g0_23 hx hb hts hown G dX0_kept_10 ?_
      refine lv_goto (tgt := 18) hx hb dX0_kept_13 (by decide) ?_
      exact kj _ (by rw [if_neg c_6])
  exact hret _ _ _ _ _ _ G (rfl) dX0_kept_18
theorem c0_kept (l : Launch) (σ : St) : C0 l yX0_kept cX0_kept 1 (some .int) rm0_kept [] σ (keptX σ, σ) := C0.of (by decide) rfl (fun _ => Nat.le_of_ble_eq_true rfl) rfl (fun p e s m args below meth c Q D A h0 h ca ls F G hl hret => b0_kept F G hl hret)
def stopMaskX (σ : St) (x : Int32) : Int32 := (if (isKeptX σ x) = 0 then (-1) else (σ.1 12 (tn (cellOfX σ x))))
set_option maxHeartbeats 1000000 in
theorem b0_stopMask {p : Program} {l : Launch} {e : Env} {s : State} {m : MethodId} {args : Array Value} {below : List Frame} {meth : Method} {c : Code} {Q : State → Prop} {D : va_G} {A : Nat → Prop} {h0 : Nat} {h : Nat → Nat} {ca : Nat → ClassId} {σ : St} {H : Heap} {locs : List Loc} {ls : Array Slot} (x : Int32) (F : Fx p m c cX0_stopMask 2 s args RX0) (G : Wd0 D s A h0 h ca σ H locs) (hl : lv_has ls 2 [(0, .ref h0), (1, .int x)]) (hret : RetI0 p l e rm0_stopMask s m args below meth c cX0_stopMask Q D A h0 h ca (stopMaskX σ x, σ)) : W p l e rm0_stopMask s m args below meth c H locs 0 0 Q (F0 m 0 ls []) := by
  obtain ⟨hx, hb, hml, hown, hts⟩ := F
  refine lv_aload_n hx hb dX0_stopMask_0 rfl (lv_at hl 0 rfl) ?_
  refine lv_iload_n hx hb dX0_stopMask_1 rfl (lv_at hl 1 rfl) ?_
  refine call0I (av := [.int x]) (rest := []) hx hb hml hts hown (c0_isKept l σ x) (cw0_isKept hts ⟨Nat.le_of_ble_eq_true rfl, Nat.le_of_ble_eq_true rfl⟩) G rfl hl.1 rfl (Nat.le_of_ble_eq_true rfl) dX0_stopMask_2 ⟨Nat.zero_le _, Nat.zero_le _⟩ (fun H locs G => ?_)
  refine lv_if_eq (tgt := 21) hx hb dX0_stopMask_5 (by decide) (fun c_5 => ?_) (fun c_5 => ?_)
  · refine lv_iconst (v := -1) hx hb dX0_stopMask_21 (by decide) ?_
    exact hret _ _ _ _ _ _ G (by unfold stopMaskX; rw [if_pos c_5]) dX0_stopMask_22
  · refine lv_aload_n hx hb dX0_stopMask_8 rfl (lv_at hl 0 rfl) ?_
    refine g0_12 hx hb hts hown G dX0_stopMask_9 ?_
    refine lv_aload_n hx hb dX0_stopMask_12 rfl (lv_at hl 0 rfl) ?_
    refine lv_iload_n hx hb dX0_stopMask_13 rfl (lv_at hl 1 rfl) ?_
    refine call0I (av := [.int x]) (rest := [.ref (h 12)]) hx hb hml hts hown (c0_cellOf l σ x) (cw0_cellOf hts ⟨Nat.le_of_ble_eq_true rfl, Nat.le_of_ble_eq_true rfl⟩) G rfl hl.1 rfl (Nat.le_of_ble_eq_true rfl) dX0_stopMask_14 ⟨Nat.zero_le _, Nat.zero_le _⟩ (fun H locs G => ?_)
    refine l0_12 (tn (cellOfX σ x)) hx hb G (and7_in _).1 (and7_in _).2 dX0_stopMask_17 ?_
    refine lv_goto (tgt := 22) hx hb dX0_stopMask_18 (by decide) ?_
    exact hret _ _ _ _ _ _ G (by unfold stopMaskX; rw [if_neg c_5]) dX0_stopMask_22
theorem c0_stopMask (l : Launch) (σ : St) (x : Int32) : C0 l yX0_stopMask cX0_stopMask 2 (some .int) rm0_stopMask [.int x] σ (stopMaskX σ x, σ) := C0.of (by decide) rfl (fun _ => Nat.le_of_ble_eq_true rfl) rfl (fun p e s m args below meth c Q D A h0 h ca ls F G hl hret => b0_stopMask x F G hl hret)
def stopAddressX (σ : St) (x : Int32) : Int32 := (if (isKeptX σ x) = 0 then (-1) else (σ.1 13 (tn (cellOfX σ x))))
set_option maxHeartbeats 1000000 in
theorem b0_stopAddress {p : Program} {l : Launch} {e : Env} {s : State} {m : MethodId} {args : Array Value} {below : List Frame} {meth : Method} {c : Code} {Q : State → Prop} {D : va_G} {A : Nat → Prop} {h0 : Nat} {h : Nat → Nat} {ca : Nat → ClassId} {σ : St} {H : Heap} {locs : List Loc} {ls : Array Slot} (x : Int32) (F : Fx p m c cX0_stopAddress 2 s args RX0) (G : Wd0 D s A h0 h ca σ H locs) (hl : lv_has ls 2 [(0, .ref h0), (1, .int x)]) (hret : RetI0 p l e rm0_stopAddress s m args below meth c cX0_stopAddress Q D A h0 h ca (stopAddressX σ x, σ)) : W p l e rm0_stopAddress s m args below meth c H locs 0 0 Q (F0 m 0 ls []) := by
  obtain ⟨hx, hb, hml, hown, hts⟩ := F
  refine lv_aload_n hx hb dX0_stopAddress_0 rfl (lv_at hl 0 rfl) ?_
  refine lv_iload_n hx hb dX0_stopAddress_1 rfl (lv_at hl 1 rfl) ?_
  refine call0I (av := [.int x]) (rest := []) hx hb hml hts hown (c0_isKept l σ x) (cw0_isKept hts ⟨Nat.le_of_ble_eq_true rfl, Nat.le_of_ble_eq_true rfl⟩) G rfl hl.1 rfl (Nat.le_of_ble_eq_true rfl) dX0_stopAddress_2 ⟨Nat.zero_le _, Nat.zero_le _⟩ (fun H locs G => ?_)
  refine lv_if_eq (tgt := 21) hx hb dX0_stopAddress_5 (by decide) (fun c_5 => ?_) (fun c_5 => ?_)
  · refine lv_iconst (v := -1) hx hb dX0_stopAddress_21 (by decide) ?_
    exact hret _ _ _ _ _ _ G (by unfold stopAddressX; rw [if_pos c_5]) dX0_stopAddress_22
  · refine lv_aload_n hx hb dX0_stopAddress_8 rfl (lv_at hl 0 rfl) ?_
    refine g0_13 hx hb hts hown G dX0_stopAddress_9 ?_
    refine lv_aload_n hx hb dX0_stopAddress_12 rfl (lv_at hl 0 rfl) ?_
    refine lv_iload_n hx hb dX0_stopAddress_13 rfl (lv_at hl 1 rfl) ?_
    refine call0I (av := [.int x]) (rest := [.ref (h 13)]) hx hb hml hts hown (c0_cellOf l σ x) (cw0_cellOf hts ⟨Nat.le_of_ble_eq_true rfl, Nat.le_of_ble_eq_true rfl⟩) G rfl hl.1 rfl (Nat.le_of_ble_eq_true rfl) dX0_stopAddress_14 ⟨Nat.zero_le _, Nat.zero_le _⟩ (fun H locs G => ?_)
    refine l0_13 (tn (cellOfX σ x)) hx hb G (and7_in _).1 (and7_in _).2 dX0_stopAddress_17 ?_
    refine lv_goto (tgt := 22) hx hb dX0_stopAddress_18 (by decide) ?_
    exact hret _ _ _ _ _ _ G (by unfold stopAddressX; rw [if_neg c_5]) dX0_stopAddress_22
theorem c0_stopAddress (l : Launch) (σ : St) (x : Int32) : C0 l yX0_stopAddress cX0_stopAddress 2 (some .int) rm0_stopAddress [.int x] σ (stopAddressX σ x, σ) := C0.of (by decide) rfl (fun _ => Nat.le_of_ble_eq_true rfl) rfl (fun p e s m args below meth c Q D A h0 h ca ls F G hl hret => b0_stopAddress x F G hl hret)
def stopNumberX (σ : St) (x : Int32) : Int32 := (if (isKeptX σ x) = 0 then (-1) else (σ.1 14 (tn (cellOfX σ x))))
set_option maxHeartbeats 1000000 in
theorem b0_stopNumber {p : Program} {l : Launch} {e : Env} {s : State} {m : MethodId} {args : Array Value} {below : List Frame} {meth : Method} {c : Code} {Q : State → Prop} {D : va_G} {A : Nat → Prop} {h0 : Nat} {h : Nat → Nat} {ca : Nat → ClassId} {σ : St} {H : Heap} {locs : List Loc} {ls : Array Slot} (x : Int32) (F : Fx p m c cX0_stopNumber 2 s args RX0) (G : Wd0 D s A h0 h ca σ H locs) (hl : lv_has ls 2 [(0, .ref h0), (1, .int x)]) (hret : RetI0 p l e rm0_stopNumber s m args below meth c cX0_stopNumber Q D A h0 h ca (stopNumberX σ x, σ)) : W p l e rm0_stopNumber s m args below meth c H locs 0 0 Q (F0 m 0 ls []) := by
  obtain ⟨hx, hb, hml, hown, hts⟩ := F
  refine lv_aload_n hx hb dX0_stopNumber_0 rfl (lv_at hl 0 rfl) ?_
  refine lv_iload_n hx hb dX0_stopNumber_1 rfl (lv_at hl 1 rfl) ?_
  refine call0I (av := [.int x]) (rest := []) hx hb hml hts hown (c0_isKept l σ x) (cw0_isKept hts ⟨Nat.le_of_ble_eq_true rfl, Nat.le_of_ble_eq_true rfl⟩) G rfl hl.1 rfl (Nat.le_of_ble_eq_true rfl) dX0_stopNumber_2 ⟨Nat.zero_le _, Nat.zero_le _⟩ (fun H locs G => ?_)
  refine lv_if_eq (tgt := 21) hx hb dX0_stopNumber_5 (by decide) (fun c_5 => ?_) (fun c_5 => ?_)
  · refine lv_iconst (v := -1) hx hb dX0_stopNumber_21 (by decide) ?_
    exact hret _ _ _ _ _ _ G (by unfold stopNumberX; rw [if_pos c_5]) dX0_stopNumber_22
  · refine lv_aload_n hx hb dX0_stopNumber_8 rfl (lv_at hl 0 rfl) ?_
    refine g0_14 hx hb hts hown G dX0_stopNumber_9 ?_
    refine lv_aload_n hx hb dX0_stopNumber_12 rfl (lv_at hl 0 rfl) ?_
    refine lv_iload_n hx hb dX0_stopNumber_13 rfl (lv_at hl 1 rfl) ?_
    refine call0I (av := [.int x]) (rest := [.ref (h 14)]) hx hb hml hts hown (c0_cellOf l σ x) (cw0_cellOf hts ⟨Nat.le_of_ble_eq_true rfl, Nat.le_of_ble_eq_true rfl⟩) G rfl hl.1 rfl (Nat.le_of_ble_eq_true rfl) dX0_stopNumber_14 ⟨Nat.zero_le _, Nat.zero_le _⟩ (fun H locs G => ?_)
    refine l0_14 (tn (cellOfX σ x)) hx hb G (and7_in _).1 (and7_in _).2 dX0_stopNumber_17 ?_
    refine lv_goto (tgt := 22) hx hb dX0_stopNumber_18 (by decide) ?_
    exact hret _ _ _ _ _ _ G (by unfold stopNumberX; rw [if_neg c_5]) dX0_stopNumber_22
theorem c0_stopNumber (l : Launch) (σ : St) (x : Int32) : C0 l yX0_stopNumber cX0_stopNumber 2 (some .int) rm0_stopNumber [.int x] σ (stopNumberX σ x, σ) := C0.of (by decide) rfl (fun _ => Nat.le_of_ble_eq_true rfl) rfl (fun p e s m args below meth c Q D A h0 h ca ls F G hl hret => b0_stopNumber x F G hl hret)
def beforeX (σ : St) (x : Int32) : Int32 := (if (isKeptX σ x) = 0 then 0 else (σ.1 15 (tn (cellOfX σ x))))
set_option maxHeartbeats 1000000 in
theorem b0_before {p : Program} {l : Launch} {e : Env} {s : State} {m : MethodId} {args : Array Value} {below : List Frame} {meth : Method} {c : Code} {Q : State → Prop} {D : va_G} {A : Nat → Prop} {h0 : Nat} {h : Nat → Nat} {ca : Nat → ClassId} {σ : St} {H : Heap} {locs : List Loc} {ls : Array Slot} (x : Int32) (F : Fx p m c cX0_before 2 s args RX0) (G : Wd0 D s A h0 h ca σ H locs) (hl : lv_has ls 2 [(0, .ref h0), (1, .int x)]) (hret : RetI0 p l e rm0_before s m args below meth c cX0_before Q D A h0 h ca (beforeX σ x, σ)) : W p l e rm0_before s m args below meth c H locs 0 0 Q (F0 m 0 ls []) := by
  obtain ⟨hx, hb, hml, hown, hts⟩ := F
  refine lv_aload_n hx hb dX0_before_0 rfl (lv_at hl 0 rfl) ?_
  refine lv_iload_n hx hb dX0_before_1 rfl (lv_at hl 1 rfl) ?_
  refine call0I (av := [.int x]) (rest := []) hx hb hml hts hown (c0_isKept l σ x) (cw0_isKept hts ⟨Nat.le_of_ble_eq_true rfl, Nat.le_of_ble_eq_true rfl⟩) G rfl hl.1 rfl (Nat.le_of_ble_eq_true rfl) dX0_before_2 ⟨Nat.zero_le _, Nat.zero_le _⟩ (fun H locs G => ?_)
  refine lv_if_eq (tgt := 21) hx hb dX0_before_5 (by decide) (fun c_5 => ?_) (fun c_5 => ?_)
  · refine lv_iconst (v := 0) hx hb dX0_before_21 (by decide) ?_
    exact hret _ _ _ _ _ _ G (by unfold beforeX; rw [if_pos c_5]) dX0_before_22
  · refine lv_aload_n hx hb dX0_before_8 rfl (lv_at hl 0 rfl) ?_
    refine g0_15 hx hb hts hown G dX0_before_9 ?_
    refine lv_aload_n hx hb dX0_before_12 rfl (lv_at hl 0 rfl) ?_
    refine lv_iload_n hx hb dX0_before_13 rfl (lv_at hl 1 rfl) ?_
    refine call0I (av := [.int x]) (rest := [.ref (h 15)]) hx hb hml hts hown (c0_cellOf l σ x) (cw0_cellOf hts ⟨Nat.le_of_ble_eq_true rfl, Nat.le_of_ble_eq_true rfl⟩) G rfl hl.1 rfl (Nat.le_of_ble_eq_true rfl) dX0_before_14 ⟨Nat.zero_le _, Nat.zero_le _⟩ (fun H locs G => ?_)
    refine l0_15 (tn (cellOfX σ x)) hx hb G (and7_in _).1 (and7_in _).2 dX0_before_17 ?_
    refine lv_goto (tgt := 22) hx hb dX0_before_18 (by decide) ?_
    exact hret _ _ _ _ _ _ G (by unfold beforeX; rw [if_neg c_5]) dX0_before_22
theorem c0_before (l : Launch) (σ : St) (x : Int32) : C0 l yX0_before cX0_before 2 (some .int) rm0_before [.int x] σ (beforeX σ x, σ) := C0.of (by decide) rfl (fun _ => Nat.le_of_ble_eq_true rfl) rfl (fun p e s m args below meth c Q D A h0 h ca ls F G hl hret => b0_before x F G hl hret)
def afterX (σ : St) (x : Int32) : Int32 := (if (isKeptX σ x) = 0 then 0 else (σ.1 16 (tn (cellOfX σ x))))
set_option maxHeartbeats 1000000 in
theorem b0_after {p : Program} {l : Launch} {e : Env} {s : State} {m : MethodId} {args : Array Value} {below : List Frame} {meth : Method} {c : Code} {Q : State → Prop} {D : va_G} {A : Nat → Prop} {h0 : Nat} {h : Nat → Nat} {ca : Nat → ClassId} {σ : St} {H : Heap} {locs : List Loc} {ls : Array Slot} (x : Int32) (F : Fx p m c cX0_after 2 s args RX0) (G : Wd0 D s A h0 h ca σ H locs) (hl : lv_has ls 2 [(0, .ref h0), (1, .int x)]) (hret : RetI0 p l e rm0_after s m args below meth c cX0_after Q D A h0 h ca (afterX σ x, σ)) : W p l e rm0_after s m args below meth c H locs 0 0 Q (F0 m 0 ls []) := by
  obtain ⟨hx, hb, hml, hown, hts⟩ := F
  refine lv_aload_n hx hb dX0_after_0 rfl (lv_at hl 0 rfl) ?_
  refine lv_iload_n hx hb dX0_after_1 rfl (lv_at hl 1 rfl) ?_
  refine call0I (av := [.int x]) (rest := []) hx hb hml hts hown (c0_isKept l σ x) (cw0_isKept hts ⟨Nat.le_of_ble_eq_true rfl, Nat.le_of_ble_eq_true rfl⟩) G rfl hl.1 rfl (Nat.le_of_ble_eq_true rfl) dX0_after_2 ⟨Nat.zero_le _, Nat.zero_le _⟩ (fun H locs G => ?_)
  refine lv_if_eq (tgt := 21) hx hb dX0_after_5 (by decide) (fun c_5 => ?_) (fun c_5 => ?_)
  · refine lv_iconst (v := 0) hx hb dX0_after_21 (by decide) ?_
    exact hret _ _ _ _ _ _ G (by unfold afterX; rw [if_pos c_5]) dX0_after_22
  · refine lv_aload_n hx hb dX0_after_8 rfl (lv_at hl 0 rfl) ?_
    refine g0_16 hx hb hts hown G dX0_after_9 ?_
    refine lv_aload_n hx hb dX0_after_12 rfl (lv_at hl 0 rfl) ?_
    refine lv_iload_n hx hb dX0_after_13 rfl (lv_at hl 1 rfl) ?_
    refine call0I (av := [.int x]) (rest := [.ref (h 16)]) hx hb hml hts hown (c0_cellOf l σ x) (cw0_cellOf hts ⟨Nat.le_of_ble_eq_true rfl, Nat.le_of_ble_eq_true rfl⟩) G rfl hl.1 rfl (Nat.le_of_ble_eq_true rfl) dX0_after_14 ⟨Nat.zero_le _, Nat.zero_le _⟩ (fun H locs G => ?_)
    refine l0_16 (tn (cellOfX σ x)) hx hb G (and7_in _).1 (and7_in _).2 dX0_after_17 ?_
    refine lv_goto (tgt := 22) hx hb dX0_after_18 (by decide) ?_
    exact hret _ _ _ _ _ _ G (by unfold afterX; rw [if_neg c_5]) dX0_after_22
theorem c0_after (l : Launch) (σ : St) (x : Int32) : C0 l yX0_after cX0_after 2 (some .int) rm0_after [.int x] σ (afterX σ x, σ) := C0.of (by decide) rfl (fun _ => Nat.le_of_ble_eq_true rfl) rfl (fun p e s m args below meth c Q D A h0 h ca ls F G hl hret => b0_after x F G hl hret)
def badM (x : Int32) : Int32 := (if x < 0 then 1 else (if x ≤ 7 then 0 else 1))
set_option maxHeartbeats 1000000 in
theorem b1_bad {p : Program} {l : Launch} {e : Env} {R : Room} {s : State} {m : MethodId} {args : Array Value} {below : List Frame} {meth : Method} {c : Code} {Q : State → Prop} {D : va_G} {A : Nat → Prop} {h0 : Nat} {h : Nat → Nat} {ca : Nat → ClassId} {σ : St} {H : Heap} {locs : List Loc} {ls : Array Slot} (x : Int32) (F : Fx p m c cX1_bad 2 s args RX1) (G : Wd1 D s A h0 h ca σ H locs) (hl : lv_has ls 2 [(0, .ref h0), (1, .int x)]) (hret : RetI1 p l e R s m args below meth c cX1_bad Q D A h0 h ca (badM x, σ)) : W p l e R s m args below meth c H locs 0 0 Q (F0 m 0 ls []) := by
  obtain ⟨hx, hb, hml, hown, hts⟩ := F
  refine lv_iload_n hx hb dX1_bad_0 rfl (lv_at hl 1 rfl) ?_
  refine lv_cut (J := 15) (rest := []) (if x < 0 then 1 else (if x ≤ 7 then 0 else 1)) (fun kj => ?_) ?_
  · refine lv_if_lt (tgt := 10) hx hb dX1_bad_1 (by decide) (fun c_1 => ?_) (fun c_1 => ?_)
    · refine lv_iconst (v := 1) hx hb dX1_bad_10 (by decide) ?_
      refine lv_goto (tgt := 15) hx hb dX1_bad_11 (by decide) ?_
      exact kj _ (by rw [if_pos c_1])
    · refine lv_iload_n hx hb dX1_bad_4 rfl (lv_at hl 1 rfl) ?_
      refine lv_bipush (v := 7) hx hb dX1_bad_5 (by decide) ?_
      refine lv_icmp_le (tgt := 14) hx hb dX1_bad_7 (by decide) (fun c_7 => ?_) (fun c_7 => ?_)
      · refine lv_iconst (v := 0) hx hb dX1_bad_14 (by decide) ?_
        exact kj _ (by rw [if_neg c_1, if_pos c_7])
      · refine lv_iconst (v := 1) hx hb dX1_bad_10 (by decide) ?_
        refine lv_goto (tgt := 15) hx hb dX1_bad_11 (by decide) ?_
        exact kj _ (by rw [if_neg c_1, if_neg c_7])
  exact hret _ _ _ _ _ _ G (rfl) dX1_bad_15
theorem c1_bad (l : Launch) (σ : St) (x : Int32) : C1 l yX1_bad cX1_bad 2 (some .boolean) rm1_bad [.int x] σ (badM x, σ) := C1.of (by decide) rfl (fun _ => Nat.le_of_ble_eq_true rfl) (by show narrow .boolean (.int (badM x)) = .int (badM x); unfold badM; (repeat' split) <;> rfl) (fun p e s m args below meth c Q D A h0 h ca ls F G hl hret => b1_bad x F G hl hret)
theorem bad_in {x : Int32} (hh : badM x = 0) : x = nI (tn x) ∧ tn x < 8 := by
  unfold badM at hh
  by_cases h1 : x < 0
  · rw [if_pos h1] at hh
    exact absurd hh (by decide)
  · rw [if_neg h1] at hh
    by_cases h2 : x ≤ 7
    · exact tn_of (n := 8) (by decide) h1 (fun h3 => by
        have h3 : (8 : Int32) ≤ x := h3
        rw [Int32.le_iff_toInt_le] at h2 h3
        have e8 : (8 : Int32).toInt = 8 := by decide
        have e7 : (7 : Int32).toInt = 7 := by decide
        omega)
    · rw [if_neg h2] at hh
      exact absurd hh (by decide)
def badSizeM (x : Int32) : Int32 := (if x = 1 then 0 else (if x = 2 then 0 else (if x = 4 then 0 else 1)))
set_option maxHeartbeats 1000000 in
theorem b1_badSize {p : Program} {l : Launch} {e : Env} {R : Room} {s : State} {m : MethodId} {args : Array Value} {below : List Frame} {meth : Method} {c : Code} {Q : State → Prop} {D : va_G} {A : Nat → Prop} {h0 : Nat} {h : Nat → Nat} {ca : Nat → ClassId} {σ : St} {H : Heap} {locs : List Loc} {ls : Array Slot} (x : Int32) (F : Fx p m c cX1_badSize 2 s args RX1) (G : Wd1 D s A h0 h ca σ H locs) (hl : lv_has ls 2 [(0, .ref h0), (1, .int x)]) (hret : RetI1 p l e R s m args below meth c cX1_badSize Q D A h0 h ca (badSizeM x, σ)) : W p l e R s m args below meth c H locs 0 0 Q (F0 m 0 ls []) := by
  obtain ⟨hx, hb, hml, hown, hts⟩ := F
  refine lv_iload_n hx hb dX1_badSize_0 rfl (lv_at hl 1 rfl) ?_
  refine lv_iconst (v := 1) hx hb dX1_badSize_1 (by decide) ?_
  refine lv_cut (J := 20) (rest := []) (if x = 1 then 0 else (if x = 2 then 0 else (if x = 4 then 0 else 1))) (fun kj => ?_) ?_
  · refine lv_icmp_eq (tgt := 19) hx hb dX1_badSize_2 (by decide) (fun c_2 => ?_) (fun c_2 => ?_)
    · refine lv_iconst (v := 0) hx hb dX1_badSize_19 (by decide) ?_
      exact kj _ (by rw [if_pos c_2])
    · refine lv_iload_n hx hb dX1_badSize_5 rfl (lv_at hl 1 rfl) ?_
      refine lv_iconst (v := 2) hx hb dX1_badSize_6 (by decide) ?_
      refine lv_icmp_eq (tgt := 19) hx hb dX1_badSize_7 (by decide) (fun c_7 => ?_) (fun c_7 => ?_)
      · refine lv_iconst (v := 0) hx hb dX1_badSize_19 (by decide) ?_
        exact kj _ (by rw [if_neg c_2, if_pos c_7])
      · refine lv_iload_n hx hb dX1_badSize_10 rfl (lv_at hl 1 rfl) ?_
        refine lv_iconst (v := 4) hx hb dX1_badSize_11 (by decide) ?_
        refine lv_icmp_eq (tgt := 19) hx hb dX1_badSize_12 (by decide) (fun c_12 => ?_) (fun c_12 => ?_)
        · refine lv_iconst (v := 0) hx hb dX1_badSize_19 (by decide) ?_
          exact kj _ (by rw [if_neg c_2, if_neg c_7, if_pos c_12])
        · refine lv_iconst (v := 1) hx hb dX1_badSize_15 (by decide) ?_
          refine lv_goto (tgt := 20) hx hb dX1_badSize_16 (by decide) ?_
          exact kj _ (by rw [if_neg c_2, if_neg c_7, if_neg c_12])
  exact hret _ _ _ _ _ _ G (rfl) dX1_badSize_20
theorem c1_badSize (l : Launch) (σ : St) (x : Int32) : C1 l yX1_badSize cX1_badSize 2 (some .boolean) rm1_badSize [.int x] σ (badSizeM x, σ) := C1.of (by decide) rfl (fun _ => Nat.le_of_ble_eq_true rfl) (by show narrow .boolean (.int (badSizeM x)) = .int (badSizeM x); unfold badSizeM; (repeat' split) <;> rfl) (fun p e s m args below meth c Q D A h0 h ca ls F G hl hret => b1_badSize x F G hl hret)
def setM (σ : St) (x y z u : Int32) : Int32 × St := (if (badM x) = 0 then (if z < 1 then ((-2), σ) else (if z ≤ 16 then (if y < 0 then ((-3), σ) else (if y ≤ (40 - z) then (if u < 1 then ((-4), σ) else (if u ≤ 4 then (if (σ.1 2 (tn x)) = 0 then 0 else 1, sA (sA (sA (sA (sA (sA (sA σ 2 (tn x) 1) 3 (tn x) y) 4 (tn x) z) 5 (tn x) u) 6 (tn x) 0) 7 (tn x) 0) 8 (tn x) 0) else ((-4), σ))) else ((-3), σ))) else ((-2), σ))) else ((-1), σ))
set_option maxHeartbeats 1000000 in
theorem b1_set {p : Program} {l : Launch} {e : Env} {s : State} {m : MethodId} {args : Array Value} {below : List Frame} {meth : Method} {c : Code} {Q : State → Prop} {D : va_G} {A : Nat → Prop} {h0 : Nat} {h : Nat → Nat} {ca : Nat → ClassId} {σ : St} {H : Heap} {locs : List Loc} {ls : Array Slot} (x y z u : Int32) (F : Fx p m c cX1_set 6 s args RX1) (G : Wd1 D s A h0 h ca σ H locs) (hl : lv_has ls 6 [(0, .ref h0), (1, .int x), (2, .int y), (3, .int z), (4, .int u)]) (hret : RetI1 p l e rm1_set s m args below meth c cX1_set Q D A h0 h ca (setM σ x y z u)) : W p l e rm1_set s m args below meth c H locs 0 0 Q (F0 m 0 ls []) := by
  obtain ⟨hx, hb, hml, hown, hts⟩ := F
  refine lv_aload_n hx hb dX1_set_0 rfl (lv_at hl 0 rfl) ?_
  refine lv_iload_n hx hb dX1_set_1 rfl (lv_at hl 1 rfl) ?_
  refine call1I (av := [.int x]) (rest := []) hx hb hml hts hown (c1_bad l σ x) (cw1_bad hts ⟨Nat.le_of_ble_eq_true rfl, Nat.le_of_ble_eq_true rfl⟩) G rfl hl.1 rfl (Nat.le_of_ble_eq_true rfl) dX1_set_2 ⟨Nat.zero_le _, Nat.zero_le _⟩ (fun H locs G => ?_)
  refine lv_if_eq (tgt := 10) hx hb dX1_set_5 (by decide) (fun c_5 => ?_) (fun c_5 => ?_)
  · have hw := bad_in c_5
    refine lv_iload_n hx hb dX1_set_10 rfl (lv_at hl 3 rfl) ?_
    refine lv_iconst (v := 1) hx hb dX1_set_11 (by decide) ?_
    refine lv_icmp_lt (tgt := 21) hx hb dX1_set_12 (by decide) (fun c_12 => ?_) (fun c_12 => ?_)
    · refine lv_bipush (v := -2) hx hb dX1_set_21 (by decide) ?_
      exact hret _ _ _ _ _ _ G (by unfold setM; rw [if_pos c_5, if_pos c_12]) dX1_set_23
    · refine lv_iload_n hx hb dX1_set_15 rfl (lv_at hl 3 rfl) ?_
      refine lv_bipush (v := 16) hx hb dX1_set_16 (by decide) ?_
      refine lv_icmp_le (tgt := 24) hx hb dX1_set_18 (by decide) (fun c_18 => ?_) (fun c_18 => ?_)
      · refine lv_iload_n hx hb dX1_set_24 rfl (lv_at hl 2 rfl) ?_
        refine lv_if_lt (tgt := 36) hx hb dX1_set_25 (by decide) (fun c_25 => ?_) (fun c_25 => ?_)
        · refine lv_bipush (v := -3) hx hb dX1_set_36 (by decide) ?_
          exact hret _ _ _ _ _ _ G (by unfold setM; rw [if_pos c_5, if_neg c_12, if_pos c_18, if_pos c_25]) dX1_set_38
        · refine lv_iload_n hx hb dX1_set_28 rfl (lv_at hl 2 rfl) ?_
          refine lv_bipush (v := 40) hx hb dX1_set_29 (by decide) ?_
          refine lv_iload_n hx hb dX1_set_31 rfl (lv_at hl 3 rfl) ?_
          refine lv_isub hx hb dX1_set_32 ?_
          refine lv_icmp_le (tgt := 39) hx hb dX1_set_33 (by decide) (fun c_33 => ?_) (fun c_33 => ?_)
          · refine lv_iload hx hb dX1_set_39 (lv_at hl 4 rfl) ?_
            refine lv_iconst (v := 1) hx hb dX1_set_41 (by decide) ?_
            refine lv_icmp_lt (tgt := 51) hx hb dX1_set_42 (by decide) (fun c_42 => ?_) (fun c_42 => ?_)
            · refine lv_bipush (v := -4) hx hb dX1_set_51 (by decide) ?_
              exact hret _ _ _ _ _ _ G (by unfold setM; rw [if_pos c_5, if_neg c_12, if_pos c_18, if_neg c_25, if_pos c_33, if_pos c_42]) dX1_set_53
            · refine lv_iload hx hb dX1_set_45 (lv_at hl 4 rfl) ?_
              refine lv_iconst (v := 4) hx hb dX1_set_47 (by decide) ?_
              refine lv_icmp_le (tgt := 54) hx hb dX1_set_48 (by decide) (fun c_48 => ?_) (fun c_48 => ?_)
              · refine lv_aload_n hx hb dX1_set_54 rfl (lv_at hl 0 rfl) ?_
                refine g1_2 hx hb hts hown G dX1_set_55 ?_
                refine lv_iload_n hx hb dX1_set_58 rfl (lv_at hl 1 rfl) ?_
                refine l1_2 (tn x) hx hb G hw.1 hw.2 dX1_set_59 ?_
                refine lv_cut (J := 68) (rest := []) (if (σ.1 2 (tn x)) = 0 then 0 else 1) (fun kj => ?_) ?_
                · refine lv_if_eq (tgt := 67) hx hb dX1_set_60 (by decide) (fun c_60 => ?_) (fun c_60 => ?_)
                  · refine lv_iconst (v := 0) hx hb dX1_set_67 (by decide) ?_
                    exact kj _ (by rw [if_pos c_60])
                  · refine lv_iconst (v := 1) hx hb dX1_set_63 (by decide) ?_
                    refine lv_goto (tgt := 68) hx hb dX1_set_64 (by decide) ?_
                    exact kj _ (by rw [if_neg c_60])
                refine lv_istore (lv' := [(5, .int (if (σ.1 2 (tn x)) = 0 then 0 else 1)), (0, .ref h0), (1, .int x), (2, .int y), (3, .int z), (4, .int u)]) hx hb dX1_set_68 hl (by decide) rfl (fun ls hl => ?_)
                refine lv_aload_n hx hb dX1_set_70 rfl (lv_at hl 1 rfl) ?_
                refine g1_2 hx hb hts hown G dX1_set_71 ?_
                refine lv_iload_n hx hb dX1_set_74 rfl (lv_at hl 2 rfl) ?_
                refine lv_iconst (v := 1) hx hb dX1_set_75 (by decide) ?_
                refine a1_2 (tn x) hx hb G hw.1 hw.2 (by decide) dX1_set_76 (fun H locs G => ?_)
                refine lv_aload_n hx hb dX1_set_77 rfl (lv_at hl 1 rfl) ?_
                refine g1_3 hx hb hts hown G dX1_set_78 ?_
                refine lv_iload_n hx hb dX1_set_81 rfl (lv_at hl 2 rfl) ?_
                refine lv_iload_n hx hb dX1_set_82 rfl (lv_at hl 3 rfl) ?_
                refine a1_3 (tn x) hx hb G hw.1 hw.2 dX1_set_83 (fun H locs G => ?_)
                refine lv_aload_n hx hb dX1_set_84 rfl (lv_at hl 1 rfl) ?_
                refine g1_4 hx hb hts hown G dX1_set_85 ?_
                refine lv_iload_n hx hb dX1_set_88 rfl (lv_at hl 2 rfl) ?_
                refine lv_iload_n hx hb dX1_set_89 rfl (lv_at hl 4 rfl) ?_
                refine a1_4 (tn x) hx hb G hw.1 hw.2 dX1_set_90 (fun H locs G => ?_)
                refine lv_aload_n hx hb dX1_set_91 rfl (lv_at hl 1 rfl) ?_
                refine g1_5 hx hb hts hown G dX1_set_92 ?_
                refine lv_iload_n hx hb dX1_set_95 rfl (lv_at hl 2 rfl) ?_
                refine lv_iload hx hb dX1_set_96 (lv_at hl 5 rfl) ?_
                refine a1_5 (tn x) hx hb G hw.1 hw.2 dX1_set_98 (fun H locs G => ?_)
                refine lv_aload_n hx hb dX1_set_99 rfl (lv_at hl 1 rfl) ?_
                refine g1_6 hx hb hts hown G dX1_set_100 ?_
                refine lv_iload_n hx hb dX1_set_103 rfl (lv_at hl 2 rfl) ?_
                refine lv_iconst (v := 0) hx hb dX1_set_104 (by decide) ?_
                refine a1_6 (tn x) hx hb G hw.1 hw.2 (by decide) dX1_set_105 (fun H locs G => ?_)
                refine lv_aload_n hx hb dX1_set_106 rfl (lv_at hl 1 rfl) ?_
                refine g1_7 hx hb hts hown G dX1_set_107 ?_
                refine lv_iload_n hx hb dX1_set_110 rfl (lv_at hl 2 rfl) ?_
                refine lv_iconst (v := 0) hx hb dX1_set_111 (by decide) ?_
                refine a1_7 (tn x) hx hb G hw.1 hw.2 dX1_set_112 (fun H locs G => ?_)
                refine lv_aload_n hx hb dX1_set_113 rfl (lv_at hl 1 rfl) ?_
                refine g1_8 hx hb hts hown G dX1_set_114 ?_
                refine lv_iload_n hx hb dX1_set_117 rfl (lv_at hl 2 rfl) ?_
                refine lv_iconst (v := 0) hx hb dX1_set_118 (by decide) ?_
                refine a1_8 (tn x) hx hb G hw.1 hw.2 dX1_set_119 (fun H locs G => ?_)
                refine lv_iload hx hb dX1_set_120 (lv_at hl 0 rfl) ?_
                exact hret _ _ _ _ _ _ G (by unfold setM; rw [if_pos c_5, if_neg c_12, if_pos c_18, if_neg c_25, if_pos c_33, if_neg c_42, if_pos c_48]) dX1_set_122
              · refine lv_bipush (v := -4) hx hb dX1_set_51 (by decide) ?_
                exact hret _ _ _ _ _ _ G (by unfold setM; rw [if_pos c_5, if_neg c_12, if_pos c_18, if_neg c_25, if_pos c_33, if_neg c_42, if_neg c_48]) dX1_set_53
          · refine lv_bipush (v := -3) hx hb dX1_set_36 (by decide) ?_
            exact hret _ _ _ _ _ _ G (by unfold setM; rw [if_pos c_5, if_neg c_12, if_pos c_18, if_neg c_25, if_neg c_33]) dX1_set_38
      · refine lv_bipush (v := -2) hx hb dX1_set_21 (by decide) ?_
        exact hret _ _ _ _ _ _ G (by unfold setM; rw [if_pos c_5, if_neg c_12, if_neg c_18]) dX1_set_23
  · refine lv_iconst (v := -1) hx hb dX1_set_8 (by decide) ?_
    exact hret _ _ _ _ _ _ G (by unfold setM; rw [if_neg c_5]) dX1_set_9
theorem c1_set (l : Launch) (σ : St) (x y z u : Int32) : C1 l yX1_set cX1_set 6 (some .int) rm1_set [.int x, .int y, .int z, .int u] σ (setM σ x y z u) := C1.of (by decide) rfl (fun _ => Nat.le_of_ble_eq_true rfl) rfl (fun p e s m args below meth c Q D A h0 h ca ls F G hl hret => b1_set x y z u F G hl hret)
def clearM (σ : St) (x : Int32) : Int32 × St := (if (badM x) = 0 then (if (σ.1 2 (tn x)) = 0 then ((-2), σ) else ((sA σ 2 (tn x) 0).1 8 (tn x), sA σ 2 (tn x) 0)) else ((-1), σ))
set_option maxHeartbeats 1000000 in
theorem b1_clear {p : Program} {l : Launch} {e : Env} {s : State} {m : MethodId} {args : Array Value} {below : List Frame} {meth : Method} {c : Code} {Q : State → Prop} {D : va_G} {A : Nat → Prop} {h0 : Nat} {h : Nat → Nat} {ca : Nat → ClassId} {σ : St} {H : Heap} {locs : List Loc} {ls : Array Slot} (x : Int32) (F : Fx p m c cX1_clear 2 s args RX1) (G : Wd1 D s A h0 h ca σ H locs) (hl : lv_has ls 2 [(0, .ref h0), (1, .int x)]) (hret : RetI1 p l e rm1_clear s m args below meth c cX1_clear Q D A h0 h ca (clearM σ x)) : W p l e rm1_clear s m args below meth c H locs 0 0 Q (F0 m 0 ls []) := by
  obtain ⟨hx, hb, hml, hown, hts⟩ := F
  refine lv_aload_n hx hb dX1_clear_0 rfl (lv_at hl 0 rfl) ?_
  refine lv_iload_n hx hb dX1_clear_1 rfl (lv_at hl 1 rfl) ?_
  refine call1I (av := [.int x]) (rest := []) hx hb hml hts hown (c1_bad l σ x) (cw1_bad hts ⟨Nat.le_of_ble_eq_true rfl, Nat.le_of_ble_eq_true rfl⟩) G rfl hl.1 rfl (Nat.le_of_ble_eq_true rfl) dX1_clear_2 ⟨Nat.zero_le _, Nat.zero_le _⟩ (fun H locs G => ?_)
  refine lv_if_eq (tgt := 10) hx hb dX1_clear_5 (by decide) (fun c_5 => ?_) (fun c_5 => ?_)
  · have hw := bad_in c_5
    refine lv_aload_n hx hb dX1_clear_10 rfl (lv_at hl 0 rfl) ?_
    refine g1_2 hx hb hts hown G dX1_clear_11 ?_
    refine lv_iload_n hx hb dX1_clear_14 rfl (lv_at hl 1 rfl) ?_
    refine l1_2 (tn x) hx hb G hw.1 hw.2 dX1_clear_15 ?_
    refine lv_if_ne (tgt := 22) hx hb dX1_clear_16 (by decide) (fun c_16 => ?_) (fun c_16 => ?_)
    · refine lv_aload_n hx hb dX1_clear_22 rfl (lv_at hl 0 rfl) ?_
      refine g1_2 hx hb hts hown G dX1_clear_23 ?_
      refine lv_iload_n hx hb dX1_clear_26 rfl (lv_at hl 1 rfl) ?_
      refine lv_iconst (v := 0) hx hb dX1_clear_27 (by decide) ?_
      refine a1_2 (tn x) hx hb G hw.1 hw.2 (by decide) dX1_clear_28 (fun H locs G => ?_)
      refine lv_aload_n hx hb dX1_clear_29 rfl (lv_at hl 0 rfl) ?_
      refine g1_8 hx hb hts hown G dX1_clear_30 ?_
      refine lv_iload_n hx hb dX1_clear_33 rfl (lv_at hl 1 rfl) ?_
      refine l1_8 (tn x) hx hb G hw.1 hw.2 dX1_clear_34 ?_
      exact hret _ _ _ _ _ _ G (by unfold clearM; rw [if_pos c_5, if_neg c_16]) dX1_clear_35
    · refine lv_bipush (v := -2) hx hb dX1_clear_19 (by decide) ?_
      exact hret _ _ _ _ _ _ G (by unfold clearM; rw [if_pos c_5, if_pos c_16]) dX1_clear_21
  · refine lv_iconst (v := -1) hx hb dX1_clear_8 (by decide) ?_
    exact hret _ _ _ _ _ _ G (by unfold clearM; rw [if_neg c_5]) dX1_clear_9
theorem c1_clear (l : Launch) (σ : St) (x : Int32) : C1 l yX1_clear cX1_clear 2 (some .int) rm1_clear [.int x] σ (clearM σ x) := C1.of (by decide) rfl (fun _ => Nat.le_of_ble_eq_true rfl) rfl (fun p e s m args below meth c Q D A h0 h ca ls F G hl hret => b1_clear x F G hl hret)
def pauseM (σ : St) (x y : Int32) : Int32 × St := (if (badM x) = 0 then (if (σ.1 2 (tn x)) = 0 then ((-2), σ) else (if (σ.1 6 (tn x)) = 0 then 0 else 1, sA σ 6 (tn x) (if y = 0 then 0 else 1))) else ((-1), σ))
set_option maxHeartbeats 1000000 in
theorem b1_pause {p : Program} {l : Launch} {e : Env} {s : State} {m : MethodId} {args : Array Value} {below : List Frame} {meth : Method} {c : Code} {Q : State → Prop} {D : va_G} {A : Nat → Prop} {h0 : Nat} {h : Nat → Nat} {ca : Nat → ClassId} {σ : St} {H : Heap} {locs : List Loc} {ls : Array Slot} (x y : Int32) (F : Fx p m c cX1_pause 4 s args RX1) (G : Wd1 D s A h0 h ca σ H locs) (hl : lv_has ls 4 [(0, .ref h0), (1, .int x), (2, .int y)]) (hret : RetI1 p l e rm1_pause s m args below meth c cX1_pause Q D A h0 h ca (pauseM σ x y)) : W p l e rm1_pause s m args below meth c H locs 0 0 Q (F0 m 0 ls []) := by
  obtain ⟨hx, hb, hml, hown, hts⟩ := F
  refine lv_aload_n hx hb dX1_pause_0 rfl (lv_at hl 0 rfl) ?_
  refine lv_iload_n hx hb dX1_pause_1 rfl (lv_at hl 1 rfl) ?_
  refine call1I (av := [.int x]) (rest := []) hx hb hml hts hown (c1_bad l σ x) (cw1_bad hts ⟨Nat.le_of_ble_eq_true rfl, Nat.le_of_ble_eq_true rfl⟩) G rfl hl.1 rfl (Nat.le_of_ble_eq_true rfl) dX1_pause_2 ⟨Nat.zero_le _, Nat.zero_le _⟩ (fun H locs G => ?_)
  refine lv_if_eq (tgt := 10) hx hb dX1_pause_5 (by decide) (fun c_5 => ?_) (fun c_5 => ?_)
  · have hw := bad_in c_5
    refine lv_aload_n hx hb dX1_pause_10 rfl (lv_at hl 0 rfl) ?_
    refine g1_2 hx hb hts hown G dX1_pause_11 ?_
    refine lv_iload_n hx hb dX1_pause_14 rfl (lv_at hl 1 rfl) ?_
    refine l1_2 (tn x) hx hb G hw.1 hw.2 dX1_pause_15 ?_
    refine lv_if_ne (tgt := 22) hx hb dX1_pause_16 (by decide) (fun c_16 => ?_) (fun c_16 => ?_)
    · refine lv_aload_n hx hb dX1_pause_22 rfl (lv_at hl 0 rfl) ?_
      refine g1_6 hx hb hts hown G dX1_pause_23 ?_
      refine lv_iload_n hx hb dX1_pause_26 rfl (lv_at hl 1 rfl) ?_
      refine l1_6 (tn x) hx hb G hw.1 hw.2 dX1_pause_27 ?_
      refine lv_cut (J := 36) (rest := []) (if (σ.1 6 (tn x)) = 0 then 0 else 1) (fun kj => ?_) ?_
      · refine lv_if_eq (tgt := 35) hx hb dX1_pause_28 (by decide) (fun c_28 => ?_) (fun c_28 => ?_)
        · refine lv_iconst (v := 0) hx hb dX1_pause_35 (by decide) ?_
          exact kj _ (by rw [if_pos c_28])
        · refine lv_iconst (v := 1) hx hb dX1_pause_31 (by decide) ?_
          refine lv_goto (tgt := 36) hx hb dX1_pause_32 (by decide) ?_
          exact kj _ (by rw [if_neg c_28])
      refine lv_istore_n (lv' := [(3, .int (if (σ.1 6 (tn x)) = 0 then 0 else 1)), (0, .ref h0), (1, .int x), (2, .int y)]) hx hb dX1_pause_36 rfl hl (by decide) rfl (fun ls hl => ?_)
      refine lv_aload_n hx hb dX1_pause_37 rfl (lv_at hl 1 rfl) ?_
      refine g1_6 hx hb hts hown G dX1_pause_38 ?_
      refine lv_iload_n hx hb dX1_pause_41 rfl (lv_at hl 2 rfl) ?_
      refine lv_iload_n hx hb dX1_pause_42 rfl (lv_at hl 3 rfl) ?_
      refine lv_cut (J := 51) (rest := [.int x, .ref (h 6)]) (if y = 0 then 0 else 1) (fun kj => ?_) ?_
      · refine lv_if_eq (tgt := 50) hx hb dX1_pause_43 (by decide) (fun c_43 => ?_) (fun c_43 => ?_)
        · refine lv_iconst (v := 0) hx hb dX1_pause_50 (by decide) ?_
          exact kj _ (by rw [if_pos c_43])
        · refine lv_iconst (v := 1) hx hb dX1_pause_46 (by decide) ?_
          refine lv_goto (tgt := 51) hx hb dX1_pause_47 (by decide) ?_
          exact kj _ (by rw [if_neg c_43])
      refine a1_6 (tn x) hx hb G hw.1 hw.2 (by split <;> rfl) dX1_pause_51 (fun H locs G => ?_)
      refine lv_iload_n hx hb dX1_pause_52 rfl (lv_at hl 0 rfl) ?_
      exact hret _ _ _ _ _ _ G (by unfold pauseM; rw [if_pos c_5, if_neg c_16]) dX1_pause_53
    · refine lv_bipush (v := -2) hx hb dX1_pause_19 (by decide) ?_
      exact hret _ _ _ _ _ _ G (by unfold pauseM; rw [if_pos c_5, if_pos c_16]) dX1_pause_21
  · refine lv_iconst (v := -1) hx hb dX1_pause_8 (by decide) ?_
    exact hret _ _ _ _ _ _ G (by unfold pauseM; rw [if_neg c_5]) dX1_pause_9
theorem c1_pause (l : Launch) (σ : St) (x y : Int32) : C1 l yX1_pause cX1_pause 4 (some .int) rm1_pause [.int x, .int y] σ (pauseM σ x y) := C1.of (by decide) rfl (fun _ => Nat.le_of_ble_eq_true rfl) rfl (fun p e s m args below meth c Q D A h0 h ca ls F G hl hret => b1_pause x y F G hl hret)
def skipM (σ : St) (x y : Int32) : Int32 × St := (if (badM x) = 0 then (if (σ.1 2 (tn x)) = 0 then ((-2), σ) else (if y < 0 then ((-3), σ) else (if y ≤ 100 then (σ.1 7 (tn x), sA σ 7 (tn x) y) else ((-3), σ)))) else ((-1), σ))
set_option maxHeartbeats 1000000 in
theorem b1_skip {p : Program} {l : Launch} {e : Env} {s : State} {m : MethodId} {args : Array Value} {below : List Frame} {meth : Method} {c : Code} {Q : State → Prop} {D : va_G} {A : Nat → Prop} {h0 : Nat} {h : Nat → Nat} {ca : Nat → ClassId} {σ : St} {H : Heap} {locs : List Loc} {ls : Array Slot} (x y : Int32) (F : Fx p m c cX1_skip 4 s args RX1) (G : Wd1 D s A h0 h ca σ H locs) (hl : lv_has ls 4 [(0, .ref h0), (1, .int x), (2, .int y)]) (hret : RetI1 p l e rm1_skip s m args below meth c cX1_skip Q D A h0 h ca (skipM σ x y)) : W p l e rm1_skip s m args below meth c H locs 0 0 Q (F0 m 0 ls []) := by
  obtain ⟨hx, hb, hml, hown, hts⟩ := F
  refine lv_aload_n hx hb dX1_skip_0 rfl (lv_at hl 0 rfl) ?_
  refine lv_iload_n hx hb dX1_skip_1 rfl (lv_at hl 1 rfl) ?_
  refine call1I (av := [.int x]) (rest := []) hx hb hml hts hown (c1_bad l σ x) (cw1_bad hts ⟨Nat.le_of_ble_eq_true rfl, Nat.le_of_ble_eq_true rfl⟩) G rfl hl.1 rfl (Nat.le_of_ble_eq_true rfl) dX1_skip_2 ⟨Nat.zero_le _, Nat.zero_le _⟩ (fun H locs G => ?_)
  refine lv_if_eq (tgt := 10) hx hb dX1_skip_5 (by decide) (fun c_5 => ?_) (fun c_5 => ?_)
  · have hw := bad_in c_5
    refine lv_aload_n hx hb dX1_skip_10 rfl (lv_at hl 0 rfl) ?_
    refine g1_2 hx hb hts hown G dX1_skip_11 ?_
    refine lv_iload_n hx hb dX1_skip_14 rfl (lv_at hl 1 rfl) ?_
    refine l1_2 (tn x) hx hb G hw.1 hw.2 dX1_skip_15 ?_
    refine lv_if_ne (tgt := 22) hx hb dX1_skip_16 (by decide) (fun c_16 => ?_) (fun c_16 => ?_)
    · refine lv_iload_n hx hb dX1_skip_22 rfl (lv_at hl 2 rfl) ?_
      refine lv_if_lt (tgt := 32) hx hb dX1_skip_23 (by decide) (fun c_23 => ?_) (fun c_23 => ?_)
      · refine lv_bipush (v := -3) hx hb dX1_skip_32 (by decide) ?_
        exact hret _ _ _ _ _ _ G (by unfold skipM; rw [if_pos c_5, if_neg c_16, if_pos c_23]) dX1_skip_34
      · refine lv_iload_n hx hb dX1_skip_26 rfl (lv_at hl 2 rfl) ?_
        refine lv_bipush (v := 100) hx hb dX1_skip_27 (by decide) ?_
        refine lv_icmp_le (tgt := 35) hx hb dX1_skip_29 (by decide) (fun c_29 => ?_) (fun c_29 => ?_)
        · refine lv_aload_n hx hb dX1_skip_35 rfl (lv_at hl 0 rfl) ?_
          refine g1_7 hx hb hts hown G dX1_skip_36 ?_
          refine lv_iload_n hx hb dX1_skip_39 rfl (lv_at hl 1 rfl) ?_
          refine l1_7 (tn x) hx hb G hw.1 hw.2 dX1_skip_40 ?_
          refine lv_istore_n (lv' := [(3, .int (σ.1 7 (tn x))), (0, .ref h0), (1, .int x), (2, .int y)]) hx hb dX1_skip_41 rfl hl (by decide) rfl (fun ls hl => ?_)
          refine lv_aload_n hx hb dX1_skip_42 rfl (lv_at hl 1 rfl) ?_
          refine g1_7 hx hb hts hown G dX1_skip_43 ?_
          refine lv_iload_n hx hb dX1_skip_46 rfl (lv_at hl 2 rfl) ?_
          refine lv_iload_n hx hb dX1_skip_47 rfl (lv_at hl 3 rfl) ?_
          refine a1_7 (tn x) hx hb G hw.1 hw.2 dX1_skip_48 (fun H locs G => ?_)
          refine lv_iload_n hx hb dX1_skip_49 rfl (lv_at hl 0 rfl) ?_
          exact hret _ _ _ _ _ _ G (by unfold skipM; rw [if_pos c_5, if_neg c_16, if_neg c_23, if_pos c_29]) dX1_skip_50
        · refine lv_bipush (v := -3) hx hb dX1_skip_32 (by decide) ?_
          exact hret _ _ _ _ _ _ G (by unfold skipM; rw [if_pos c_5, if_neg c_16, if_neg c_23, if_neg c_29]) dX1_skip_34
    · refine lv_bipush (v := -2) hx hb dX1_skip_19 (by decide) ?_
      exact hret _ _ _ _ _ _ G (by unfold skipM; rw [if_pos c_5, if_pos c_16]) dX1_skip_21
  · refine lv_iconst (v := -1) hx hb dX1_skip_8 (by decide) ?_
    exact hret _ _ _ _ _ _ G (by unfold skipM; rw [if_neg c_5]) dX1_skip_9
theorem c1_skip (l : Launch) (σ : St) (x y : Int32) : C1 l yX1_skip cX1_skip 4 (some .int) rm1_skip [.int x, .int y] σ (skipM σ x y) := C1.of (by decide) rfl (fun _ => Nat.le_of_ble_eq_true rfl) rfl (fun p e s m args below meth c Q D A h0 h ca ls F G hl hret => b1_skip x y F G hl hret)
theorem in40 {x : Int32} (h1 : ¬ x < 0) (h2 : x ≤ 39) : x = nI (tn x) ∧ tn x < 40 := tn_of (n := 40) (by decide) h1 (fun h3 => by
  have h3 : (40 : Int32) ≤ x := h3
  rw [Int32.le_iff_toInt_le] at h2 h3
  have e8 : (40 : Int32).toInt = 40 := by decide
  have e7 : (39 : Int32).toInt = 39 := by decide
  omega)
def peekM (σ : St) (x : Int32) : Int32 := (if x < 0 then (-1) else (if x ≤ 39 then (σ.1 0 (tn x)) else (-1)))
set_option maxHeartbeats 1000000 in
theorem b1_peek {p : Program} {l : Launch} {e : Env} {R : Room} {s : State} {m : MethodId} {args : Array Value} {below : List Frame} {meth : Method} {c : Code} {Q : State → Prop} {D : va_G} {A : Nat → Prop} {h0 : Nat} {h : Nat → Nat} {ca : Nat → ClassId} {σ : St} {H : Heap} {locs : List Loc} {ls : Array Slot} (x : Int32) (F : Fx p m c cX1_peek 2 s args RX1) (G : Wd1 D s A h0 h ca σ H locs) (hl : lv_has ls 2 [(0, .ref h0), (1, .int x)]) (hret : RetI1 p l e R s m args below meth c cX1_peek Q D A h0 h ca (peekM σ x, σ)) : W p l e R s m args below meth c H locs 0 0 Q (F0 m 0 ls []) := by
  obtain ⟨hx, hb, hml, hown, hts⟩ := F
  refine lv_iload_n hx hb dX1_peek_0 rfl (lv_at hl 1 rfl) ?_
  refine lv_if_lt (tgt := 10) hx hb dX1_peek_1 (by decide) (fun c_1 => ?_) (fun c_1 => ?_)
  · refine lv_iconst (v := -1) hx hb dX1_peek_10 (by decide) ?_
    refine lv_goto (tgt := 20) hx hb dX1_peek_11 (by decide) ?_
    exact hret _ _ _ _ _ _ G (by unfold peekM; rw [if_pos c_1]) dX1_peek_20
  · refine lv_iload_n hx hb dX1_peek_4 rfl (lv_at hl 1 rfl) ?_
    refine lv_bipush (v := 39) hx hb dX1_peek_5 (by decide) ?_
    refine lv_icmp_le (tgt := 14) hx hb dX1_peek_7 (by decide) (fun c_7 => ?_) (fun c_7 => ?_)
    · have hw := in40 c_1 c_7
      refine lv_aload_n hx hb dX1_peek_14 rfl (lv_at hl 0 rfl) ?_
      refine g1_0 hx hb hts hown G dX1_peek_15 ?_
      refine lv_iload_n hx hb dX1_peek_18 rfl (lv_at hl 1 rfl) ?_
      refine l1_0 (tn x) hx hb G hw.1 hw.2 dX1_peek_19 ?_
      exact hret _ _ _ _ _ _ G (by unfold peekM; rw [if_neg c_1, if_pos c_7]) dX1_peek_20
    · refine lv_iconst (v := -1) hx hb dX1_peek_10 (by decide) ?_
      refine lv_goto (tgt := 20) hx hb dX1_peek_11 (by decide) ?_
      exact hret _ _ _ _ _ _ G (by unfold peekM; rw [if_neg c_1, if_neg c_7]) dX1_peek_20
theorem c1_peek (l : Launch) (σ : St) (x : Int32) : C1 l yX1_peek cX1_peek 2 (some .int) rm1_peek [.int x] σ (peekM σ x, σ) := C1.of (by decide) rfl (fun _ => Nat.le_of_ble_eq_true rfl) rfl (fun p e s m args below meth c Q D A h0 h ca ls F G hl hret => b1_peek x F G hl hret)
def hitsM (σ : St) (x : Int32) : Int32 := (if (badM x) = 0 then (if (σ.1 2 (tn x)) = 0 then (-2) else (σ.1 8 (tn x))) else (-1))
set_option maxHeartbeats 1000000 in
theorem b1_hits {p : Program} {l : Launch} {e : Env} {s : State} {m : MethodId} {args : Array Value} {below : List Frame} {meth : Method} {c : Code} {Q : State → Prop} {D : va_G} {A : Nat → Prop} {h0 : Nat} {h : Nat → Nat} {ca : Nat → ClassId} {σ : St} {H : Heap} {locs : List Loc} {ls : Array Slot} (x : Int32) (F : Fx p m c cX1_hits 2 s args RX1) (G : Wd1 D s A h0 h ca σ H locs) (hl : lv_has ls 2 [(0, .ref h0), (1, .int x)]) (hret : RetI1 p l e rm1_hits s m args below meth c cX1_hits Q D A h0 h ca (hitsM σ x, σ)) : W p l e rm1_hits s m args below meth c H locs 0 0 Q (F0 m 0 ls []) := by
  obtain ⟨hx, hb, hml, hown, hts⟩ := F
  refine lv_aload_n hx hb dX1_hits_0 rfl (lv_at hl 0 rfl) ?_
  refine lv_iload_n hx hb dX1_hits_1 rfl (lv_at hl 1 rfl) ?_
  refine call1I (av := [.int x]) (rest := []) hx hb hml hts hown (c1_bad l σ x) (cw1_bad hts ⟨Nat.le_of_ble_eq_true rfl, Nat.le_of_ble_eq_true rfl⟩) G rfl hl.1 rfl (Nat.le_of_ble_eq_true rfl) dX1_hits_2 ⟨Nat.zero_le _, Nat.zero_le _⟩ (fun H locs G => ?_)
  refine lv_if_eq (tgt := 10) hx hb dX1_hits_5 (by decide) (fun c_5 => ?_) (fun c_5 => ?_)
  · have hw := bad_in c_5
    refine lv_aload_n hx hb dX1_hits_10 rfl (lv_at hl 0 rfl) ?_
    refine g1_2 hx hb hts hown G dX1_hits_11 ?_
    refine lv_iload_n hx hb dX1_hits_14 rfl (lv_at hl 1 rfl) ?_
    refine l1_2 (tn x) hx hb G hw.1 hw.2 dX1_hits_15 ?_
    refine lv_cut (J := 30) (rest := []) (if (σ.1 2 (tn x)) = 0 then (-2) else (σ.1 8 (tn x))) (fun kj => ?_) ?_
    · refine lv_if_eq (tgt := 28) hx hb dX1_hits_16 (by decide) (fun c_16 => ?_) (fun c_16 => ?_)
      · refine lv_bipush (v := -2) hx hb dX1_hits_28 (by decide) ?_
        exact kj _ (by rw [if_pos c_16])
      · refine lv_aload_n hx hb dX1_hits_19 rfl (lv_at hl 0 rfl) ?_
        refine g1_8 hx hb hts hown G dX1_hits_20 ?_
        refine lv_iload_n hx hb dX1_hits_23 rfl (lv_at hl 1 rfl) ?_
        refine l1_8 (tn x) hx hb G hw.1 hw.2 dX1_hits_24 ?_
        refine lv_goto (tgt := 30) hx hb dX1_hits_25 (by decide) ?_
        exact kj _ (by rw [if_neg c_16])
    exact hret _ _ _ _ _ _ G (by unfold hitsM; rw [if_pos c_5]) dX1_hits_30
  · refine lv_iconst (v := -1) hx hb dX1_hits_8 (by decide) ?_
    exact hret _ _ _ _ _ _ G (by unfold hitsM; rw [if_neg c_5]) dX1_hits_9
theorem c1_hits (l : Launch) (σ : St) (x : Int32) : C1 l yX1_hits cX1_hits 2 (some .int) rm1_hits [.int x] σ (hitsM σ x, σ) := C1.of (by decide) rfl (fun _ => Nat.le_of_ble_eq_true rfl) rfl (fun p e s m args below meth c Q D A h0 h ca ls F G hl hret => b1_hits x F G hl hret)
def skipsM (σ : St) (x : Int32) : Int32 := (if (badM x) = 0 then (if (σ.1 2 (tn x)) = 0 then (-2) else (σ.1 7 (tn x))) else (-1))
set_option maxHeartbeats 1000000 in
theorem b1_skips {p : Program} {l : Launch} {e : Env} {s : State} {m : MethodId} {args : Array Value} {below : List Frame} {meth : Method} {c : Code} {Q : State → Prop} {D : va_G} {A : Nat → Prop} {h0 : Nat} {h : Nat → Nat} {ca : Nat → ClassId} {σ : St} {H : Heap} {locs : List Loc} {ls : Array Slot} (x : Int32) (F : Fx p m c cX1_skips 2 s args RX1) (G : Wd1 D s A h0 h ca σ H locs) (hl : lv_has ls 2 [(0, .ref h0), (1, .int x)]) (hret : RetI1 p l e rm1_skips s m args below meth c cX1_skips Q D A h0 h ca (skipsM σ x, σ)) : W p l e rm1_skips s m args below meth c H locs 0 0 Q (F0 m 0 ls []) := by
  obtain ⟨hx, hb, hml, hown, hts⟩ := F
  refine lv_aload_n hx hb dX1_skips_0 rfl (lv_at hl 0 rfl) ?_
  refine lv_iload_n hx hb dX1_skips_1 rfl (lv_at hl 1 rfl) ?_
  refine call1I (av := [.int x]) (rest := []) hx hb hml hts hown (c1_bad l σ x) (cw1_bad hts ⟨Nat.le_of_ble_eq_true rfl, Nat.le_of_ble_eq_true rfl⟩) G rfl hl.1 rfl (Nat.le_of_ble_eq_true rfl) dX1_skips_2 ⟨Nat.zero_le _, Nat.zero_le _⟩ (fun H locs G => ?_)
  refine lv_if_eq (tgt := 10) hx hb dX1_skips_5 (by decide) (fun c_5 => ?_) (fun c_5 => ?_)
  · have hw := bad_in c_5
    refine lv_aload_n hx hb dX1_skips_10 rfl (lv_at hl 0 rfl) ?_
    refine g1_2 hx hb hts hown G dX1_skips_11 ?_
    refine lv_iload_n hx hb dX1_skips_14 rfl (lv_at hl 1 rfl) ?_
    refine l1_2 (tn x) hx hb G hw.1 hw.2 dX1_skips_15 ?_
    refine lv_cut (J := 30) (rest := []) (if (σ.1 2 (tn x)) = 0 then (-2) else (σ.1 7 (tn x))) (fun kj => ?_) ?_
    · refine lv_if_eq (tgt := 28) hx hb dX1_skips_16 (by decide) (fun c_16 => ?_) (fun c_16 => ?_)
      · refine lv_bipush (v := -2) hx hb dX1_skips_28 (by decide) ?_
        exact kj _ (by rw [if_pos c_16])
      · refine lv_aload_n hx hb dX1_skips_19 rfl (lv_at hl 0 rfl) ?_
        refine g1_7 hx hb hts hown G dX1_skips_20 ?_
        refine lv_iload_n hx hb dX1_skips_23 rfl (lv_at hl 1 rfl) ?_
        refine l1_7 (tn x) hx hb G hw.1 hw.2 dX1_skips_24 ?_
        refine lv_goto (tgt := 30) hx hb dX1_skips_25 (by decide) ?_
        exact kj _ (by rw [if_neg c_16])
    exact hret _ _ _ _ _ _ G (by unfold skipsM; rw [if_pos c_5]) dX1_skips_30
  · refine lv_iconst (v := -1) hx hb dX1_skips_8 (by decide) ?_
    exact hret _ _ _ _ _ _ G (by unfold skipsM; rw [if_neg c_5]) dX1_skips_9
theorem c1_skips (l : Launch) (σ : St) (x : Int32) : C1 l yX1_skips cX1_skips 2 (some .int) rm1_skips [.int x] σ (skipsM σ x, σ) := C1.of (by decide) rfl (fun _ => Nat.le_of_ble_eq_true rfl) rfl (fun p e s m args below meth c Q D A h0 h ca ls F G hl hret => b1_skips x F G hl hret)
def stopsM (σ : St) : Int32 := (σ.2 10)
set_option maxHeartbeats 1000000 in
theorem b1_stops {p : Program} {l : Launch} {e : Env} {R : Room} {s : State} {m : MethodId} {args : Array Value} {below : List Frame} {meth : Method} {c : Code} {Q : State → Prop} {D : va_G} {A : Nat → Prop} {h0 : Nat} {h : Nat → Nat} {ca : Nat → ClassId} {σ : St} {H : Heap} {locs : List Loc} {ls : Array Slot} (F : Fx p m c cX1_stops 1 s args RX1) (G : Wd1 D s A h0 h ca σ H locs) (hl : lv_has ls 1 [(0, .ref h0)]) (hret : RetI1 p l e R s m args below meth c cX1_stops Q D A h0 h ca (stopsM σ, σ)) : W p l e R s m args below meth c H locs 0 0 Q (F0 m 0 ls []) := by
  obtain ⟨hx, hb, hml, hown, hts⟩ := F
  refine lv_aload_n hx hb dX1_stops_0 rfl (lv_at hl 0 rfl) ?_
  refine g1_10 hx hb hts hown G dX1_stops_1 ?_
  exact hret _ _ _ _ _ _ G (rfl) dX1_stops_4
theorem c1_stops (l : Launch) (σ : St) : C1 l yX1_stops cX1_stops 1 (some .int) rm1_stops [] σ (stopsM σ, σ) := C1.of (by decide) rfl (fun _ => Nat.le_of_ble_eq_true rfl) rfl (fun p e s m args below meth c Q D A h0 h ca ls F G hl hret => b1_stops F G hl hret)
def accessesM (σ : St) : Int32 := (σ.2 9)
set_option maxHeartbeats 1000000 in
theorem b1_accesses {p : Program} {l : Launch} {e : Env} {R : Room} {s : State} {m : MethodId} {args : Array Value} {below : List Frame} {meth : Method} {c : Code} {Q : State → Prop} {D : va_G} {A : Nat → Prop} {h0 : Nat} {h : Nat → Nat} {ca : Nat → ClassId} {σ : St} {H : Heap} {locs : List Loc} {ls : Array Slot} (F : Fx p m c cX1_accesses 1 s args RX1) (G : Wd1 D s A h0 h ca σ H locs) (hl : lv_has ls 1 [(0, .ref h0)]) (hret : RetI1 p l e R s m args below meth c cX1_accesses Q D A h0 h ca (accessesM σ, σ)) : W p l e R s m args below meth c H locs 0 0 Q (F0 m 0 ls []) := by
  obtain ⟨hx, hb, hml, hown, hts⟩ := F
  refine lv_aload_n hx hb dX1_accesses_0 rfl (lv_at hl 0 rfl) ?_
  refine g1_9 hx hb hts hown G dX1_accesses_1 ?_
  exact hret _ _ _ _ _ _ G (rfl) dX1_accesses_4
theorem c1_accesses (l : Launch) (σ : St) : C1 l yX1_accesses cX1_accesses 1 (some .int) rm1_accesses [] σ (accessesM σ, σ) := C1.of (by decide) rfl (fun _ => Nat.le_of_ble_eq_true rfl) rfl (fun p e s m args below meth c Q D A h0 h ca ls F G hl hret => b1_accesses F G hl hret)
def keptM (σ : St) : Int32 := (σ.2 11)
set_option maxHeartbeats 1000000 in
theorem b1_kept {p : Program} {l : Launch} {e : Env} {R : Room} {s : State} {m : MethodId} {args : Array Value} {below : List Frame} {meth : Method} {c : Code} {Q : State → Prop} {D : va_G} {A : Nat → Prop} {h0 : Nat} {h : Nat → Nat} {ca : Nat → ClassId} {σ : St} {H : Heap} {locs : List Loc} {ls : Array Slot} (F : Fx p m c cX1_kept 1 s args RX1) (G : Wd1 D s A h0 h ca σ H locs) (hl : lv_has ls 1 [(0, .ref h0)]) (hret : RetI1 p l e R s m args below meth c cX1_kept Q D A h0 h ca (keptM σ, σ)) : W p l e R s m args below meth c H locs 0 0 Q (F0 m 0 ls []) := by
  obtain ⟨hx, hb, hml, hown, hts⟩ := F
  refine lv_aload_n hx hb dX1_kept_0 rfl (lv_at hl 0 rfl) ?_
  refine g1_11 hx hb hts hown G dX1_kept_1 ?_
  exact hret _ _ _ _ _ _ G (rfl) dX1_kept_4
theorem c1_kept (l : Launch) (σ : St) : C1 l yX1_kept cX1_kept 1 (some .int) rm1_kept [] σ (keptM σ, σ) := C1.of (by decide) rfl (fun _ => Nat.le_of_ble_eq_true rfl) rfl (fun p e s m args below meth c Q D A h0 h ca ls F G hl hret => b1_kept F G hl hret)
def noStopM (σ : St) (x : Int32) : Int32 := (if x < 0 then 1 else (if (σ.2 11) ≤ x then 1 else (if x < 8 then 0 else 1)))
set_option maxHeartbeats 1000000 in
theorem b1_noStop {p : Program} {l : Launch} {e : Env} {R : Room} {s : State} {m : MethodId} {args : Array Value} {below : List Frame} {meth : Method} {c : Code} {Q : State → Prop} {D : va_G} {A : Nat → Prop} {h0 : Nat} {h : Nat → Nat} {ca : Nat → ClassId} {σ : St} {H : Heap} {locs : List Loc} {ls : Array Slot} (x : Int32) (F : Fx p m c cX1_noStop 2 s args RX1) (G : Wd1 D s A h0 h ca σ H locs) (hl : lv_has ls 2 [(0, .ref h0), (1, .int x)]) (hret : RetI1 p l e R s m args below meth c cX1_noStop Q D A h0 h ca (noStopM σ x, σ)) : W p l e R s m args below meth c H locs 0 0 Q (F0 m 0 ls []) := by
  obtain ⟨hx, hb, hml, hown, hts⟩ := F
  refine lv_iload_n hx hb dX1_noStop_0 rfl (lv_at hl 1 rfl) ?_
  refine lv_cut (J := 23) (rest := []) (if x < 0 then 1 else (if (σ.2 11) ≤ x then 1 else (if x < 8 then 0 else 1))) (fun kj => ?_) ?_
  · refine lv_if_lt (tgt := 18) hx hb dX1_noStop_1 (by decide) (fun c_1 => ?_) (fun c_1 => ?_)
    · refine lv_iconst (v := 1) hx hb dX1_noStop_18 (by decide) ?_
      refine lv_goto (tgt := 23) hx hb dX1_noStop_19 (by decide) ?_
      exact kj _ (by rw [if_pos c_1])
    · refine lv_iload_n hx hb dX1_noStop_4 rfl (lv_at hl 1 rfl) ?_
      refine lv_aload_n hx hb dX1_noStop_5 rfl (lv_at hl 0 rfl) ?_
      refine g1_11 hx hb hts hown G dX1_noStop_6 ?_
      refine lv_icmp_ge (tgt := 18) hx hb dX1_noStop_9 (by decide) (fun c_9 => ?_) (fun c_9 => ?_)
      · refine lv_iconst (v := 1) hx hb dX1_noStop_18 (by decide) ?_
        refine lv_goto (tgt := 23) hx hb dX1_noStop_19 (by decide) ?_
        exact kj _ (by rw [if_neg c_1, if_pos c_9])
      · refine lv_iload_n hx hb dX1_noStop_12 rfl (lv_at hl 1 rfl) ?_
        refine lv_bipush (v := 8) hx hb dX1_noStop_13 (by decide) ?_
        refine lv_icmp_lt (tgt := 22) hx hb dX1_noStop_15 (by decide) (fun c_15 => ?_) (fun c_15 => ?_)
        · refine lv_iconst (v := 0) hx hb dX1_noStop_22 (by decide) ?_
          exact kj _ (by rw [if_neg c_1, if_neg c_9, if_pos c_15])
        · refine lv_iconst (v := 1) hx hb dX1_noStop_18 (by decide) ?_
          refine lv_goto (tgt := 23) hx hb dX1_noStop_19 (by decide) ?_
          exact kj _ (by rw [if_neg c_1, if_neg c_9, if_neg c_15])
  exact hret _ _ _ _ _ _ G (rfl) dX1_noStop_23
theorem c1_noStop (l : Launch) (σ : St) (x : Int32) : C1 l yX1_noStop cX1_noStop 2 (some .boolean) rm1_noStop [.int x] σ (noStopM σ x, σ) := C1.of (by decide) rfl (fun _ => Nat.le_of_ble_eq_true rfl) (by show narrow .boolean (.int (noStopM σ x)) = .int (noStopM σ x); unfold noStopM; (repeat' split) <;> rfl) (fun p e s m args below meth c Q D A h0 h ca ls F G hl hret => b1_noStop x F G hl hret)
theorem noStop_in {σ : St} {x : Int32} (hh : noStopM σ x = 0) : x = nI (tn x) ∧ tn x < 8 := by
  unfold noStopM at hh
  by_cases h1 : x < 0
  · rw [if_pos h1] at hh
    exact absurd hh (by decide)
  · rw [if_neg h1] at hh
    by_cases h2 : σ.2 11 ≤ x
    · rw [if_pos h2] at hh
      exact absurd hh (by decide)
    · rw [if_neg h2] at hh
      by_cases h3 : x < 8
      · exact tn_of (n := 8) (by decide) h1 (fun h4 => by
          have h4 : (8 : Int32) ≤ x := h4
          exact absurd h3 (Int32.not_lt.mpr h4))
      · rw [if_neg h3] at hh
        exact absurd hh (by decide)
def stopMaskM (σ : St) (x : Int32) : Int32 := (if (noStopM σ x) = 0 then (σ.1 12 (tn x)) else (-1))
set_option maxHeartbeats 1000000 in
theorem b1_stopMask {p : Program} {l : Launch} {e : Env} {s : State} {m : MethodId} {args : Array Value} {below : List Frame} {meth : Method} {c : Code} {Q : State → Prop} {D : va_G} {A : Nat → Prop} {h0 : Nat} {h : Nat → Nat} {ca : Nat → ClassId} {σ : St} {H : Heap} {locs : List Loc} {ls : Array Slot} (x : Int32) (F : Fx p m c cX1_stopMask 2 s args RX1) (G : Wd1 D s A h0 h ca σ H locs) (hl : lv_has ls 2 [(0, .ref h0), (1, .int x)]) (hret : RetI1 p l e rm1_stopMask s m args below meth c cX1_stopMask Q D A h0 h ca (stopMaskM σ x, σ)) : W p l e rm1_stopMask s m args below meth c H locs 0 0 Q (F0 m 0 ls []) := by
  obtain ⟨hx, hb, hml, hown, hts⟩ := F
  refine lv_aload_n hx hb dX1_stopMask_0 rfl (lv_at hl 0 rfl) ?_
  refine lv_iload_n hx hb dX1_stopMask_1 rfl (lv_at hl 1 rfl) ?_
  refine call1I (av := [.int x]) (rest := []) hx hb hml hts hown (c1_noStop l σ x) (cw1_noStop hts ⟨Nat.le_of_ble_eq_true rfl, Nat.le_of_ble_eq_true rfl⟩) G rfl hl.1 rfl (Nat.le_of_ble_eq_true rfl) dX1_stopMask_2 ⟨Nat.zero_le _, Nat.zero_le _⟩ (fun H locs G => ?_)
  refine lv_if_eq (tgt := 12) hx hb dX1_stopMask_5 (by decide) (fun c_5 => ?_) (fun c_5 => ?_)
  · have hw := noStop_in c_5
    refine lv_aload_n hx hb dX1_stopMask_12 rfl (lv_at hl 0 rfl) ?_
    refine g1_12 hx hb hts hown G dX1_stopMask_13 ?_
    refine lv_iload_n hx hb dX1_stopMask_16 rfl (lv_at hl 1 rfl) ?_
    refine l1_12 (tn x) hx hb G hw.1 hw.2 dX1_stopMask_17 ?_
    exact hret _ _ _ _ _ _ G (by unfold stopMaskM; rw [if_pos c_5]) dX1_stopMask_18
  · refine lv_iconst (v := -1) hx hb dX1_stopMask_8 (by decide) ?_
    refine lv_goto (tgt := 18) hx hb dX1_stopMask_9 (by decide) ?_
    exact hret _ _ _ _ _ _ G (by unfold stopMaskM; rw [if_neg c_5]) dX1_stopMask_18
theorem c1_stopMask (l : Launch) (σ : St) (x : Int32) : C1 l yX1_stopMask cX1_stopMask 2 (some .int) rm1_stopMask [.int x] σ (stopMaskM σ x, σ) := C1.of (by decide) rfl (fun _ => Nat.le_of_ble_eq_true rfl) rfl (fun p e s m args below meth c Q D A h0 h ca ls F G hl hret => b1_stopMask x F G hl hret)
def stopAddressM (σ : St) (x : Int32) : Int32 := (if (noStopM σ x) = 0 then (σ.1 13 (tn x)) else (-1))
set_option maxHeartbeats 1000000 in
theorem b1_stopAddress {p : Program} {l : Launch} {e : Env} {s : State} {m : MethodId} {args : Array Value} {below : List Frame} {meth : Method} {c : Code} {Q : State → Prop} {D : va_G} {A : Nat → Prop} {h0 : Nat} {h : Nat → Nat} {ca : Nat → ClassId} {σ : St} {H : Heap} {locs : List Loc} {ls : Array Slot} (x : Int32) (F : Fx p m c cX1_stopAddress 2 s args RX1) (G : Wd1 D s A h0 h ca σ H locs) (hl : lv_has ls 2 [(0, .ref h0), (1, .int x)]) (hret : RetI1 p l e rm1_stopAddress s m args below meth c cX1_stopAddress Q D A h0 h ca (stopAddressM σ x, σ)) : W p l e rm1_stopAddress s m args below meth c H locs 0 0 Q (F0 m 0 ls []) := by
  obtain ⟨hx, hb, hml, hown, hts⟩ := F
  refine lv_aload_n hx hb dX1_stopAddress_0 rfl (lv_at hl 0 rfl) ?_
  refine lv_iload_n hx hb dX1_stopAddress_1 rfl (lv_at hl 1 rfl) ?_
  refine call1I (av := [.int x]) (rest := []) hx hb hml hts hown (c1_noStop l σ x) (cw1_noStop hts ⟨Nat.le_of_ble_eq_true rfl, Nat.le_of_ble_eq_true rfl⟩) G rfl hl.1 rfl (Nat.le_of_ble_eq_true rfl) dX1_stopAddress_2 ⟨Nat.zero_le _, Nat.zero_le _⟩ (fun H locs G => ?_)
  refine lv_if_eq (tgt := 12) hx hb dX1_stopAddress_5 (by decide) (fun c_5 => ?_) (fun c_5 => ?_)
  · have hw := noStop_in c_5
    refine lv_aload_n hx hb dX1_stopAddress_12 rfl (lv_at hl 0 rfl) ?_
    refine g1_13 hx hb hts hown G dX1_stopAddress_13 ?_
    refine lv_iload_n hx hb dX1_stopAddress_16 rfl (lv_at hl 1 rfl) ?_
    refine l1_13 (tn x) hx hb G hw.1 hw.2 dX1_stopAddress_17 ?_
    exact hret _ _ _ _ _ _ G (by unfold stopAddressM; rw [if_pos c_5]) dX1_stopAddress_18
  · refine lv_iconst (v := -1) hx hb dX1_stopAddress_8 (by decide) ?_
    refine lv_goto (tgt := 18) hx hb dX1_stopAddress_9 (by decide) ?_
    exact hret _ _ _ _ _ _ G (by unfold stopAddressM; rw [if_neg c_5]) dX1_stopAddress_18
theorem c1_stopAddress (l : Launch) (σ : St) (x : Int32) : C1 l yX1_stopAddress cX1_stopAddress 2 (some .int) rm1_stopAddress [.int x] σ (stopAddressM σ x, σ) := C1.of (by decide) rfl (fun _ => Nat.le_of_ble_eq_true rfl) rfl (fun p e s m args below meth c Q D A h0 h ca ls F G hl hret => b1_stopAddress x F G hl hret)
def stopNumberM (σ : St) (x : Int32) : Int32 := (if (noStopM σ x) = 0 then (σ.1 14 (tn x)) else (-1))
set_option maxHeartbeats 1000000 in
theorem b1_stopNumber {p : Program} {l : Launch} {e : Env} {s : State} {m : MethodId} {args : Array Value} {below : List Frame} {meth : Method} {c : Code} {Q : State → Prop} {D : va_G} {A : Nat → Prop} {h0 : Nat} {h : Nat → Nat} {ca : Nat → ClassId} {σ : St} {H : Heap} {locs : List Loc} {ls : Array Slot} (x : Int32) (F : Fx p m c cX1_stopNumber 2 s args RX1) (G : Wd1 D s A h0 h ca σ H locs) (hl : lv_has ls 2 [(0, .ref h0), (1, .int x)]) (hret : RetI1 p l e rm1_stopNumber s m args below meth c cX1_stopNumber Q D A h0 h ca (stopNumberM σ x, σ)) : W p l e rm1_stopNumber s m args below meth c H locs 0 0 Q (F0 m 0 ls []) := by
  obtain ⟨hx, hb, hml, hown, hts⟩ := F
  refine lv_aload_n hx hb dX1_stopNumber_0 rfl (lv_at hl 0 rfl) ?_
  refine lv_iload_n hx hb dX1_stopNumber_1 rfl (lv_at hl 1 rfl) ?_
  refine call1I (av := [.int x]) (rest := []) hx hb hml hts hown (c1_noStop l σ x) (cw1_noStop hts ⟨Nat.le_of_ble_eq_true rfl, Nat.le_of_ble_eq_true rfl⟩) G rfl hl.1 rfl (Nat.le_of_ble_eq_true rfl) dX1_stopNumber_2 ⟨Nat.zero_le _, Nat.zero_le _⟩ (fun H locs G => ?_)
  refine lv_if_eq (tgt := 12) hx hb dX1_stopNumber_5 (by decide) (fun c_5 => ?_) (fun c_5 => ?_)
  · have hw := noStop_in c_5
    refine lv_aload_n hx hb dX1_stopNumber_12 rfl (lv_at hl 0 rfl) ?_
    refine g1_14 hx hb hts hown G dX1_stopNumber_13 ?_
    refine lv_iload_n hx hb dX1_stopNumber_16 rfl (lv_at hl 1 rfl) ?_
    refine l1_14 (tn x) hx hb G hw.1 hw.2 dX1_stopNumber_17 ?_
    exact hret _ _ _ _ _ _ G (by unfold stopNumberM; rw [if_pos c_5]) dX1_stopNumber_18
  · refine lv_iconst (v := -1) hx hb dX1_stopNumber_8 (by decide) ?_
    refine lv_goto (tgt := 18) hx hb dX1_stopNumber_9 (by decide) ?_
    exact hret _ _ _ _ _ _ G (by unfold stopNumberM; rw [if_neg c_5]) dX1_stopNumber_18
theorem c1_stopNumber (l : Launch) (σ : St) (x : Int32) : C1 l yX1_stopNumber cX1_stopNumber 2 (some .int) rm1_stopNumber [.int x] σ (stopNumberM σ x, σ) := C1.of (by decide) rfl (fun _ => Nat.le_of_ble_eq_true rfl) rfl (fun p e s m args below meth c Q D A h0 h ca ls F G hl hret => b1_stopNumber x F G hl hret)
def beforeM (σ : St) (x : Int32) : Int32 := (if (noStopM σ x) = 0 then (σ.1 15 (tn x)) else 0)
set_option maxHeartbeats 1000000 in
theorem b1_before {p : Program} {l : Launch} {e : Env} {s : State} {m : MethodId} {args : Array Value} {below : List Frame} {meth : Method} {c : Code} {Q : State → Prop} {D : va_G} {A : Nat → Prop} {h0 : Nat} {h : Nat → Nat} {ca : Nat → ClassId} {σ : St} {H : Heap} {locs : List Loc} {ls : Array Slot} (x : Int32) (F : Fx p m c cX1_before 2 s args RX1) (G : Wd1 D s A h0 h ca σ H locs) (hl : lv_has ls 2 [(0, .ref h0), (1, .int x)]) (hret : RetI1 p l e rm1_before s m args below meth c cX1_before Q D A h0 h ca (beforeM σ x, σ)) : W p l e rm1_before s m args below meth c H locs 0 0 Q (F0 m 0 ls []) := by
  obtain ⟨hx, hb, hml, hown, hts⟩ := F
  refine lv_aload_n hx hb dX1_before_0 rfl (lv_at hl 0 rfl) ?_
  refine lv_iload_n hx hb dX1_before_1 rfl (lv_at hl 1 rfl) ?_
  refine call1I (av := [.int x]) (rest := []) hx hb hml hts hown (c1_noStop l σ x) (cw1_noStop hts ⟨Nat.le_of_ble_eq_true rfl, Nat.le_of_ble_eq_true rfl⟩) G rfl hl.1 rfl (Nat.le_of_ble_eq_true rfl) dX1_before_2 ⟨Nat.zero_le _, Nat.zero_le _⟩ (fun H locs G => ?_)
  refine lv_if_eq (tgt := 12) hx hb dX1_before_5 (by decide) (fun c_5 => ?_) (fun c_5 => ?_)
  · have hw := noStop_in c_5
    refine lv_aload_n hx hb dX1_before_12 rfl (lv_at hl 0 rfl) ?_
    refine g1_15 hx hb hts hown G dX1_before_13 ?_
    refine lv_iload_n hx hb dX1_before_16 rfl (lv_at hl 1 rfl) ?_
    refine l1_15 (tn x) hx hb G hw.1 hw.2 dX1_before_17 ?_
    exact hret _ _ _ _ _ _ G (by unfold beforeM; rw [if_pos c_5]) dX1_before_18
  · refine lv_iconst (v := 0) hx hb dX1_before_8 (by decide) ?_
    refine lv_goto (tgt := 18) hx hb dX1_before_9 (by decide) ?_
    exact hret _ _ _ _ _ _ G (by unfold beforeM; rw [if_neg c_5]) dX1_before_18
theorem c1_before (l : Launch) (σ : St) (x : Int32) : C1 l yX1_before cX1_before 2 (some .int) rm1_before [.int x] σ (beforeM σ x, σ) := C1.of (by decide) rfl (fun _ => Nat.le_of_ble_eq_true rfl) rfl (fun p e s m args below meth c Q D A h0 h ca ls F G hl hret => b1_before x F G hl hret)
def afterM (σ : St) (x : Int32) : Int32 := (if (noStopM σ x) = 0 then (σ.1 16 (tn x)) else 0)
set_option maxHeartbeats 1000000 in
theorem b1_after {p : Program} {l : Launch} {e : Env} {s : State} {m : MethodId} {args : Array Value} {below : List Frame} {meth : Method} {c : Code} {Q : State → Prop} {D : va_G} {A : Nat → Prop} {h0 : Nat} {h : Nat → Nat} {ca : Nat → ClassId} {σ : St} {H : Heap} {locs : List Loc} {ls : Array Slot} (x : Int32) (F : Fx p m c cX1_after 2 s args RX1) (G : Wd1 D s A h0 h ca σ H locs) (hl : lv_has ls 2 [(0, .ref h0), (1, .int x)]) (hret : RetI1 p l e rm1_after s m args below meth c cX1_after Q D A h0 h ca (afterM σ x, σ)) : W p l e rm1_after s m args below meth c H locs 0 0 Q (F0 m 0 ls []) := by
  obtain ⟨hx, hb, hml, hown, hts⟩ := F
  refine lv_aload_n hx hb dX1_after_0 rfl (lv_at hl 0 rfl) ?_
  refine lv_iload_n hx hb dX1_after_1 rfl (lv_at hl 1 rfl) ?_
  refine call1I (av := [.int x]) (rest := []) hx hb hml hts hown (c1_noStop l σ x) (cw1_noStop hts ⟨Nat.le_of_ble_eq_true rfl, Nat.le_of_ble_eq_true rfl⟩) G rfl hl.1 rfl (Nat.le_of_ble_eq_true rfl) dX1_after_2 ⟨Nat.zero_le _, Nat.zero_le _⟩ (fun H locs G => ?_)
  refine lv_if_eq (tgt := 12) hx hb dX1_after_5 (by decide) (fun c_5 => ?_) (fun c_5 => ?_)
  · have hw := noStop_in c_5
    refine lv_aload_n hx hb dX1_after_12 rfl (lv_at hl 0 rfl) ?_
    refine g1_16 hx hb hts hown G dX1_after_13 ?_
    refine lv_iload_n hx hb dX1_after_16 rfl (lv_at hl 1 rfl) ?_
    refine l1_16 (tn x) hx hb G hw.1 hw.2 dX1_after_17 ?_
    exact hret _ _ _ _ _ _ G (by unfold afterM; rw [if_pos c_5]) dX1_after_18
  · refine lv_iconst (v := 0) hx hb dX1_after_8 (by decide) ?_
    refine lv_goto (tgt := 18) hx hb dX1_after_9 (by decide) ?_
    exact hret _ _ _ _ _ _ G (by unfold afterM; rw [if_neg c_5]) dX1_after_18
theorem c1_after (l : Launch) (σ : St) (x : Int32) : C1 l yX1_after cX1_after 2 (some .int) rm1_after [.int x] σ (afterM σ x, σ) := C1.of (by decide) rfl (fun _ => Nat.le_of_ble_eq_true rfl) rfl (fun p e s m args below meth c Q D A h0 h ca ls F G hl hret => b1_after x F G hl hret)
end
section
set_option maxRecDepth 100000
theorem inc_m1 (x : Int32) : x + Int32.ofInt (-1) = x - 1 := by
  rw [Int32.sub_eq_add_neg]
  rfl
theorem neg_m1 : nI 0 - 1 < 0 := by decide
/-- size bytes at a, the highest first -/
def vA (f : Nat → Int32) (a : Nat) : Nat → Int32 → Int32
  | 0, v => v
  | j + 1, v => vA f a j ((v <<< (8 &&& 31)) ||| f (a + j))
set_option maxHeartbeats 2000000 in
theorem q0_valueAt {p : Program} {l : Launch} {e : Env} {R : Room} {s : State} {m : MethodId} {args : Array Value} {below : List Frame} {meth : Method} {c : Code} {Q : State → Prop} {D : va_G} {A : Nat → Prop} {h0 : Nat} {h : Nat → Nat} {ca : Nat → ClassId} {a n : Nat} (F : Fx p m c cX0_valueAt 5 s args RX0) {σ : St} {H : Heap} {locs : List Loc} (G : Wd0 D s A h0 h ca σ H locs) (ha : a + n ≤ 40) {r : Int32} (hret : RetI0 p l e R s m args below meth c cX0_valueAt Q D A h0 h ca (r, σ)) : ∀ (j : Nat) (v : Int32) (ls : Array Slot), j ≤ n → r = vA (σ.1 0) a j v → lv_has ls 5 [(4, .int (nI j - 1)), (3, .int v), (0, .ref h0), (1, .int (nI a)), (2, .int (nI n))] → W p l e R s m args below meth c H locs 0 0 Q (F0 m 7 ls []) := by
  have F1 := F
  obtain ⟨hx, hb, hml, hown, hts⟩ := F1
  intro j
  induction j with
  | zero =>
    intro v ls hj hr hl
    refine lv_iload hx hb dX0_valueAt_7 (lv_at hl 0 rfl) ?_
    refine lv_if_lt (tgt := 33) hx hb dX0_valueAt_9 (by decide) (fun _ => ?_) (fun c_9 => absurd neg_m1 c_9)
    refine lv_iload_n hx hb dX0_valueAt_33 rfl (lv_at hl 1 rfl) ?_
    exact hret _ _ _ _ _ _ G (by rw [hr]; rfl) dX0_valueAt_34
  | succ j ih =>
    intro v ls hj hr hl
    rw [nI_pred] at hl
    refine lv_iload hx hb dX0_valueAt_7 (lv_at hl 0 rfl) ?_
    refine lv_if_lt (tgt := 33) hx hb dX0_valueAt_9 (by decide) (fun c_9 => absurd c_9 (nI_pos (by omega))) (fun _ => ?_)
    refine lv_iload_n hx hb dX0_valueAt_12 rfl (lv_at hl 1 rfl) ?_
    refine lv_bipush (v := 8) hx hb dX0_valueAt_13 (by decide) ?_
    refine lv_ishl hx hb dX0_valueAt_15 ?_
    refine lv_aload_n hx hb dX0_valueAt_16 rfl (lv_at hl 2 rfl) ?_
    refine g0_0 hx hb hts hown G dX0_valueAt_17 ?_
    refine lv_iload_n hx hb dX0_valueAt_20 rfl (lv_at hl 3 rfl) ?_
    refine lv_iload hx hb dX0_valueAt_21 (lv_at hl 0 rfl) ?_
    refine lv_iadd hx hb dX0_valueAt_23 ?_
    refine l0_0 (a + j) hx hb G (nI_add a j) (by omega) dX0_valueAt_24 ?_
    refine lv_ior hx hb dX0_valueAt_25 ?_
    refine lv_istore_n (lv' := [(3, .int ((v <<< (8 &&& 31)) ||| (σ.1 0 (a + j)))), (4, .int (nI j)), (0, .ref h0), (1, .int (nI a)), (2, .int (nI n))]) hx hb dX0_valueAt_26 rfl hl (by decide) rfl (fun ls hl => ?_)
    refine lv_iinc (v := nI j - 1) (lv' := [(4, .int (nI j - 1)), (3, .int ((v <<< (8 &&& 31)) ||| (σ.1 0 (a + j)))), (0, .ref h0), (1, .int (nI a)), (2, .int (nI n))]) hx hb dX0_valueAt_27 hl (k := 1) rfl (inc_m1 _) (by decide) rfl (fun ls hl => ?_)
    refine lv_goto (tgt := 7) hx hb dX0_valueAt_30 (by decide) ?_
    exact ih _ ls (by omega) (by rw [hr]; rfl) hl
set_option maxHeartbeats 2000000 in
theorem b0_valueAt {p : Program} {l : Launch} {e : Env} {R : Room} {s : State} {m : MethodId} {args : Array Value} {below : List Frame} {meth : Method} {c : Code} {Q : State → Prop} {D : va_G} {A : Nat → Prop} {h0 : Nat} {h : Nat → Nat} {ca : Nat → ClassId} (a n : Nat) {σ : St} {H : Heap} {locs : List Loc} {ls : Array Slot} (ha : a + n ≤ 40) (F : Fx p m c cX0_valueAt 5 s args RX0) (G : Wd0 D s A h0 h ca σ H locs) (hl : lv_has ls 5 [(0, .ref h0), (1, .int (nI a)), (2, .int (nI n))]) (hret : RetI0 p l e R s m args below meth c cX0_valueAt Q D A h0 h ca (vA (σ.1 0) a n 0, σ)) : W p l e R s m args below meth c H locs 0 0 Q (F0 m 0 ls []) := by
  have F1 := F
  obtain ⟨hx, hb, hml, hown, hts⟩ := F1
  refine lv_iconst (v := 0) hx hb dX0_valueAt_0 (by decide) ?_
  refine lv_istore_n (lv' := [(3, .int 0), (0, .ref h0), (1, .int (nI a)), (2, .int (nI n))]) hx hb dX0_valueAt_1 rfl hl (by decide) rfl (fun ls hl => ?_)
  refine lv_iload_n hx hb dX0_valueAt_2 rfl (lv_at hl 3 rfl) ?_
  refine lv_iconst (v := 1) hx hb dX0_valueAt_3 (by decide) ?_
  refine lv_isub hx hb dX0_valueAt_4 ?_
  refine lv_istore (lv' := [(4, .int ((nI n) - 1)), (3, .int 0), (0, .ref h0), (1, .int (nI a)), (2, .int (nI n))]) hx hb dX0_valueAt_5 hl (by decide) rfl (fun ls hl => ?_)
  exact q0_valueAt F G ha hret n 0 ls (Nat.le_refl n) rfl hl
theorem c0_valueAt (l : Launch) (σ : St) (a n : Nat) (ha : a + n ≤ 40) : C0 l yX0_valueAt cX0_valueAt 5 (some .int) rm0_valueAt [.int (nI a), .int (nI n)] σ (vA (σ.1 0) a n 0, σ) := C0.of (by decide) rfl (fun _ => Nat.le_of_ble_eq_true rfl) rfl (fun p e s m args below meth c Q D A h0 h ca ls F G hl hret => b0_valueAt a n ha F G hl hret)
set_option maxHeartbeats 2000000 in
theorem q0_oldValue {p : Program} {l : Launch} {e : Env} {R : Room} {s : State} {m : MethodId} {args : Array Value} {below : List Frame} {meth : Method} {c : Code} {Q : State → Prop} {D : va_G} {A : Nat → Prop} {h0 : Nat} {h : Nat → Nat} {ca : Nat → ClassId} {n : Nat} (F : Fx p m c cX0_oldValue 4 s args RX0) {σ : St} {H : Heap} {locs : List Loc} (G : Wd0 D s A h0 h ca σ H locs) (ha : n ≤ 4) {r : Int32} (hret : RetI0 p l e R s m args below meth c cX0_oldValue Q D A h0 h ca (r, σ)) : ∀ (j : Nat) (v : Int32) (ls : Array Slot), j ≤ n → r = vA (σ.1 17) 0 j v → lv_has ls 4 [(3, .int (nI j - 1)), (2, .int v), (0, .ref h0), (1, .int (nI n))] → W p l e R s m args below meth c H locs 0 0 Q (F0 m 6 ls []) := by
  have F1 := F
  obtain ⟨hx, hb, hml, hown, hts⟩ := F1
  intro j
  induction j with
  | zero =>
    intro v ls hj hr hl
    refine lv_iload_n hx hb dX0_oldValue_6 rfl (lv_at hl 0 rfl) ?_
    refine lv_if_lt (tgt := 28) hx hb dX0_oldValue_7 (by decide) (fun _ => ?_) (fun c_7 => absurd neg_m1 c_7)
    refine lv_iload_n hx hb dX0_oldValue_28 rfl (lv_at hl 1 rfl) ?_
    exact hret _ _ _ _ _ _ G (by rw [hr]; rfl) dX0_oldValue_29
  | succ j ih =>
    intro v ls hj hr hl
    rw [nI_pred] at hl
    refine lv_iload_n hx hb dX0_oldValue_6 rfl (lv_at hl 0 rfl) ?_
    refine lv_if_lt (tgt := 28) hx hb dX0_oldValue_7 (by decide) (fun c_7 => absurd c_7 (nI_pos (by omega))) (fun _ => ?_)
    refine lv_iload_n hx hb dX0_oldValue_10 rfl (lv_at hl 1 rfl) ?_
    refine lv_bipush (v := 8) hx hb dX0_oldValue_11 (by decide) ?_
    refine lv_ishl hx hb dX0_oldValue_13 ?_
    refine lv_aload_n hx hb dX0_oldValue_14 rfl (lv_at hl 2 rfl) ?_
    refine g0_17 hx hb hts hown G dX0_oldValue_15 ?_
    refine lv_iload_n hx hb dX0_oldValue_18 rfl (lv_at hl 0 rfl) ?_
    refine l0_17 (0 + j) hx hb G (by rw [Nat.zero_add]) (by omega) dX0_oldValue_19 ?_
    refine lv_ior hx hb dX0_oldValue_20 ?_
    refine lv_istore_n (lv' := [(2, .int ((v <<< (8 &&& 31)) ||| (σ.1 17 (0 + j)))), (3, .int (nI j)), (0, .ref h0), (1, .int (nI n))]) hx hb dX0_oldValue_21 rfl hl (by decide) rfl (fun ls hl => ?_)
    refine lv_iinc (v := nI j - 1) (lv' := [(3, .int (nI j - 1)), (2, .int ((v <<< (8 &&& 31)) ||| (σ.1 17 (0 + j)))), (0, .ref h0), (1, .int (nI n))]) hx hb dX0_oldValue_22 hl (k := 1) rfl (inc_m1 _) (by decide) rfl (fun ls hl => ?_)
    refine lv_goto (tgt := 6) hx hb dX0_oldValue_25 (by decide) ?_
    exact ih _ ls (by omega) (by rw [hr]; rfl) hl
set_option maxHeartbeats 2000000 in
theorem b0_oldValue {p : Program} {l : Launch} {e : Env} {R : Room} {s : State} {m : MethodId} {args : Array Value} {below : List Frame} {meth : Method} {c : Code} {Q : State → Prop} {D : va_G} {A : Nat → Prop} {h0 : Nat} {h : Nat → Nat} {ca : Nat → ClassId} (n : Nat) {σ : St} {H : Heap} {locs : List Loc} {ls : Array Slot} (ha : n ≤ 4) (F : Fx p m c cX0_oldValue 4 s args RX0) (G : Wd0 D s A h0 h ca σ H locs) (hl : lv_has ls 4 [(0, .ref h0), (1, .int (nI n))]) (hret : RetI0 p l e R s m args below meth c cX0_oldValue Q D A h0 h ca (vA (σ.1 17) 0 n 0, σ)) : W p l e R s m args below meth c H locs 0 0 Q (F0 m 0 ls []) := by
  have F1 := F
  obtain ⟨hx, hb, hml, hown, hts⟩ := F1
  refine lv_iconst (v := 0) hx hb dX0_oldValue_0 (by decide) ?_
  refine lv_istore_n (lv' := [(2, .int 0), (0, .ref h0), (1, .int (nI n))]) hx hb dX0_oldValue_1 rfl hl (by decide) rfl (fun ls hl => ?_)
  refine lv_iload_n hx hb dX0_oldValue_2 rfl (lv_at hl 2 rfl) ?_
  refine lv_iconst (v := 1) hx hb dX0_oldValue_3 (by decide) ?_
  refine lv_isub hx hb dX0_oldValue_4 ?_
  refine lv_istore_n (lv' := [(3, .int ((nI n) - 1)), (2, .int 0), (0, .ref h0), (1, .int (nI n))]) hx hb dX0_oldValue_5 rfl hl (by decide) rfl (fun ls hl => ?_)
  exact q0_oldValue F G ha hret n 0 ls (Nat.le_refl n) rfl hl
theorem c0_oldValue (l : Launch) (σ : St) (n : Nat) (ha : n ≤ 4) : C0 l yX0_oldValue cX0_oldValue 4 (some .int) rm0_oldValue [.int (nI n)] σ (vA (σ.1 17) 0 n 0, σ) := C0.of (by decide) rfl (fun _ => Nat.le_of_ble_eq_true rfl) rfl (fun p e s m args below meth c Q D A h0 h ca ls F G hl hret => b0_oldValue n ha F G hl hret)
/-- the first k bytes at a kept aside -/
def rem (σ : St) (a : Nat) : Nat → St
  | 0 => σ
  | k + 1 => sA (rem σ a k) 17 k ((rem σ a k).1 0 (a + k))
set_option maxHeartbeats 2000000 in
theorem q0_remember {p : Program} {l : Launch} {e : Env} {R : Room} {s : State} {m : MethodId} {args : Array Value} {below : List Frame} {meth : Method} {c : Code} {Q : State → Prop} {D : va_G} {A : Nat → Prop} {h0 : Nat} {h : Nat → Nat} {ca : Nat → ClassId} {a n : Nat} (F : Fx p m c cX0_remember 4 s args RX0) {σ : St} (ha : a + n ≤ 40) (hn : n ≤ 4) (hret : RetV0 p l e R s m args below meth c cX0_remember Q D A h0 h ca (rem σ a n)) : ∀ (d k : Nat), k + d = n → ∀ (H : Heap) (locs : List Loc) (ls : Array Slot), Wd0 D s A h0 h ca (rem σ a k) H locs → lv_has ls 4 [(3, .int (nI k)), (0, .ref h0), (1, .int (nI a)), (2, .int (nI n))] → W p l e R s m args below meth c H locs 0 0 Q (F0 m 2 ls []) := by
  have F1 := F
  obtain ⟨hx, hb, hml, hown, hts⟩ := F1
  intro d
  induction d with
  | zero =>
    intro k hk H locs ls G hl
    refine lv_iload_n hx hb dX0_remember_2 rfl (lv_at hl 0 rfl) ?_
    refine lv_iload_n hx hb dX0_remember_3 rfl (lv_at hl 3 rfl) ?_
    refine lv_icmp_ge (tgt := 27) hx hb dX0_remember_4 (by decide) (fun _ => ?_) (fun c_4 => absurd (nI_le (by omega) (by omega)) c_4)
    exact hret _ _ _ _ _ G (by rw [show n = k by omega]) dX0_remember_27
  | succ d ih =>
    intro k hk H locs ls G hl
    refine lv_iload_n hx hb dX0_remember_2 rfl (lv_at hl 0 rfl) ?_
    refine lv_iload_n hx hb dX0_remember_3 rfl (lv_at hl 3 rfl) ?_
    refine lv_icmp_ge (tgt := 27) hx hb dX0_remember_4 (by decide) (fun c_4 => absurd c_4 (nI_ge (by omega) (by omega))) (fun _ => ?_)
    refine lv_aload_n hx hb dX0_remember_7 rfl (lv_at hl 1 rfl) ?_
    refine g0_17 hx hb hts hown G dX0_remember_8 ?_
    refine lv_iload_n hx hb dX0_remember_11 rfl (lv_at hl 0 rfl) ?_
    refine lv_aload_n hx hb dX0_remember_12 rfl (lv_at hl 1 rfl) ?_
    refine g0_0 hx hb hts hown G dX0_remember_13 ?_
    refine lv_iload_n hx hb dX0_remember_16 rfl (lv_at hl 2 rfl) ?_
    refine lv_iload_n hx hb dX0_remember_17 rfl (lv_at hl 0 rfl) ?_
    refine lv_iadd hx hb dX0_remember_18 ?_
    refine l0_0 (a + k) hx hb G (nI_add a k) (by omega) dX0_remember_19 ?_
    refine a0_17 k hx hb G rfl (by omega) dX0_remember_20 (fun H locs G => ?_)
    refine lv_iinc (v := nI (k + 1)) (lv' := [(3, .int (nI (k + 1))), (0, .ref h0), (1, .int (nI a)), (2, .int (nI n))]) hx hb dX0_remember_21 hl (k := 0) rfl (nI_1 k) (by decide) rfl (fun ls hl => ?_)
    refine lv_goto (tgt := 2) hx hb dX0_remember_24 (by decide) ?_
    exact ih (k + 1) (by omega) H locs ls G hl
set_option maxHeartbeats 2000000 in
theorem b0_remember {p : Program} {l : Launch} {e : Env} {R : Room} {s : State} {m : MethodId} {args : Array Value} {below : List Frame} {meth : Method} {c : Code} {Q : State → Prop} {D : va_G} {A : Nat → Prop} {h0 : Nat} {h : Nat → Nat} {ca : Nat → ClassId} (a n : Nat) {σ : St} {H : Heap} {locs : List Loc} {ls : Array Slot} (ha : a + n ≤ 40) (hn : n ≤ 4) (F : Fx p m c cX0_remember 4 s args RX0) (G : Wd0 D s A h0 h ca σ H locs) (hl : lv_has ls 4 [(0, .ref h0), (1, .int (nI a)), (2, .int (nI n))]) (hret : RetV0 p l e R s m args below meth c cX0_remember Q D A h0 h ca (rem σ a n)) : W p l e R s m args below meth c H locs 0 0 Q (F0 m 0 ls []) := by
  have F1 := F
  obtain ⟨hx, hb, hml, hown, hts⟩ := F1
  refine lv_iconst (v := 0) hx hb dX0_remember_0 (by decide) ?_
  refine lv_istore_n (lv' := [(3, .int 0), (0, .ref h0), (1, .int (nI a)), (2, .int (nI n))]) hx hb dX0_remember_1 rfl hl (by decide) rfl (fun ls hl => ?_)
  exact q0_remember F ha hn hret n 0 (by omega) H locs ls G hl
theorem c0_remember (l : Launch) (σ : St) (a n : Nat) (ha : a + n ≤ 40) (hn : n ≤ 4) : V0 l yX0_remember cX0_remember 4 rm0_remember [.int (nI a), .int (nI n)] σ (rem σ a n) := V0.of (by decide) rfl (fun _ => Nat.le_of_ble_eq_true rfl) (fun p e s m args below meth c Q D A h0 h ca ls F G hl hret => b0_remember a n ha hn F G hl hret)
/-- whether a byte of the access that the watch covers has changed -/
def chg (σ : St) (w a : Nat) : Nat → Nat → Int32
  | 0, _ => 0
  | d + 1, k => if nI (a + k) < σ.1 3 w then chg σ w a d (k + 1) else if σ.1 4 w < nI (a + k) then chg σ w a d (k + 1) else if σ.1 0 (a + k) = σ.1 17 k then chg σ w a d (k + 1) else 1
set_option maxHeartbeats 2000000 in
theorem q0_isHit {p : Program} {l : Launch} {e : Env} {R : Room} {s : State} {m : MethodId} {args : Array Value} {below : List Frame} {meth : Method} {c : Code} {Q : State → Prop} {D : va_G} {A : Nat → Prop} {h0 : Nat} {h : Nat → Nat} {ca : Nat → ClassId} {w a n : Nat} {wr : Int32} (F : Fx p m c cX0_isHit 8 s args RX0) {σ : St} {H : Heap} {locs : List Loc} (G : Wd0 D s A h0 h ca σ H locs) (hw : w < 8) (ha : a + n ≤ 40) (hn : n ≤ 4) {r : Int32} (hret : RetI0 p l e R s m args below meth c cX0_isHit Q D A h0 h ca (r, σ)) : ∀ (d k : Nat), k + d = n → r = chg σ w a d k → ∀ (ls : Array Slot), lv_has ls 8 [(6, .int (nI k)), (0, .ref h0), (1, .int (nI w)), (2, .int (nI a)), (3, .int (nI n)), (4, .int wr)] → W p l e R s m args below meth c H locs 0 0 Q (F0 m 72 ls []) := by
  have F1 := F
  obtain ⟨hx, hb, hml, hown, hts⟩ := F1
  intro d
  induction d with
  | zero =>
    intro k hk hr ls hl
    refine lv_iload hx hb dX0_isHit_72 (lv_at hl 0 rfl) ?_
    refine lv_iload_n hx hb dX0_isHit_74 rfl (lv_at hl 4 rfl) ?_
    refine lv_icmp_ge (tgt := 131) hx hb dX0_isHit_75 (by decide) (fun _ => ?_) (fun c_75 => absurd (nI_le (by omega) (by omega)) c_75)
    refine lv_iconst (v := 0) hx hb dX0_isHit_131 (by decide) ?_
    exact hret _ _ _ _ _ _ G (by rw [hr]; rfl) dX0_isHit_132
  | succ d ih =>
    intro k hk hr ls hl
    refine lv_iload hx hb dX0_isHit_72 (lv_at hl 0 rfl) ?_
    refine lv_iload_n hx hb dX0_isHit_74 rfl (lv_at hl 4 rfl) ?_
    refine lv_icmp_ge (tgt := 131) hx hb dX0_isHit_75 (by decide) (fun c_75 => absurd c_75 (nI_ge (by omega) (by omega))) (fun _ => ?_)
    refine lv_iload_n hx hb dX0_isHit_78 rfl (lv_at hl 3 rfl) ?_
    refine lv_iload hx hb dX0_isHit_79 (lv_at hl 0 rfl) ?_
    refine lv_iadd hx hb dX0_isHit_81 ?_
    refine lv_ren (nI_add a k) ?_
    refine lv_istore (lv' := [(7, .int (nI (a + k))), (6, .int (nI k)), (0, .ref h0), (1, .int (nI w)), (2, .int (nI a)), (3, .int (nI n)), (4, .int wr)]) hx hb dX0_isHit_82 hl (by decide) rfl (fun ls hl => ?_)
    refine lv_aload_n hx hb dX0_isHit_84 rfl (lv_at hl 2 rfl) ?_
    refine g0_3 hx hb hts hown G dX0_isHit_85 ?_
    refine lv_iload_n hx hb dX0_isHit_88 rfl (lv_at hl 3 rfl) ?_
    refine l0_3 w hx hb G rfl (by omega) dX0_isHit_89 ?_
    refine lv_iload hx hb dX0_isHit_90 (lv_at hl 0 rfl) ?_
    refine lv_icmp_gt (tgt := 125) hx hb dX0_isHit_92 (by decide) (fun c_92 => ?_) (fun c_92 => ?_)
    · refine lv_iinc (v := nI (k + 1)) (lv' := [(6, .int (nI (k + 1))), (7, .int (nI (a + k))), (0, .ref h0), (1, .int (nI w)), (2, .int (nI a)), (3, .int (nI n)), (4, .int wr)]) hx hb dX0_isHit_125 hl (k := 1) rfl (nI_1 k) (by decide) rfl (fun ls hl => ?_)
      refine lv_goto (tgt := 72) hx hb dX0_isHit_128 (by decide) ?_
      exact ih (k + 1) (by omega) (by rw [hr, chg, if_pos c_92]) ls (lv_sub hl [0, 2, 3, 4, 5, 6] rfl)
    · refine lv_iload hx hb dX0_isHit_95 (lv_at hl 0 rfl) ?_
      refine lv_aload_n hx hb dX0_isHit_97 rfl (lv_at hl 2 rfl) ?_
      refine g0_4 hx hb hts hown G dX0_isHit_98 ?_
      refine lv_iload_n hx hb dX0_isHit_101 rfl (lv_at hl 3 rfl) ?_
      refine l0_4 w hx hb G rfl (by omega) dX0_isHit_102 ?_
      refine lv_icmp_gt (tgt := 125) hx hb dX0_isHit_103 (by decide) (fun c_103 => ?_) (fun c_103 => ?_)
      · refine lv_iinc (v := nI (k + 1)) (lv' := [(6, .int (nI (k + 1))), (7, .int (nI (a + k))), (0, .ref h0), (1, .int (nI w)), (2, .int (nI a)), (3, .int (nI n)), (4, .int wr)]) hx hb dX0_isHit_125 hl (k := 1) rfl (nI_1 k) (by decide) rfl (fun ls hl => ?_)
        refine lv_goto (tgt := 72) hx hb dX0_isHit_128 (by decide) ?_
        exact ih (k + 1) (by omega) (by rw [hr, chg, if_neg c_92, if_pos c_103]) ls (lv_sub hl [0, 2, 3, 4, 5, 6] rfl)
      · refine lv_aload_n hx hb dX0_isHit_106 rfl (lv_at hl 2 rfl) ?_
        refine g0_0 hx hb hts hown G dX0_isHit_107 ?_
        refine lv_iload hx hb dX0_isHit_110 (lv_at hl 0 rfl) ?_
        refine l0_0 (a + k) hx hb G rfl (by omega) dX0_isHit_112 ?_
        refine lv_aload_n hx hb dX0_isHit_113 rfl (lv_at hl 2 rfl) ?_
        refine g0_17 hx hb hts hown G dX0_isHit_114 ?_
        refine lv_iload hx hb dX0_isHit_117 (lv_at hl 1 rfl) ?_
        refine l0_17 k hx hb G rfl (by omega) dX0_isHit_119 ?_
        refine lv_icmp_eq (tgt := 125) hx hb dX0_isHit_120 (by decide) (fun c_120 => ?_) (fun c_120 => ?_)
        · refine lv_iinc (v := nI (k + 1)) (lv' := [(6, .int (nI (k + 1))), (7, .int (nI (a + k))), (0, .ref h0), (1, .int (nI w)), (2, .int (nI a)), (3, .int (nI n)), (4, .int wr)]) hx hb dX0_isHit_125 hl (k := 1) rfl (nI_1 k) (by decide) rfl (fun ls hl => ?_)
          refine lv_goto (tgt := 72) hx hb dX0_isHit_128 (by decide) ?_
          exact ih (k + 1) (by omega) (by rw [hr, chg, if_neg c_92, if_neg c_103, if_pos c_120]) ls (lv_sub hl [0, 2, 3, 4, 5, 6] rfl)
        · refine lv_iconst (v := 1) hx hb dX0_isHit_123 (by decide) ?_
          exact hret _ _ _ _ _ _ G (by rw [hr, chg, if_neg c_92, if_neg c_103, if_neg c_120]) dX0_isHit_124
def isHitX (σ : St) (w a n : Nat) (wr : Int32) : Int32 := (if (σ.1 5 w) = 4 then (if wr = 0 then 0 else chg σ w a n 0) else (if ((σ.1 5 w) &&& (if wr = 0 then 1 else 2)) = 0 then 0 else (if (σ.1 4 w) < (nI a) then 0 else (if ((nI a) + (nI n)) ≤ (σ.1 3 w) then 0 else 1))))
set_option maxHeartbeats 2000000 in
theorem b0_isHit {p : Program} {l : Launch} {e : Env} {R : Room} {s : State} {m : MethodId} {args : Array Value} {below : List Frame} {meth : Method} {c : Code} {Q : State → Prop} {D : va_G} {A : Nat → Prop} {h0 : Nat} {h : Nat → Nat} {ca : Nat → ClassId} (w a n : Nat) (wr : Int32) {σ : St} {H : Heap} {locs : List Loc} {ls : Array Slot} (hw : w < 8) (ha : a + n ≤ 40) (hn : n ≤ 4) (F : Fx p m c cX0_isHit 8 s args RX0) (G : Wd0 D s A h0 h ca σ H locs) (hl : lv_has ls 8 [(0, .ref h0), (1, .int (nI w)), (2, .int (nI a)), (3, .int (nI n)), (4, .int wr)]) (hret : RetI0 p l e R s m args below meth c cX0_isHit Q D A h0 h ca (isHitX σ w a n wr, σ)) : W p l e R s m args below meth c H locs 0 0 Q (F0 m 0 ls []) := by
  have F1 := F
  obtain ⟨hx, hb, hml, hown, hts⟩ := F1
  refine lv_iload hx hb dX0_isHit_0 (lv_at hl 4 rfl) ?_
  refine lv_cut (J := 10) (rest := []) (if wr = 0 then 1 else 2) (fun kj => ?_) ?_
  · refine lv_if_eq (tgt := 9) hx hb dX0_isHit_2 (by decide) (fun c_2 => ?_) (fun c_2 => ?_)
    · refine lv_iconst (v := 1) hx hb dX0_isHit_9 (by decide) ?_
      exact kj _ (by rw [if_pos c_2])
    · refine lv_iconst (v := 2) hx hb dX0_isHit_5 (by decide) ?_
      refine lv_goto (tgt := 10) hx hb dX0_isHit_6 (by decide) ?_
      exact kj _ (by rw [if_neg c_2])
  refine lv_istore (lv' := [(5, .int (if wr = 0 then 1 else 2)), (0, .ref h0), (1, .int (nI w)), (2, .int (nI a)), (3, .int (nI n)), (4, .int wr)]) hx hb dX0_isHit_10 hl (by decide) rfl (fun ls hl => ?_)
  refine lv_aload_n hx hb dX0_isHit_12 rfl (lv_at hl 1 rfl) ?_
  refine g0_5 hx hb hts hown G dX0_isHit_13 ?_
  refine lv_iload_n hx hb dX0_isHit_16 rfl (lv_at hl 2 rfl) ?_
  refine l0_5 w hx hb G rfl (by omega) dX0_isHit_17 ?_
  refine lv_iconst (v := 4) hx hb dX0_isHit_18 (by decide) ?_
  refine lv_icmp_eq (tgt := 62) hx hb dX0_isHit_19 (by decide) (fun c_19 => ?_) (fun c_19 => ?_)
  · refine lv_iload hx hb dX0_isHit_62 (lv_at hl 5 rfl) ?_
    refine lv_if_ne (tgt := 69) hx hb dX0_isHit_64 (by decide) (fun c_64 => ?_) (fun c_64 => ?_)
    · refine lv_iconst (v := 0) hx hb dX0_isHit_69 (by decide) ?_
      refine lv_istore (lv' := [(6, .int 0), (5, .int (if wr = 0 then 1 else 2)), (0, .ref h0), (1, .int (nI w)), (2, .int (nI a)), (3, .int (nI n)), (4, .int wr)]) hx hb dX0_isHit_70 hl (by decide) rfl (fun ls hl => ?_)
      exact q0_isHit F G hw ha hn hret n 0 (by omega) (by unfold isHitX; rw [if_pos c_19, if_neg c_64]) ls (lv_sub hl [0, 2, 3, 4, 5, 6] rfl)
    · refine lv_iconst (v := 0) hx hb dX0_isHit_67 (by decide) ?_
      exact hret _ _ _ _ _ _ G (by unfold isHitX; rw [if_pos c_19, if_pos c_64]) dX0_isHit_68
  · refine lv_aload_n hx hb dX0_isHit_22 rfl (lv_at hl 1 rfl) ?_
    refine g0_5 hx hb hts hown G dX0_isHit_23 ?_
    refine lv_iload_n hx hb dX0_isHit_26 rfl (lv_at hl 2 rfl) ?_
    refine l0_5 w hx hb G rfl (by omega) dX0_isHit_27 ?_
    refine lv_iload hx hb dX0_isHit_28 (lv_at hl 0 rfl) ?_
    refine lv_iand hx hb dX0_isHit_30 ?_
    refine lv_cut (J := 61) (rest := []) (if ((σ.1 5 w) &&& (if wr = 0 then 1 else 2)) = 0 then 0 else (if (σ.1 4 w) < (nI a) then 0 else (if ((nI a) + (nI n)) ≤ (σ.1 3 w) then 0 else 1))) (fun kj => ?_) ?_
    · refine lv_if_eq (tgt := 60) hx hb dX0_isHit_31 (by decide) (fun c_31 => ?_) (fun c_31 => ?_)
      · refine lv_iconst (v := 0) hx hb dX0_isHit_60 (by decide) ?_
        exact kj _ (by rw [if_pos c_31])
      · refine lv_iload_n hx hb dX0_isHit_34 rfl (lv_at hl 3 rfl) ?_
        refine lv_aload_n hx hb dX0_isHit_35 rfl (lv_at hl 1 rfl) ?_
        refine g0_4 hx hb hts hown G dX0_isHit_36 ?_
        refine lv_iload_n hx hb dX0_isHit_39 rfl (lv_at hl 2 rfl) ?_
        refine l0_4 w hx hb G rfl (by omega) dX0_isHit_40 ?_
        refine lv_icmp_gt (tgt := 60) hx hb dX0_isHit_41 (by decide) (fun c_41 => ?_) (fun c_41 => ?_)
        · refine lv_iconst (v := 0) hx hb dX0_isHit_60 (by decide) ?_
          exact kj _ (by rw [if_neg c_31, if_pos c_41])
        · refine lv_aload_n hx hb dX0_isHit_44 rfl (lv_at hl 1 rfl) ?_
          refine g0_3 hx hb hts hown G dX0_isHit_45 ?_
          refine lv_iload_n hx hb dX0_isHit_48 rfl (lv_at hl 2 rfl) ?_
          refine l0_3 w hx hb G rfl (by omega) dX0_isHit_49 ?_
          refine lv_iload_n hx hb dX0_isHit_50 rfl (lv_at hl 3 rfl) ?_
          refine lv_iload_n hx hb dX0_isHit_51 rfl (lv_at hl 4 rfl) ?_
          refine lv_iadd hx hb dX0_isHit_52 ?_
          refine lv_icmp_ge (tgt := 60) hx hb dX0_isHit_53 (by decide) (fun c_53 => ?_) (fun c_53 => ?_)
          · refine lv_iconst (v := 0) hx hb dX0_isHit_60 (by decide) ?_
            exact kj _ (by rw [if_neg c_31, if_neg c_41, if_pos c_53])
          · refine lv_iconst (v := 1) hx hb dX0_isHit_56 (by decide) ?_
            refine lv_goto (tgt := 61) hx hb dX0_isHit_57 (by decide) ?_
            exact kj _ (by rw [if_neg c_31, if_neg c_41, if_neg c_53])
    exact hret _ _ _ _ _ _ G (by unfold isHitX; rw [if_neg c_19]) dX0_isHit_61
theorem chg_01 (σ : St) (w a : Nat) : ∀ d k, chg σ w a d k = 0 ∨ chg σ w a d k = 1
  | 0, _ => Or.inl rfl
  | d + 1, k => by
    rw [chg]
    split
    · exact chg_01 σ w a d (k + 1)
    · split
      · exact chg_01 σ w a d (k + 1)
      · split
        · exact chg_01 σ w a d (k + 1)
        · exact Or.inr rfl
theorem isHit_01 (σ : St) (w a n : Nat) (wr : Int32) : isHitX σ w a n wr = 0 ∨ isHitX σ w a n wr = 1 := by
  unfold isHitX
  repeat' split
  all_goals first | exact Or.inl rfl | exact Or.inr rfl | exact chg_01 _ _ _ _ _
theorem nar_01 {x : Int32} (hh : x = 0 ∨ x = 1) : narrow .boolean (.int x) = .int x := by
  rcases hh with hh | hh <;> rw [hh] <;> rfl
theorem c0_isHit (l : Launch) (σ : St) (w a n : Nat) (wr : Int32) (hw : w < 8) (ha : a + n ≤ 40) (hn : n ≤ 4) : C0 l yX0_isHit cX0_isHit 8 (some .boolean) rm0_isHit [.int (nI w), .int (nI a), .int (nI n), .int wr] σ (isHitX σ w a n wr, σ) := C0.of (by decide) rfl (fun _ => Nat.le_of_ble_eq_true rfl) (nar_01 (isHit_01 σ w a n wr)) (fun p e s m args below meth c Q D A h0 h ca ls F G hl hret => b0_isHit w a n wr hw ha hn F G hl hret)
/-- the registers in use: their number -/
def BK (σ : St) : Prop := σ.2 18 = nI (tn (σ.2 18)) ∧ tn (σ.2 18) ≤ 4
def ovl (σ : St) (a n k : Nat) : Int32 := (if σ.1 8 k + σ.1 9 k ≤ nI a then 0 else (if nI a + nI n ≤ σ.1 8 k then 0 else 1))
/-- the watches behind the registers from k on, d of them -/
def sus (σ : St) (a n : Nat) (wy : Int32) : Nat → Nat → Int32 → Int32
  | 0, _, z => z
  | d + 1, k, z => sus σ a n wy d (k + 1) (if ovl σ a n k = 0 then z else if σ.1 10 k &&& wy = 0 then z else z ||| σ.1 11 k)
def suspectsX (σ : St) (a n : Nat) (wy : Int32) : Int32 := if σ.2 19 = 0 then sus σ a n wy (tn (σ.2 18)) 0 0 else σ.2 21
set_option maxHeartbeats 2000000 in
theorem q0_suspects {p : Program} {l : Launch} {e : Env} {R : Room} {s : State} {m : MethodId} {args : Array Value} {below : List Frame} {meth : Method} {c : Code} {Q : State → Prop} {D : va_G} {A : Nat → Prop} {h0 : Nat} {h : Nat → Nat} {ca : Nat → ClassId} {a n : Nat} {wy : Int32} (F : Fx p m c cX0_suspects 7 s args RX0) {σ : St} {H : Heap} {locs : List Loc} (G : Wd0 D s A h0 h ca σ H locs) (hB : BK σ) {r : Int32} (hret : RetI0 p l e R s m args below meth c cX0_suspects Q D A h0 h ca (r, σ)) : ∀ (d k : Nat) (z : Int32), k + d = tn (σ.2 18) → r = sus σ a n wy d k z → ∀ (ls : Array Slot), lv_has ls 7 [(5, .int (nI k)), (4, .int z), (0, .ref h0), (1, .int (nI a)), (2, .int (nI n)), (3, .int wy)] → W p l e R s m args below meth c H locs 0 0 Q (F0 m 18 ls []) := by
  have F1 := F
  obtain ⟨hx, hb, hml, hown, hts⟩ := F1
  obtain ⟨hB1, hB2⟩ := hB
  intro d
  induction d with
  | zero =>
    intro k z hk hr ls hl
    refine lv_iload hx hb dX0_suspects_18 (lv_at hl 0 rfl) ?_
    refine lv_aload_n hx hb dX0_suspects_20 rfl (lv_at hl 2 rfl) ?_
    refine g0_18 hx hb hts hown G dX0_suspects_21 ?_
    refine lv_icmp_ge (tgt := 101) hx hb dX0_suspects_24 (by decide) (fun _ => ?_) (fun c_24 => absurd (by rw [hB1]; exact nI_le (by omega) (by omega)) c_24)
    refine lv_iload hx hb dX0_suspects_101 (lv_at hl 1 rfl) ?_
    exact hret _ _ _ _ _ _ G (by rw [hr]; rfl) dX0_suspects_103
  | succ d ih =>
    intro k z hk hr ls hl
    refine lv_iload hx hb dX0_suspects_18 (lv_at hl 0 rfl) ?_
    refine lv_aload_n hx hb dX0_suspects_20 rfl (lv_at hl 2 rfl) ?_
    refine g0_18 hx hb hts hown G dX0_suspects_21 ?_
    refine lv_icmp_ge (tgt := 101) hx hb dX0_suspects_24 (by decide) (fun c_24 => absurd c_24 (by rw [hB1]; exact nI_ge (by omega) (by omega))) (fun _ => ?_)
    refine lv_iload_n hx hb dX0_suspects_27 rfl (lv_at hl 3 rfl) ?_
    refine lv_aload_n hx hb dX0_suspects_28 rfl (lv_at hl 2 rfl) ?_
    refine g0_8 hx hb hts hown G dX0_suspects_29 ?_
    refine lv_iload hx hb dX0_suspects_32 (lv_at hl 0 rfl) ?_
    refine l0_8 k hx hb G rfl (by omega) dX0_suspects_34 ?_
    refine lv_aload_n hx hb dX0_suspects_35 rfl (lv_at hl 2 rfl) ?_
    refine g0_9 hx hb hts hown G dX0_suspects_36 ?_
    refine lv_iload hx hb dX0_suspects_39 (lv_at hl 0 rfl) ?_
    refine l0_9 k hx hb G rfl (by omega) dX0_suspects_41 ?_
    refine lv_iadd hx hb dX0_suspects_42 ?_
    refine lv_cut (J := 64) (rest := []) (if ((σ.1 8 k) + (σ.1 9 k)) ≤ (nI a) then 0 else (if ((nI a) + (nI n)) ≤ (σ.1 8 k) then 0 else 1)) (fun kj => ?_) ?_
    · refine lv_icmp_ge (tgt := 63) hx hb dX0_suspects_43 (by decide) (fun c_43 => ?_) (fun c_43 => ?_)
      · refine lv_iconst (v := 0) hx hb dX0_suspects_63 (by decide) ?_
        exact kj _ (by rw [if_pos c_43])
      · refine lv_aload_n hx hb dX0_suspects_46 rfl (lv_at hl 2 rfl) ?_
        refine g0_8 hx hb hts hown G dX0_suspects_47 ?_
        refine lv_iload hx hb dX0_suspects_50 (lv_at hl 0 rfl) ?_
        refine l0_8 k hx hb G rfl (by omega) dX0_suspects_52 ?_
        refine lv_iload_n hx hb dX0_suspects_53 rfl (lv_at hl 3 rfl) ?_
        refine lv_iload_n hx hb dX0_suspects_54 rfl (lv_at hl 4 rfl) ?_
        refine lv_iadd hx hb dX0_suspects_55 ?_
        refine lv_icmp_ge (tgt := 63) hx hb dX0_suspects_56 (by decide) (fun c_56 => ?_) (fun c_56 => ?_)
        · refine lv_iconst (v := 0) hx hb dX0_suspects_63 (by decide) ?_
          exact kj _ (by rw [if_neg c_43, if_pos c_56])
        · refine lv_iconst (v := 1) hx hb dX0_suspects_59 (by decide) ?_
          refine lv_goto (tgt := 64) hx hb dX0_suspects_60 (by decide) ?_
          exact kj _ (by rw [if_neg c_43, if_neg c_56])
    refine lv_ren rfl ?_
    refine lv_istore (lv' := [(6, .int (ovl σ a n k)), (5, .int (nI k)), (4, .int z), (0, .ref h0), (1, .int (nI a)), (2, .int (nI n)), (3, .int wy)]) hx hb dX0_suspects_64 hl (by decide) rfl (fun ls hl => ?_)
    refine lv_iload hx hb dX0_suspects_66 (lv_at hl 0 rfl) ?_
    refine lv_if_eq (tgt := 95) hx hb dX0_suspects_68 (by decide) (fun c_68 => ?_) (fun c_68 => ?_)
    · refine lv_iinc (v := nI (k + 1)) (lv' := [(5, .int (nI (k + 1))), (6, .int (ovl σ a n k)), (4, .int z), (0, .ref h0), (1, .int (nI a)), (2, .int (nI n)), (3, .int wy)]) hx hb dX0_suspects_95 hl (k := 1) rfl (nI_1 k) (by decide) rfl (fun ls hl => ?_)
      refine lv_goto (tgt := 18) hx hb dX0_suspects_98 (by decide) ?_
      exact ih (k + 1) _ (by omega) (by rw [hr, sus, if_pos c_68]) ls (lv_sub hl [0, 2, 3, 4, 5, 6] rfl)
    · refine lv_aload_n hx hb dX0_suspects_71 rfl (lv_at hl 3 rfl) ?_
      refine g0_10 hx hb hts hown G dX0_suspects_72 ?_
      refine lv_iload hx hb dX0_suspects_75 (lv_at hl 1 rfl) ?_
      refine l0_10 k hx hb G rfl (by omega) dX0_suspects_77 ?_
      refine lv_iload_n hx hb dX0_suspects_78 rfl (lv_at hl 6 rfl) ?_
      refine lv_iand hx hb dX0_suspects_79 ?_
      refine lv_if_eq (tgt := 95) hx hb dX0_suspects_80 (by decide) (fun c_80 => ?_) (fun c_80 => ?_)
      · refine lv_iinc (v := nI (k + 1)) (lv' := [(5, .int (nI (k + 1))), (6, .int (ovl σ a n k)), (4, .int z), (0, .ref h0), (1, .int (nI a)), (2, .int (nI n)), (3, .int wy)]) hx hb dX0_suspects_95 hl (k := 1) rfl (nI_1 k) (by decide) rfl (fun ls hl => ?_)
        refine lv_goto (tgt := 18) hx hb dX0_suspects_98 (by decide) ?_
        exact ih (k + 1) _ (by omega) (by rw [hr, sus, if_neg c_68, if_pos c_80]) ls (lv_sub hl [0, 2, 3, 4, 5, 6] rfl)
      · refine lv_iload hx hb dX0_suspects_83 (lv_at hl 2 rfl) ?_
        refine lv_aload_n hx hb dX0_suspects_85 rfl (lv_at hl 3 rfl) ?_
        refine g0_11 hx hb hts hown G dX0_suspects_86 ?_
        refine lv_iload hx hb dX0_suspects_89 (lv_at hl 1 rfl) ?_
        refine l0_11 k hx hb G rfl (by omega) dX0_suspects_91 ?_
        refine lv_ior hx hb dX0_suspects_92 ?_
        refine lv_istore (lv' := [(4, .int (z ||| (σ.1 11 k))), (6, .int (ovl σ a n k)), (5, .int (nI k)), (0, .ref h0), (1, .int (nI a)), (2, .int (nI n)), (3, .int wy)]) hx hb dX0_suspects_93 hl (by decide) rfl (fun ls hl => ?_)
        refine lv_iinc (v := nI (k + 1)) (lv' := [(5, .int (nI (k + 1))), (4, .int (z ||| (σ.1 11 k))), (6, .int (ovl σ a n k)), (0, .ref h0), (1, .int (nI a)), (2, .int (nI n)), (3, .int wy)]) hx hb dX0_suspects_95 hl (k := 2) rfl (nI_1 k) (by decide) rfl (fun ls hl => ?_)
        refine lv_goto (tgt := 18) hx hb dX0_suspects_98 (by decide) ?_
        exact ih (k + 1) _ (by omega) (by rw [hr, sus, if_neg c_68, if_neg c_80]) ls (lv_sub hl [0, 1, 3, 4, 5, 6] rfl)
set_option maxHeartbeats 2000000 in
theorem b0_suspects {p : Program} {l : Launch} {e : Env} {R : Room} {s : State} {m : MethodId} {args : Array Value} {below : List Frame} {meth : Method} {c : Code} {Q : State → Prop} {D : va_G} {A : Nat → Prop} {h0 : Nat} {h : Nat → Nat} {ca : Nat → ClassId} (a n : Nat) (wy : Int32) {σ : St} {H : Heap} {locs : List Loc} {ls : Array Slot} (hB : BK σ) (F : Fx p m c cX0_suspects 7 s args RX0) (G : Wd0 D s A h0 h ca σ H locs) (hl : lv_has ls 7 [(0, .ref h0), (1, .int (nI a)), (2, .int (nI n)), (3, .int wy)]) (hret : RetI0 p l e R s m args below meth c cX0_suspects Q D A h0 h ca (suspectsX σ a n wy, σ)) : W p l e R s m args below meth c H locs 0 0 Q (F0 m 0 ls []) := by
  have F1 := F
  obtain ⟨hx, hb, hml, hown, hts⟩ := F1
  refine lv_aload_n hx hb dX0_suspects_0 rfl (lv_at hl 0 rfl) ?_
  refine g0_19 hx hb hts hown G dX0_suspects_1 ?_
  refine lv_if_eq (tgt := 12) hx hb dX0_suspects_4 (by decide) (fun c_4 => ?_) (fun c_4 => ?_)
  · refine lv_iconst (v := 0) hx hb dX0_suspects_12 (by decide) ?_
    refine lv_istore (lv' := [(4, .int 0), (0, .ref h0), (1, .int (nI a)), (2, .int (nI n)), (3, .int wy)]) hx hb dX0_suspects_13 hl (by decide) rfl (fun ls hl => ?_)
    refine lv_iconst (v := 0) hx hb dX0_suspects_15 (by decide) ?_
    refine lv_istore (lv' := [(5, .int 0), (4, .int 0), (0, .ref h0), (1, .int (nI a)), (2, .int (nI n)), (3, .int wy)]) hx hb dX0_suspects_16 hl (by decide) rfl (fun ls hl => ?_)
    exact q0_suspects F G hB hret (tn (σ.2 18)) 0 0 (by omega) (by unfold suspectsX; rw [if_pos c_4]) ls hl
  · refine lv_aload_n hx hb dX0_suspects_7 rfl (lv_at hl 0 rfl) ?_
    refine g0_21 hx hb hts hown G dX0_suspects_8 ?_
    exact hret _ _ _ _ _ _ G (by unfold suspectsX; rw [if_neg c_4]) dX0_suspects_11
theorem c0_suspects (l : Launch) (σ : St) (a n : Nat) (wy : Int32) (hB : BK σ) : C0 l yX0_suspects cX0_suspects 7 (some .int) rm0_suspects [.int (nI a), .int (nI n), .int wy] σ (suspectsX σ a n wy, σ) := C0.of (by decide) rfl (fun _ => Nat.le_of_ble_eq_true rfl) rfl (fun p e s m args below meth c Q D A h0 h ca ls F G hl hret => b0_suspects a n wy hB F G hl hret)
end
section
set_option maxRecDepth 100000
theorem bk4 {σ : St} (hB : BK σ) (hc : ¬ σ.2 18 = 4) : tn (σ.2 18) < 4 := by
  have h2 := hB.2
  rcases Nat.lt_or_ge (tn (σ.2 18)) 4 with q | q
  · exact q
  · exact absurd (by rw [hB.1, show tn (σ.2 18) = 4 by omega]; rfl) hc
def wayX (σ : St) (w : Nat) : Int32 := (if σ.1 5 w = 4 then 2 else (σ.1 5 w))
/-- a block that has no register yet -/
def occE (σ : St) (x y : Int32) (w : Nat) : St := (if (σ.2 18) = 4 then (sV σ 19 1) else (sV (sA (sA (sA (sA σ 8 (tn (σ.2 18)) x) 9 (tn (σ.2 18)) y) 10 (tn (σ.2 18)) (wayX σ w)) 11 (tn (σ.2 18)) (1 <<< ((nI w) &&& 31))) 18 (((sA (sA (sA (sA σ 8 (tn (σ.2 18)) x) 9 (tn (σ.2 18)) y) 10 (tn (σ.2 18)) (wayX σ w)) 11 (tn (σ.2 18)) (1 <<< ((nI w) &&& 31))).2 18) + 1)))
def occU (σ : St) (w k : Nat) : St := (sA (sA σ 10 k ((σ.1 10 k) ||| (wayX σ w))) 11 k (((sA σ 10 k ((σ.1 10 k) ||| (wayX σ w))).1 11 k) ||| (1 <<< ((nI w) &&& 31))))
def occ (σ : St) (x y : Int32) (w : Nat) : Nat → Nat → St
  | 0, _ => occE σ x y w
  | d + 1, k => if σ.1 8 k = x then (if σ.1 9 k = y then occU σ w k else occ σ x y w d (k + 1)) else occ σ x y w d (k + 1)
def occX (σ : St) (x y : Int32) (w : Nat) : St := occ σ x y w (tn (σ.2 18)) 0
set_option maxHeartbeats 2000000 in
theorem q0_occupy {p : Program} {l : Launch} {e : Env} {R : Room} {s : State} {m : MethodId} {args : Array Value} {below : List Frame} {meth : Method} {c : Code} {Q : State → Prop} {D : va_G} {A : Nat → Prop} {h0 : Nat} {h : Nat → Nat} {ca : Nat → ClassId} {x y : Int32} {w : Nat} (F : Fx p m c cX0_occupy 6 s args RX0) {σ : St} {H : Heap} {locs : List Loc} (G : Wd0 D s A h0 h ca σ H locs) (hw : w < 8) (hB : BK σ) {r : St} (hret : RetV0 p l e R s m args below meth c cX0_occupy Q D A h0 h ca r) : ∀ (d k : Nat), k + d = tn (σ.2 18) → r = occ σ x y w d k → ∀ (ls : Array Slot), lv_has ls 6 [(5, .int (nI k)), (4, .int (wayX σ w)), (0, .ref h0), (1, .int x), (2, .int y), (3, .int (nI w))] → W p l e R s m args below meth c H locs 0 0 Q (F0 m 25 ls []) := by
  have F1 := F
  obtain ⟨hx, hb, hml, hown, hts⟩ := F1
  have hB2 := hB.2
  intro d
  induction d with
  | zero =>
    intro k hk hr ls hl
    refine lv_iload hx hb dX0_occupy_25 (lv_at hl 0 rfl) ?_
    refine lv_aload_n hx hb dX0_occupy_27 rfl (lv_at hl 2 rfl) ?_
    refine g0_18 hx hb hts hown G dX0_occupy_28 ?_
    refine lv_icmp_ge (tgt := 98) hx hb dX0_occupy_31 (by decide) (fun _ => ?_) (fun c_31 => absurd (by rw [hB.1]; exact nI_le (by omega) (by omega)) c_31)
    refine lv_aload_n hx hb dX0_occupy_98 rfl (lv_at hl 2 rfl) ?_
    refine g0_18 hx hb hts hown G dX0_occupy_99 ?_
    refine lv_iconst (v := 4) hx hb dX0_occupy_102 (by decide) ?_
    refine lv_icmp_ne (tgt := 112) hx hb dX0_occupy_103 (by decide) (fun c_103 => ?_) (fun c_103 => ?_)
    · have hb4 : tn (σ.2 18) < 4 := bk4 hB c_103
      refine lv_aload_n hx hb dX0_occupy_112 rfl (lv_at hl 2 rfl) ?_
      refine g0_8 hx hb hts hown G dX0_occupy_113 ?_
      refine lv_aload_n hx hb dX0_occupy_116 rfl (lv_at hl 2 rfl) ?_
      refine g0_18 hx hb hts hown G dX0_occupy_117 ?_
      refine lv_iload_n hx hb dX0_occupy_120 rfl (lv_at hl 3 rfl) ?_
      refine a0_8 (tn (σ.2 18)) hx hb G hB.1 hb4 dX0_occupy_121 (fun H locs G => ?_)
      refine lv_aload_n hx hb dX0_occupy_122 rfl (lv_at hl 2 rfl) ?_
      refine g0_9 hx hb hts hown G dX0_occupy_123 ?_
      refine lv_aload_n hx hb dX0_occupy_126 rfl (lv_at hl 2 rfl) ?_
      refine g0_18 hx hb hts hown G dX0_occupy_127 ?_
      refine lv_iload_n hx hb dX0_occupy_130 rfl (lv_at hl 4 rfl) ?_
      refine a0_9 (tn (σ.2 18)) hx hb G hB.1 hb4 dX0_occupy_131 (fun H locs G => ?_)
      refine lv_aload_n hx hb dX0_occupy_132 rfl (lv_at hl 2 rfl) ?_
      refine g0_10 hx hb hts hown G dX0_occupy_133 ?_
      refine lv_aload_n hx hb dX0_occupy_136 rfl (lv_at hl 2 rfl) ?_
      refine g0_18 hx hb hts hown G dX0_occupy_137 ?_
      refine lv_iload hx hb dX0_occupy_140 (lv_at hl 1 rfl) ?_
      refine a0_10 (tn (σ.2 18)) hx hb G hB.1 hb4 dX0_occupy_142 (fun H locs G => ?_)
      refine lv_aload_n hx hb dX0_occupy_143 rfl (lv_at hl 2 rfl) ?_
      refine g0_11 hx hb hts hown G dX0_occupy_144 ?_
      refine lv_aload_n hx hb dX0_occupy_147 rfl (lv_at hl 2 rfl) ?_
      refine g0_18 hx hb hts hown G dX0_occupy_148 ?_
      refine lv_iconst (v := 1) hx hb dX0_occupy_151 (by decide) ?_
      refine lv_iload_n hx hb dX0_occupy_152 rfl (lv_at hl 5 rfl) ?_
      refine lv_ishl hx hb dX0_occupy_153 ?_
      refine a0_11 (tn (σ.2 18)) hx hb G hB.1 hb4 dX0_occupy_154 (fun H locs G => ?_)
      refine lv_aload_n hx hb dX0_occupy_155 rfl (lv_at hl 2 rfl) ?_
      refine lv_dup hx hb dX0_occupy_156 rfl ?_
      refine g0_18 hx hb hts hown G dX0_occupy_157 ?_
      refine lv_iconst (v := 1) hx hb dX0_occupy_160 (by decide) ?_
      refine lv_iadd hx hb dX0_occupy_161 ?_
      refine p0_18 hx hb hts hown G dX0_occupy_162 (fun H locs G => ?_)
      exact hret _ _ _ _ _ G (by rw [hr, occ, occE, if_neg c_103]) dX0_occupy_165
    · refine lv_aload_n hx hb dX0_occupy_106 rfl (lv_at hl 2 rfl) ?_
      refine lv_iconst (v := 1) hx hb dX0_occupy_107 (by decide) ?_
      refine p0_19 hx hb hts hown G (by decide) (by decide) dX0_occupy_108 (fun H locs G => ?_)
      exact hret _ _ _ _ _ G (by rw [hr, occ, occE, if_pos c_103]) dX0_occupy_111
  | succ d ih =>
    intro k hk hr ls hl
    refine lv_iload hx hb dX0_occupy_25 (lv_at hl 0 rfl) ?_
    refine lv_aload_n hx hb dX0_occupy_27 rfl (lv_at hl 2 rfl) ?_
    refine g0_18 hx hb hts hown G dX0_occupy_28 ?_
    refine lv_icmp_ge (tgt := 98) hx hb dX0_occupy_31 (by decide) (fun c_31 => absurd c_31 (by rw [hB.1]; exact nI_ge (by omega) (by omega))) (fun _ => ?_)
    refine lv_aload_n hx hb dX0_occupy_34 rfl (lv_at hl 2 rfl) ?_
    refine g0_8 hx hb hts hown G dX0_occupy_35 ?_
    refine lv_iload hx hb dX0_occupy_38 (lv_at hl 0 rfl) ?_
    refine l0_8 k hx hb G rfl (by omega) dX0_occupy_40 ?_
    refine lv_iload_n hx hb dX0_occupy_41 rfl (lv_at hl 3 rfl) ?_
    refine lv_icmp_ne (tgt := 92) hx hb dX0_occupy_42 (by decide) (fun c_42 => ?_) (fun c_42 => ?_)
    · refine lv_iinc (v := nI (k + 1)) (lv' := [(5, .int (nI (k + 1))), (4, .int (wayX σ w)), (0, .ref h0), (1, .int x), (2, .int y), (3, .int (nI w))]) hx hb dX0_occupy_92 hl (k := 0) rfl (nI_1 k) (by decide) rfl (fun ls hl => ?_)
      refine lv_goto (tgt := 25) hx hb dX0_occupy_95 (by decide) ?_
      exact ih (k + 1) (by omega) (by rw [hr, occ, if_neg c_42]) ls (lv_sub hl [0, 1, 2, 3, 4, 5] rfl)
    · refine lv_aload_n hx hb dX0_occupy_45 rfl (lv_at hl 2 rfl) ?_
      refine g0_9 hx hb hts hown G dX0_occupy_46 ?_
      refine lv_iload hx hb dX0_occupy_49 (lv_at hl 0 rfl) ?_
      refine l0_9 k hx hb G rfl (by omega) dX0_occupy_51 ?_
      refine lv_iload_n hx hb dX0_occupy_52 rfl (lv_at hl 4 rfl) ?_
      refine lv_icmp_ne (tgt := 92) hx hb dX0_occupy_53 (by decide) (fun c_53 => ?_) (fun c_53 => ?_)
      · refine lv_iinc (v := nI (k + 1)) (lv' := [(5, .int (nI (k + 1))), (4, .int (wayX σ w)), (0, .ref h0), (1, .int x), (2, .int y), (3, .int (nI w))]) hx hb dX0_occupy_92 hl (k := 0) rfl (nI_1 k) (by decide) rfl (fun ls hl => ?_)
        refine lv_goto (tgt := 25) hx hb dX0_occupy_95 (by decide) ?_
        exact ih (k + 1) (by omega) (by rw [hr, occ, if_pos c_42, if_neg c_53]) ls (lv_sub hl [0, 1, 2, 3, 4, 5] rfl)
      · refine lv_aload_n hx hb dX0_occupy_56 rfl (lv_at hl 2 rfl) ?_
        refine g0_10 hx hb hts hown G dX0_occupy_57 ?_
        refine lv_iload hx hb dX0_occupy_60 (lv_at hl 0 rfl) ?_
        refine lv_aload_n hx hb dX0_occupy_62 rfl (lv_at hl 2 rfl) ?_
        refine g0_10 hx hb hts hown G dX0_occupy_63 ?_
        refine lv_iload hx hb dX0_occupy_66 (lv_at hl 0 rfl) ?_
        refine l0_10 k hx hb G rfl (by omega) dX0_occupy_68 ?_
        refine lv_iload hx hb dX0_occupy_69 (lv_at hl 1 rfl) ?_
        refine lv_ior hx hb dX0_occupy_71 ?_
        refine a0_10 k hx hb G rfl (by omega) dX0_occupy_72 (fun H locs G => ?_)
        refine lv_aload_n hx hb dX0_occupy_73 rfl (lv_at hl 2 rfl) ?_
        refine g0_11 hx hb hts hown G dX0_occupy_74 ?_
        refine lv_iload hx hb dX0_occupy_77 (lv_at hl 0 rfl) ?_
        refine lv_aload_n hx hb dX0_occupy_79 rfl (lv_at hl 2 rfl) ?_
        refine g0_11 hx hb hts hown G dX0_occupy_80 ?_
        refine lv_iload hx hb dX0_occupy_83 (lv_at hl 0 rfl) ?_
        refine l0_11 k hx hb G rfl (by omega) dX0_occupy_85 ?_
        refine lv_iconst (v := 1) hx hb dX0_occupy_86 (by decide) ?_
        refine lv_iload_n hx hb dX0_occupy_87 rfl (lv_at hl 5 rfl) ?_
        refine lv_ishl hx hb dX0_occupy_88 ?_
        refine lv_ior hx hb dX0_occupy_89 ?_
        refine a0_11 k hx hb G rfl (by omega) dX0_occupy_90 (fun H locs G => ?_)
        exact hret _ _ _ _ _ G (by rw [hr, occ, if_pos c_42, if_pos c_53]; rfl) dX0_occupy_91
set_option maxHeartbeats 2000000 in
theorem b0_occupy {p : Program} {l : Launch} {e : Env} {R : Room} {s : State} {m : MethodId} {args : Array Value} {below : List Frame} {meth : Method} {c : Code} {Q : State → Prop} {D : va_G} {A : Nat → Prop} {h0 : Nat} {h : Nat → Nat} {ca : Nat → ClassId} (x y : Int32) (w : Nat) {σ : St} {H : Heap} {locs : List Loc} {ls : Array Slot} (hw : w < 8) (hB : BK σ) (F : Fx p m c cX0_occupy 6 s args RX0) (G : Wd0 D s A h0 h ca σ H locs) (hl : lv_has ls 6 [(0, .ref h0), (1, .int x), (2, .int y), (3, .int (nI w))]) (hret : RetV0 p l e R s m args below meth c cX0_occupy Q D A h0 h ca (occX σ x y w)) : W p l e R s m args below meth c H locs 0 0 Q (F0 m 0 ls []) := by
  have F1 := F
  obtain ⟨hx, hb, hml, hown, hts⟩ := F1
  refine lv_aload_n hx hb dX0_occupy_0 rfl (lv_at hl 0 rfl) ?_
  refine g0_5 hx hb hts hown G dX0_occupy_1 ?_
  refine lv_iload_n hx hb dX0_occupy_4 rfl (lv_at hl 3 rfl) ?_
  refine l0_5 w hx hb G rfl (by omega) dX0_occupy_5 ?_
  refine lv_iconst (v := 4) hx hb dX0_occupy_6 (by decide) ?_
  refine lv_cut (J := 20) (rest := []) (if (σ.1 5 w) = 4 then 2 else (σ.1 5 w)) (fun kj => ?_) ?_
  · refine lv_icmp_ne (tgt := 14) hx hb dX0_occupy_7 (by decide) (fun c_7 => ?_) (fun c_7 => ?_)
    · refine lv_aload_n hx hb dX0_occupy_14 rfl (lv_at hl 0 rfl) ?_
      refine g0_5 hx hb hts hown G dX0_occupy_15 ?_
      refine lv_iload_n hx hb dX0_occupy_18 rfl (lv_at hl 3 rfl) ?_
      refine l0_5 w hx hb G rfl (by omega) dX0_occupy_19 ?_
      exact kj _ (by rw [if_neg c_7])
    · refine lv_iconst (v := 2) hx hb dX0_occupy_10 (by decide) ?_
      refine lv_goto (tgt := 20) hx hb dX0_occupy_11 (by decide) ?_
      exact kj _ (by rw [if_pos c_7])
  refine lv_ren rfl ?_
  refine lv_istore (lv' := [(4, .int (wayX σ w)), (0, .ref h0), (1, .int x), (2, .int y), (3, .int (nI w))]) hx hb dX0_occupy_20 hl (by decide) rfl (fun ls hl => ?_)
  refine lv_iconst (v := 0) hx hb dX0_occupy_22 (by decide) ?_
  refine lv_istore (lv' := [(5, .int 0), (4, .int (wayX σ w)), (0, .ref h0), (1, .int x), (2, .int y), (3, .int (nI w))]) hx hb dX0_occupy_23 hl (by decide) rfl (fun ls hl => ?_)
  exact q0_occupy F G hw hB hret (tn (σ.2 18)) 0 (by omega) rfl ls hl
theorem c0_occupy (l : Launch) (σ : St) (x y : Int32) (w : Nat) (hw : w < 8) (hB : BK σ) : V0 l yX0_occupy cX0_occupy 6 rm0_occupy [.int x, .int y, .int (nI w)] σ (occX σ x y w) := V0.of (by decide) rfl (fun _ => Nat.le_of_ble_eq_true rfl) (fun p e s m args below meth c Q D A h0 h ca ls F G hl hret => b0_occupy x y w hw hB F G hl hret)
theorem BK_eq {σ τ : St} (hh : τ.2 18 = σ.2 18) (hB : BK σ) : BK τ := by
  unfold BK
  rw [hh]
  exact hB
theorem BK_occE {σ : St} (x y : Int32) (w : Nat) (hB : BK σ) : BK (occE σ x y w) := by
  unfold occE
  split
  · exact BK_eq (σ := σ) rfl hB
  · rename_i hc
    have hb4 := bk4 hB hc
    have e1 : σ.2 18 + 1 = nI (tn (σ.2 18) + 1) := by
      have := nI_1 (tn (σ.2 18))
      rw [← hB.1] at this
      exact this
    refine ⟨?_, ?_⟩
    · show σ.2 18 + 1 = nI (σ.2 18 + 1).toNatClampNeg
      rw [e1, nI_clamp (by omega)]
    · show (σ.2 18 + 1).toNatClampNeg ≤ 4
      rw [e1, nI_clamp (by omega)]
      omega
theorem BK_occ {σ : St} (x y : Int32) (w : Nat) (hB : BK σ) : ∀ d k, BK (occ σ x y w d k)
  | 0, k => BK_occE x y w hB
  | d + 1, k => by
    rw [occ]
    split
    · split
      · exact BK_eq (σ := σ) rfl hB
      · exact BK_occ x y w hB d (k + 1)
    · exact BK_occ x y w hB d (k + 1)
theorem BK_occX {σ : St} (x y : Int32) (w : Nat) (hB : BK σ) : BK (occX σ x y w) := BK_occ x y w hB _ _
theorem pw_gt : ∀ t, t < 3 → ¬ nI (2 ^ (t + 1)) ≤ 1 := by decide
theorem pw_shr : ∀ t, t < 3 → nI (2 ^ (t + 1)) >>> (1 &&& 31) = nI (2 ^ t) := by decide
/-- the largest aligned block at x that ends within the watch, of at most 2^t bytes -/
def bsz (σ : St) (w : Nat) (x : Int32) : Nat → Nat
  | 0 => 1
  | t + 1 => if x &&& (nI (2 ^ (t + 1)) - 1) = 0 then (if (x + nI (2 ^ (t + 1))) - 1 ≤ σ.1 4 w then 2 ^ (t + 1) else bsz σ w x t) else bsz σ w x t
def spl (w : Nat) : Nat → Int32 → St → St
  | 0, _, τ => τ
  | d + 1, x, τ => if τ.1 4 w < x then τ else spl w d (x + nI (bsz τ w x 3)) (occX τ x (nI (bsz τ w x 3)) w)
def splitX (σ : St) (w : Nat) : St := spl w 16 (σ.1 3 w) σ
theorem BK_spl (w : Nat) : ∀ d x τ, BK τ → BK (spl w d x τ)
  | 0, _, _, h => h
  | d + 1, x, τ, h => by
    rw [spl]
    split
    · exact h
    · exact BK_spl w d _ _ (BK_occX _ _ _ h)
theorem BK_splitX {σ : St} (w : Nat) (hB : BK σ) : BK (splitX σ w) := BK_spl w _ _ _ hB
set_option maxHeartbeats 2000000 in
theorem q0_splitI {p : Program} {l : Launch} {e : Env} {R : Room} {s : State} {m : MethodId} {args : Array Value} {below : List Frame} {meth : Method} {c : Code} {Q : State → Prop} {D : va_G} {A : Nat → Prop} {h0 : Nat} {h : Nat → Nat} {ca : Nat → ClassId} {x : Int32} {w k : Nat} (F : Fx p m c cX0_split 5 s args RX0) {σ : St} {H : Heap} {locs : List Loc} (G : Wd0 D s A h0 h ca σ H locs) (hw : w < 8) : ∀ (t : Nat), t ≤ 3 → ∀ (ls : Array Slot), lv_has ls 5 [(4, .int (nI (2 ^ t))), (3, .int (nI k)), (2, .int x), (0, .ref h0), (1, .int (nI w))] → (∀ (ls : Array Slot), lv_has ls 5 [(4, .int (nI (bsz σ w x t))), (3, .int (nI k)), (2, .int x), (0, .ref h0), (1, .int (nI w))] → W p l e R s m args below meth c H locs 0 0 Q (F0 m 68 ls [])) → W p l e R s m args below meth c H locs 0 0 Q (F0 m 29 ls []) := by
  have F1 := F
  obtain ⟨hx, hb, hml, hown, hts⟩ := F1
  intro t
  induction t with
  | zero =>
    intro ht ls hl K
    refine lv_iload hx hb dX0_split_29 (lv_at hl 0 rfl) ?_
    refine lv_iconst (v := 1) hx hb dX0_split_31 (by decide) ?_
    refine lv_icmp_le (tgt := 68) hx hb dX0_split_32 (by decide) (fun _ => ?_) (fun c_32 => absurd (by decide) c_32)
    exact K ls hl
  | succ t ih =>
    intro ht ls hl K
    refine lv_iload hx hb dX0_split_29 (lv_at hl 0 rfl) ?_
    refine lv_iconst (v := 1) hx hb dX0_split_31 (by decide) ?_
    refine lv_icmp_le (tgt := 68) hx hb dX0_split_32 (by decide) (fun c_32 => absurd c_32 (pw_gt t (by omega))) (fun _ => ?_)
    refine lv_iload_n hx hb dX0_split_35 rfl (lv_at hl 2 rfl) ?_
    refine lv_iload hx hb dX0_split_36 (lv_at hl 0 rfl) ?_
    refine lv_iconst (v := 1) hx hb dX0_split_38 (by decide) ?_
    refine lv_isub hx hb dX0_split_39 ?_
    refine lv_iand hx hb dX0_split_40 ?_
    refine lv_if_ne (tgt := 59) hx hb dX0_split_41 (by decide) (fun c_41 => ?_) (fun c_41 => ?_)
    · refine lv_iload hx hb dX0_split_59 (lv_at hl 0 rfl) ?_
      refine lv_iconst (v := 1) hx hb dX0_split_61 (by decide) ?_
      refine lv_ishr hx hb dX0_split_62 ?_
      refine lv_ren (pw_shr t (by omega)) ?_
      refine lv_istore (lv' := [(4, .int (nI (2 ^ t))), (3, .int (nI k)), (2, .int x), (0, .ref h0), (1, .int (nI w))]) hx hb dX0_split_63 hl (by decide) rfl (fun ls hl => ?_)
      refine lv_goto (tgt := 29) hx hb dX0_split_65 (by decide) ?_
      exact ih (by omega) ls (lv_sub hl [0, 1, 2, 3, 4] rfl) (fun ls hl => K ls (by rw [bsz, if_neg c_41]; exact hl))
    · refine lv_iload_n hx hb dX0_split_44 rfl (lv_at hl 2 rfl) ?_
      refine lv_iload hx hb dX0_split_45 (lv_at hl 0 rfl) ?_
      refine lv_iadd hx hb dX0_split_47 ?_
      refine lv_iconst (v := 1) hx hb dX0_split_48 (by decide) ?_
      refine lv_isub hx hb dX0_split_49 ?_
      refine lv_aload_n hx hb dX0_split_50 rfl (lv_at hl 3 rfl) ?_
      refine g0_4 hx hb hts hown G dX0_split_51 ?_
      refine lv_iload_n hx hb dX0_split_54 rfl (lv_at hl 4 rfl) ?_
      refine l0_4 w hx hb G rfl (by omega) dX0_split_55 ?_
      refine lv_icmp_le (tgt := 68) hx hb dX0_split_56 (by decide) (fun c_56 => ?_) (fun c_56 => ?_)
      · exact K ls (by rw [bsz, if_pos c_41, if_pos c_56]; exact hl)
      · refine lv_iload hx hb dX0_split_59 (lv_at hl 0 rfl) ?_
        refine lv_iconst (v := 1) hx hb dX0_split_61 (by decide) ?_
        refine lv_ishr hx hb dX0_split_62 ?_
        refine lv_ren (pw_shr t (by omega)) ?_
        refine lv_istore (lv' := [(4, .int (nI (2 ^ t))), (3, .int (nI k)), (2, .int x), (0, .ref h0), (1, .int (nI w))]) hx hb dX0_split_63 hl (by decide) rfl (fun ls hl => ?_)
        refine lv_goto (tgt := 29) hx hb dX0_split_65 (by decide) ?_
        exact ih (by omega) ls (lv_sub hl [0, 1, 2, 3, 4] rfl) (fun ls hl => K ls (by rw [bsz, if_pos c_41, if_neg c_56]; exact hl))
set_option maxHeartbeats 2000000 in
theorem q0_split {p : Program} {l : Launch} {e : Env} {s : State} {m : MethodId} {args : Array Value} {below : List Frame} {meth : Method} {c : Code} {Q : State → Prop} {D : va_G} {A : Nat → Prop} {h0 : Nat} {h : Nat → Nat} {ca : Nat → ClassId} {w : Nat} (F : Fx p m c cX0_split 5 s args RX0) (hw : w < 8) {r : St} (hret : RetV0 p l e rm0_split s m args below meth c cX0_split Q D A h0 h ca r) : ∀ (d k : Nat), k + d = 16 → ∀ (x : Int32) (τ : St) (H : Heap) (locs : List Loc) (ls : Array Slot), BK τ → r = spl w d x τ → Wd0 D s A h0 h ca τ H locs → lv_has ls 5 [(3, .int (nI k)), (2, .int x), (0, .ref h0), (1, .int (nI w))] → W p l e rm0_split s m args below meth c H locs 0 0 Q (F0 m 9 ls []) := by
  have F1 := F
  obtain ⟨hx, hb, hml, hown, hts⟩ := F1
  intro d
  induction d with
  | zero =>
    intro k hk x τ H locs ls hB hr G hl
    refine lv_iload_n hx hb dX0_split_9 rfl (lv_at hl 0 rfl) ?_
    refine lv_bipush (v := 16) hx hb dX0_split_10 (by decide) ?_
    refine lv_icmp_ge (tgt := 87) hx hb dX0_split_12 (by decide) (fun _ => ?_) (fun c_12 => absurd (nI_le (a := 16) (by omega) (by omega)) c_12)
    exact hret _ _ _ _ _ G (by rw [hr]; rfl) dX0_split_87
  | succ d ih =>
    intro k hk x τ H locs ls hB hr G hl
    refine lv_iload_n hx hb dX0_split_9 rfl (lv_at hl 0 rfl) ?_
    refine lv_bipush (v := 16) hx hb dX0_split_10 (by decide) ?_
    refine lv_icmp_ge (tgt := 87) hx hb dX0_split_12 (by decide) (fun c_12 => absurd c_12 (nI_ge (b := 16) (by omega) (by omega))) (fun _ => ?_)
    refine lv_iload_n hx hb dX0_split_15 rfl (lv_at hl 1 rfl) ?_
    refine lv_aload_n hx hb dX0_split_16 rfl (lv_at hl 2 rfl) ?_
    refine g0_4 hx hb hts hown G dX0_split_17 ?_
    refine lv_iload_n hx hb dX0_split_20 rfl (lv_at hl 3 rfl) ?_
    refine l0_4 w hx hb G rfl (by omega) dX0_split_21 ?_
    refine lv_icmp_gt (tgt := 87) hx hb dX0_split_22 (by decide) (fun c_22 => ?_) (fun c_22 => ?_)
    · exact hret _ _ _ _ _ G (by rw [hr, spl, if_pos c_22]) dX0_split_87
    · refine lv_bipush (v := 8) hx hb dX0_split_25 (by decide) ?_
      refine lv_istore (lv' := [(4, .int 8), (3, .int (nI k)), (2, .int x), (0, .ref h0), (1, .int (nI w))]) hx hb dX0_split_27 hl (by decide) rfl (fun ls hl => ?_)
      refine q0_splitI F G hw 3 (by omega) ls hl (fun ls hl => ?_)
      refine lv_aload_n hx hb dX0_split_68 rfl (lv_at hl 3 rfl) ?_
      refine lv_iload_n hx hb dX0_split_69 rfl (lv_at hl 2 rfl) ?_
      refine lv_iload hx hb dX0_split_70 (lv_at hl 0 rfl) ?_
      refine lv_iload_n hx hb dX0_split_72 rfl (lv_at hl 4 rfl) ?_
      refine call0V (av := [.int x, .int (nI (bsz τ w x 3)), .int (nI w)]) (rest := []) hx hb hml hts hown (c0_occupy l τ x (nI (bsz τ w x 3)) w hw hB) (cw0_occupy hts ⟨Nat.le_of_ble_eq_true rfl, Nat.le_of_ble_eq_true rfl⟩) G rfl hl.1 rfl (Nat.le_of_ble_eq_true rfl) dX0_split_73 ⟨Nat.zero_le _, Nat.zero_le _⟩ (fun H locs G => ?_)
      refine lv_iload_n hx hb dX0_split_76 rfl (lv_at hl 2 rfl) ?_
      refine lv_iload hx hb dX0_split_77 (lv_at hl 0 rfl) ?_
      refine lv_iadd hx hb dX0_split_79 ?_
      refine lv_istore_n (lv' := [(2, .int (x + (nI (bsz τ w x 3)))), (4, .int (nI (bsz τ w x 3))), (3, .int (nI k)), (0, .ref h0), (1, .int (nI w))]) hx hb dX0_split_80 rfl hl (by decide) rfl (fun ls hl => ?_)
      refine lv_iinc (v := nI (k + 1)) (lv' := [(3, .int (nI (k + 1))), (2, .int (x + (nI (bsz τ w x 3)))), (4, .int (nI (bsz τ w x 3))), (0, .ref h0), (1, .int (nI w))]) hx hb dX0_split_81 hl (k := 2) rfl (nI_1 k) (by decide) rfl (fun ls hl => ?_)
      refine lv_goto (tgt := 9) hx hb dX0_split_84 (by decide) ?_
      exact ih (k + 1) (by omega) _ _ H locs ls (BK_occX _ _ _ hB) (by rw [hr, spl, if_neg c_22]) G (lv_sub hl [0, 1, 3, 4] rfl)
set_option maxHeartbeats 2000000 in
theorem b0_split {p : Program} {l : Launch} {e : Env} {s : State} {m : MethodId} {args : Array Value} {below : List Frame} {meth : Method} {c : Code} {Q : State → Prop} {D : va_G} {A : Nat → Prop} {h0 : Nat} {h : Nat → Nat} {ca : Nat → ClassId} (w : Nat) {σ : St} {H : Heap} {locs : List Loc} {ls : Array Slot} (hw : w < 8) (hB : BK σ) (F : Fx p m c cX0_split 5 s args RX0) (G : Wd0 D s A h0 h ca σ H locs) (hl : lv_has ls 5 [(0, .ref h0), (1, .int (nI w))]) (hret : RetV0 p l e rm0_split s m args below meth c cX0_split Q D A h0 h ca (splitX σ w)) : W p l e rm0_split s m args below meth c H locs 0 0 Q (F0 m 0 ls []) := by
  have F1 := F
  obtain ⟨hx, hb, hml, hown, hts⟩ := F1
  refine lv_aload_n hx hb dX0_split_0 rfl (lv_at hl 0 rfl) ?_
  refine g0_3 hx hb hts hown G dX0_split_1 ?_
  refine lv_iload_n hx hb dX0_split_4 rfl (lv_at hl 1 rfl) ?_
  refine l0_3 w hx hb G rfl (by omega) dX0_split_5 ?_
  refine lv_istore_n (lv' := [(2, .int (σ.1 3 w)), (0, .ref h0), (1, .int (nI w))]) hx hb dX0_split_6 rfl hl (by decide) rfl (fun ls hl => ?_)
  refine lv_iconst (v := 0) hx hb dX0_split_7 (by decide) ?_
  refine lv_istore_n (lv' := [(3, .int 0), (2, .int (σ.1 3 w)), (0, .ref h0), (1, .int (nI w))]) hx hb dX0_split_8 rfl hl (by decide) rfl (fun ls hl => ?_)
  exact q0_split F hw hret 16 0 (by omega) _ _ H locs ls hB rfl G hl
theorem c0_split (l : Launch) (σ : St) (w : Nat) (hw : w < 8) (hB : BK σ) : V0 l yX0_split cX0_split 5 rm0_split [.int (nI w)] σ (splitX σ w) := V0.of (by decide) rfl (fun _ => Nat.le_of_ble_eq_true rfl) (fun p e s m args below meth c Q D A h0 h ca ls F G hl hret => b0_split w hw hB F G hl hret)
def ld0 (σ : St) : St := sV (sV (sV (sV σ 20 1) 19 0) 18 0) 21 0
def ldL (σ : St) : Nat → St
  | 0 => ld0 σ
  | w + 1 => if (ldL σ w).1 1 w = 0 then ldL σ w else if (ldL σ w).1 2 w = 0 then splitX (sV (ldL σ w) 21 ((ldL σ w).2 21 ||| (1 <<< (nI w &&& 31)))) w else ldL σ w
def loadX (σ : St) : St := ldL σ 8
theorem BK_ldL (σ : St) : ∀ w, BK (ldL σ w)
  | 0 => by
    refine ⟨?_, ?_⟩
    · show (0 : Int32) = nI (0 : Int32).toNatClampNeg
      decide
    · show (0 : Int32).toNatClampNeg ≤ 4
      decide
  | w + 1 => by
    rw [ldL]
    split
    · exact BK_ldL σ w
    · split
      · exact BK_splitX w (BK_eq (σ := ldL σ w) rfl (BK_ldL σ w))
      · exact BK_ldL σ w
set_option maxHeartbeats 2000000 in
theorem q0_loadRegisters {p : Program} {l : Launch} {e : Env} {s : State} {m : MethodId} {args : Array Value} {below : List Frame} {meth : Method} {c : Code} {Q : State → Prop} {D : va_G} {A : Nat → Prop} {h0 : Nat} {h : Nat → Nat} {ca : Nat → ClassId} (F : Fx p m c cX0_loadRegisters 2 s args RX0) {σ : St} (hret : RetV0 p l e rm0_loadRegisters s m args below meth c cX0_loadRegisters Q D A h0 h ca (loadX σ)) : ∀ (d w : Nat), w + d = 8 → ∀ (H : Heap) (locs : List Loc) (ls : Array Slot), Wd0 D s A h0 h ca (ldL σ w) H locs → lv_has ls 2 [(1, .int (nI w)), (0, .ref h0)] → W p l e rm0_loadRegisters s m args below meth c H locs 0 0 Q (F0 m 22 ls []) := by
  have F1 := F
  obtain ⟨hx, hb, hml, hown, hts⟩ := F1
  intro d
  induction d with
  | zero =>
    intro w hw H locs ls G hl
    refine lv_iload_n hx hb dX0_loadRegisters_22 rfl (lv_at hl 0 rfl) ?_
    refine lv_bipush (v := 8) hx hb dX0_loadRegisters_23 (by decide) ?_
    refine lv_icmp_ge (tgt := 69) hx hb dX0_loadRegisters_25 (by decide) (fun _ => ?_) (fun c_25 => absurd (nI_le (a := 8) (by omega) (by omega)) c_25)
    exact hret _ _ _ _ _ G (by unfold loadX; rw [show w = 8 by omega]) dX0_loadRegisters_69
  | succ d ih =>
    intro w hw H locs ls G hl
    refine lv_iload_n hx hb dX0_loadRegisters_22 rfl (lv_at hl 0 rfl) ?_
    refine lv_bipush (v := 8) hx hb dX0_loadRegisters_23 (by decide) ?_
    refine lv_icmp_ge (tgt := 69) hx hb dX0_loadRegisters_25 (by decide) (fun c_25 => absurd c_25 (nI_ge (b := 8) (by omega) (by omega))) (fun _ => ?_)
    refine lv_aload_n hx hb dX0_loadRegisters_28 rfl (lv_at hl 1 rfl) ?_
    refine g0_1 hx hb hts hown G dX0_loadRegisters_29 ?_
    refine lv_iload_n hx hb dX0_loadRegisters_32 rfl (lv_at hl 0 rfl) ?_
    refine l0_1 w hx hb G rfl (by omega) dX0_loadRegisters_33 ?_
    refine lv_if_eq (tgt := 63) hx hb dX0_loadRegisters_34 (by decide) (fun c_34 => ?_) (fun c_34 => ?_)
    · refine lv_iinc (v := nI (w + 1)) (lv' := [(1, .int (nI (w + 1))), (0, .ref h0)]) hx hb dX0_loadRegisters_63 hl (k := 0) rfl (nI_1 w) (by decide) rfl (fun ls hl => ?_)
      refine lv_goto (tgt := 22) hx hb dX0_loadRegisters_66 (by decide) ?_
      exact ih (w + 1) (by omega) H locs ls (by rw [ldL, if_pos c_34]; exact G) hl
    · refine lv_aload_n hx hb dX0_loadRegisters_37 rfl (lv_at hl 1 rfl) ?_
      refine g0_2 hx hb hts hown G dX0_loadRegisters_38 ?_
      refine lv_iload_n hx hb dX0_loadRegisters_41 rfl (lv_at hl 0 rfl) ?_
      refine l0_2 w hx hb G rfl (by omega) dX0_loadRegisters_42 ?_
      refine lv_if_ne (tgt := 63) hx hb dX0_loadRegisters_43 (by decide) (fun c_43 => ?_) (fun c_43 => ?_)
      · refine lv_iinc (v := nI (w + 1)) (lv' := [(1, .int (nI (w + 1))), (0, .ref h0)]) hx hb dX0_loadRegisters_63 hl (k := 0) rfl (nI_1 w) (by decide) rfl (fun ls hl => ?_)
        refine lv_goto (tgt := 22) hx hb dX0_loadRegisters_66 (by decide) ?_
        exact ih (w + 1) (by omega) H locs ls (by rw [ldL, if_neg c_34, if_neg c_43]; exact G) hl
      · refine lv_aload_n hx hb dX0_loadRegisters_46 rfl (lv_at hl 1 rfl) ?_
        refine lv_aload_n hx hb dX0_loadRegisters_47 rfl (lv_at hl 1 rfl) ?_
        refine g0_21 hx hb hts hown G dX0_loadRegisters_48 ?_
        refine lv_iconst (v := 1) hx hb dX0_loadRegisters_51 (by decide) ?_
        refine lv_iload_n hx hb dX0_loadRegisters_52 rfl (lv_at hl 0 rfl) ?_
        refine lv_ishl hx hb dX0_loadRegisters_53 ?_
        refine lv_ior hx hb dX0_loadRegisters_54 ?_
        refine p0_21 hx hb hts hown G dX0_loadRegisters_55 (fun H locs G => ?_)
        refine lv_aload_n hx hb dX0_loadRegisters_58 rfl (lv_at hl 1 rfl) ?_
        refine lv_iload_n hx hb dX0_loadRegisters_59 rfl (lv_at hl 0 rfl) ?_
        refine call0V (av := [.int (nI w)]) (rest := []) hx hb hml hts hown (c0_split l (sV (ldL σ w) 21 (((ldL σ w).2 21) ||| (1 <<< ((nI w) &&& 31)))) w (by omega) (BK_eq (σ := ldL σ w) rfl (BK_ldL σ w))) (cw0_split hts ⟨Nat.le_of_ble_eq_true rfl, Nat.le_of_ble_eq_true rfl⟩) G rfl hl.1 rfl (Nat.le_of_ble_eq_true rfl) dX0_loadRegisters_60 ⟨Nat.zero_le _, Nat.zero_le _⟩ (fun H locs G => ?_)
        refine lv_iinc (v := nI (w + 1)) (lv' := [(1, .int (nI (w + 1))), (0, .ref h0)]) hx hb dX0_loadRegisters_63 hl (k := 0) rfl (nI_1 w) (by decide) rfl (fun ls hl => ?_)
        refine lv_goto (tgt := 22) hx hb dX0_loadRegisters_66 (by decide) ?_
        exact ih (w + 1) (by omega) H locs ls (by rw [ldL, if_neg c_34, if_pos c_43]; exact G) hl
set_option maxHeartbeats 2000000 in
theorem b0_loadRegisters {p : Program} {l : Launch} {e : Env} {s : State} {m : MethodId} {args : Array Value} {below : List Frame} {meth : Method} {c : Code} {Q : State → Prop} {D : va_G} {A : Nat → Prop} {h0 : Nat} {h : Nat → Nat} {ca : Nat → ClassId} {σ : St} {H : Heap} {locs : List Loc} {ls : Array Slot} (F : Fx p m c cX0_loadRegisters 2 s args RX0) (G : Wd0 D s A h0 h ca σ H locs) (hl : lv_has ls 2 [(0, .ref h0)]) (hret : RetV0 p l e rm0_loadRegisters s m args below meth c cX0_loadRegisters Q D A h0 h ca (loadX σ)) : W p l e rm0_loadRegisters s m args below meth c H locs 0 0 Q (F0 m 0 ls []) := by
  have F1 := F
  obtain ⟨hx, hb, hml, hown, hts⟩ := F1
  refine lv_aload_n hx hb dX0_loadRegisters_0 rfl (lv_at hl 0 rfl) ?_
  refine lv_iconst (v := 1) hx hb dX0_loadRegisters_1 (by decide) ?_
  refine p0_20 hx hb hts hown G (by decide) (by decide) dX0_loadRegisters_2 (fun H locs G => ?_)
  refine lv_aload_n hx hb dX0_loadRegisters_5 rfl (lv_at hl 0 rfl) ?_
  refine lv_iconst (v := 0) hx hb dX0_loadRegisters_6 (by decide) ?_
  refine p0_19 hx hb hts hown G (by decide) (by decide) dX0_loadRegisters_7 (fun H locs G => ?_)
  refine lv_aload_n hx hb dX0_loadRegisters_10 rfl (lv_at hl 0 rfl) ?_
  refine lv_iconst (v := 0) hx hb dX0_loadRegisters_11 (by decide) ?_
  refine p0_18 hx hb hts hown G dX0_loadRegisters_12 (fun H locs G => ?_)
  refine lv_aload_n hx hb dX0_loadRegisters_15 rfl (lv_at hl 0 rfl) ?_
  refine lv_iconst (v := 0) hx hb dX0_loadRegisters_16 (by decide) ?_
  refine p0_21 hx hb hts hown G dX0_loadRegisters_17 (fun H locs G => ?_)
  refine lv_iconst (v := 0) hx hb dX0_loadRegisters_20 (by decide) ?_
  refine lv_istore_n (lv' := [(1, .int 0), (0, .ref h0)]) hx hb dX0_loadRegisters_21 rfl hl (by decide) rfl (fun ls hl => ?_)
  exact q0_loadRegisters F hret 8 0 (by omega) H locs ls G hl
theorem c0_loadRegisters (l : Launch) (σ : St)  : V0 l yX0_loadRegisters cX0_loadRegisters 2 rm0_loadRegisters [] σ (loadX σ) := V0.of (by decide) rfl (fun _ => Nat.le_of_ble_eq_true rfl) (fun p e s m args below meth c Q D A h0 h ca ls F G hl hret => b0_loadRegisters  F G hl hret)
end
section
set_option maxRecDepth 100000
def hpX (lf : Int32) (a n : Nat) (wr : Int32) (τ : St) (w : Nat) : Int32 := if (lf >>> (nI w &&& 31)) &&& 1 = 1 then isHitX τ w a n wr else 0
theorem hpX_f {lf : Int32} {a n : Nat} {wr : Int32} {τ : St} {w : Nat} (h1 : ¬ (lf >>> (nI w &&& 31)) &&& 1 = 1) : hpX lf a n wr τ w = 0 := if_neg h1
theorem hpX_z {lf : Int32} {a n : Nat} {wr : Int32} {τ : St} {w : Nat} (h1 : (lf >>> (nI w &&& 31)) &&& 1 = 1) (h2 : isHitX τ w a n wr = 0) : hpX lf a n wr τ w = 0 := by
  unfold hpX
  rw [if_pos h1, h2]
theorem hpX_n {lf : Int32} {a n : Nat} {wr : Int32} {τ : St} {w : Nat} (h1 : (lf >>> (nI w &&& 31)) &&& 1 = 1) (h2 : ¬ isHitX τ w a n wr = 0) : ¬ hpX lf a n wr τ w = 0 := by
  unfold hpX
  rw [if_pos h1]
  exact h2
/-- one watch settled: the state, the mask, the number of stops -/
def acS (hp : St → Nat → Int32) (fs fh : Nat) (q : St × Int32 × Int32) (w : Nat) : St × Int32 × Int32 := if hp q.1 w = 0 then q else if q.1.1 fs w ≤ 0 then (sA q.1 fh w (q.1.1 fh w + 1), q.2.1 ||| (1 <<< (nI w &&& 31)), q.2.2 + 1) else (sA q.1 fs w (q.1.1 fs w - 1), q.2.1, q.2.2)
def accL (hp : St → Nat → Int32) (fs fh : Nat) (σ : St) : Nat → St × Int32 × Int32
  | 0 => (σ, 0, 0)
  | w + 1 => acS hp fs fh (accL hp fs fh σ w) w
/-- a stop kept in the ring -/
def keepX (σ : St) (z : Int32) (a n : Nat) : St := sA (sA (sA (sA (sA (sV σ 23 ((σ.2 23) + 1)) 12 (tn (σ.2 23 &&& 7)) z) 13 (tn (σ.2 23 &&& 7)) (nI a)) 14 (tn (σ.2 23 &&& 7)) ((sA (sA (sV σ 23 ((σ.2 23) + 1)) 12 (tn (σ.2 23 &&& 7)) z) 13 (tn (σ.2 23 &&& 7)) (nI a)).2 22)) 15 (tn (σ.2 23 &&& 7)) (vA ((sA (sA (sA (sV σ 23 ((σ.2 23) + 1)) 12 (tn (σ.2 23 &&& 7)) z) 13 (tn (σ.2 23 &&& 7)) (nI a)) 14 (tn (σ.2 23 &&& 7)) ((sA (sA (sV σ 23 ((σ.2 23) + 1)) 12 (tn (σ.2 23 &&& 7)) z) 13 (tn (σ.2 23 &&& 7)) (nI a)).2 22)).1 17) 0 n 0)) 16 (tn (σ.2 23 &&& 7)) (vA ((sA (sA (sA (sA (sV σ 23 ((σ.2 23) + 1)) 12 (tn (σ.2 23 &&& 7)) z) 13 (tn (σ.2 23 &&& 7)) (nI a)) 14 (tn (σ.2 23 &&& 7)) ((sA (sA (sV σ 23 ((σ.2 23) + 1)) 12 (tn (σ.2 23 &&& 7)) z) 13 (tn (σ.2 23 &&& 7)) (nI a)).2 22)) 15 (tn (σ.2 23 &&& 7)) (vA ((sA (sA (sA (sV σ 23 ((σ.2 23) + 1)) 12 (tn (σ.2 23 &&& 7)) z) 13 (tn (σ.2 23 &&& 7)) (nI a)) 14 (tn (σ.2 23 &&& 7)) ((sA (sA (sV σ 23 ((σ.2 23) + 1)) 12 (tn (σ.2 23 &&& 7)) z) 13 (tn (σ.2 23 &&& 7)) (nI a)).2 22)).1 17) 0 n 0)).1 0) a n 0)
def finE (q : St × Int32 × Int32) (a n : Nat) : Int32 × St := if q.2.1 = 0 then (q.2.2, q.1) else (q.2.2, keepX q.1 q.2.1 a n)
def finT (τ : St) (a n : Nat) (wr : Int32) : Int32 × St := finE (accL (hpX (suspectsX τ a n (if wr = 0 then 1 else 2)) a n wr) 6 7 τ 8) a n
def acc1 (σ : St) : St := sV σ 22 (σ.2 22 + 1)
def fin0 (σ : St) : St := if (acc1 σ).2 20 = 0 then loadX (acc1 σ) else acc1 σ
def finX (σ : St) (a n : Nat) (wr : Int32) : Int32 × St := finT (fin0 σ) a n wr
set_option maxHeartbeats 2000000 in
theorem e0_finish {p : Program} {l : Launch} {e : Env} {s : State} {m : MethodId} {args : Array Value} {below : List Frame} {meth : Method} {c : Code} {Q : State → Prop} {D : va_G} {A : Nat → Prop} {h0 : Nat} {h : Nat → Nat} {ca : Nat → ClassId} {a n : Nat} {wr lf y7 y z : Int32} (F : Fx p m c cX0_finish 8 s args RX0) {σ : St} {H : Heap} {locs : List Loc} {ls : Array Slot} (G : Wd0 D s A h0 h ca σ H locs) (ha : a + n ≤ 40) (hn : n ≤ 4) (hret : RetI0 p l e rm0_finish s m args below meth c cX0_finish Q D A h0 h ca (finE (σ, z, y) a n)) (hl : lv_has ls 8 [(7, .int y7), (6, .int y), (5, .int z), (4, .int lf), (0, .ref h0), (1, .int (nI a)), (2, .int (nI n)), (3, .int wr)]) : W p l e rm0_finish s m args below meth c H locs 0 0 Q (F0 m 130 ls []) := by
  have F1 := F
  obtain ⟨hx, hb, hml, hown, hts⟩ := F1
  refine lv_iload hx hb dX0_finish_130 (lv_at hl 2 rfl) ?_
  refine lv_if_eq (tgt := 207) hx hb dX0_finish_132 (by decide) (fun c_132 => ?_) (fun c_132 => ?_)
  · refine lv_iload hx hb dX0_finish_207 (lv_at hl 1 rfl) ?_
    exact hret _ _ _ _ _ _ G (by unfold finE; rw [if_pos c_132]) dX0_finish_209
  · refine lv_aload_n hx hb dX0_finish_135 rfl (lv_at hl 4 rfl) ?_
    refine g0_23 hx hb hts hown G dX0_finish_136 ?_
    refine lv_bipush (v := 7) hx hb dX0_finish_139 (by decide) ?_
    refine lv_iand hx hb dX0_finish_141 ?_
    refine lv_istore (lv' := [(7, .int ((σ.2 23) &&& 7)), (6, .int y), (5, .int z), (4, .int lf), (0, .ref h0), (1, .int (nI a)), (2, .int (nI n)), (3, .int wr)]) hx hb dX0_finish_142 hl (by decide) rfl (fun ls hl => ?_)
    refine lv_aload_n hx hb dX0_finish_144 rfl (lv_at hl 4 rfl) ?_
    refine lv_dup hx hb dX0_finish_145 rfl ?_
    refine g0_23 hx hb hts hown G dX0_finish_146 ?_
    refine lv_iconst (v := 1) hx hb dX0_finish_149 (by decide) ?_
    refine lv_iadd hx hb dX0_finish_150 ?_
    refine p0_23 hx hb hts hown G dX0_finish_151 (fun H locs G => ?_)
    refine lv_aload_n hx hb dX0_finish_154 rfl (lv_at hl 4 rfl) ?_
    refine g0_12 hx hb hts hown G dX0_finish_155 ?_
    refine lv_iload hx hb dX0_finish_158 (lv_at hl 0 rfl) ?_
    refine lv_iload hx hb dX0_finish_160 (lv_at hl 2 rfl) ?_
    refine a0_12 (tn (σ.2 23 &&& 7)) hx hb G (and7_in _).1 (and7_in _).2 dX0_finish_162 (fun H locs G => ?_)
    refine lv_aload_n hx hb dX0_finish_163 rfl (lv_at hl 4 rfl) ?_
    refine g0_13 hx hb hts hown G dX0_finish_164 ?_
    refine lv_iload hx hb dX0_finish_167 (lv_at hl 0 rfl) ?_
    refine lv_iload_n hx hb dX0_finish_169 rfl (lv_at hl 5 rfl) ?_
    refine a0_13 (tn (σ.2 23 &&& 7)) hx hb G (and7_in _).1 (and7_in _).2 dX0_finish_170 (fun H locs G => ?_)
    refine lv_aload_n hx hb dX0_finish_171 rfl (lv_at hl 4 rfl) ?_
    refine g0_14 hx hb hts hown G dX0_finish_172 ?_
    refine lv_iload hx hb dX0_finish_175 (lv_at hl 0 rfl) ?_
    refine lv_aload_n hx hb dX0_finish_177 rfl (lv_at hl 4 rfl) ?_
    refine g0_22 hx hb hts hown G dX0_finish_178 ?_
    refine a0_14 (tn (σ.2 23 &&& 7)) hx hb G (and7_in _).1 (and7_in _).2 dX0_finish_181 (fun H locs G => ?_)
    refine lv_aload_n hx hb dX0_finish_182 rfl (lv_at hl 4 rfl) ?_
    refine g0_15 hx hb hts hown G dX0_finish_183 ?_
    refine lv_iload hx hb dX0_finish_186 (lv_at hl 0 rfl) ?_
    refine lv_aload_n hx hb dX0_finish_188 rfl (lv_at hl 4 rfl) ?_
    refine lv_iload_n hx hb dX0_finish_189 rfl (lv_at hl 6 rfl) ?_
    refine call0I (av := [.int (nI n)]) (rest := [.int ((σ.2 23) &&& 7), .ref (h 15)]) hx hb hml hts hown (c0_oldValue l (sA (sA (sA (sV σ 23 ((σ.2 23) + 1)) 12 (tn (σ.2 23 &&& 7)) z) 13 (tn (σ.2 23 &&& 7)) (nI a)) 14 (tn (σ.2 23 &&& 7)) ((sA (sA (sV σ 23 ((σ.2 23) + 1)) 12 (tn (σ.2 23 &&& 7)) z) 13 (tn (σ.2 23 &&& 7)) (nI a)).2 22)) n hn) (cw0_oldValue hts ⟨Nat.le_of_ble_eq_true rfl, Nat.le_of_ble_eq_true rfl⟩) G rfl hl.1 rfl (Nat.le_of_ble_eq_true rfl) dX0_finish_190 ⟨Nat.zero_le _, Nat.zero_le _⟩ (fun H locs G => ?_)
    refine a0_15 (tn (σ.2 23 &&& 7)) hx hb G (and7_in _).1 (and7_in _).2 dX0_finish_193 (fun H locs G => ?_)
    refine lv_aload_n hx hb dX0_finish_194 rfl (lv_at hl 4 rfl) ?_
    refine g0_16 hx hb hts hown G dX0_finish_195 ?_
    refine lv_iload hx hb dX0_finish_198 (lv_at hl 0 rfl) ?_
    refine lv_aload_n hx hb dX0_finish_200 rfl (lv_at hl 4 rfl) ?_
    refine lv_iload_n hx hb dX0_finish_201 rfl (lv_at hl 5 rfl) ?_
    refine lv_iload_n hx hb dX0_finish_202 rfl (lv_at hl 6 rfl) ?_
    refine call0I (av := [.int (nI a), .int (nI n)]) (rest := [.int ((σ.2 23) &&& 7), .ref (h 16)]) hx hb hml hts hown (c0_valueAt l (sA (sA (sA (sA (sV σ 23 ((σ.2 23) + 1)) 12 (tn (σ.2 23 &&& 7)) z) 13 (tn (σ.2 23 &&& 7)) (nI a)) 14 (tn (σ.2 23 &&& 7)) ((sA (sA (sV σ 23 ((σ.2 23) + 1)) 12 (tn (σ.2 23 &&& 7)) z) 13 (tn (σ.2 23 &&& 7)) (nI a)).2 22)) 15 (tn (σ.2 23 &&& 7)) (vA ((sA (sA (sA (sV σ 23 ((σ.2 23) + 1)) 12 (tn (σ.2 23 &&& 7)) z) 13 (tn (σ.2 23 &&& 7)) (nI a)) 14 (tn (σ.2 23 &&& 7)) ((sA (sA (sV σ 23 ((σ.2 23) + 1)) 12 (tn (σ.2 23 &&& 7)) z) 13 (tn (σ.2 23 &&& 7)) (nI a)).2 22)).1 17) 0 n 0)) a n ha) (cw0_valueAt hts ⟨Nat.le_of_ble_eq_true rfl, Nat.le_of_ble_eq_true rfl⟩) G rfl hl.1 rfl (Nat.le_of_ble_eq_true rfl) dX0_finish_203 ⟨Nat.zero_le _, Nat.zero_le _⟩ (fun H locs G => ?_)
    refine a0_16 (tn (σ.2 23 &&& 7)) hx hb G (and7_in _).1 (and7_in _).2 dX0_finish_206 (fun H locs G => ?_)
    refine lv_iload hx hb dX0_finish_207 (lv_at hl 1 rfl) ?_
    exact hret _ _ _ _ _ _ G (by unfold finE; rw [if_neg c_132]; rfl) dX0_finish_209
set_option maxHeartbeats 2000000 in
theorem q0_finish {p : Program} {l : Launch} {e : Env} {s : State} {m : MethodId} {args : Array Value} {below : List Frame} {meth : Method} {c : Code} {Q : State → Prop} {D : va_G} {A : Nat → Prop} {h0 : Nat} {h : Nat → Nat} {ca : Nat → ClassId} {a n : Nat} {wr lf : Int32} (F : Fx p m c cX0_finish 8 s args RX0) {τ : St} (ha : a + n ≤ 40) (hn : n ≤ 4) (hret : RetI0 p l e rm0_finish s m args below meth c cX0_finish Q D A h0 h ca (finE (accL (hpX lf a n wr) 6 7 τ 8) a n)) : ∀ (d w : Nat), w + d = 8 → ∀ (q : St × Int32 × Int32), q = accL (hpX lf a n wr) 6 7 τ w → ∀ (H : Heap) (locs : List Loc) (ls : Array Slot), Wd0 D s A h0 h ca q.1 H locs → lv_has ls 8 [(7, .int (nI w)), (6, .int q.2.2), (5, .int q.2.1), (4, .int lf), (0, .ref h0), (1, .int (nI a)), (2, .int (nI n)), (3, .int wr)] → W p l e rm0_finish s m args below meth c H locs 0 0 Q (F0 m 47 ls []) := by
  have F1 := F
  obtain ⟨hx, hb, hml, hown, hts⟩ := F1
  intro d
  induction d with
  | zero =>
    intro w hw q hq H locs ls G hl
    refine lv_iload hx hb dX0_finish_47 (lv_at hl 0 rfl) ?_
    refine lv_bipush (v := 8) hx hb dX0_finish_49 (by decide) ?_
    refine lv_icmp_ge (tgt := 130) hx hb dX0_finish_51 (by decide) (fun _ => ?_) (fun c_51 => absurd (nI_le (a := 8) (by omega) (by omega)) c_51)
    rw [show (8 : Nat) = w by omega, ← hq] at hret
    exact e0_finish (σ := q.1) (z := q.2.1) (y := q.2.2) F G ha hn hret hl
  | succ d ih =>
    intro w hw q hq H locs ls G hl
    refine lv_iload hx hb dX0_finish_47 (lv_at hl 0 rfl) ?_
    refine lv_bipush (v := 8) hx hb dX0_finish_49 (by decide) ?_
    refine lv_icmp_ge (tgt := 130) hx hb dX0_finish_51 (by decide) (fun c_51 => absurd c_51 (nI_ge (b := 8) (by omega) (by omega))) (fun _ => ?_)
    refine lv_iload hx hb dX0_finish_54 (lv_at hl 3 rfl) ?_
    refine lv_iload hx hb dX0_finish_56 (lv_at hl 0 rfl) ?_
    refine lv_ishr hx hb dX0_finish_58 ?_
    refine lv_iconst (v := 1) hx hb dX0_finish_59 (by decide) ?_
    refine lv_iand hx hb dX0_finish_60 ?_
    refine lv_iconst (v := 1) hx hb dX0_finish_61 (by decide) ?_
    refine lv_icmp_ne (tgt := 124) hx hb dX0_finish_62 (by decide) (fun c_62 => ?_) (fun c_62 => ?_)
    · refine lv_iinc (v := nI (w + 1)) (lv' := [(7, .int (nI (w + 1))), (6, .int q.2.2), (5, .int q.2.1), (4, .int lf), (0, .ref h0), (1, .int (nI a)), (2, .int (nI n)), (3, .int wr)]) hx hb dX0_finish_124 hl (k := 0) rfl (nI_1 w) (by decide) rfl (fun ls hl => ?_)
      refine lv_goto (tgt := 47) hx hb dX0_finish_127 (by decide) ?_
      exact ih (w + 1) (by omega) q (by rw [accL, ← hq, acS, if_pos (hpX_f c_62)]) H locs ls G (lv_sub hl [0, 1, 2, 3, 4, 5, 6, 7] rfl)
    · refine lv_aload_n hx hb dX0_finish_65 rfl (lv_at hl 4 rfl) ?_
      refine lv_iload hx hb dX0_finish_66 (lv_at hl 0 rfl) ?_
      refine lv_iload_n hx hb dX0_finish_68 rfl (lv_at hl 5 rfl) ?_
      refine lv_iload_n hx hb dX0_finish_69 rfl (lv_at hl 6 rfl) ?_
      refine lv_iload_n hx hb dX0_finish_70 rfl (lv_at hl 7 rfl) ?_
      refine call0I (av := [.int (nI w), .int (nI a), .int (nI n), .int wr]) (rest := []) hx hb hml hts hown (c0_isHit l q.1 w a n wr (by omega) ha hn) (cw0_isHit hts ⟨Nat.le_of_ble_eq_true rfl, Nat.le_of_ble_eq_true rfl⟩) G rfl hl.1 rfl (Nat.le_of_ble_eq_true rfl) dX0_finish_71 ⟨Nat.zero_le _, Nat.zero_le _⟩ (fun H locs G => ?_)
      refine lv_if_eq (tgt := 124) hx hb dX0_finish_74 (by decide) (fun c_74 => ?_) (fun c_74 => ?_)
      · refine lv_iinc (v := nI (w + 1)) (lv' := [(7, .int (nI (w + 1))), (6, .int q.2.2), (5, .int q.2.1), (4, .int lf), (0, .ref h0), (1, .int (nI a)), (2, .int (nI n)), (3, .int wr)]) hx hb dX0_finish_124 hl (k := 0) rfl (nI_1 w) (by decide) rfl (fun ls hl => ?_)
        refine lv_goto (tgt := 47) hx hb dX0_finish_127 (by decide) ?_
        exact ih (w + 1) (by omega) q (by rw [accL, ← hq, acS, if_pos (hpX_z c_62 c_74)]) H locs ls G (lv_sub hl [0, 1, 2, 3, 4, 5, 6, 7] rfl)
      · refine lv_aload_n hx hb dX0_finish_77 rfl (lv_at hl 4 rfl) ?_
        refine g0_6 hx hb hts hown G dX0_finish_78 ?_
        refine lv_iload hx hb dX0_finish_81 (lv_at hl 0 rfl) ?_
        refine l0_6 w hx hb G rfl (by omega) dX0_finish_83 ?_
        refine lv_if_le (tgt := 101) hx hb dX0_finish_84 (by decide) (fun c_84 => ?_) (fun c_84 => ?_)
        · refine lv_aload_n hx hb dX0_finish_101 rfl (lv_at hl 4 rfl) ?_
          refine g0_7 hx hb hts hown G dX0_finish_102 ?_
          refine lv_iload hx hb dX0_finish_105 (lv_at hl 0 rfl) ?_
          refine lv_dup2_11 hx hb dX0_finish_107 rfl rfl ?_
          refine l0_7 w hx hb G rfl (by omega) dX0_finish_108 ?_
          refine lv_iconst (v := 1) hx hb dX0_finish_109 (by decide) ?_
          refine lv_iadd hx hb dX0_finish_110 ?_
          refine a0_7 w hx hb G rfl (by omega) dX0_finish_111 (fun H locs G => ?_)
          refine lv_iload hx hb dX0_finish_112 (lv_at hl 2 rfl) ?_
          refine lv_iconst (v := 1) hx hb dX0_finish_114 (by decide) ?_
          refine lv_iload hx hb dX0_finish_115 (lv_at hl 0 rfl) ?_
          refine lv_ishl hx hb dX0_finish_117 ?_
          refine lv_ior hx hb dX0_finish_118 ?_
          refine lv_istore (lv' := [(5, .int (q.2.1 ||| (1 <<< ((nI w) &&& 31)))), (7, .int (nI w)), (6, .int q.2.2), (4, .int lf), (0, .ref h0), (1, .int (nI a)), (2, .int (nI n)), (3, .int wr)]) hx hb dX0_finish_119 hl (by decide) rfl (fun ls hl => ?_)
          refine lv_iinc (v := q.2.2 + 1) (lv' := [(6, .int (q.2.2 + 1)), (5, .int (q.2.1 ||| (1 <<< ((nI w) &&& 31)))), (7, .int (nI w)), (4, .int lf), (0, .ref h0), (1, .int (nI a)), (2, .int (nI n)), (3, .int wr)]) hx hb dX0_finish_121 hl (k := 2) rfl rfl (by decide) rfl (fun ls hl => ?_)
          refine lv_iinc (v := nI (w + 1)) (lv' := [(7, .int (nI (w + 1))), (6, .int (q.2.2 + 1)), (5, .int (q.2.1 ||| (1 <<< ((nI w) &&& 31)))), (4, .int lf), (0, .ref h0), (1, .int (nI a)), (2, .int (nI n)), (3, .int wr)]) hx hb dX0_finish_124 hl (k := 2) rfl (nI_1 w) (by decide) rfl (fun ls hl => ?_)
          refine lv_goto (tgt := 47) hx hb dX0_finish_127 (by decide) ?_
          exact ih (w + 1) (by omega) (sA q.1 7 w (q.1.1 7 w + 1), q.2.1 ||| (1 <<< (nI w &&& 31)), q.2.2 + 1) (by rw [accL, ← hq, acS, if_neg (hpX_n c_62 c_74), if_pos c_84]) H locs ls G (lv_sub hl [0, 1, 2, 3, 4, 5, 6, 7] rfl)
        · refine lv_aload_n hx hb dX0_finish_87 rfl (lv_at hl 4 rfl) ?_
          refine g0_6 hx hb hts hown G dX0_finish_88 ?_
          refine lv_iload hx hb dX0_finish_91 (lv_at hl 0 rfl) ?_
          refine lv_dup2_11 hx hb dX0_finish_93 rfl rfl ?_
          refine l0_6 w hx hb G rfl (by omega) dX0_finish_94 ?_
          refine lv_iconst (v := 1) hx hb dX0_finish_95 (by decide) ?_
          refine lv_isub hx hb dX0_finish_96 ?_
          refine a0_6 w hx hb G rfl (by omega) dX0_finish_97 (fun H locs G => ?_)
          refine lv_goto (tgt := 124) hx hb dX0_finish_98 (by decide) ?_
          refine lv_iinc (v := nI (w + 1)) (lv' := [(7, .int (nI (w + 1))), (6, .int q.2.2), (5, .int q.2.1), (4, .int lf), (0, .ref h0), (1, .int (nI a)), (2, .int (nI n)), (3, .int wr)]) hx hb dX0_finish_124 hl (k := 0) rfl (nI_1 w) (by decide) rfl (fun ls hl => ?_)
          refine lv_goto (tgt := 47) hx hb dX0_finish_127 (by decide) ?_
          exact ih (w + 1) (by omega) (sA q.1 6 w (q.1.1 6 w - 1), q.2.1, q.2.2) (by rw [accL, ← hq, acS, if_neg (hpX_n c_62 c_74), if_neg c_84]) H locs ls G (lv_sub hl [0, 1, 2, 3, 4, 5, 6, 7] rfl)
set_option maxHeartbeats 2000000 in
theorem t0_finish {p : Program} {l : Launch} {e : Env} {s : State} {m : MethodId} {args : Array Value} {below : List Frame} {meth : Method} {c : Code} {Q : State → Prop} {D : va_G} {A : Nat → Prop} {h0 : Nat} {h : Nat → Nat} {ca : Nat → ClassId} {a n : Nat} {wr : Int32} (F : Fx p m c cX0_finish 8 s args RX0) {τ : St} {H : Heap} {locs : List Loc} {ls : Array Slot} (G : Wd0 D s A h0 h ca τ H locs) (hB : BK τ) (ha : a + n ≤ 40) (hn : n ≤ 4) (hret : RetI0 p l e rm0_finish s m args below meth c cX0_finish Q D A h0 h ca (finT τ a n wr)) (hl : lv_has ls 8 [(0, .ref h0), (1, .int (nI a)), (2, .int (nI n)), (3, .int wr)]) : W p l e rm0_finish s m args below meth c H locs 0 0 Q (F0 m 21 ls []) := by
  have F1 := F
  obtain ⟨hx, hb, hml, hown, hts⟩ := F1
  refine lv_aload_n hx hb dX0_finish_21 rfl (lv_at hl 0 rfl) ?_
  refine lv_iload_n hx hb dX0_finish_22 rfl (lv_at hl 1 rfl) ?_
  refine lv_iload_n hx hb dX0_finish_23 rfl (lv_at hl 2 rfl) ?_
  refine lv_iload_n hx hb dX0_finish_24 rfl (lv_at hl 3 rfl) ?_
  refine lv_cut (J := 33) (rest := [.int (nI n), .int (nI a), .ref h0]) (if wr = 0 then 1 else 2) (fun kj => ?_) ?_
  · refine lv_if_eq (tgt := 32) hx hb dX0_finish_25 (by decide) (fun c_25 => ?_) (fun c_25 => ?_)
    · refine lv_iconst (v := 1) hx hb dX0_finish_32 (by decide) ?_
      exact kj _ (by rw [if_pos c_25])
    · refine lv_iconst (v := 2) hx hb dX0_finish_28 (by decide) ?_
      refine lv_goto (tgt := 33) hx hb dX0_finish_29 (by decide) ?_
      exact kj _ (by rw [if_neg c_25])
  refine call0I (av := [.int (nI a), .int (nI n), .int (if wr = 0 then 1 else 2)]) (rest := []) hx hb hml hts hown (c0_suspects l τ a n (if wr = 0 then 1 else 2) hB) (cw0_suspects hts ⟨Nat.le_of_ble_eq_true rfl, Nat.le_of_ble_eq_true rfl⟩) G rfl hl.1 rfl (Nat.le_of_ble_eq_true rfl) dX0_finish_33 ⟨Nat.zero_le _, Nat.zero_le _⟩ (fun H locs G => ?_)
  refine lv_istore (lv' := [(4, .int (suspectsX τ a n (if wr = 0 then 1 else 2))), (0, .ref h0), (1, .int (nI a)), (2, .int (nI n)), (3, .int wr)]) hx hb dX0_finish_36 hl (by decide) rfl (fun ls hl => ?_)
  refine lv_iconst (v := 0) hx hb dX0_finish_38 (by decide) ?_
  refine lv_istore (lv' := [(5, .int 0), (4, .int (suspectsX τ a n (if wr = 0 then 1 else 2))), (0, .ref h0), (1, .int (nI a)), (2, .int (nI n)), (3, .int wr)]) hx hb dX0_finish_39 hl (by decide) rfl (fun ls hl => ?_)
  refine lv_iconst (v := 0) hx hb dX0_finish_41 (by decide) ?_
  refine lv_istore (lv' := [(6, .int 0), (5, .int 0), (4, .int (suspectsX τ a n (if wr = 0 then 1 else 2))), (0, .ref h0), (1, .int (nI a)), (2, .int (nI n)), (3, .int wr)]) hx hb dX0_finish_42 hl (by decide) rfl (fun ls hl => ?_)
  refine lv_iconst (v := 0) hx hb dX0_finish_44 (by decide) ?_
  refine lv_istore (lv' := [(7, .int 0), (6, .int 0), (5, .int 0), (4, .int (suspectsX τ a n (if wr = 0 then 1 else 2))), (0, .ref h0), (1, .int (nI a)), (2, .int (nI n)), (3, .int wr)]) hx hb dX0_finish_45 hl (by decide) rfl (fun ls hl => ?_)
  exact q0_finish (τ := τ) F ha hn hret 8 0 (by omega) (τ, 0, 0) rfl H locs ls G hl
set_option maxHeartbeats 2000000 in
theorem b0_finish {p : Program} {l : Launch} {e : Env} {s : State} {m : MethodId} {args : Array Value} {below : List Frame} {meth : Method} {c : Code} {Q : State → Prop} {D : va_G} {A : Nat → Prop} {h0 : Nat} {h : Nat → Nat} {ca : Nat → ClassId} (a n : Nat) (wr : Int32) {σ : St} {H : Heap} {locs : List Loc} {ls : Array Slot} (ha : a + n ≤ 40) (hn : n ≤ 4) (hB : BK σ) (F : Fx p m c cX0_finish 8 s args RX0) (G : Wd0 D s A h0 h ca σ H locs) (hl : lv_has ls 8 [(0, .ref h0), (1, .int (nI a)), (2, .int (nI n)), (3, .int wr)]) (hret : RetI0 p l e rm0_finish s m args below meth c cX0_finish Q D A h0 h ca (finX σ a n wr)) : W p l e rm0_finish s m args below meth c H locs 0 0 Q (F0 m 0 ls []) := by
  have F1 := F
  obtain ⟨hx, hb, hml, hown, hts⟩ := F1
  unfold finX fin0 at hret
  refine lv_aload_n hx hb dX0_finish_0 rfl (lv_at hl 0 rfl) ?_
  refine lv_dup hx hb dX0_finish_1 rfl ?_
  refine g0_22 hx hb hts hown G dX0_finish_2 ?_
  refine lv_iconst (v := 1) hx hb dX0_finish_5 (by decide) ?_
  refine lv_iadd hx hb dX0_finish_6 ?_
  refine p0_22 hx hb hts hown G dX0_finish_7 (fun H locs G => ?_)
  refine lv_aload_n hx hb dX0_finish_10 rfl (lv_at hl 0 rfl) ?_
  refine g0_20 hx hb hts hown G dX0_finish_11 ?_
  refine lv_if_ne (tgt := 21) hx hb dX0_finish_14 (by decide) (fun c_14 => ?_) (fun c_14 => ?_)
  · rw [if_neg (show ¬ (acc1 σ).2 20 = 0 from c_14)] at hret
    exact t0_finish F G (BK_eq (σ := σ) rfl hB) ha hn hret hl
  · refine lv_aload_n hx hb dX0_finish_17 rfl (lv_at hl 0 rfl) ?_
    refine call0V (av := []) (rest := []) hx hb hml hts hown (c0_loadRegisters l (sV σ 22 ((σ.2 22) + 1))) (cw0_loadRegisters hts ⟨Nat.le_of_ble_eq_true rfl, Nat.le_of_ble_eq_true rfl⟩) G rfl hl.1 rfl (Nat.le_of_ble_eq_true rfl) dX0_finish_18 ⟨Nat.zero_le _, Nat.zero_le _⟩ (fun H locs G => ?_)
    rw [if_pos (show (acc1 σ).2 20 = 0 from c_14)] at hret
    exact t0_finish F G (BK_ldL _ 8) ha hn hret hl
theorem c0_finish (l : Launch) (σ : St) (a n : Nat) (wr : Int32) (ha : a + n ≤ 40) (hn : n ≤ 4) (hB : BK σ) : C0 l yX0_finish cX0_finish 8 (some .int) rm0_finish [.int (nI a), .int (nI n), .int wr] σ (finX σ a n wr) := C0.of (by decide) rfl (fun _ => Nat.le_of_ble_eq_true rfl) rfl (fun p e s m args below meth c Q D A h0 h ca ls F G hl hret => b0_finish a n wr ha hn hB F G hl hret)
theorem rem_2 (σ : St) (a : Nat) : ∀ k, (rem σ a k).2 = σ.2
  | 0 => rfl
  | k + 1 => rem_2 σ a k
theorem tn_nI {n : Nat} (hh : n < 2 ^ 31) : tn (nI n) = n := nI_clamp hh
theorem sz_in {x y : Int32} (h1 : ¬ isSizeX y = 0) (h2 : ¬ fitsX x y = 0) : ∃ a n : Nat, x = nI a ∧ y = nI n ∧ a + n ≤ 40 ∧ n ≤ 4 := by
  have hy : y = nI 1 ∨ y = nI 2 ∨ y = nI 4 := by
    unfold isSizeX at h1
    by_cases e1 : y = 1
    · exact Or.inl e1
    · by_cases e2 : y = 2
      · exact Or.inr (Or.inl e2)
      · by_cases e4 : y = 4
        · exact Or.inr (Or.inr e4)
        · rw [if_neg e1, if_neg e2, if_neg e4] at h1
          exact absurd rfl h1
  have hx : ¬ x < 0 ∧ ¬ 40 - y < x := by
    unfold fitsX at h2
    by_cases e1 : x < 0
    · rw [if_pos e1] at h2
      exact absurd rfl h2
    · by_cases e2 : 40 - y < x
      · rw [if_neg e1, if_pos e2] at h2
        exact absurd rfl h2
      · exact ⟨e1, e2⟩
  obtain ⟨j, hj, rfl⟩ := nI_of hx.1
  have key : ∀ n, n ≤ 4 → ¬ (40 : Int32) - nI n < nI j → j + n ≤ 40 := by
    intro n hn h3
    have e : (40 : Int32) - nI n = nI (40 - n) := pk_sub (a := 40) (b := n) (by omega)
    rw [e, nI_ltI (by omega) hj] at h3
    omega
  rcases hy with rfl | rfl | rfl
  · exact ⟨j, 1, rfl, rfl, key 1 (by omega) hx.2, by omega⟩
  · exact ⟨j, 2, rfl, rfl, key 2 (by omega) hx.2, by omega⟩
  · exact ⟨j, 4, rfl, rfl, key 4 (by omega) hx.2, by omega⟩
def loadG (σ : St) (a n : Nat) : Int32 × St := (vA (σ.1 0) a n 0, (finX (rem σ a n) a n 0).2)
def loadXX (σ : St) (x y : Int32) : Int32 × St := if isSizeX y = 0 then (0, σ) else if fitsX x y = 0 then (0, σ) else loadG σ (tn x) (tn y)
def stw (σ : St) (a : Nat) (v : Int32) : Nat → St
  | 0 => σ
  | k + 1 => sA (stw σ a v k) 0 (a + k) ((v.toUInt32 >>> ((8 * nI k).toUInt32 &&& Int32.toUInt32 31)).toInt32 &&& 255)
theorem stw_2 (σ : St) (a : Nat) (v : Int32) : ∀ k, (stw σ a v k).2 = σ.2
  | 0 => rfl
  | k + 1 => stw_2 σ a v k
def storeG (σ : St) (a n : Nat) (v : Int32) : Int32 × St := finX (stw (rem σ a n) a v n) a n 1
def storeX (σ : St) (x y v : Int32) : Int32 × St := if isSizeX y = 0 then (-1, σ) else if fitsX x y = 0 then (-2, σ) else storeG σ (tn x) (tn y) v
theorem BK_rem {σ : St} (a k : Nat) (hB : BK σ) : BK (rem σ a k) := BK_eq (by rw [rem_2]) hB
theorem BK_stw {σ : St} (a k : Nat) (v : Int32) (hB : BK σ) : BK (stw σ a v k) := BK_eq (by rw [stw_2]) hB
set_option maxHeartbeats 2000000 in
theorem b0_load {p : Program} {l : Launch} {e : Env} {s : State} {m : MethodId} {args : Array Value} {below : List Frame} {meth : Method} {c : Code} {Q : State → Prop} {D : va_G} {A : Nat → Prop} {h0 : Nat} {h : Nat → Nat} {ca : Nat → ClassId} (x y : Int32) {σ : St} {H : Heap} {locs : List Loc} {ls : Array Slot} (hB : BK σ) (F : Fx p m c cX0_load 4 s args RX0) (G : Wd0 D s A h0 h ca σ H locs) (hl : lv_has ls 4 [(0, .ref h0), (1, .int x), (2, .int y)]) (hret : RetI0 p l e rm0_load s m args below meth c cX0_load Q D A h0 h ca (loadXX σ x y)) : W p l e rm0_load s m args below meth c H locs 0 0 Q (F0 m 0 ls []) := by
  have F1 := F
  obtain ⟨hx, hb, hml, hown, hts⟩ := F1
  refine lv_iload_n hx hb dX0_load_0 rfl (lv_at hl 2 rfl) ?_
  refine callS0 (av := [.int y]) (rest := []) hx hb hml hts hown (c0_isSize l y) (cw0_isSize hts ⟨Nat.le_of_ble_eq_true rfl, Nat.le_of_ble_eq_true rfl⟩) G rfl hl.1 rfl (Nat.le_of_ble_eq_true rfl) dX0_load_1 ⟨Nat.zero_le _, Nat.zero_le _⟩ (fun H locs G => ?_)
  refine lv_if_eq (tgt := 15) hx hb dX0_load_4 (by decide) (fun c_4 => ?_) (fun c_4 => ?_)
  · refine lv_iconst (v := 0) hx hb dX0_load_15 (by decide) ?_
    exact hret _ _ _ _ _ _ G (by unfold loadXX; rw [if_pos c_4]) dX0_load_16
  · refine lv_iload_n hx hb dX0_load_7 rfl (lv_at hl 1 rfl) ?_
    refine lv_iload_n hx hb dX0_load_8 rfl (lv_at hl 2 rfl) ?_
    refine callS0 (av := [.int x, .int y]) (rest := []) hx hb hml hts hown (c0_fits l x y) (cw0_fits hts ⟨Nat.le_of_ble_eq_true rfl, Nat.le_of_ble_eq_true rfl⟩) G rfl hl.1 rfl (Nat.le_of_ble_eq_true rfl) dX0_load_9 ⟨Nat.zero_le _, Nat.zero_le _⟩ (fun H locs G => ?_)
    refine lv_if_ne (tgt := 17) hx hb dX0_load_12 (by decide) (fun c_12 => ?_) (fun c_12 => ?_)
    · obtain ⟨a, n, rfl, rfl, ha, hn⟩ := sz_in c_4 c_12
      refine lv_aload_n hx hb dX0_load_17 rfl (lv_at hl 0 rfl) ?_
      refine lv_iload_n hx hb dX0_load_18 rfl (lv_at hl 1 rfl) ?_
      refine lv_iload_n hx hb dX0_load_19 rfl (lv_at hl 2 rfl) ?_
      refine call0I (av := [.int (nI a), .int (nI n)]) (rest := []) hx hb hml hts hown (c0_valueAt l σ a n ha) (cw0_valueAt hts ⟨Nat.le_of_ble_eq_true rfl, Nat.le_of_ble_eq_true rfl⟩) G rfl hl.1 rfl (Nat.le_of_ble_eq_true rfl) dX0_load_20 ⟨Nat.zero_le _, Nat.zero_le _⟩ (fun H locs G => ?_)
      refine lv_istore_n (lv' := [(3, .int (vA (σ.1 0) a n 0)), (0, .ref h0), (1, .int (nI a)), (2, .int (nI n))]) hx hb dX0_load_23 rfl hl (by decide) rfl (fun ls hl => ?_)
      refine lv_aload_n hx hb dX0_load_24 rfl (lv_at hl 1 rfl) ?_
      refine lv_iload_n hx hb dX0_load_25 rfl (lv_at hl 2 rfl) ?_
      refine lv_iload_n hx hb dX0_load_26 rfl (lv_at hl 3 rfl) ?_
      refine call0V (av := [.int (nI a), .int (nI n)]) (rest := []) hx hb hml hts hown (c0_remember l σ a n ha hn) (cw0_remember hts ⟨Nat.le_of_ble_eq_true rfl, Nat.le_of_ble_eq_true rfl⟩) G rfl hl.1 rfl (Nat.le_of_ble_eq_true rfl) dX0_load_27 ⟨Nat.zero_le _, Nat.zero_le _⟩ (fun H locs G => ?_)
      refine lv_aload_n hx hb dX0_load_30 rfl (lv_at hl 1 rfl) ?_
      refine lv_iload_n hx hb dX0_load_31 rfl (lv_at hl 2 rfl) ?_
      refine lv_iload_n hx hb dX0_load_32 rfl (lv_at hl 3 rfl) ?_
      refine lv_iconst (v := 0) hx hb dX0_load_33 (by decide) ?_
      refine call0I (av := [.int (nI a), .int (nI n), .int 0]) (rest := []) hx hb hml hts hown (c0_finish l (rem σ a n) a n 0 ha hn (BK_rem a n hB)) (cw0_finish hts ⟨Nat.le_of_ble_eq_true rfl, Nat.le_of_ble_eq_true rfl⟩) G rfl hl.1 rfl (Nat.le_of_ble_eq_true rfl) dX0_load_34 ⟨Nat.zero_le _, Nat.zero_le _⟩ (fun H locs G => ?_)
      refine lv_pop hx hb dX0_load_37 rfl ?_
      refine lv_iload_n hx hb dX0_load_38 rfl (lv_at hl 0 rfl) ?_
      exact hret _ _ _ _ _ _ G (by unfold loadXX; rw [if_neg c_4, if_neg c_12, tn_nI (by omega), tn_nI (by omega)]; rfl) dX0_load_39
    · refine lv_iconst (v := 0) hx hb dX0_load_15 (by decide) ?_
      exact hret _ _ _ _ _ _ G (by unfold loadXX; rw [if_neg c_4, if_pos c_12]) dX0_load_16
theorem c0_load (l : Launch) (σ : St) (x y : Int32) (hB : BK σ) : C0 l yX0_load cX0_load 4 (some .int) rm0_load [.int x, .int y] σ (loadXX σ x y) := C0.of (by decide) rfl (fun _ => Nat.le_of_ble_eq_true rfl) rfl (fun p e s m args below meth c Q D A h0 h ca ls F G hl hret => b0_load x y hB F G hl hret)
set_option maxHeartbeats 2000000 in
theorem q0_store {p : Program} {l : Launch} {e : Env} {s : State} {m : MethodId} {args : Array Value} {below : List Frame} {meth : Method} {c : Code} {Q : State → Prop} {D : va_G} {A : Nat → Prop} {h0 : Nat} {h : Nat → Nat} {ca : Nat → ClassId} {a n : Nat} {v : Int32} (F : Fx p m c cX0_store 5 s args RX0) {τ : St} (ha : a + n ≤ 40) (hn : n ≤ 4) (hB : BK τ) (hret : RetI0 p l e rm0_store s m args below meth c cX0_store Q D A h0 h ca (finX (stw τ a v n) a n 1)) : ∀ (d k : Nat), k + d = n → ∀ (H : Heap) (locs : List Loc) (ls : Array Slot), Wd0 D s A h0 h ca (stw τ a v k) H locs → lv_has ls 5 [(4, .int (nI k)), (0, .ref h0), (1, .int (nI a)), (2, .int (nI n)), (3, .int v)] → W p l e rm0_store s m args below meth c H locs 0 0 Q (F0 m 29 ls []) := by
  have F1 := F
  obtain ⟨hx, hb, hml, hown, hts⟩ := F1
  intro d
  induction d with
  | zero =>
    intro k hk H locs ls G hl
    refine lv_iload hx hb dX0_store_29 (lv_at hl 0 rfl) ?_
    refine lv_iload_n hx hb dX0_store_31 rfl (lv_at hl 3 rfl) ?_
    refine lv_icmp_ge (tgt := 61) hx hb dX0_store_32 (by decide) (fun _ => ?_) (fun c_32 => absurd (nI_le (by omega) (by omega)) c_32)
    refine lv_aload_n hx hb dX0_store_61 rfl (lv_at hl 1 rfl) ?_
    refine lv_iload_n hx hb dX0_store_62 rfl (lv_at hl 2 rfl) ?_
    refine lv_iload_n hx hb dX0_store_63 rfl (lv_at hl 3 rfl) ?_
    refine lv_iconst (v := 1) hx hb dX0_store_64 (by decide) ?_
    refine call0I (av := [.int (nI a), .int (nI n), .int 1]) (rest := []) hx hb hml hts hown (c0_finish l (stw τ a v k) a n 1 ha hn (BK_stw a k v hB)) (cw0_finish hts ⟨Nat.le_of_ble_eq_true rfl, Nat.le_of_ble_eq_true rfl⟩) G rfl hl.1 rfl (Nat.le_of_ble_eq_true rfl) dX0_store_65 ⟨Nat.zero_le _, Nat.zero_le _⟩ (fun H locs G => ?_)
    exact hret _ _ _ _ _ _ G (by rw [show stw τ a v n = stw τ a v k by rw [show n = k by omega]]) dX0_store_68
  | succ d ih =>
    intro k hk H locs ls G hl
    refine lv_iload hx hb dX0_store_29 (lv_at hl 0 rfl) ?_
    refine lv_iload_n hx hb dX0_store_31 rfl (lv_at hl 3 rfl) ?_
    refine lv_icmp_ge (tgt := 61) hx hb dX0_store_32 (by decide) (fun c_32 => absurd c_32 (nI_ge (by omega) (by omega))) (fun _ => ?_)
    refine lv_aload_n hx hb dX0_store_35 rfl (lv_at hl 1 rfl) ?_
    refine g0_0 hx hb hts hown G dX0_store_36 ?_
    refine lv_iload_n hx hb dX0_store_39 rfl (lv_at hl 2 rfl) ?_
    refine lv_iload hx hb dX0_store_40 (lv_at hl 0 rfl) ?_
    refine lv_iadd hx hb dX0_store_42 ?_
    refine lv_iload_n hx hb dX0_store_43 rfl (lv_at hl 4 rfl) ?_
    refine lv_bipush (v := 8) hx hb dX0_store_44 (by decide) ?_
    refine lv_iload hx hb dX0_store_46 (lv_at hl 0 rfl) ?_
    refine lv_imul hx hb dX0_store_48 ?_
    refine lv_iushr hx hb dX0_store_49 rfl ?_
    refine lv_sipush (v := 255) hx hb dX0_store_50 (by decide) ?_
    refine lv_iand hx hb dX0_store_53 ?_
    refine a0_0 (a + k) hx hb G (nI_add a k) (by omega) dX0_store_54 (fun H locs G => ?_)
    refine lv_iinc (v := nI (k + 1)) (lv' := [(4, .int (nI (k + 1))), (0, .ref h0), (1, .int (nI a)), (2, .int (nI n)), (3, .int v)]) hx hb dX0_store_55 hl (k := 0) rfl (nI_1 k) (by decide) rfl (fun ls hl => ?_)
    refine lv_goto (tgt := 29) hx hb dX0_store_58 (by decide) ?_
    exact ih (k + 1) (by omega) H locs ls G hl
set_option maxHeartbeats 2000000 in
theorem b0_store {p : Program} {l : Launch} {e : Env} {s : State} {m : MethodId} {args : Array Value} {below : List Frame} {meth : Method} {c : Code} {Q : State → Prop} {D : va_G} {A : Nat → Prop} {h0 : Nat} {h : Nat → Nat} {ca : Nat → ClassId} (x y v : Int32) {σ : St} {H : Heap} {locs : List Loc} {ls : Array Slot} (hB : BK σ) (F : Fx p m c cX0_store 5 s args RX0) (G : Wd0 D s A h0 h ca σ H locs) (hl : lv_has ls 5 [(0, .ref h0), (1, .int x), (2, .int y), (3, .int v)]) (hret : RetI0 p l e rm0_store s m args below meth c cX0_store Q D A h0 h ca (storeX σ x y v)) : W p l e rm0_store s m args below meth c H locs 0 0 Q (F0 m 0 ls []) := by
  have F1 := F
  obtain ⟨hx, hb, hml, hown, hts⟩ := F1
  refine lv_iload_n hx hb dX0_store_0 rfl (lv_at hl 2 rfl) ?_
  refine callS0 (av := [.int y]) (rest := []) hx hb hml hts hown (c0_isSize l y) (cw0_isSize hts ⟨Nat.le_of_ble_eq_true rfl, Nat.le_of_ble_eq_true rfl⟩) G rfl hl.1 rfl (Nat.le_of_ble_eq_true rfl) dX0_store_1 ⟨Nat.zero_le _, Nat.zero_le _⟩ (fun H locs G => ?_)
  refine lv_if_ne (tgt := 9) hx hb dX0_store_4 (by decide) (fun c_4 => ?_) (fun c_4 => ?_)
  · refine lv_iload_n hx hb dX0_store_9 rfl (lv_at hl 1 rfl) ?_
    refine lv_iload_n hx hb dX0_store_10 rfl (lv_at hl 2 rfl) ?_
    refine callS0 (av := [.int x, .int y]) (rest := []) hx hb hml hts hown (c0_fits l x y) (cw0_fits hts ⟨Nat.le_of_ble_eq_true rfl, Nat.le_of_ble_eq_true rfl⟩) G rfl hl.1 rfl (Nat.le_of_ble_eq_true rfl) dX0_store_11 ⟨Nat.zero_le _, Nat.zero_le _⟩ (fun H locs G => ?_)
    refine lv_if_ne (tgt := 20) hx hb dX0_store_14 (by decide) (fun c_14 => ?_) (fun c_14 => ?_)
    · obtain ⟨a, n, rfl, rfl, ha, hn⟩ := sz_in c_4 c_14
      refine lv_aload_n hx hb dX0_store_20 rfl (lv_at hl 0 rfl) ?_
      refine lv_iload_n hx hb dX0_store_21 rfl (lv_at hl 1 rfl) ?_
      refine lv_iload_n hx hb dX0_store_22 rfl (lv_at hl 2 rfl) ?_
      refine call0V (av := [.int (nI a), .int (nI n)]) (rest := []) hx hb hml hts hown (c0_remember l σ a n ha hn) (cw0_remember hts ⟨Nat.le_of_ble_eq_true rfl, Nat.le_of_ble_eq_true rfl⟩) G rfl hl.1 rfl (Nat.le_of_ble_eq_true rfl) dX0_store_23 ⟨Nat.zero_le _, Nat.zero_le _⟩ (fun H locs G => ?_)
      refine lv_iconst (v := 0) hx hb dX0_store_26 (by decide) ?_
      refine lv_istore (lv' := [(4, .int 0), (0, .ref h0), (1, .int (nI a)), (2, .int (nI n)), (3, .int v)]) hx hb dX0_store_27 hl (by decide) rfl (fun ls hl => ?_)
      unfold storeX at hret
      rw [if_neg c_4, if_neg c_14, tn_nI (by omega), tn_nI (by omega)] at hret
      exact q0_store F ha hn (BK_rem a n hB) hret n 0 (by omega) H locs ls G (lv_sub hl [0, 1, 2, 3, 4] rfl)
    · refine lv_bipush (v := -2) hx hb dX0_store_17 (by decide) ?_
      exact hret _ _ _ _ _ _ G (by unfold storeX; rw [if_neg c_4, if_pos c_14]) dX0_store_19
  · refine lv_iconst (v := -1) hx hb dX0_store_7 (by decide) ?_
    exact hret _ _ _ _ _ _ G (by unfold storeX; rw [if_pos c_4]) dX0_store_8
theorem c0_store (l : Launch) (σ : St) (x y v : Int32) (hB : BK σ) : C0 l yX0_store cX0_store 5 (some .int) rm0_store [.int x, .int y, .int v] σ (storeX σ x y v) := C0.of (by decide) rfl (fun _ => Nat.le_of_ble_eq_true rfl) rfl (fun p e s m args below meth c Q D A h0 h ca ls F G hl hret => b0_store x y v hB F G hl hret)
def swX (y : Int32) : Nat → Nat → St → St
  | 0, _, τ => τ
  | d + 1, a, τ => if y < nI a then τ else swX y d (a + 2) (finX (rem τ a 1) a 1 0).2
def sweepX (σ : St) (x y : Int32) : Int32 × St := if x < 0 then (-1, σ) else if 40 ≤ y then (-1, σ) else if x ≤ y then ((swX y 40 (tn x) σ).2 23 - σ.2 23, swX y 40 (tn x) σ) else (-1, σ)
theorem lt_of_40 {y : Int32} {a : Nat} (hy : ¬ 40 ≤ y) (ha : 40 ≤ a) (hb : a < 2 ^ 31) : y < nI a := by
  rw [Int32.lt_iff_toInt_lt, nI_toInt hb]
  rw [Int32.le_iff_toInt_le] at hy
  have e : (40 : Int32).toInt = 40 := by decide
  omega
theorem lt40_of {y : Int32} {a : Nat} (hy : ¬ 40 ≤ y) (hb : a < 2 ^ 31) (hh : ¬ y < nI a) : a < 40 := by
  rcases Nat.lt_or_ge a 40 with q | q
  · exact q
  · exact absurd (lt_of_40 hy q hb) hh
theorem BK_keepX {σ : St} (z : Int32) (a n : Nat) (hB : BK σ) : BK (keepX σ z a n) := BK_eq (σ := σ) rfl hB
theorem BK_acS {hp : St → Nat → Int32} {fs fh : Nat} {q : St × Int32 × Int32} (w : Nat) (hB : BK q.1) : BK (acS hp fs fh q w).1 := by
  unfold acS
  split
  · exact hB
  · split
    · exact BK_eq (σ := q.1) rfl hB
    · exact BK_eq (σ := q.1) rfl hB
theorem BK_accL {hp : St → Nat → Int32} {fs fh : Nat} {σ : St} (hB : BK σ) : ∀ w, BK (accL hp fs fh σ w).1
  | 0 => hB
  | w + 1 => BK_acS w (BK_accL hB w)
theorem BK_finE {q : St × Int32 × Int32} {a n : Nat} (hB : BK q.1) : BK (finE q a n).2 := by
  unfold finE
  split
  · exact hB
  · exact BK_keepX _ _ _ hB
theorem BK_finX {σ : St} (a n : Nat) (wr : Int32) (hB : BK σ) : BK (finX σ a n wr).2 := by
  have h0 : BK (fin0 σ) := by
    unfold fin0
    split
    · exact BK_ldL _ 8
    · exact BK_eq (σ := σ) rfl hB
  exact BK_finE (BK_accL h0 8)
set_option maxHeartbeats 2000000 in
theorem q0_sweep {p : Program} {l : Launch} {e : Env} {s : State} {m : MethodId} {args : Array Value} {below : List Frame} {meth : Method} {c : Code} {Q : State → Prop} {D : va_G} {A : Nat → Prop} {h0 : Nat} {h : Nat → Nat} {ca : Nat → ClassId} {x y z : Int32} (F : Fx p m c cX0_sweep 5 s args RX0) (hy : ¬ 40 ≤ y) {r : St} (hret : RetI0 p l e rm0_sweep s m args below meth c cX0_sweep Q D A h0 h ca (r.2 23 - z, r)) : ∀ (d a : Nat) (τ : St), 40 ≤ a + d → a ≤ 41 → BK τ → r = swX y d a τ → ∀ (H : Heap) (locs : List Loc) (ls : Array Slot), Wd0 D s A h0 h ca τ H locs → lv_has ls 5 [(4, .int (nI a)), (3, .int z), (0, .ref h0), (1, .int x), (2, .int y)] → W p l e rm0_sweep s m args below meth c H locs 0 0 Q (F0 m 25 ls []) := by
  have F1 := F
  obtain ⟨hx, hb, hml, hown, hts⟩ := F1
  intro d
  induction d with
  | zero =>
    intro a τ h1 h2 hB hr H locs ls G hl
    refine lv_iload hx hb dX0_sweep_25 (lv_at hl 0 rfl) ?_
    refine lv_iload_n hx hb dX0_sweep_27 rfl (lv_at hl 4 rfl) ?_
    refine lv_icmp_gt (tgt := 53) hx hb dX0_sweep_28 (by decide) (fun _ => ?_) (fun c_28 => absurd (lt_of_40 hy (by omega) (by omega)) c_28)
    refine lv_aload_n hx hb dX0_sweep_53 rfl (lv_at hl 2 rfl) ?_
    refine g0_23 hx hb hts hown G dX0_sweep_54 ?_
    refine lv_iload_n hx hb dX0_sweep_57 rfl (lv_at hl 1 rfl) ?_
    refine lv_isub hx hb dX0_sweep_58 ?_
    exact hret _ _ _ _ _ _ G (by rw [hr]; rfl) dX0_sweep_59
  | succ d ih =>
    intro a τ h1 h2 hB hr H locs ls G hl
    refine lv_iload hx hb dX0_sweep_25 (lv_at hl 0 rfl) ?_
    refine lv_iload_n hx hb dX0_sweep_27 rfl (lv_at hl 4 rfl) ?_
    refine lv_icmp_gt (tgt := 53) hx hb dX0_sweep_28 (by decide) (fun c_28 => ?_) (fun c_28 => ?_)
    · refine lv_aload_n hx hb dX0_sweep_53 rfl (lv_at hl 2 rfl) ?_
      refine g0_23 hx hb hts hown G dX0_sweep_54 ?_
      refine lv_iload_n hx hb dX0_sweep_57 rfl (lv_at hl 1 rfl) ?_
      refine lv_isub hx hb dX0_sweep_58 ?_
      exact hret _ _ _ _ _ _ G (by rw [hr, swX, if_pos c_28]) dX0_sweep_59
    · have h40 := lt40_of hy (by omega) c_28
      refine lv_aload_n hx hb dX0_sweep_31 rfl (lv_at hl 2 rfl) ?_
      refine lv_iload hx hb dX0_sweep_32 (lv_at hl 0 rfl) ?_
      refine lv_iconst (v := 1) hx hb dX0_sweep_34 (by decide) ?_
      refine call0V (av := [.int (nI a), .int 1]) (rest := []) hx hb hml hts hown (c0_remember l τ a 1 (by omega) (by omega)) (cw0_remember hts ⟨Nat.le_of_ble_eq_true rfl, Nat.le_of_ble_eq_true rfl⟩) G rfl hl.1 rfl (Nat.le_of_ble_eq_true rfl) dX0_sweep_35 ⟨Nat.zero_le _, Nat.zero_le _⟩ (fun H locs G => ?_)
      refine lv_aload_n hx hb dX0_sweep_38 rfl (lv_at hl 2 rfl) ?_
      refine lv_iload hx hb dX0_sweep_39 (lv_at hl 0 rfl) ?_
      refine lv_iconst (v := 1) hx hb dX0_sweep_41 (by decide) ?_
      refine lv_iconst (v := 0) hx hb dX0_sweep_42 (by decide) ?_
      refine call0I (av := [.int (nI a), .int 1, .int 0]) (rest := []) hx hb hml hts hown (c0_finish l (rem τ a 1) a 1 0 (by omega) (by omega) (BK_rem a 1 hB)) (cw0_finish hts ⟨Nat.le_of_ble_eq_true rfl, Nat.le_of_ble_eq_true rfl⟩) G rfl hl.1 rfl (Nat.le_of_ble_eq_true rfl) dX0_sweep_43 ⟨Nat.zero_le _, Nat.zero_le _⟩ (fun H locs G => ?_)
      refine lv_pop hx hb dX0_sweep_46 rfl ?_
      refine lv_iinc (v := nI (a + 2)) (lv' := [(4, .int (nI (a + 2))), (3, .int z), (0, .ref h0), (1, .int x), (2, .int y)]) hx hb dX0_sweep_47 hl (k := 0) rfl (nI_add a 2) (by decide) rfl (fun ls hl => ?_)
      refine lv_goto (tgt := 25) hx hb dX0_sweep_50 (by decide) ?_
      exact ih (a + 2) _ (by omega) (by omega) (BK_finX a 1 0 (BK_rem a 1 hB)) (by rw [hr, swX, if_neg c_28]) H locs ls G hl
set_option maxHeartbeats 2000000 in
theorem b0_sweep {p : Program} {l : Launch} {e : Env} {s : State} {m : MethodId} {args : Array Value} {below : List Frame} {meth : Method} {c : Code} {Q : State → Prop} {D : va_G} {A : Nat → Prop} {h0 : Nat} {h : Nat → Nat} {ca : Nat → ClassId} (x y : Int32) {σ : St} {H : Heap} {locs : List Loc} {ls : Array Slot} (hB : BK σ) (F : Fx p m c cX0_sweep 5 s args RX0) (G : Wd0 D s A h0 h ca σ H locs) (hl : lv_has ls 5 [(0, .ref h0), (1, .int x), (2, .int y)]) (hret : RetI0 p l e rm0_sweep s m args below meth c cX0_sweep Q D A h0 h ca (sweepX σ x y)) : W p l e rm0_sweep s m args below meth c H locs 0 0 Q (F0 m 0 ls []) := by
  have F1 := F
  obtain ⟨hx, hb, hml, hown, hts⟩ := F1
  refine lv_iload_n hx hb dX0_sweep_0 rfl (lv_at hl 1 rfl) ?_
  refine lv_if_lt (tgt := 15) hx hb dX0_sweep_1 (by decide) (fun c_1 => ?_) (fun c_1 => ?_)
  · refine lv_iconst (v := -1) hx hb dX0_sweep_15 (by decide) ?_
    exact hret _ _ _ _ _ _ G (by unfold sweepX; rw [if_pos c_1]) dX0_sweep_16
  · refine lv_iload_n hx hb dX0_sweep_4 rfl (lv_at hl 2 rfl) ?_
    refine lv_bipush (v := 40) hx hb dX0_sweep_5 (by decide) ?_
    refine lv_icmp_ge (tgt := 15) hx hb dX0_sweep_7 (by decide) (fun c_7 => ?_) (fun c_7 => ?_)
    · refine lv_iconst (v := -1) hx hb dX0_sweep_15 (by decide) ?_
      exact hret _ _ _ _ _ _ G (by unfold sweepX; rw [if_neg c_1, if_pos c_7]) dX0_sweep_16
    · refine lv_iload_n hx hb dX0_sweep_10 rfl (lv_at hl 1 rfl) ?_
      refine lv_iload_n hx hb dX0_sweep_11 rfl (lv_at hl 2 rfl) ?_
      refine lv_icmp_le (tgt := 17) hx hb dX0_sweep_12 (by decide) (fun c_12 => ?_) (fun c_12 => ?_)
      · obtain ⟨a, ha, rfl⟩ := nI_of c_1
        have h40 : a < 40 := lt40_of c_7 ha (fun h => absurd c_12 (Int32.not_le.mpr h))
        refine lv_aload_n hx hb dX0_sweep_17 rfl (lv_at hl 0 rfl) ?_
        refine g0_23 hx hb hts hown G dX0_sweep_18 ?_
        refine lv_istore_n (lv' := [(3, .int (σ.2 23)), (0, .ref h0), (1, .int (nI a)), (2, .int y)]) hx hb dX0_sweep_21 rfl hl (by decide) rfl (fun ls hl => ?_)
        refine lv_iload_n hx hb dX0_sweep_22 rfl (lv_at hl 2 rfl) ?_
        refine lv_istore (lv' := [(4, .int (nI a)), (3, .int (σ.2 23)), (0, .ref h0), (1, .int (nI a)), (2, .int y)]) hx hb dX0_sweep_23 hl (by decide) rfl (fun ls hl => ?_)
        unfold sweepX at hret
        rw [if_neg c_1, if_neg c_7, if_pos c_12, tn_nI (by omega)] at hret
        exact q0_sweep F c_7 hret 40 a σ (by omega) (by omega) hB rfl H locs ls G hl
      · refine lv_iconst (v := -1) hx hb dX0_sweep_15 (by decide) ?_
        exact hret _ _ _ _ _ _ G (by unfold sweepX; rw [if_neg c_1, if_neg c_7, if_neg c_12]) dX0_sweep_16
theorem c0_sweep (l : Launch) (σ : St) (x y : Int32) (hB : BK σ) : C0 l yX0_sweep cX0_sweep 5 (some .int) rm0_sweep [.int x, .int y] σ (sweepX σ x y) := C0.of (by decide) rfl (fun _ => Nat.le_of_ble_eq_true rfl) rfl (fun p e s m args below meth c Q D A h0 h ca ls F G hl hret => b0_sweep x y hB F G hl hret)
def anS (σ : St) (a w : Nat) (z : Int32) : Int32 := (if z = 0 then (if (σ.1 1 w) = 0 then 0 else (if (σ.1 2 w) = 0 then (if (nI a) < (σ.1 3 w) then 0 else (if (σ.1 4 w) < (nI a) then 0 else 1)) else 0)) else 1)
def anyX (σ : St) (a : Nat) : Nat → Int32
  | 0 => 0
  | w + 1 => anS σ a w (anyX σ a w)
def wsum (σ : St) : Nat → Int32
  | 0 => 0
  | a + 1 => wsum σ a + (if anyX σ a 8 = 0 then 0 else 1)
def watchedX (σ : St) : Int32 := wsum σ 40
set_option maxHeartbeats 2000000 in
theorem q0_watchedI {p : Program} {l : Launch} {e : Env} {R : Room} {s : State} {m : MethodId} {args : Array Value} {below : List Frame} {meth : Method} {c : Code} {Q : State → Prop} {D : va_G} {A : Nat → Prop} {h0 : Nat} {h : Nat → Nat} {ca : Nat → ClassId} {a : Nat} {y : Int32} (F : Fx p m c cX0_watched 5 s args RX0) {σ : St} {H : Heap} {locs : List Loc} (G : Wd0 D s A h0 h ca σ H locs) : ∀ (d w : Nat), w + d = 8 → ∀ (ls : Array Slot), lv_has ls 5 [(4, .int (nI w)), (3, .int (anyX σ a w)), (2, .int (nI a)), (1, .int y), (0, .ref h0)] → (∀ (ls : Array Slot), lv_has ls 5 [(3, .int (anyX σ a 8)), (2, .int (nI a)), (1, .int y), (0, .ref h0)] → W p l e R s m args below meth c H locs 0 0 Q (F0 m 80 ls [])) → W p l e R s m args below meth c H locs 0 0 Q (F0 m 15 ls []) := by
  have F1 := F
  obtain ⟨hx, hb, hml, hown, hts⟩ := F1
  intro d
  induction d with
  | zero =>
    intro w hw ls hl K
    refine lv_iload hx hb dX0_watched_15 (lv_at hl 0 rfl) ?_
    refine lv_bipush (v := 8) hx hb dX0_watched_17 (by decide) ?_
    refine lv_icmp_ge (tgt := 80) hx hb dX0_watched_19 (by decide) (fun _ => ?_) (fun c_19 => absurd (nI_le (a := 8) (by omega) (by omega)) c_19)
    rw [show (8 : Nat) = w by omega] at K
    exact K ls (lv_sub hl [1, 2, 3, 4] rfl)
  | succ d ih =>
    intro w hw ls hl K
    refine lv_iload hx hb dX0_watched_15 (lv_at hl 0 rfl) ?_
    refine lv_bipush (v := 8) hx hb dX0_watched_17 (by decide) ?_
    refine lv_icmp_ge (tgt := 80) hx hb dX0_watched_19 (by decide) (fun c_19 => absurd c_19 (nI_ge (b := 8) (by omega) (by omega))) (fun _ => ?_)
    refine lv_iload_n hx hb dX0_watched_22 rfl (lv_at hl 1 rfl) ?_
    refine lv_cut (J := 73) (rest := []) (if (anyX σ a w) = 0 then (if (σ.1 1 w) = 0 then 0 else (if (σ.1 2 w) = 0 then (if (nI a) < (σ.1 3 w) then 0 else (if (σ.1 4 w) < (nI a) then 0 else 1)) else 0)) else 1) (fun kj => ?_) ?_
    · refine lv_if_ne (tgt := 68) hx hb dX0_watched_23 (by decide) (fun c_23 => ?_) (fun c_23 => ?_)
      · refine lv_iconst (v := 1) hx hb dX0_watched_68 (by decide) ?_
        refine lv_goto (tgt := 73) hx hb dX0_watched_69 (by decide) ?_
        exact kj _ (by rw [if_neg c_23])
      · refine lv_aload_n hx hb dX0_watched_26 rfl (lv_at hl 4 rfl) ?_
        refine g0_1 hx hb hts hown G dX0_watched_27 ?_
        refine lv_iload hx hb dX0_watched_30 (lv_at hl 0 rfl) ?_
        refine l0_1 w hx hb G rfl (by omega) dX0_watched_32 ?_
        refine lv_if_eq (tgt := 72) hx hb dX0_watched_33 (by decide) (fun c_33 => ?_) (fun c_33 => ?_)
        · refine lv_iconst (v := 0) hx hb dX0_watched_72 (by decide) ?_
          exact kj _ (by rw [if_pos c_23, if_pos c_33])
        · refine lv_aload_n hx hb dX0_watched_36 rfl (lv_at hl 4 rfl) ?_
          refine g0_2 hx hb hts hown G dX0_watched_37 ?_
          refine lv_iload hx hb dX0_watched_40 (lv_at hl 0 rfl) ?_
          refine l0_2 w hx hb G rfl (by omega) dX0_watched_42 ?_
          refine lv_if_ne (tgt := 72) hx hb dX0_watched_43 (by decide) (fun c_43 => ?_) (fun c_43 => ?_)
          · refine lv_iconst (v := 0) hx hb dX0_watched_72 (by decide) ?_
            exact kj _ (by rw [if_pos c_23, if_neg c_33, if_neg c_43])
          · refine lv_aload_n hx hb dX0_watched_46 rfl (lv_at hl 4 rfl) ?_
            refine g0_3 hx hb hts hown G dX0_watched_47 ?_
            refine lv_iload hx hb dX0_watched_50 (lv_at hl 0 rfl) ?_
            refine l0_3 w hx hb G rfl (by omega) dX0_watched_52 ?_
            refine lv_iload_n hx hb dX0_watched_53 rfl (lv_at hl 2 rfl) ?_
            refine lv_icmp_gt (tgt := 72) hx hb dX0_watched_54 (by decide) (fun c_54 => ?_) (fun c_54 => ?_)
            · refine lv_iconst (v := 0) hx hb dX0_watched_72 (by decide) ?_
              exact kj _ (by rw [if_pos c_23, if_neg c_33, if_pos c_43, if_pos c_54])
            · refine lv_iload_n hx hb dX0_watched_57 rfl (lv_at hl 2 rfl) ?_
              refine lv_aload_n hx hb dX0_watched_58 rfl (lv_at hl 4 rfl) ?_
              refine g0_4 hx hb hts hown G dX0_watched_59 ?_
              refine lv_iload hx hb dX0_watched_62 (lv_at hl 0 rfl) ?_
              refine l0_4 w hx hb G rfl (by omega) dX0_watched_64 ?_
              refine lv_icmp_gt (tgt := 72) hx hb dX0_watched_65 (by decide) (fun c_65 => ?_) (fun c_65 => ?_)
              · refine lv_iconst (v := 0) hx hb dX0_watched_72 (by decide) ?_
                exact kj _ (by rw [if_pos c_23, if_neg c_33, if_pos c_43, if_neg c_54, if_pos c_65])
              · refine lv_iconst (v := 1) hx hb dX0_watched_68 (by decide) ?_
                refine lv_goto (tgt := 73) hx hb dX0_watched_69 (by decide) ?_
                exact kj _ (by rw [if_pos c_23, if_neg c_33, if_pos c_43, if_neg c_54, if_neg c_65])
    refine lv_ren rfl ?_
    refine lv_istore_n (lv' := [(3, .int (anyX σ a (w + 1))), (4, .int (nI w)), (2, .int (nI a)), (1, .int y), (0, .ref h0)]) hx hb dX0_watched_73 rfl hl (by decide) rfl (fun ls hl => ?_)
    refine lv_iinc (v := nI (w + 1)) (lv' := [(4, .int (nI (w + 1))), (3, .int (anyX σ a (w + 1))), (2, .int (nI a)), (1, .int y), (0, .ref h0)]) hx hb dX0_watched_74 hl (k := 1) rfl (nI_1 w) (by decide) rfl (fun ls hl => ?_)
    refine lv_goto (tgt := 15) hx hb dX0_watched_77 (by decide) ?_
    exact ih (w + 1) (by omega) ls (lv_sub hl [0, 1, 2, 3, 4] rfl) K
set_option maxHeartbeats 2000000 in
theorem q0_watched {p : Program} {l : Launch} {e : Env} {R : Room} {s : State} {m : MethodId} {args : Array Value} {below : List Frame} {meth : Method} {c : Code} {Q : State → Prop} {D : va_G} {A : Nat → Prop} {h0 : Nat} {h : Nat → Nat} {ca : Nat → ClassId} (F : Fx p m c cX0_watched 5 s args RX0) {σ : St} {H : Heap} {locs : List Loc} (G : Wd0 D s A h0 h ca σ H locs) (hret : RetI0 p l e R s m args below meth c cX0_watched Q D A h0 h ca (watchedX σ, σ)) : ∀ (d a : Nat), a + d = 40 → ∀ (ls : Array Slot), lv_has ls 5 [(2, .int (nI a)), (1, .int (wsum σ a)), (0, .ref h0)] → W p l e R s m args below meth c H locs 0 0 Q (F0 m 4 ls []) := by
  have F1 := F
  obtain ⟨hx, hb, hml, hown, hts⟩ := F1
  intro d
  induction d with
  | zero =>
    intro a ha ls hl
    refine lv_iload_n hx hb dX0_watched_4 rfl (lv_at hl 0 rfl) ?_
    refine lv_bipush (v := 40) hx hb dX0_watched_5 (by decide) ?_
    refine lv_icmp_ge (tgt := 98) hx hb dX0_watched_7 (by decide) (fun _ => ?_) (fun c_7 => absurd (nI_le (a := 40) (by omega) (by omega)) c_7)
    refine lv_iload_n hx hb dX0_watched_98 rfl (lv_at hl 1 rfl) ?_
    exact hret _ _ _ _ _ _ G (by unfold watchedX; rw [show (40 : Nat) = a by omega]) dX0_watched_99
  | succ d ih =>
    intro a ha ls hl
    refine lv_iload_n hx hb dX0_watched_4 rfl (lv_at hl 0 rfl) ?_
    refine lv_bipush (v := 40) hx hb dX0_watched_5 (by decide) ?_
    refine lv_icmp_ge (tgt := 98) hx hb dX0_watched_7 (by decide) (fun c_7 => absurd c_7 (nI_ge (b := 40) (by omega) (by omega))) (fun _ => ?_)
    refine lv_iconst (v := 0) hx hb dX0_watched_10 (by decide) ?_
    refine lv_istore_n (lv' := [(3, .int 0), (2, .int (nI a)), (1, .int (wsum σ a)), (0, .ref h0)]) hx hb dX0_watched_11 rfl hl (by decide) rfl (fun ls hl => ?_)
    refine lv_iconst (v := 0) hx hb dX0_watched_12 (by decide) ?_
    refine lv_istore (lv' := [(4, .int 0), (3, .int 0), (2, .int (nI a)), (1, .int (wsum σ a)), (0, .ref h0)]) hx hb dX0_watched_13 hl (by decide) rfl (fun ls hl => ?_)
    refine q0_watchedI F G 8 0 (by omega) ls (lv_sub hl [0, 1, 2, 3, 4] rfl) (fun ls hl => ?_)
    refine lv_iload_n hx hb dX0_watched_80 rfl (lv_at hl 2 rfl) ?_
    refine lv_iload_n hx hb dX0_watched_81 rfl (lv_at hl 0 rfl) ?_
    refine lv_cut (J := 90) (rest := [.int (wsum σ a)]) (if (anyX σ a 8) = 0 then 0 else 1) (fun kj => ?_) ?_
    · refine lv_if_eq (tgt := 89) hx hb dX0_watched_82 (by decide) (fun c_82 => ?_) (fun c_82 => ?_)
      · refine lv_iconst (v := 0) hx hb dX0_watched_89 (by decide) ?_
        exact kj _ (by rw [if_pos c_82])
      · refine lv_iconst (v := 1) hx hb dX0_watched_85 (by decide) ?_
        refine lv_goto (tgt := 90) hx hb dX0_watched_86 (by decide) ?_
        exact kj _ (by rw [if_neg c_82])
    refine lv_iadd hx hb dX0_watched_90 ?_
    refine lv_ren rfl ?_
    refine lv_istore_n (lv' := [(1, .int (wsum σ (a + 1))), (3, .int (anyX σ a 8)), (2, .int (nI a)), (0, .ref h0)]) hx hb dX0_watched_91 rfl hl (by decide) rfl (fun ls hl => ?_)
    refine lv_iinc (v := nI (a + 1)) (lv' := [(2, .int (nI (a + 1))), (1, .int (wsum σ (a + 1))), (3, .int (anyX σ a 8)), (0, .ref h0)]) hx hb dX0_watched_92 hl (k := 2) rfl (nI_1 a) (by decide) rfl (fun ls hl => ?_)
    refine lv_goto (tgt := 4) hx hb dX0_watched_95 (by decide) ?_
    exact ih (a + 1) (by omega) ls (lv_sub hl [0, 1, 3] rfl)
set_option maxHeartbeats 2000000 in
theorem b0_watched {p : Program} {l : Launch} {e : Env} {R : Room} {s : State} {m : MethodId} {args : Array Value} {below : List Frame} {meth : Method} {c : Code} {Q : State → Prop} {D : va_G} {A : Nat → Prop} {h0 : Nat} {h : Nat → Nat} {ca : Nat → ClassId} {σ : St} {H : Heap} {locs : List Loc} {ls : Array Slot} (F : Fx p m c cX0_watched 5 s args RX0) (G : Wd0 D s A h0 h ca σ H locs) (hl : lv_has ls 5 [(0, .ref h0)]) (hret : RetI0 p l e R s m args below meth c cX0_watched Q D A h0 h ca (watchedX σ, σ)) : W p l e R s m args below meth c H locs 0 0 Q (F0 m 0 ls []) := by
  have F1 := F
  obtain ⟨hx, hb, hml, hown, hts⟩ := F1
  refine lv_iconst (v := 0) hx hb dX0_watched_0 (by decide) ?_
  refine lv_istore_n (lv' := [(1, .int 0), (0, .ref h0)]) hx hb dX0_watched_1 rfl hl (by decide) rfl (fun ls hl => ?_)
  refine lv_iconst (v := 0) hx hb dX0_watched_2 (by decide) ?_
  refine lv_istore_n (lv' := [(2, .int 0), (1, .int 0), (0, .ref h0)]) hx hb dX0_watched_3 rfl hl (by decide) rfl (fun ls hl => ?_)
  exact q0_watched F G hret 40 0 (by omega) ls (lv_sub hl [0, 1, 2] rfl)
theorem c0_watched (l : Launch) (σ : St)  : C0 l yX0_watched cX0_watched 5 (some .int) rm0_watched [] σ (watchedX σ, σ) := C0.of (by decide) rfl (fun _ => Nat.le_of_ble_eq_true rfl) rfl (fun p e s m args below meth c Q D A h0 h ca ls F G hl hret => b0_watched  F G hl hret)
end
section
set_option maxRecDepth 100000
def inRangeM (σ : St) (w : Nat) (x : Int32) : Int32 := (if x < (σ.1 3 w) then 0 else (if ((σ.1 3 w) + (σ.1 4 w)) ≤ x then 0 else 1))
set_option maxHeartbeats 2000000 in
theorem b1_inRange {p : Program} {l : Launch} {e : Env} {R : Room} {s : State} {m : MethodId} {args : Array Value} {below : List Frame} {meth : Method} {c : Code} {Q : State → Prop} {D : va_G} {A : Nat → Prop} {h0 : Nat} {h : Nat → Nat} {ca : Nat → ClassId} (w : Nat) (x : Int32) {σ : St} {H : Heap} {locs : List Loc} {ls : Array Slot} (hw : w < 8) (F : Fx p m c cX1_inRange 3 s args RX1) (G : Wd1 D s A h0 h ca σ H locs) (hl : lv_has ls 3 [(0, .ref h0), (1, .int (nI w)), (2, .int x)]) (hret : RetI1 p l e R s m args below meth c cX1_inRange Q D A h0 h ca (inRangeM σ w x, σ)) : W p l e R s m args below meth c H locs 0 0 Q (F0 m 0 ls []) := by
  have F1 := F
  obtain ⟨hx, hb, hml, hown, hts⟩ := F1
  refine lv_iload_n hx hb dX1_inRange_0 rfl (lv_at hl 2 rfl) ?_
  refine lv_aload_n hx hb dX1_inRange_1 rfl (lv_at hl 0 rfl) ?_
  refine g1_3 hx hb hts hown G dX1_inRange_2 ?_
  refine lv_iload_n hx hb dX1_inRange_5 rfl (lv_at hl 1 rfl) ?_
  refine l1_3 w hx hb G rfl (by omega) dX1_inRange_6 ?_
  refine lv_cut (J := 32) (rest := []) (if x < (σ.1 3 w) then 0 else (if ((σ.1 3 w) + (σ.1 4 w)) ≤ x then 0 else 1)) (fun kj => ?_) ?_
  · refine lv_icmp_lt (tgt := 31) hx hb dX1_inRange_7 (by decide) (fun c_7 => ?_) (fun c_7 => ?_)
    · refine lv_iconst (v := 0) hx hb dX1_inRange_31 (by decide) ?_
      exact kj _ (by rw [if_pos c_7])
    · refine lv_iload_n hx hb dX1_inRange_10 rfl (lv_at hl 2 rfl) ?_
      refine lv_aload_n hx hb dX1_inRange_11 rfl (lv_at hl 0 rfl) ?_
      refine g1_3 hx hb hts hown G dX1_inRange_12 ?_
      refine lv_iload_n hx hb dX1_inRange_15 rfl (lv_at hl 1 rfl) ?_
      refine l1_3 w hx hb G rfl (by omega) dX1_inRange_16 ?_
      refine lv_aload_n hx hb dX1_inRange_17 rfl (lv_at hl 0 rfl) ?_
      refine g1_4 hx hb hts hown G dX1_inRange_18 ?_
      refine lv_iload_n hx hb dX1_inRange_21 rfl (lv_at hl 1 rfl) ?_
      refine l1_4 w hx hb G rfl (by omega) dX1_inRange_22 ?_
      refine lv_iadd hx hb dX1_inRange_23 ?_
      refine lv_icmp_ge (tgt := 31) hx hb dX1_inRange_24 (by decide) (fun c_24 => ?_) (fun c_24 => ?_)
      · refine lv_iconst (v := 0) hx hb dX1_inRange_31 (by decide) ?_
        exact kj _ (by rw [if_neg c_7, if_pos c_24])
      · refine lv_iconst (v := 1) hx hb dX1_inRange_27 (by decide) ?_
        refine lv_goto (tgt := 32) hx hb dX1_inRange_28 (by decide) ?_
        exact kj _ (by rw [if_neg c_7, if_neg c_24])
  exact hret _ _ _ _ _ _ G (rfl) dX1_inRange_32
theorem c1_inRange (l : Launch) (σ : St) (w : Nat) (x : Int32) (hw : w < 8) : C1 l yX1_inRange cX1_inRange 3 (some .boolean) rm1_inRange [.int (nI w), .int x] σ (inRangeM σ w x, σ) := C1.of (by decide) rfl (fun _ => Nat.le_of_ble_eq_true rfl) (by show narrow .boolean (.int (inRangeM σ w x)) = .int (inRangeM σ w x); unfold inRangeM; (repeat' split) <;> rfl) (fun p e s m args below meth c Q D A h0 h ca ls F G hl hret => b1_inRange w x hw F G hl hret)
def hitE (σ : St) (w : Nat) (p5 q wr : Int32) : Int32 := (if (σ.1 5 w) = 1 then (if p5 = 0 then 0 else (if wr = 0 then 1 else 0)) else (if (σ.1 5 w) = 2 then (if p5 = 0 then 0 else (if wr = 0 then 0 else 1)) else (if (σ.1 5 w) = 4 then (if q = 0 then 0 else (if wr = 0 then 0 else 1)) else p5)))
/-- whether the access touches the watch, whether it changes it -/
def hitL (σ : St) (w : Nat) : Nat → Nat → Int32 → Int32 → Int32 × Int32
  | 0, _, p, q => (p, q)
  | d + 1, t, p, q => if inRangeM σ w (nI t) = 0 then hitL σ w d (t + 1) p q else if σ.1 0 t = σ.1 1 t then hitL σ w d (t + 1) 1 q else hitL σ w d (t + 1) 1 1
def hitM (σ : St) (w a n : Nat) (wr : Int32) : Int32 := if σ.1 2 w = 0 then 0 else if σ.1 6 w = 0 then hitE σ w (hitL σ w n a 0 0).1 (hitL σ w n a 0 0).2 wr else 0
set_option maxHeartbeats 2000000 in
theorem q1_hit {p : Program} {l : Launch} {e : Env} {s : State} {m : MethodId} {args : Array Value} {below : List Frame} {meth : Method} {c : Code} {Q : State → Prop} {D : va_G} {A : Nat → Prop} {h0 : Nat} {h : Nat → Nat} {ca : Nat → ClassId} {w a n : Nat} {wr : Int32} (F : Fx p m c cX1_hit 8 s args RX1) {σ : St} (hw : w < 8) (ha : a + n ≤ 40) {r : Int32} (hret : RetI1 p l e rm1_hit s m args below meth c cX1_hit Q D A h0 h ca (r, σ)) : ∀ (d t : Nat) (p5 q : Int32), t + d = a + n → r = hitE σ w (hitL σ w d t p5 q).1 (hitL σ w d t p5 q).2 wr → ∀ (H : Heap) (locs : List Loc) (ls : Array Slot), Wd1 D s A h0 h ca σ H locs → lv_has ls 8 [(7, .int (nI t)), (6, .int q), (5, .int p5), (0, .ref h0), (1, .int (nI w)), (2, .int (nI a)), (3, .int (nI n)), (4, .int wr)] → W p l e rm1_hit s m args below meth c H locs 0 0 Q (F0 m 29 ls []) := by
  have F1 := F
  obtain ⟨hx, hb, hml, hown, hts⟩ := F1
  intro d
  induction d with
  | zero =>
    intro t p5 q ht hr H locs ls G hl
    refine lv_iload hx hb dX1_hit_29 (lv_at hl 0 rfl) ?_
    refine lv_iload_n hx hb dX1_hit_31 rfl (lv_at hl 5 rfl) ?_
    refine lv_iload_n hx hb dX1_hit_32 rfl (lv_at hl 6 rfl) ?_
    refine lv_iadd hx hb dX1_hit_33 ?_
    refine lv_icmp_ge (tgt := 83) hx hb dX1_hit_34 (by decide) (fun _ => ?_) (fun c_34 => absurd (by rw [nI_add]; exact nI_le (by omega) (by omega)) c_34)
    refine lv_aload_n hx hb dX1_hit_83 rfl (lv_at hl 3 rfl) ?_
    refine g1_5 hx hb hts hown G dX1_hit_84 ?_
    refine lv_iload_n hx hb dX1_hit_87 rfl (lv_at hl 4 rfl) ?_
    refine l1_5 w hx hb G rfl (by omega) dX1_hit_88 ?_
    refine lv_iconst (v := 1) hx hb dX1_hit_89 (by decide) ?_
    refine lv_icmp_ne (tgt := 109) hx hb dX1_hit_90 (by decide) (fun c_90 => ?_) (fun c_90 => ?_)
    · refine lv_aload_n hx hb dX1_hit_109 rfl (lv_at hl 3 rfl) ?_
      refine g1_5 hx hb hts hown G dX1_hit_110 ?_
      refine lv_iload_n hx hb dX1_hit_113 rfl (lv_at hl 4 rfl) ?_
      refine l1_5 w hx hb G rfl (by omega) dX1_hit_114 ?_
      refine lv_iconst (v := 2) hx hb dX1_hit_115 (by decide) ?_
      refine lv_icmp_ne (tgt := 135) hx hb dX1_hit_116 (by decide) (fun c_116 => ?_) (fun c_116 => ?_)
      · refine lv_aload_n hx hb dX1_hit_135 rfl (lv_at hl 3 rfl) ?_
        refine g1_5 hx hb hts hown G dX1_hit_136 ?_
        refine lv_iload_n hx hb dX1_hit_139 rfl (lv_at hl 4 rfl) ?_
        refine l1_5 w hx hb G rfl (by omega) dX1_hit_140 ?_
        refine lv_iconst (v := 4) hx hb dX1_hit_141 (by decide) ?_
        refine lv_icmp_ne (tgt := 161) hx hb dX1_hit_142 (by decide) (fun c_142 => ?_) (fun c_142 => ?_)
        · refine lv_iload hx hb dX1_hit_161 (lv_at hl 2 rfl) ?_
          exact hret _ _ _ _ _ _ G (by rw [hr, hitL, hitE, if_neg c_90, if_neg c_116, if_neg c_142]) dX1_hit_163
        · refine lv_iload hx hb dX1_hit_145 (lv_at hl 1 rfl) ?_
          refine lv_cut (J := 160) (rest := []) (if q = 0 then 0 else (if wr = 0 then 0 else 1)) (fun kj => ?_) ?_
          · refine lv_if_eq (tgt := 159) hx hb dX1_hit_147 (by decide) (fun c_147 => ?_) (fun c_147 => ?_)
            · refine lv_iconst (v := 0) hx hb dX1_hit_159 (by decide) ?_
              exact kj _ (by rw [if_pos c_147])
            · refine lv_iload hx hb dX1_hit_150 (lv_at hl 7 rfl) ?_
              refine lv_if_eq (tgt := 159) hx hb dX1_hit_152 (by decide) (fun c_152 => ?_) (fun c_152 => ?_)
              · refine lv_iconst (v := 0) hx hb dX1_hit_159 (by decide) ?_
                exact kj _ (by rw [if_neg c_147, if_pos c_152])
              · refine lv_iconst (v := 1) hx hb dX1_hit_155 (by decide) ?_
                refine lv_goto (tgt := 160) hx hb dX1_hit_156 (by decide) ?_
                exact kj _ (by rw [if_neg c_147, if_neg c_152])
          exact hret _ _ _ _ _ _ G (by rw [hr, hitL, hitE, if_neg c_90, if_neg c_116, if_pos c_142]) dX1_hit_160
      · refine lv_iload hx hb dX1_hit_119 (lv_at hl 2 rfl) ?_
        refine lv_cut (J := 134) (rest := []) (if p5 = 0 then 0 else (if wr = 0 then 0 else 1)) (fun kj => ?_) ?_
        · refine lv_if_eq (tgt := 133) hx hb dX1_hit_121 (by decide) (fun c_121 => ?_) (fun c_121 => ?_)
          · refine lv_iconst (v := 0) hx hb dX1_hit_133 (by decide) ?_
            exact kj _ (by rw [if_pos c_121])
          · refine lv_iload hx hb dX1_hit_124 (lv_at hl 7 rfl) ?_
            refine lv_if_eq (tgt := 133) hx hb dX1_hit_126 (by decide) (fun c_126 => ?_) (fun c_126 => ?_)
            · refine lv_iconst (v := 0) hx hb dX1_hit_133 (by decide) ?_
              exact kj _ (by rw [if_neg c_121, if_pos c_126])
            · refine lv_iconst (v := 1) hx hb dX1_hit_129 (by decide) ?_
              refine lv_goto (tgt := 134) hx hb dX1_hit_130 (by decide) ?_
              exact kj _ (by rw [if_neg c_121, if_neg c_126])
        exact hret _ _ _ _ _ _ G (by rw [hr, hitL, hitE, if_neg c_90, if_pos c_116]) dX1_hit_134
    · refine lv_iload hx hb dX1_hit_93 (lv_at hl 2 rfl) ?_
      refine lv_cut (J := 108) (rest := []) (if p5 = 0 then 0 else (if wr = 0 then 1 else 0)) (fun kj => ?_) ?_
      · refine lv_if_eq (tgt := 107) hx hb dX1_hit_95 (by decide) (fun c_95 => ?_) (fun c_95 => ?_)
        · refine lv_iconst (v := 0) hx hb dX1_hit_107 (by decide) ?_
          exact kj _ (by rw [if_pos c_95])
        · refine lv_iload hx hb dX1_hit_98 (lv_at hl 7 rfl) ?_
          refine lv_if_ne (tgt := 107) hx hb dX1_hit_100 (by decide) (fun c_100 => ?_) (fun c_100 => ?_)
          · refine lv_iconst (v := 0) hx hb dX1_hit_107 (by decide) ?_
            exact kj _ (by rw [if_neg c_95, if_neg c_100])
          · refine lv_iconst (v := 1) hx hb dX1_hit_103 (by decide) ?_
            refine lv_goto (tgt := 108) hx hb dX1_hit_104 (by decide) ?_
            exact kj _ (by rw [if_neg c_95, if_pos c_100])
      exact hret _ _ _ _ _ _ G (by rw [hr, hitL, hitE, if_pos c_90]) dX1_hit_108
  | succ d ih =>
    intro t p5 q ht hr H locs ls G hl
    refine lv_iload hx hb dX1_hit_29 (lv_at hl 0 rfl) ?_
    refine lv_iload_n hx hb dX1_hit_31 rfl (lv_at hl 5 rfl) ?_
    refine lv_iload_n hx hb dX1_hit_32 rfl (lv_at hl 6 rfl) ?_
    refine lv_iadd hx hb dX1_hit_33 ?_
    refine lv_icmp_ge (tgt := 83) hx hb dX1_hit_34 (by decide) (fun c_34 => absurd c_34 (by rw [nI_add]; exact nI_ge (by omega) (by omega))) (fun _ => ?_)
    refine lv_iload hx hb dX1_hit_37 (lv_at hl 0 rfl) ?_
    refine lv_bipush (v := 40) hx hb dX1_hit_39 (by decide) ?_
    refine lv_icmp_ge (tgt := 83) hx hb dX1_hit_41 (by decide) (fun c_41 => absurd c_41 (nI_ge (b := 40) (by omega) (by omega))) (fun _ => ?_)
    refine lv_aload_n hx hb dX1_hit_44 rfl (lv_at hl 3 rfl) ?_
    refine lv_iload_n hx hb dX1_hit_45 rfl (lv_at hl 4 rfl) ?_
    refine lv_iload hx hb dX1_hit_46 (lv_at hl 0 rfl) ?_
    refine call1I (av := [.int (nI w), .int (nI t)]) (rest := []) hx hb hml hts hown (c1_inRange l σ w (nI t) hw) (cw1_inRange hts ⟨Nat.le_of_ble_eq_true rfl, Nat.le_of_ble_eq_true rfl⟩) G rfl hl.1 rfl (Nat.le_of_ble_eq_true rfl) dX1_hit_48 ⟨Nat.zero_le _, Nat.zero_le _⟩ (fun H locs G => ?_)
    refine lv_if_eq (tgt := 77) hx hb dX1_hit_51 (by decide) (fun c_51 => ?_) (fun c_51 => ?_)
    · refine lv_iinc (v := nI (t + 1)) (lv' := [(7, .int (nI (t + 1))), (6, .int q), (5, .int p5), (0, .ref h0), (1, .int (nI w)), (2, .int (nI a)), (3, .int (nI n)), (4, .int wr)]) hx hb dX1_hit_77 hl (k := 0) rfl (nI_1 t) (by decide) rfl (fun ls hl => ?_)
      refine lv_goto (tgt := 29) hx hb dX1_hit_80 (by decide) ?_
      exact ih (t + 1) _ _ (by omega) (by rw [hr, hitL, if_pos c_51]) H locs ls G (lv_sub hl [0, 1, 2, 3, 4, 5, 6, 7] rfl)
    · refine lv_iconst (v := 1) hx hb dX1_hit_54 (by decide) ?_
      refine lv_istore (lv' := [(5, .int 1), (7, .int (nI t)), (6, .int q), (0, .ref h0), (1, .int (nI w)), (2, .int (nI a)), (3, .int (nI n)), (4, .int wr)]) hx hb dX1_hit_55 hl (by decide) rfl (fun ls hl => ?_)
      refine lv_aload_n hx hb dX1_hit_57 rfl (lv_at hl 3 rfl) ?_
      refine g1_0 hx hb hts hown G dX1_hit_58 ?_
      refine lv_iload hx hb dX1_hit_61 (lv_at hl 1 rfl) ?_
      refine l1_0 t hx hb G rfl (by omega) dX1_hit_63 ?_
      refine lv_aload_n hx hb dX1_hit_64 rfl (lv_at hl 3 rfl) ?_
      refine g1_1 hx hb hts hown G dX1_hit_65 ?_
      refine lv_iload hx hb dX1_hit_68 (lv_at hl 1 rfl) ?_
      refine l1_1 t hx hb G rfl (by omega) dX1_hit_70 ?_
      refine lv_icmp_eq (tgt := 77) hx hb dX1_hit_71 (by decide) (fun c_71 => ?_) (fun c_71 => ?_)
      · refine lv_iinc (v := nI (t + 1)) (lv' := [(7, .int (nI (t + 1))), (5, .int 1), (6, .int q), (0, .ref h0), (1, .int (nI w)), (2, .int (nI a)), (3, .int (nI n)), (4, .int wr)]) hx hb dX1_hit_77 hl (k := 1) rfl (nI_1 t) (by decide) rfl (fun ls hl => ?_)
        refine lv_goto (tgt := 29) hx hb dX1_hit_80 (by decide) ?_
        exact ih (t + 1) _ _ (by omega) (by rw [hr, hitL, if_neg c_51, if_pos c_71]) H locs ls G (lv_sub hl [0, 2, 1, 3, 4, 5, 6, 7] rfl)
      · refine lv_iconst (v := 1) hx hb dX1_hit_74 (by decide) ?_
        refine lv_istore (lv' := [(6, .int 1), (5, .int 1), (7, .int (nI t)), (0, .ref h0), (1, .int (nI w)), (2, .int (nI a)), (3, .int (nI n)), (4, .int wr)]) hx hb dX1_hit_75 hl (by decide) rfl (fun ls hl => ?_)
        refine lv_iinc (v := nI (t + 1)) (lv' := [(7, .int (nI (t + 1))), (6, .int 1), (5, .int 1), (0, .ref h0), (1, .int (nI w)), (2, .int (nI a)), (3, .int (nI n)), (4, .int wr)]) hx hb dX1_hit_77 hl (k := 2) rfl (nI_1 t) (by decide) rfl (fun ls hl => ?_)
        refine lv_goto (tgt := 29) hx hb dX1_hit_80 (by decide) ?_
        exact ih (t + 1) _ _ (by omega) (by rw [hr, hitL, if_neg c_51, if_neg c_71]) H locs ls G (lv_sub hl [0, 1, 2, 3, 4, 5, 6, 7] rfl)
set_option maxHeartbeats 2000000 in
theorem b1_hit {p : Program} {l : Launch} {e : Env} {s : State} {m : MethodId} {args : Array Value} {below : List Frame} {meth : Method} {c : Code} {Q : State → Prop} {D : va_G} {A : Nat → Prop} {h0 : Nat} {h : Nat → Nat} {ca : Nat → ClassId} (w a n : Nat) (wr : Int32) {σ : St} {H : Heap} {locs : List Loc} {ls : Array Slot} (hw : w < 8) (ha : a + n ≤ 40) (F : Fx p m c cX1_hit 8 s args RX1) (G : Wd1 D s A h0 h ca σ H locs) (hl : lv_has ls 8 [(0, .ref h0), (1, .int (nI w)), (2, .int (nI a)), (3, .int (nI n)), (4, .int wr)]) (hret : RetI1 p l e rm1_hit s m args below meth c cX1_hit Q D A h0 h ca (hitM σ w a n wr, σ)) : W p l e rm1_hit s m args below meth c H locs 0 0 Q (F0 m 0 ls []) := by
  have F1 := F
  obtain ⟨hx, hb, hml, hown, hts⟩ := F1
  refine lv_aload_n hx hb dX1_hit_0 rfl (lv_at hl 0 rfl) ?_
  refine g1_2 hx hb hts hown G dX1_hit_1 ?_
  refine lv_iload_n hx hb dX1_hit_4 rfl (lv_at hl 1 rfl) ?_
  refine l1_2 w hx hb G rfl (by omega) dX1_hit_5 ?_
  refine lv_if_eq (tgt := 18) hx hb dX1_hit_6 (by decide) (fun c_6 => ?_) (fun c_6 => ?_)
  · refine lv_iconst (v := 0) hx hb dX1_hit_18 (by decide) ?_
    exact hret _ _ _ _ _ _ G (by unfold hitM; rw [if_pos c_6]) dX1_hit_19
  · refine lv_aload_n hx hb dX1_hit_9 rfl (lv_at hl 0 rfl) ?_
    refine g1_6 hx hb hts hown G dX1_hit_10 ?_
    refine lv_iload_n hx hb dX1_hit_13 rfl (lv_at hl 1 rfl) ?_
    refine l1_6 w hx hb G rfl (by omega) dX1_hit_14 ?_
    refine lv_if_eq (tgt := 20) hx hb dX1_hit_15 (by decide) (fun c_15 => ?_) (fun c_15 => ?_)
    · refine lv_iconst (v := 0) hx hb dX1_hit_20 (by decide) ?_
      refine lv_istore (lv' := [(5, .int 0), (0, .ref h0), (1, .int (nI w)), (2, .int (nI a)), (3, .int (nI n)), (4, .int wr)]) hx hb dX1_hit_21 hl (by decide) rfl (fun ls hl => ?_)
      refine lv_iconst (v := 0) hx hb dX1_hit_23 (by decide) ?_
      refine lv_istore (lv' := [(6, .int 0), (5, .int 0), (0, .ref h0), (1, .int (nI w)), (2, .int (nI a)), (3, .int (nI n)), (4, .int wr)]) hx hb dX1_hit_24 hl (by decide) rfl (fun ls hl => ?_)
      refine lv_iload_n hx hb dX1_hit_26 rfl (lv_at hl 4 rfl) ?_
      refine lv_istore (lv' := [(7, .int (nI a)), (6, .int 0), (5, .int 0), (0, .ref h0), (1, .int (nI w)), (2, .int (nI a)), (3, .int (nI n)), (4, .int wr)]) hx hb dX1_hit_27 hl (by decide) rfl (fun ls hl => ?_)
      exact q1_hit F hw ha hret n a 0 0 (by omega) (by unfold hitM; rw [if_neg c_6, if_pos c_15]) H locs ls G hl
    · refine lv_iconst (v := 0) hx hb dX1_hit_18 (by decide) ?_
      exact hret _ _ _ _ _ _ G (by unfold hitM; rw [if_neg c_6, if_neg c_15]) dX1_hit_19
theorem hitL_01 (σ : St) (w : Nat) : ∀ d t p q, (p = 0 ∨ p = 1) → ((hitL σ w d t p q).1 = 0 ∨ (hitL σ w d t p q).1 = 1)
  | 0, _, _, _, h => h
  | d + 1, t, p, q, h => by
    rw [hitL]
    split
    · exact hitL_01 σ w d (t + 1) p q h
    · split
      · exact hitL_01 σ w d (t + 1) 1 q (Or.inr rfl)
      · exact hitL_01 σ w d (t + 1) 1 1 (Or.inr rfl)
theorem hitE_01 (σ : St) (w : Nat) (p q wr : Int32) (h : p = 0 ∨ p = 1) : hitE σ w p q wr = 0 ∨ hitE σ w p q wr = 1 := by
  unfold hitE
  repeat' split
  all_goals first | exact Or.inl rfl | exact Or.inr rfl | exact h
theorem hit_01 (σ : St) (w a n : Nat) (wr : Int32) : hitM σ w a n wr = 0 ∨ hitM σ w a n wr = 1 := by
  unfold hitM
  split
  · exact Or.inl rfl
  · split
    · exact hitE_01 _ _ _ _ _ (hitL_01 σ w n a 0 0 (Or.inl rfl))
    · exact Or.inl rfl
theorem c1_hit (l : Launch) (σ : St) (w a n : Nat) (wr : Int32) (hw : w < 8) (ha : a + n ≤ 40) : C1 l yX1_hit cX1_hit 8 (some .boolean) rm1_hit [.int (nI w), .int (nI a), .int (nI n), .int wr] σ (hitM σ w a n wr, σ) := C1.of (by decide) rfl (fun _ => Nat.le_of_ble_eq_true rfl) (nar_01 (hit_01 σ w a n wr)) (fun p e s m args below meth c Q D A h0 h ca ls F G hl hret => b1_hit w a n wr hw ha F G hl hret)
def numL (σ : St) (a : Nat) (nw : Int32) : Nat → Int32
  | 0 => 0
  | k + 1 => numL σ a nw k ||| ((if nw = 0 then (σ.1 1 (a + k)) else (σ.1 0 (a + k))) <<< ((8 * nI k) &&& 31))
set_option maxHeartbeats 2000000 in
theorem q1_number {p : Program} {l : Launch} {e : Env} {R : Room} {s : State} {m : MethodId} {args : Array Value} {below : List Frame} {meth : Method} {c : Code} {Q : State → Prop} {D : va_G} {A : Nat → Prop} {h0 : Nat} {h : Nat → Nat} {ca : Nat → ClassId} {a n : Nat} {nw : Int32} (F : Fx p m c cX1_number 7 s args RX1) {σ : St} {H : Heap} {locs : List Loc} (G : Wd1 D s A h0 h ca σ H locs) (ha : a + n ≤ 40) (hret : RetI1 p l e R s m args below meth c cX1_number Q D A h0 h ca (numL σ a nw n, σ)) : ∀ (d k : Nat), k + d = n → ∀ (ls : Array Slot), lv_has ls 7 [(5, .int (nI k)), (4, .int (numL σ a nw k)), (0, .ref h0), (1, .int (nI a)), (2, .int (nI n)), (3, .int nw)] → W p l e R s m args below meth c H locs 0 0 Q (F0 m 6 ls []) := by
  have F1 := F
  obtain ⟨hx, hb, hml, hown, hts⟩ := F1
  intro d
  induction d with
  | zero =>
    intro k hk ls hl
    refine lv_iload hx hb dX1_number_6 (lv_at hl 0 rfl) ?_
    refine lv_iload_n hx hb dX1_number_8 rfl (lv_at hl 4 rfl) ?_
    refine lv_icmp_ge (tgt := 58) hx hb dX1_number_9 (by decide) (fun _ => ?_) (fun c_9 => absurd (nI_le (by omega) (by omega)) c_9)
    refine lv_iload hx hb dX1_number_58 (lv_at hl 1 rfl) ?_
    exact hret _ _ _ _ _ _ G (by rw [show n = k by omega]) dX1_number_60
  | succ d ih =>
    intro k hk ls hl
    refine lv_iload hx hb dX1_number_6 (lv_at hl 0 rfl) ?_
    refine lv_iload_n hx hb dX1_number_8 rfl (lv_at hl 4 rfl) ?_
    refine lv_icmp_ge (tgt := 58) hx hb dX1_number_9 (by decide) (fun c_9 => absurd c_9 (nI_ge (by omega) (by omega))) (fun _ => ?_)
    refine lv_iload_n hx hb dX1_number_12 rfl (lv_at hl 5 rfl) ?_
    refine lv_cut (J := 37) (rest := []) (if nw = 0 then (σ.1 1 (a + k)) else (σ.1 0 (a + k))) (fun kj => ?_) ?_
    · refine lv_if_eq (tgt := 28) hx hb dX1_number_13 (by decide) (fun c_13 => ?_) (fun c_13 => ?_)
      · refine lv_aload_n hx hb dX1_number_28 rfl (lv_at hl 2 rfl) ?_
        refine g1_1 hx hb hts hown G dX1_number_29 ?_
        refine lv_iload_n hx hb dX1_number_32 rfl (lv_at hl 3 rfl) ?_
        refine lv_iload hx hb dX1_number_33 (lv_at hl 0 rfl) ?_
        refine lv_iadd hx hb dX1_number_35 ?_
        refine l1_1 (a + k) hx hb G (nI_add a k) (by omega) dX1_number_36 ?_
        exact kj _ (by rw [if_pos c_13])
      · refine lv_aload_n hx hb dX1_number_16 rfl (lv_at hl 2 rfl) ?_
        refine g1_0 hx hb hts hown G dX1_number_17 ?_
        refine lv_iload_n hx hb dX1_number_20 rfl (lv_at hl 3 rfl) ?_
        refine lv_iload hx hb dX1_number_21 (lv_at hl 0 rfl) ?_
        refine lv_iadd hx hb dX1_number_23 ?_
        refine l1_0 (a + k) hx hb G (nI_add a k) (by omega) dX1_number_24 ?_
        refine lv_goto (tgt := 37) hx hb dX1_number_25 (by decide) ?_
        exact kj _ (by rw [if_neg c_13])
    refine lv_istore (lv' := [(6, .int (if nw = 0 then (σ.1 1 (a + k)) else (σ.1 0 (a + k)))), (5, .int (nI k)), (4, .int (numL σ a nw k)), (0, .ref h0), (1, .int (nI a)), (2, .int (nI n)), (3, .int nw)]) hx hb dX1_number_37 hl (by decide) rfl (fun ls hl => ?_)
    refine lv_iload hx hb dX1_number_39 (lv_at hl 2 rfl) ?_
    refine lv_iload hx hb dX1_number_41 (lv_at hl 0 rfl) ?_
    refine lv_bipush (v := 8) hx hb dX1_number_43 (by decide) ?_
    refine lv_iload hx hb dX1_number_45 (lv_at hl 1 rfl) ?_
    refine lv_imul hx hb dX1_number_47 ?_
    refine lv_ishl hx hb dX1_number_48 ?_
    refine lv_ior hx hb dX1_number_49 ?_
    refine lv_ren rfl ?_
    refine lv_istore (lv' := [(4, .int (numL σ a nw (k + 1))), (6, .int (if nw = 0 then (σ.1 1 (a + k)) else (σ.1 0 (a + k)))), (5, .int (nI k)), (0, .ref h0), (1, .int (nI a)), (2, .int (nI n)), (3, .int nw)]) hx hb dX1_number_50 hl (by decide) rfl (fun ls hl => ?_)
    refine lv_iinc (v := nI (k + 1)) (lv' := [(5, .int (nI (k + 1))), (4, .int (numL σ a nw (k + 1))), (6, .int (if nw = 0 then (σ.1 1 (a + k)) else (σ.1 0 (a + k)))), (0, .ref h0), (1, .int (nI a)), (2, .int (nI n)), (3, .int nw)]) hx hb dX1_number_52 hl (k := 2) rfl (nI_1 k) (by decide) rfl (fun ls hl => ?_)
    refine lv_goto (tgt := 6) hx hb dX1_number_55 (by decide) ?_
    exact ih (k + 1) (by omega) ls (lv_sub hl [0, 1, 3, 4, 5, 6] rfl)
set_option maxHeartbeats 2000000 in
theorem b1_number {p : Program} {l : Launch} {e : Env} {R : Room} {s : State} {m : MethodId} {args : Array Value} {below : List Frame} {meth : Method} {c : Code} {Q : State → Prop} {D : va_G} {A : Nat → Prop} {h0 : Nat} {h : Nat → Nat} {ca : Nat → ClassId} (a n : Nat) (nw : Int32) {σ : St} {H : Heap} {locs : List Loc} {ls : Array Slot} (ha : a + n ≤ 40) (F : Fx p m c cX1_number 7 s args RX1) (G : Wd1 D s A h0 h ca σ H locs) (hl : lv_has ls 7 [(0, .ref h0), (1, .int (nI a)), (2, .int (nI n)), (3, .int nw)]) (hret : RetI1 p l e R s m args below meth c cX1_number Q D A h0 h ca (numL σ a nw n, σ)) : W p l e R s m args below meth c H locs 0 0 Q (F0 m 0 ls []) := by
  have F1 := F
  obtain ⟨hx, hb, hml, hown, hts⟩ := F1
  refine lv_iconst (v := 0) hx hb dX1_number_0 (by decide) ?_
  refine lv_istore (lv' := [(4, .int 0), (0, .ref h0), (1, .int (nI a)), (2, .int (nI n)), (3, .int nw)]) hx hb dX1_number_1 hl (by decide) rfl (fun ls hl => ?_)
  refine lv_iconst (v := 0) hx hb dX1_number_3 (by decide) ?_
  refine lv_istore (lv' := [(5, .int 0), (4, .int 0), (0, .ref h0), (1, .int (nI a)), (2, .int (nI n)), (3, .int nw)]) hx hb dX1_number_4 hl (by decide) rfl (fun ls hl => ?_)
  exact q1_number F G ha hret n 0 (by omega) ls hl
theorem c1_number (l : Launch) (σ : St) (a n : Nat) (nw : Int32) (ha : a + n ≤ 40) : C1 l yX1_number cX1_number 7 (some .int) rm1_number [.int (nI a), .int (nI n), .int nw] σ (numL σ a nw n, σ) := C1.of (by decide) rfl (fun _ => Nat.le_of_ble_eq_true rfl) rfl (fun p e s m args below meth c Q D A h0 h ca ls F G hl hret => b1_number a n nw ha F G hl hret)
def shS (σ : St) (j : Nat) : St := sA (sA (sA (sA (sA σ 12 (j + 1) (σ.1 12 j)) 13 (j + 1) ((sA σ 12 (j + 1) (σ.1 12 j)).1 13 j)) 14 (j + 1) ((sA (sA σ 12 (j + 1) (σ.1 12 j)) 13 (j + 1) ((sA σ 12 (j + 1) (σ.1 12 j)).1 13 j)).1 14 j)) 15 (j + 1) ((sA (sA (sA σ 12 (j + 1) (σ.1 12 j)) 13 (j + 1) ((sA σ 12 (j + 1) (σ.1 12 j)).1 13 j)) 14 (j + 1) ((sA (sA σ 12 (j + 1) (σ.1 12 j)) 13 (j + 1) ((sA σ 12 (j + 1) (σ.1 12 j)).1 13 j)).1 14 j)).1 15 j)) 16 (j + 1) ((sA (sA (sA (sA σ 12 (j + 1) (σ.1 12 j)) 13 (j + 1) ((sA σ 12 (j + 1) (σ.1 12 j)).1 13 j)) 14 (j + 1) ((sA (sA σ 12 (j + 1) (σ.1 12 j)) 13 (j + 1) ((sA σ 12 (j + 1) (σ.1 12 j)).1 13 j)).1 14 j)) 15 (j + 1) ((sA (sA (sA σ 12 (j + 1) (σ.1 12 j)) 13 (j + 1) ((sA σ 12 (j + 1) (σ.1 12 j)).1 13 j)) 14 (j + 1) ((sA (sA σ 12 (j + 1) (σ.1 12 j)) 13 (j + 1) ((sA σ 12 (j + 1) (σ.1 12 j)).1 13 j)).1 14 j)).1 15 j)).1 16 j)
def kpE (σ : St) (z : Int32) (a n : Nat) : St := (if 8 ≤ ((sV (sA (sA (sA (sA (sA σ 12 0 z) 13 0 (nI a)) 14 0 ((sA (sA σ 12 0 z) 13 0 (nI a)).2 9)) 15 0 (numL (sA (sA (sA σ 12 0 z) 13 0 (nI a)) 14 0 ((sA (sA σ 12 0 z) 13 0 (nI a)).2 9)) a 0 n)) 16 0 (numL (sA (sA (sA (sA σ 12 0 z) 13 0 (nI a)) 14 0 ((sA (sA σ 12 0 z) 13 0 (nI a)).2 9)) 15 0 (numL (sA (sA (sA σ 12 0 z) 13 0 (nI a)) 14 0 ((sA (sA σ 12 0 z) 13 0 (nI a)).2 9)) a 0 n)) a 1 n)) 10 (((sA (sA (sA (sA (sA σ 12 0 z) 13 0 (nI a)) 14 0 ((sA (sA σ 12 0 z) 13 0 (nI a)).2 9)) 15 0 (numL (sA (sA (sA σ 12 0 z) 13 0 (nI a)) 14 0 ((sA (sA σ 12 0 z) 13 0 (nI a)).2 9)) a 0 n)) 16 0 (numL (sA (sA (sA (sA σ 12 0 z) 13 0 (nI a)) 14 0 ((sA (sA σ 12 0 z) 13 0 (nI a)).2 9)) 15 0 (numL (sA (sA (sA σ 12 0 z) 13 0 (nI a)) 14 0 ((sA (sA σ 12 0 z) 13 0 (nI a)).2 9)) a 0 n)) a 1 n)).2 10) + 1)).2 11) then (sV (sA (sA (sA (sA (sA σ 12 0 z) 13 0 (nI a)) 14 0 ((sA (sA σ 12 0 z) 13 0 (nI a)).2 9)) 15 0 (numL (sA (sA (sA σ 12 0 z) 13 0 (nI a)) 14 0 ((sA (sA σ 12 0 z) 13 0 (nI a)).2 9)) a 0 n)) 16 0 (numL (sA (sA (sA (sA σ 12 0 z) 13 0 (nI a)) 14 0 ((sA (sA σ 12 0 z) 13 0 (nI a)).2 9)) 15 0 (numL (sA (sA (sA σ 12 0 z) 13 0 (nI a)) 14 0 ((sA (sA σ 12 0 z) 13 0 (nI a)).2 9)) a 0 n)) a 1 n)) 10 (((sA (sA (sA (sA (sA σ 12 0 z) 13 0 (nI a)) 14 0 ((sA (sA σ 12 0 z) 13 0 (nI a)).2 9)) 15 0 (numL (sA (sA (sA σ 12 0 z) 13 0 (nI a)) 14 0 ((sA (sA σ 12 0 z) 13 0 (nI a)).2 9)) a 0 n)) 16 0 (numL (sA (sA (sA (sA σ 12 0 z) 13 0 (nI a)) 14 0 ((sA (sA σ 12 0 z) 13 0 (nI a)).2 9)) 15 0 (numL (sA (sA (sA σ 12 0 z) 13 0 (nI a)) 14 0 ((sA (sA σ 12 0 z) 13 0 (nI a)).2 9)) a 0 n)) a 1 n)).2 10) + 1)) else (sV (sV (sA (sA (sA (sA (sA σ 12 0 z) 13 0 (nI a)) 14 0 ((sA (sA σ 12 0 z) 13 0 (nI a)).2 9)) 15 0 (numL (sA (sA (sA σ 12 0 z) 13 0 (nI a)) 14 0 ((sA (sA σ 12 0 z) 13 0 (nI a)).2 9)) a 0 n)) 16 0 (numL (sA (sA (sA (sA σ 12 0 z) 13 0 (nI a)) 14 0 ((sA (sA σ 12 0 z) 13 0 (nI a)).2 9)) 15 0 (numL (sA (sA (sA σ 12 0 z) 13 0 (nI a)) 14 0 ((sA (sA σ 12 0 z) 13 0 (nI a)).2 9)) a 0 n)) a 1 n)) 10 (((sA (sA (sA (sA (sA σ 12 0 z) 13 0 (nI a)) 14 0 ((sA (sA σ 12 0 z) 13 0 (nI a)).2 9)) 15 0 (numL (sA (sA (sA σ 12 0 z) 13 0 (nI a)) 14 0 ((sA (sA σ 12 0 z) 13 0 (nI a)).2 9)) a 0 n)) 16 0 (numL (sA (sA (sA (sA σ 12 0 z) 13 0 (nI a)) 14 0 ((sA (sA σ 12 0 z) 13 0 (nI a)).2 9)) 15 0 (numL (sA (sA (sA σ 12 0 z) 13 0 (nI a)) 14 0 ((sA (sA σ 12 0 z) 13 0 (nI a)).2 9)) a 0 n)) a 1 n)).2 10) + 1)) 11 (((sV (sA (sA (sA (sA (sA σ 12 0 z) 13 0 (nI a)) 14 0 ((sA (sA σ 12 0 z) 13 0 (nI a)).2 9)) 15 0 (numL (sA (sA (sA σ 12 0 z) 13 0 (nI a)) 14 0 ((sA (sA σ 12 0 z) 13 0 (nI a)).2 9)) a 0 n)) 16 0 (numL (sA (sA (sA (sA σ 12 0 z) 13 0 (nI a)) 14 0 ((sA (sA σ 12 0 z) 13 0 (nI a)).2 9)) 15 0 (numL (sA (sA (sA σ 12 0 z) 13 0 (nI a)) 14 0 ((sA (sA σ 12 0 z) 13 0 (nI a)).2 9)) a 0 n)) a 1 n)) 10 (((sA (sA (sA (sA (sA σ 12 0 z) 13 0 (nI a)) 14 0 ((sA (sA σ 12 0 z) 13 0 (nI a)).2 9)) 15 0 (numL (sA (sA (sA σ 12 0 z) 13 0 (nI a)) 14 0 ((sA (sA σ 12 0 z) 13 0 (nI a)).2 9)) a 0 n)) 16 0 (numL (sA (sA (sA (sA σ 12 0 z) 13 0 (nI a)) 14 0 ((sA (sA σ 12 0 z) 13 0 (nI a)).2 9)) 15 0 (numL (sA (sA (sA σ 12 0 z) 13 0 (nI a)) 14 0 ((sA (sA σ 12 0 z) 13 0 (nI a)).2 9)) a 0 n)) a 1 n)).2 10) + 1)).2 11) + 1)))
def shf : Nat → St → St
  | 0, τ => τ
  | j + 1, τ => shf j (shS τ j)
def keepM (σ : St) (z : Int32) (a n : Nat) : St := kpE (shf 7 σ) z a n
set_option maxHeartbeats 2000000 in
theorem q1_keep {p : Program} {l : Launch} {e : Env} {s : State} {m : MethodId} {args : Array Value} {below : List Frame} {meth : Method} {c : Code} {Q : State → Prop} {D : va_G} {A : Nat → Prop} {h0 : Nat} {h : Nat → Nat} {ca : Nat → ClassId} {z : Int32} {a n : Nat} (F : Fx p m c cX1_keep 5 s args RX1) (ha : a + n ≤ 40) {r : St} (hret : RetV1 p l e rm1_keep s m args below meth c cX1_keep Q D A h0 h ca r) : ∀ (j : Nat), j ≤ 7 → ∀ (τ : St), r = kpE (shf j τ) z a n → ∀ (H : Heap) (locs : List Loc) (ls : Array Slot), Wd1 D s A h0 h ca τ H locs → lv_has ls 5 [(4, .int (nI j)), (0, .ref h0), (1, .int z), (2, .int (nI a)), (3, .int (nI n))] → W p l e rm1_keep s m args below meth c H locs 0 0 Q (F0 m 4 ls []) := by
  have F1 := F
  obtain ⟨hx, hb, hml, hown, hts⟩ := F1
  intro j
  induction j with
  | zero =>
    intro hj τ hr H locs ls G hl
    refine lv_iload hx hb dX1_keep_4 (lv_at hl 0 rfl) ?_
    refine lv_if_le (tgt := 95) hx hb dX1_keep_6 (by decide) (fun _ => ?_) (fun c_6 => absurd (by decide) c_6)
    refine lv_aload_n hx hb dX1_keep_95 rfl (lv_at hl 1 rfl) ?_
    refine g1_12 hx hb hts hown G dX1_keep_96 ?_
    refine lv_iconst (v := 0) hx hb dX1_keep_99 (by decide) ?_
    refine lv_iload_n hx hb dX1_keep_100 rfl (lv_at hl 2 rfl) ?_
    refine a1_12 0 hx hb G rfl (by decide) dX1_keep_101 (fun H locs G => ?_)
    refine lv_aload_n hx hb dX1_keep_102 rfl (lv_at hl 1 rfl) ?_
    refine g1_13 hx hb hts hown G dX1_keep_103 ?_
    refine lv_iconst (v := 0) hx hb dX1_keep_106 (by decide) ?_
    refine lv_iload_n hx hb dX1_keep_107 rfl (lv_at hl 3 rfl) ?_
    refine a1_13 0 hx hb G rfl (by decide) dX1_keep_108 (fun H locs G => ?_)
    refine lv_aload_n hx hb dX1_keep_109 rfl (lv_at hl 1 rfl) ?_
    refine g1_14 hx hb hts hown G dX1_keep_110 ?_
    refine lv_iconst (v := 0) hx hb dX1_keep_113 (by decide) ?_
    refine lv_aload_n hx hb dX1_keep_114 rfl (lv_at hl 1 rfl) ?_
    refine g1_9 hx hb hts hown G dX1_keep_115 ?_
    refine a1_14 0 hx hb G rfl (by decide) dX1_keep_118 (fun H locs G => ?_)
    refine lv_aload_n hx hb dX1_keep_119 rfl (lv_at hl 1 rfl) ?_
    refine g1_15 hx hb hts hown G dX1_keep_120 ?_
    refine lv_iconst (v := 0) hx hb dX1_keep_123 (by decide) ?_
    refine lv_aload_n hx hb dX1_keep_124 rfl (lv_at hl 1 rfl) ?_
    refine lv_iload_n hx hb dX1_keep_125 rfl (lv_at hl 3 rfl) ?_
    refine lv_iload_n hx hb dX1_keep_126 rfl (lv_at hl 4 rfl) ?_
    refine lv_iconst (v := 0) hx hb dX1_keep_127 (by decide) ?_
    refine call1I (av := [.int (nI a), .int (nI n), .int 0]) (rest := [.int 0, .ref (h 15)]) hx hb hml hts hown (c1_number l (sA (sA (sA τ 12 0 z) 13 0 (nI a)) 14 0 ((sA (sA τ 12 0 z) 13 0 (nI a)).2 9)) a n 0 ha) (cw1_number hts ⟨Nat.le_of_ble_eq_true rfl, Nat.le_of_ble_eq_true rfl⟩) G rfl hl.1 rfl (Nat.le_of_ble_eq_true rfl) dX1_keep_128 ⟨Nat.zero_le _, Nat.zero_le _⟩ (fun H locs G => ?_)
    refine a1_15 0 hx hb G rfl (by decide) dX1_keep_131 (fun H locs G => ?_)
    refine lv_aload_n hx hb dX1_keep_132 rfl (lv_at hl 1 rfl) ?_
    refine g1_16 hx hb hts hown G dX1_keep_133 ?_
    refine lv_iconst (v := 0) hx hb dX1_keep_136 (by decide) ?_
    refine lv_aload_n hx hb dX1_keep_137 rfl (lv_at hl 1 rfl) ?_
    refine lv_iload_n hx hb dX1_keep_138 rfl (lv_at hl 3 rfl) ?_
    refine lv_iload_n hx hb dX1_keep_139 rfl (lv_at hl 4 rfl) ?_
    refine lv_iconst (v := 1) hx hb dX1_keep_140 (by decide) ?_
    refine call1I (av := [.int (nI a), .int (nI n), .int 1]) (rest := [.int 0, .ref (h 16)]) hx hb hml hts hown (c1_number l (sA (sA (sA (sA τ 12 0 z) 13 0 (nI a)) 14 0 ((sA (sA τ 12 0 z) 13 0 (nI a)).2 9)) 15 0 (numL (sA (sA (sA τ 12 0 z) 13 0 (nI a)) 14 0 ((sA (sA τ 12 0 z) 13 0 (nI a)).2 9)) a 0 n)) a n 1 ha) (cw1_number hts ⟨Nat.le_of_ble_eq_true rfl, Nat.le_of_ble_eq_true rfl⟩) G rfl hl.1 rfl (Nat.le_of_ble_eq_true rfl) dX1_keep_141 ⟨Nat.zero_le _, Nat.zero_le _⟩ (fun H locs G => ?_)
    refine a1_16 0 hx hb G rfl (by decide) dX1_keep_144 (fun H locs G => ?_)
    refine lv_aload_n hx hb dX1_keep_145 rfl (lv_at hl 1 rfl) ?_
    refine lv_dup hx hb dX1_keep_146 rfl ?_
    refine g1_10 hx hb hts hown G dX1_keep_147 ?_
    refine lv_iconst (v := 1) hx hb dX1_keep_150 (by decide) ?_
    refine lv_iadd hx hb dX1_keep_151 ?_
    refine p1_10 hx hb hts hown G dX1_keep_152 (fun H locs G => ?_)
    refine lv_aload_n hx hb dX1_keep_155 rfl (lv_at hl 1 rfl) ?_
    refine g1_11 hx hb hts hown G dX1_keep_156 ?_
    refine lv_bipush (v := 8) hx hb dX1_keep_159 (by decide) ?_
    refine lv_icmp_ge (tgt := 174) hx hb dX1_keep_161 (by decide) (fun c_161 => ?_) (fun c_161 => ?_)
    · exact hret _ _ _ _ _ G (by rw [hr, shf, kpE, if_pos c_161]) dX1_keep_174
    · refine lv_aload_n hx hb dX1_keep_164 rfl (lv_at hl 1 rfl) ?_
      refine lv_dup hx hb dX1_keep_165 rfl ?_
      refine g1_11 hx hb hts hown G dX1_keep_166 ?_
      refine lv_iconst (v := 1) hx hb dX1_keep_169 (by decide) ?_
      refine lv_iadd hx hb dX1_keep_170 ?_
      refine p1_11 hx hb hts hown G dX1_keep_171 (fun H locs G => ?_)
      exact hret _ _ _ _ _ G (by rw [hr, shf, kpE, if_neg c_161]) dX1_keep_174
  | succ j ih =>
    intro hj τ hr H locs ls G hl
    refine lv_iload hx hb dX1_keep_4 (lv_at hl 0 rfl) ?_
    refine lv_if_le (tgt := 95) hx hb dX1_keep_6 (by decide) (fun c_6 => absurd c_6 (nI_nle (by omega) (by omega))) (fun _ => ?_)
    refine lv_aload_n hx hb dX1_keep_9 rfl (lv_at hl 1 rfl) ?_
    refine g1_12 hx hb hts hown G dX1_keep_10 ?_
    refine lv_iload hx hb dX1_keep_13 (lv_at hl 0 rfl) ?_
    refine lv_aload_n hx hb dX1_keep_15 rfl (lv_at hl 1 rfl) ?_
    refine g1_12 hx hb hts hown G dX1_keep_16 ?_
    refine lv_iload hx hb dX1_keep_19 (lv_at hl 0 rfl) ?_
    refine lv_iconst (v := 1) hx hb dX1_keep_21 (by decide) ?_
    refine lv_isub hx hb dX1_keep_22 ?_
    refine l1_12 j hx hb G (nI_pred j) (by omega) dX1_keep_23 ?_
    refine a1_12 (j + 1) hx hb G rfl (by omega) dX1_keep_24 (fun H locs G => ?_)
    refine lv_aload_n hx hb dX1_keep_25 rfl (lv_at hl 1 rfl) ?_
    refine g1_13 hx hb hts hown G dX1_keep_26 ?_
    refine lv_iload hx hb dX1_keep_29 (lv_at hl 0 rfl) ?_
    refine lv_aload_n hx hb dX1_keep_31 rfl (lv_at hl 1 rfl) ?_
    refine g1_13 hx hb hts hown G dX1_keep_32 ?_
    refine lv_iload hx hb dX1_keep_35 (lv_at hl 0 rfl) ?_
    refine lv_iconst (v := 1) hx hb dX1_keep_37 (by decide) ?_
    refine lv_isub hx hb dX1_keep_38 ?_
    refine l1_13 j hx hb G (nI_pred j) (by omega) dX1_keep_39 ?_
    refine a1_13 (j + 1) hx hb G rfl (by omega) dX1_keep_40 (fun H locs G => ?_)
    refine lv_aload_n hx hb dX1_keep_41 rfl (lv_at hl 1 rfl) ?_
    refine g1_14 hx hb hts hown G dX1_keep_42 ?_
    refine lv_iload hx hb dX1_keep_45 (lv_at hl 0 rfl) ?_
    refine lv_aload_n hx hb dX1_keep_47 rfl (lv_at hl 1 rfl) ?_
    refine g1_14 hx hb hts hown G dX1_keep_48 ?_
    refine lv_iload hx hb dX1_keep_51 (lv_at hl 0 rfl) ?_
    refine lv_iconst (v := 1) hx hb dX1_keep_53 (by decide) ?_
    refine lv_isub hx hb dX1_keep_54 ?_
    refine l1_14 j hx hb G (nI_pred j) (by omega) dX1_keep_55 ?_
    refine a1_14 (j + 1) hx hb G rfl (by omega) dX1_keep_56 (fun H locs G => ?_)
    refine lv_aload_n hx hb dX1_keep_57 rfl (lv_at hl 1 rfl) ?_
    refine g1_15 hx hb hts hown G dX1_keep_58 ?_
    refine lv_iload hx hb dX1_keep_61 (lv_at hl 0 rfl) ?_
    refine lv_aload_n hx hb dX1_keep_63 rfl (lv_at hl 1 rfl) ?_
    refine g1_15 hx hb hts hown G dX1_keep_64 ?_
    refine lv_iload hx hb dX1_keep_67 (lv_at hl 0 rfl) ?_
    refine lv_iconst (v := 1) hx hb dX1_keep_69 (by decide) ?_
    refine lv_isub hx hb dX1_keep_70 ?_
    refine l1_15 j hx hb G (nI_pred j) (by omega) dX1_keep_71 ?_
    refine a1_15 (j + 1) hx hb G rfl (by omega) dX1_keep_72 (fun H locs G => ?_)
    refine lv_aload_n hx hb dX1_keep_73 rfl (lv_at hl 1 rfl) ?_
    refine g1_16 hx hb hts hown G dX1_keep_74 ?_
    refine lv_iload hx hb dX1_keep_77 (lv_at hl 0 rfl) ?_
    refine lv_aload_n hx hb dX1_keep_79 rfl (lv_at hl 1 rfl) ?_
    refine g1_16 hx hb hts hown G dX1_keep_80 ?_
    refine lv_iload hx hb dX1_keep_83 (lv_at hl 0 rfl) ?_
    refine lv_iconst (v := 1) hx hb dX1_keep_85 (by decide) ?_
    refine lv_isub hx hb dX1_keep_86 ?_
    refine l1_16 j hx hb G (nI_pred j) (by omega) dX1_keep_87 ?_
    refine a1_16 (j + 1) hx hb G rfl (by omega) dX1_keep_88 (fun H locs G => ?_)
    refine lv_iinc (v := nI j) (lv' := [(4, .int (nI j)), (0, .ref h0), (1, .int z), (2, .int (nI a)), (3, .int (nI n))]) hx hb dX1_keep_89 hl (k := 0) rfl (by rw [inc_m1]; exact nI_pred j) (by decide) rfl (fun ls hl => ?_)
    refine lv_goto (tgt := 4) hx hb dX1_keep_92 (by decide) ?_
    exact ih (by omega) (shS τ j) (by rw [hr, shf]) H locs ls G hl
set_option maxHeartbeats 2000000 in
theorem b1_keep {p : Program} {l : Launch} {e : Env} {s : State} {m : MethodId} {args : Array Value} {below : List Frame} {meth : Method} {c : Code} {Q : State → Prop} {D : va_G} {A : Nat → Prop} {h0 : Nat} {h : Nat → Nat} {ca : Nat → ClassId} (z : Int32) (a n : Nat) {σ : St} {H : Heap} {locs : List Loc} {ls : Array Slot} (ha : a + n ≤ 40) (F : Fx p m c cX1_keep 5 s args RX1) (G : Wd1 D s A h0 h ca σ H locs) (hl : lv_has ls 5 [(0, .ref h0), (1, .int z), (2, .int (nI a)), (3, .int (nI n))]) (hret : RetV1 p l e rm1_keep s m args below meth c cX1_keep Q D A h0 h ca (keepM σ z a n)) : W p l e rm1_keep s m args below meth c H locs 0 0 Q (F0 m 0 ls []) := by
  have F1 := F
  obtain ⟨hx, hb, hml, hown, hts⟩ := F1
  refine lv_bipush (v := 7) hx hb dX1_keep_0 (by decide) ?_
  refine lv_istore (lv' := [(4, .int 7), (0, .ref h0), (1, .int z), (2, .int (nI a)), (3, .int (nI n))]) hx hb dX1_keep_2 hl (by decide) rfl (fun ls hl => ?_)
  exact q1_keep F ha hret 7 (by omega) σ rfl H locs ls G hl
theorem c1_keep (l : Launch) (σ : St) (z : Int32) (a n : Nat) (ha : a + n ≤ 40) : V1 l yX1_keep cX1_keep 5 rm1_keep [.int z, .int (nI a), .int (nI n)] σ (keepM σ z a n) := V1.of (by decide) rfl (fun _ => Nat.le_of_ble_eq_true rfl) (fun p e s m args below meth c Q D A h0 h ca ls F G hl hret => b1_keep z a n ha F G hl hret)
def cpy (σ : St) : Nat → St
  | 0 => σ
  | k + 1 => sA (cpy σ k) 1 k ((cpy σ k).1 0 k)
def mw (σ : St) (a : Nat) (wr v : Int32) : Nat → St
  | 0 => σ
  | k + 1 => if wr = 0 then mw σ a wr v k else sA (mw σ a wr v k) 0 (a + k) ((v >>> ((8 * nI k) &&& 31)) &&& 255)
def hpM (a n : Nat) (wr : Int32) (τ : St) (w : Nat) : Int32 := hitM τ w a n wr
def accE (q : St × Int32 × Int32) (a n : Nat) : Int32 × St := if q.2.1 = 0 then (q.2.1, q.1) else (q.2.1, keepM q.1 q.2.1 a n)
def accI (σ : St) : St := sV σ 9 (σ.2 9 + 1)
def accT (τ : St) (a n : Nat) (wr : Int32) : Int32 × St := accE (accL (hpM a n wr) 7 8 τ 8) a n
def accM (σ : St) (a n : Nat) (wr v : Int32) : Int32 × St := accT (accI (mw (cpy σ 40) a wr v n)) a n wr
set_option maxHeartbeats 2000000 in
theorem q1_access3 {p : Program} {l : Launch} {e : Env} {s : State} {m : MethodId} {args : Array Value} {below : List Frame} {meth : Method} {c : Code} {Q : State → Prop} {D : va_G} {A : Nat → Prop} {h0 : Nat} {h : Nat → Nat} {ca : Nat → ClassId} {a n : Nat} {wr v : Int32} (F : Fx p m c cX1_access 7 s args RX1) {τ : St} (ha : a + n ≤ 40) (hret : RetI1 p l e rm1_access s m args below meth c cX1_access Q D A h0 h ca (accE (accL (hpM a n wr) 7 8 τ 8) a n)) : ∀ (d w : Nat), w + d = 8 → ∀ (q : St × Int32 × Int32), q = accL (hpM a n wr) 7 8 τ w → ∀ (H : Heap) (locs : List Loc) (ls : Array Slot), Wd1 D s A h0 h ca q.1 H locs → lv_has ls 7 [(6, .int (nI w)), (5, .int q.2.1), (0, .ref h0), (1, .int (nI a)), (2, .int (nI n)), (3, .int wr), (4, .int v)] → W p l e rm1_access s m args below meth c H locs 0 0 Q (F0 m 86 ls []) := by
  have F1 := F
  obtain ⟨hx, hb, hml, hown, hts⟩ := F1
  intro d
  induction d with
  | zero =>
    intro w hw q hq H locs ls G hl
    have e8 : accL (hpM a n wr) 7 8 τ 8 = q := by
      rw [hq, show w = 8 by omega]
    rw [e8] at hret
    refine lv_iload hx hb dX1_access_86 (lv_at hl 0 rfl) ?_
    refine lv_bipush (v := 8) hx hb dX1_access_88 (by decide) ?_
    refine lv_icmp_ge (tgt := 155) hx hb dX1_access_90 (by decide) (fun _ => ?_) (fun c_90 => absurd (nI_le (a := 8) (by omega) (by omega)) c_90)
    refine lv_iload hx hb dX1_access_155 (lv_at hl 1 rfl) ?_
    refine lv_if_eq (tgt := 168) hx hb dX1_access_157 (by decide) (fun c_157 => ?_) (fun c_157 => ?_)
    · refine lv_iload hx hb dX1_access_168 (lv_at hl 1 rfl) ?_
      exact hret _ _ _ _ _ _ G (by unfold accE; rw [if_pos c_157]) dX1_access_170
    · refine lv_aload_n hx hb dX1_access_160 rfl (lv_at hl 2 rfl) ?_
      refine lv_iload hx hb dX1_access_161 (lv_at hl 1 rfl) ?_
      refine lv_iload_n hx hb dX1_access_163 rfl (lv_at hl 3 rfl) ?_
      refine lv_iload_n hx hb dX1_access_164 rfl (lv_at hl 4 rfl) ?_
      refine call1V (av := [.int q.2.1, .int (nI a), .int (nI n)]) (rest := []) hx hb hml hts hown (c1_keep l q.1 q.2.1 a n ha) (cw1_keep hts ⟨Nat.le_of_ble_eq_true rfl, Nat.le_of_ble_eq_true rfl⟩) G rfl hl.1 rfl (Nat.le_of_ble_eq_true rfl) dX1_access_165 ⟨Nat.zero_le _, Nat.zero_le _⟩ (fun H locs G => ?_)
      refine lv_iload hx hb dX1_access_168 (lv_at hl 1 rfl) ?_
      exact hret _ _ _ _ _ _ G (by unfold accE; rw [if_neg c_157]) dX1_access_170
  | succ d ih =>
    intro w hw q hq H locs ls G hl
    refine lv_iload hx hb dX1_access_86 (lv_at hl 0 rfl) ?_
    refine lv_bipush (v := 8) hx hb dX1_access_88 (by decide) ?_
    refine lv_icmp_ge (tgt := 155) hx hb dX1_access_90 (by decide) (fun c_90 => absurd c_90 (nI_ge (b := 8) (by omega) (by omega))) (fun _ => ?_)
    refine lv_aload_n hx hb dX1_access_93 rfl (lv_at hl 2 rfl) ?_
    refine lv_iload hx hb dX1_access_94 (lv_at hl 0 rfl) ?_
    refine lv_iload_n hx hb dX1_access_96 rfl (lv_at hl 3 rfl) ?_
    refine lv_iload_n hx hb dX1_access_97 rfl (lv_at hl 4 rfl) ?_
    refine lv_iload_n hx hb dX1_access_98 rfl (lv_at hl 5 rfl) ?_
    refine call1I (av := [.int (nI w), .int (nI a), .int (nI n), .int wr]) (rest := []) hx hb hml hts hown (c1_hit l q.1 w a n wr (by omega) ha) (cw1_hit hts ⟨Nat.le_of_ble_eq_true rfl, Nat.le_of_ble_eq_true rfl⟩) G rfl hl.1 rfl (Nat.le_of_ble_eq_true rfl) dX1_access_99 ⟨Nat.zero_le _, Nat.zero_le _⟩ (fun H locs G => ?_)
    refine lv_if_eq (tgt := 149) hx hb dX1_access_102 (by decide) (fun c_102 => ?_) (fun c_102 => ?_)
    · refine lv_iinc (v := nI (w + 1)) (lv' := [(6, .int (nI (w + 1))), (5, .int q.2.1), (0, .ref h0), (1, .int (nI a)), (2, .int (nI n)), (3, .int wr), (4, .int v)]) hx hb dX1_access_149 hl (k := 0) rfl (nI_1 w) (by decide) rfl (fun ls hl => ?_)
      refine lv_goto (tgt := 86) hx hb dX1_access_152 (by decide) ?_
      exact ih (w + 1) (by omega) q (by rw [accL, ← hq, acS, if_pos (show hpM a n wr q.1 w = 0 from c_102)]) H locs ls G (lv_sub hl [0, 1, 2, 3, 4, 5, 6] rfl)
    · refine lv_aload_n hx hb dX1_access_105 rfl (lv_at hl 2 rfl) ?_
      refine g1_7 hx hb hts hown G dX1_access_106 ?_
      refine lv_iload hx hb dX1_access_109 (lv_at hl 0 rfl) ?_
      refine l1_7 w hx hb G rfl (by omega) dX1_access_111 ?_
      refine lv_if_le (tgt := 129) hx hb dX1_access_112 (by decide) (fun c_112 => ?_) (fun c_112 => ?_)
      · refine lv_aload_n hx hb dX1_access_129 rfl (lv_at hl 2 rfl) ?_
        refine g1_8 hx hb hts hown G dX1_access_130 ?_
        refine lv_iload hx hb dX1_access_133 (lv_at hl 0 rfl) ?_
        refine lv_dup2_11 hx hb dX1_access_135 rfl rfl ?_
        refine l1_8 w hx hb G rfl (by omega) dX1_access_136 ?_
        refine lv_iconst (v := 1) hx hb dX1_access_137 (by decide) ?_
        refine lv_iadd hx hb dX1_access_138 ?_
        refine a1_8 w hx hb G rfl (by omega) dX1_access_139 (fun H locs G => ?_)
        refine lv_iload hx hb dX1_access_140 (lv_at hl 1 rfl) ?_
        refine lv_iconst (v := 1) hx hb dX1_access_142 (by decide) ?_
        refine lv_iload hx hb dX1_access_143 (lv_at hl 0 rfl) ?_
        refine lv_ishl hx hb dX1_access_145 ?_
        refine lv_ior hx hb dX1_access_146 ?_
        refine lv_istore (lv' := [(5, .int (q.2.1 ||| (1 <<< ((nI w) &&& 31)))), (6, .int (nI w)), (0, .ref h0), (1, .int (nI a)), (2, .int (nI n)), (3, .int wr), (4, .int v)]) hx hb dX1_access_147 hl (by decide) rfl (fun ls hl => ?_)
        refine lv_iinc (v := nI (w + 1)) (lv' := [(6, .int (nI (w + 1))), (5, .int (q.2.1 ||| (1 <<< ((nI w) &&& 31)))), (0, .ref h0), (1, .int (nI a)), (2, .int (nI n)), (3, .int wr), (4, .int v)]) hx hb dX1_access_149 hl (k := 1) rfl (nI_1 w) (by decide) rfl (fun ls hl => ?_)
        refine lv_goto (tgt := 86) hx hb dX1_access_152 (by decide) ?_
        exact ih (w + 1) (by omega) (sA q.1 8 w (q.1.1 8 w + 1), q.2.1 ||| (1 <<< (nI w &&& 31)), q.2.2 + 1) (by rw [accL, ← hq, acS, if_neg (show ¬ hpM a n wr q.1 w = 0 from c_102), if_pos c_112]) H locs ls G (lv_sub hl [0, 1, 2, 3, 4, 5, 6] rfl)
      · refine lv_aload_n hx hb dX1_access_115 rfl (lv_at hl 2 rfl) ?_
        refine g1_7 hx hb hts hown G dX1_access_116 ?_
        refine lv_iload hx hb dX1_access_119 (lv_at hl 0 rfl) ?_
        refine lv_dup2_11 hx hb dX1_access_121 rfl rfl ?_
        refine l1_7 w hx hb G rfl (by omega) dX1_access_122 ?_
        refine lv_iconst (v := 1) hx hb dX1_access_123 (by decide) ?_
        refine lv_isub hx hb dX1_access_124 ?_
        refine a1_7 w hx hb G rfl (by omega) dX1_access_125 (fun H locs G => ?_)
        refine lv_goto (tgt := 149) hx hb dX1_access_126 (by decide) ?_
        refine lv_iinc (v := nI (w + 1)) (lv' := [(6, .int (nI (w + 1))), (5, .int q.2.1), (0, .ref h0), (1, .int (nI a)), (2, .int (nI n)), (3, .int wr), (4, .int v)]) hx hb dX1_access_149 hl (k := 0) rfl (nI_1 w) (by decide) rfl (fun ls hl => ?_)
        refine lv_goto (tgt := 86) hx hb dX1_access_152 (by decide) ?_
        exact ih (w + 1) (by omega) (sA q.1 7 w (q.1.1 7 w - 1), q.2.1, q.2.2) (by rw [accL, ← hq, acS, if_neg (show ¬ hpM a n wr q.1 w = 0 from c_102), if_neg c_112]) H locs ls G (lv_sub hl [0, 1, 2, 3, 4, 5, 6] rfl)
set_option maxHeartbeats 2000000 in
theorem q1_access2 {p : Program} {l : Launch} {e : Env} {s : State} {m : MethodId} {args : Array Value} {below : List Frame} {meth : Method} {c : Code} {Q : State → Prop} {D : va_G} {A : Nat → Prop} {h0 : Nat} {h : Nat → Nat} {ca : Nat → ClassId} {a n : Nat} {wr v : Int32} (F : Fx p m c cX1_access 7 s args RX1) {τ : St} (ha : a + n ≤ 40) (hret : RetI1 p l e rm1_access s m args below meth c cX1_access Q D A h0 h ca (accT (accI (mw τ a wr v n)) a n wr)) : ∀ (d k : Nat), k + d = n → ∀ (H : Heap) (locs : List Loc) (ls : Array Slot), Wd1 D s A h0 h ca (mw τ a wr v k) H locs → lv_has ls 7 [(5, .int (nI k)), (0, .ref h0), (1, .int (nI a)), (2, .int (nI n)), (3, .int wr), (4, .int v)] → W p l e rm1_access s m args below meth c H locs 0 0 Q (F0 m 33 ls []) := by
  have F1 := F
  obtain ⟨hx, hb, hml, hown, hts⟩ := F1
  intro d
  induction d with
  | zero =>
    intro k hk H locs ls G hl
    have e : mw τ a wr v k = mw τ a wr v n := by rw [show k = n by omega]
    rw [e] at G
    refine lv_iload hx hb dX1_access_33 (lv_at hl 0 rfl) ?_
    refine lv_iload_n hx hb dX1_access_35 rfl (lv_at hl 3 rfl) ?_
    refine lv_icmp_ge (tgt := 70) hx hb dX1_access_36 (by decide) (fun _ => ?_) (fun c_36 => absurd (nI_le (by omega) (by omega)) c_36)
    refine lv_aload_n hx hb dX1_access_70 rfl (lv_at hl 1 rfl) ?_
    refine lv_dup hx hb dX1_access_71 rfl ?_
    refine g1_9 hx hb hts hown G dX1_access_72 ?_
    refine lv_iconst (v := 1) hx hb dX1_access_75 (by decide) ?_
    refine lv_iadd hx hb dX1_access_76 ?_
    refine p1_9 hx hb hts hown G dX1_access_77 (fun H locs G => ?_)
    refine lv_iconst (v := 0) hx hb dX1_access_80 (by decide) ?_
    refine lv_istore (lv' := [(5, .int 0), (0, .ref h0), (1, .int (nI a)), (2, .int (nI n)), (3, .int wr), (4, .int v)]) hx hb dX1_access_81 hl (by decide) rfl (fun ls hl => ?_)
    refine lv_iconst (v := 0) hx hb dX1_access_83 (by decide) ?_
    refine lv_istore (lv' := [(6, .int 0), (5, .int 0), (0, .ref h0), (1, .int (nI a)), (2, .int (nI n)), (3, .int wr), (4, .int v)]) hx hb dX1_access_84 hl (by decide) rfl (fun ls hl => ?_)
    exact q1_access3 (τ := accI (mw τ a wr v n)) F ha hret 8 0 (by omega) (accI (mw τ a wr v n), 0, 0) rfl H locs ls G hl
  | succ d ih =>
    intro k hk H locs ls G hl
    refine lv_iload hx hb dX1_access_33 (lv_at hl 0 rfl) ?_
    refine lv_iload_n hx hb dX1_access_35 rfl (lv_at hl 3 rfl) ?_
    refine lv_icmp_ge (tgt := 70) hx hb dX1_access_36 (by decide) (fun c_36 => absurd c_36 (nI_ge (by omega) (by omega))) (fun _ => ?_)
    refine lv_iload_n hx hb dX1_access_39 rfl (lv_at hl 4 rfl) ?_
    refine lv_if_eq (tgt := 64) hx hb dX1_access_40 (by decide) (fun c_40 => ?_) (fun c_40 => ?_)
    · refine lv_iinc (v := nI (k + 1)) (lv' := [(5, .int (nI (k + 1))), (0, .ref h0), (1, .int (nI a)), (2, .int (nI n)), (3, .int wr), (4, .int v)]) hx hb dX1_access_64 hl (k := 0) rfl (nI_1 k) (by decide) rfl (fun ls hl => ?_)
      refine lv_goto (tgt := 33) hx hb dX1_access_67 (by decide) ?_
      exact ih (k + 1) (by omega) H locs ls (by rw [mw, if_pos c_40]; exact G) hl
    · refine lv_aload_n hx hb dX1_access_43 rfl (lv_at hl 1 rfl) ?_
      refine g1_0 hx hb hts hown G dX1_access_44 ?_
      refine lv_iload_n hx hb dX1_access_47 rfl (lv_at hl 2 rfl) ?_
      refine lv_iload hx hb dX1_access_48 (lv_at hl 0 rfl) ?_
      refine lv_iadd hx hb dX1_access_50 ?_
      refine lv_iload hx hb dX1_access_51 (lv_at hl 5 rfl) ?_
      refine lv_bipush (v := 8) hx hb dX1_access_53 (by decide) ?_
      refine lv_iload hx hb dX1_access_55 (lv_at hl 0 rfl) ?_
      refine lv_imul hx hb dX1_access_57 ?_
      refine lv_ishr hx hb dX1_access_58 ?_
      refine lv_sipush (v := 255) hx hb dX1_access_59 (by decide) ?_
      refine lv_iand hx hb dX1_access_62 ?_
      refine a1_0 (a + k) hx hb G (nI_add a k) (by omega) dX1_access_63 (fun H locs G => ?_)
      refine lv_iinc (v := nI (k + 1)) (lv' := [(5, .int (nI (k + 1))), (0, .ref h0), (1, .int (nI a)), (2, .int (nI n)), (3, .int wr), (4, .int v)]) hx hb dX1_access_64 hl (k := 0) rfl (nI_1 k) (by decide) rfl (fun ls hl => ?_)
      refine lv_goto (tgt := 33) hx hb dX1_access_67 (by decide) ?_
      exact ih (k + 1) (by omega) H locs ls (by rw [mw, if_neg c_40]; exact G) hl
set_option maxHeartbeats 2000000 in
theorem q1_access1 {p : Program} {l : Launch} {e : Env} {s : State} {m : MethodId} {args : Array Value} {below : List Frame} {meth : Method} {c : Code} {Q : State → Prop} {D : va_G} {A : Nat → Prop} {h0 : Nat} {h : Nat → Nat} {ca : Nat → ClassId} {a n : Nat} {wr v : Int32} (F : Fx p m c cX1_access 7 s args RX1) {σ : St} (ha : a + n ≤ 40) (hret : RetI1 p l e rm1_access s m args below meth c cX1_access Q D A h0 h ca (accM σ a n wr v)) : ∀ (d k : Nat), k + d = 40 → ∀ (H : Heap) (locs : List Loc) (ls : Array Slot), Wd1 D s A h0 h ca (cpy σ k) H locs → lv_has ls 7 [(5, .int (nI k)), (0, .ref h0), (1, .int (nI a)), (2, .int (nI n)), (3, .int wr), (4, .int v)] → W p l e rm1_access s m args below meth c H locs 0 0 Q (F0 m 3 ls []) := by
  have F1 := F
  obtain ⟨hx, hb, hml, hown, hts⟩ := F1
  intro d
  induction d with
  | zero =>
    intro k hk H locs ls G hl
    have e : cpy σ k = cpy σ 40 := by rw [show k = 40 by omega]
    rw [e] at G
    refine lv_iload hx hb dX1_access_3 (lv_at hl 0 rfl) ?_
    refine lv_bipush (v := 40) hx hb dX1_access_5 (by decide) ?_
    refine lv_icmp_ge (tgt := 30) hx hb dX1_access_7 (by decide) (fun _ => ?_) (fun c_7 => absurd (nI_le (a := 40) (by omega) (by omega)) c_7)
    refine lv_iconst (v := 0) hx hb dX1_access_30 (by decide) ?_
    refine lv_istore (lv' := [(5, .int 0), (0, .ref h0), (1, .int (nI a)), (2, .int (nI n)), (3, .int wr), (4, .int v)]) hx hb dX1_access_31 hl (by decide) rfl (fun ls hl => ?_)
    exact q1_access2 (τ := cpy σ 40) F ha hret n 0 (by omega) H locs ls G hl
  | succ d ih =>
    intro k hk H locs ls G hl
    refine lv_iload hx hb dX1_access_3 (lv_at hl 0 rfl) ?_
    refine lv_bipush (v := 40) hx hb dX1_access_5 (by decide) ?_
    refine lv_icmp_ge (tgt := 30) hx hb dX1_access_7 (by decide) (fun c_7 => absurd c_7 (nI_ge (b := 40) (by omega) (by omega))) (fun _ => ?_)
    refine lv_aload_n hx hb dX1_access_10 rfl (lv_at hl 1 rfl) ?_
    refine g1_1 hx hb hts hown G dX1_access_11 ?_
    refine lv_iload hx hb dX1_access_14 (lv_at hl 0 rfl) ?_
    refine lv_aload_n hx hb dX1_access_16 rfl (lv_at hl 1 rfl) ?_
    refine g1_0 hx hb hts hown G dX1_access_17 ?_
    refine lv_iload hx hb dX1_access_20 (lv_at hl 0 rfl) ?_
    refine l1_0 k hx hb G rfl (by omega) dX1_access_22 ?_
    refine a1_1 k hx hb G rfl (by omega) dX1_access_23 (fun H locs G => ?_)
    refine lv_iinc (v := nI (k + 1)) (lv' := [(5, .int (nI (k + 1))), (0, .ref h0), (1, .int (nI a)), (2, .int (nI n)), (3, .int wr), (4, .int v)]) hx hb dX1_access_24 hl (k := 0) rfl (nI_1 k) (by decide) rfl (fun ls hl => ?_)
    refine lv_goto (tgt := 3) hx hb dX1_access_27 (by decide) ?_
    exact ih (k + 1) (by omega) H locs ls G hl
set_option maxHeartbeats 2000000 in
theorem b1_access {p : Program} {l : Launch} {e : Env} {s : State} {m : MethodId} {args : Array Value} {below : List Frame} {meth : Method} {c : Code} {Q : State → Prop} {D : va_G} {A : Nat → Prop} {h0 : Nat} {h : Nat → Nat} {ca : Nat → ClassId} (a n : Nat) (wr v : Int32) {σ : St} {H : Heap} {locs : List Loc} {ls : Array Slot} (ha : a + n ≤ 40) (F : Fx p m c cX1_access 7 s args RX1) (G : Wd1 D s A h0 h ca σ H locs) (hl : lv_has ls 7 [(0, .ref h0), (1, .int (nI a)), (2, .int (nI n)), (3, .int wr), (4, .int v)]) (hret : RetI1 p l e rm1_access s m args below meth c cX1_access Q D A h0 h ca (accM σ a n wr v)) : W p l e rm1_access s m args below meth c H locs 0 0 Q (F0 m 0 ls []) := by
  have F1 := F
  obtain ⟨hx, hb, hml, hown, hts⟩ := F1
  refine lv_iconst (v := 0) hx hb dX1_access_0 (by decide) ?_
  refine lv_istore (lv' := [(5, .int 0), (0, .ref h0), (1, .int (nI a)), (2, .int (nI n)), (3, .int wr), (4, .int v)]) hx hb dX1_access_1 hl (by decide) rfl (fun ls hl => ?_)
  exact q1_access1 F ha hret 40 0 (by omega) H locs ls G hl
theorem c1_access (l : Launch) (σ : St) (a n : Nat) (wr v : Int32) (ha : a + n ≤ 40) : C1 l yX1_access cX1_access 7 (some .int) rm1_access [.int (nI a), .int (nI n), .int wr, .int v] σ (accM σ a n wr v) := C1.of (by decide) rfl (fun _ => Nat.le_of_ble_eq_true rfl) rfl (fun p e s m args below meth c Q D A h0 h ca ls F G hl hret => b1_access a n wr v ha F G hl hret)
end
section
set_option maxRecDepth 100000
theorem szM_in {x y : Int32} (h1 : badSizeM y = 0) (h2 : ¬ x < 0) (h3 : x ≤ 40 - y) : ∃ a n : Nat, x = nI a ∧ y = nI n ∧ a + n ≤ 40 ∧ n ≤ 4 := by
  refine sz_in ?_ ?_
  · intro h
    unfold badSizeM at h1
    unfold isSizeX at h
    by_cases e1 : y = 1
    · rw [if_pos e1] at h
      exact absurd h (by decide)
    · by_cases e2 : y = 2
      · rw [if_neg e1, if_pos e2] at h
        exact absurd h (by decide)
      · by_cases e4 : y = 4
        · rw [if_neg e1, if_neg e2, if_pos e4] at h
          exact absurd h (by decide)
        · rw [if_neg e1, if_neg e2, if_neg e4] at h1
          exact absurd h1 (by decide)
  · intro h
    unfold fitsX at h
    rw [if_neg h2, if_neg (Int32.not_lt.mpr h3)] at h
    exact absurd h (by decide)
def loadGM (σ : St) (a n : Nat) : Int32 × St := (numL (accM σ a n 0 0).2 a 1 n, (accM σ a n 0 0).2)
def loadM (σ : St) (x y : Int32) : Int32 × St := if badSizeM y = 0 then (if x < 0 then (0, σ) else if x ≤ 40 - y then loadGM σ (tn x) (tn y) else (0, σ)) else (0, σ)
def pcn (z : Int32) : Nat → Int32
  | 0 => 0
  | w + 1 => pcn z w + ((z >>> (nI w &&& 31)) &&& 1)
def storeGM (σ : St) (a n : Nat) (v : Int32) : Int32 × St := (pcn (accM σ a n 1 v).1 8, (accM σ a n 1 v).2)
def storeM (σ : St) (x y v : Int32) : Int32 × St := if badSizeM y = 0 then (if x < 0 then (-2, σ) else if x ≤ 40 - y then storeGM σ (tn x) (tn y) v else (-2, σ)) else (-1, σ)
set_option maxHeartbeats 2000000 in
theorem b1_load {p : Program} {l : Launch} {e : Env} {s : State} {m : MethodId} {args : Array Value} {below : List Frame} {meth : Method} {c : Code} {Q : State → Prop} {D : va_G} {A : Nat → Prop} {h0 : Nat} {h : Nat → Nat} {ca : Nat → ClassId} (x y : Int32) {σ : St} {H : Heap} {locs : List Loc} {ls : Array Slot} (F : Fx p m c cX1_load 3 s args RX1) (G : Wd1 D s A h0 h ca σ H locs) (hl : lv_has ls 3 [(0, .ref h0), (1, .int x), (2, .int y)]) (hret : RetI1 p l e rm1_load s m args below meth c cX1_load Q D A h0 h ca (loadM σ x y)) : W p l e rm1_load s m args below meth c H locs 0 0 Q (F0 m 0 ls []) := by
  have F1 := F
  obtain ⟨hx, hb, hml, hown, hts⟩ := F1
  refine lv_aload_n hx hb dX1_load_0 rfl (lv_at hl 0 rfl) ?_
  refine lv_iload_n hx hb dX1_load_1 rfl (lv_at hl 2 rfl) ?_
  refine call1I (av := [.int y]) (rest := []) hx hb hml hts hown (c1_badSize l σ y) (cw1_badSize hts ⟨Nat.le_of_ble_eq_true rfl, Nat.le_of_ble_eq_true rfl⟩) G rfl hl.1 rfl (Nat.le_of_ble_eq_true rfl) dX1_load_2 ⟨Nat.zero_le _, Nat.zero_le _⟩ (fun H locs G => ?_)
  refine lv_if_eq (tgt := 10) hx hb dX1_load_5 (by decide) (fun c_5 => ?_) (fun c_5 => ?_)
  · refine lv_iload_n hx hb dX1_load_10 rfl (lv_at hl 1 rfl) ?_
    refine lv_if_lt (tgt := 22) hx hb dX1_load_11 (by decide) (fun c_11 => ?_) (fun c_11 => ?_)
    · refine lv_iconst (v := 0) hx hb dX1_load_22 (by decide) ?_
      exact hret _ _ _ _ _ _ G (by unfold loadM; rw [if_pos c_5, if_pos c_11]) dX1_load_23
    · refine lv_iload_n hx hb dX1_load_14 rfl (lv_at hl 1 rfl) ?_
      refine lv_bipush (v := 40) hx hb dX1_load_15 (by decide) ?_
      refine lv_iload_n hx hb dX1_load_17 rfl (lv_at hl 2 rfl) ?_
      refine lv_isub hx hb dX1_load_18 ?_
      refine lv_icmp_le (tgt := 24) hx hb dX1_load_19 (by decide) (fun c_19 => ?_) (fun c_19 => ?_)
      · obtain ⟨a, n, rfl, rfl, ha, hn⟩ := szM_in c_5 c_11 c_19
        have hC := c1_access l σ a n 0 0 ha
        generalize hE : accM σ a n 0 0 = E at hC
        refine lv_aload_n hx hb dX1_load_24 rfl (lv_at hl 0 rfl) ?_
        refine lv_iload_n hx hb dX1_load_25 rfl (lv_at hl 1 rfl) ?_
        refine lv_iload_n hx hb dX1_load_26 rfl (lv_at hl 2 rfl) ?_
        refine lv_iconst (v := 0) hx hb dX1_load_27 (by decide) ?_
        refine lv_iconst (v := 0) hx hb dX1_load_28 (by decide) ?_
        refine call1I (av := [.int (nI a), .int (nI n), .int 0, .int 0]) (rest := []) hx hb hml hts hown hC (cw1_access hts ⟨Nat.le_of_ble_eq_true rfl, Nat.le_of_ble_eq_true rfl⟩) G rfl hl.1 rfl (Nat.le_of_ble_eq_true rfl) dX1_load_29 ⟨Nat.zero_le _, Nat.zero_le _⟩ (fun H locs G => ?_)
        refine lv_pop hx hb dX1_load_32 rfl ?_
        refine lv_aload_n hx hb dX1_load_33 rfl (lv_at hl 0 rfl) ?_
        refine lv_iload_n hx hb dX1_load_34 rfl (lv_at hl 1 rfl) ?_
        refine lv_iload_n hx hb dX1_load_35 rfl (lv_at hl 2 rfl) ?_
        refine lv_iconst (v := 1) hx hb dX1_load_36 (by decide) ?_
        refine call1I (av := [.int (nI a), .int (nI n), .int 1]) (rest := []) hx hb hml hts hown (c1_number l E.2 a n 1 ha) (cw1_number hts ⟨Nat.le_of_ble_eq_true rfl, Nat.le_of_ble_eq_true rfl⟩) G rfl hl.1 rfl (Nat.le_of_ble_eq_true rfl) dX1_load_37 ⟨Nat.zero_le _, Nat.zero_le _⟩ (fun H locs G => ?_)
        exact hret _ _ _ _ _ _ G (by unfold loadM; rw [if_pos c_5, if_neg c_11, if_pos c_19, tn_nI (by omega), tn_nI (by omega), loadGM, hE]) dX1_load_40
      · refine lv_iconst (v := 0) hx hb dX1_load_22 (by decide) ?_
        exact hret _ _ _ _ _ _ G (by unfold loadM; rw [if_pos c_5, if_neg c_11, if_neg c_19]) dX1_load_23
  · refine lv_iconst (v := 0) hx hb dX1_load_8 (by decide) ?_
    exact hret _ _ _ _ _ _ G (by unfold loadM; rw [if_neg c_5]) dX1_load_9
theorem c1_load (l : Launch) (σ : St) (x y : Int32)  : C1 l yX1_load cX1_load 3 (some .int) rm1_load [.int x, .int y] σ (loadM σ x y) := C1.of (by decide) rfl (fun _ => Nat.le_of_ble_eq_true rfl) rfl (fun p e s m args below meth c Q D A h0 h ca ls F G hl hret => b1_load x y F G hl hret)
set_option maxHeartbeats 2000000 in
theorem q1_store {p : Program} {l : Launch} {e : Env} {s : State} {m : MethodId} {args : Array Value} {below : List Frame} {meth : Method} {c : Code} {Q : State → Prop} {D : va_G} {A : Nat → Prop} {h0 : Nat} {h : Nat → Nat} {ca : Nat → ClassId} {x y v z : Int32} (F : Fx p m c cX1_store 7 s args RX1) {σ : St} {H : Heap} {locs : List Loc} (G : Wd1 D s A h0 h ca σ H locs) (hret : RetI1 p l e rm1_store s m args below meth c cX1_store Q D A h0 h ca (pcn z 8, σ)) : ∀ (d w : Nat), w + d = 8 → ∀ (ls : Array Slot), lv_has ls 7 [(6, .int (nI w)), (5, .int (pcn z w)), (4, .int z), (0, .ref h0), (1, .int x), (2, .int y), (3, .int v)] → W p l e rm1_store s m args below meth c H locs 0 0 Q (F0 m 41 ls []) := by
  have F1 := F
  obtain ⟨hx, hb, hml, hown, hts⟩ := F1
  intro d
  induction d with
  | zero =>
    intro w hw ls hl
    refine lv_iload hx hb dX1_store_41 (lv_at hl 0 rfl) ?_
    refine lv_bipush (v := 8) hx hb dX1_store_43 (by decide) ?_
    refine lv_icmp_ge (tgt := 66) hx hb dX1_store_45 (by decide) (fun _ => ?_) (fun c_45 => absurd (nI_le (a := 8) (by omega) (by omega)) c_45)
    refine lv_iload hx hb dX1_store_66 (lv_at hl 1 rfl) ?_
    exact hret _ _ _ _ _ _ G (by rw [show (8 : Nat) = w by omega]) dX1_store_68
  | succ d ih =>
    intro w hw ls hl
    refine lv_iload hx hb dX1_store_41 (lv_at hl 0 rfl) ?_
    refine lv_bipush (v := 8) hx hb dX1_store_43 (by decide) ?_
    refine lv_icmp_ge (tgt := 66) hx hb dX1_store_45 (by decide) (fun c_45 => absurd c_45 (nI_ge (b := 8) (by omega) (by omega))) (fun _ => ?_)
    refine lv_iload hx hb dX1_store_48 (lv_at hl 1 rfl) ?_
    refine lv_iload hx hb dX1_store_50 (lv_at hl 2 rfl) ?_
    refine lv_iload hx hb dX1_store_52 (lv_at hl 0 rfl) ?_
    refine lv_ishr hx hb dX1_store_54 ?_
    refine lv_iconst (v := 1) hx hb dX1_store_55 (by decide) ?_
    refine lv_iand hx hb dX1_store_56 ?_
    refine lv_iadd hx hb dX1_store_57 ?_
    refine lv_ren rfl ?_
    refine lv_istore (lv' := [(5, .int (pcn z (w + 1))), (6, .int (nI w)), (4, .int z), (0, .ref h0), (1, .int x), (2, .int y), (3, .int v)]) hx hb dX1_store_58 hl (by decide) rfl (fun ls hl => ?_)
    refine lv_iinc (v := nI (w + 1)) (lv' := [(6, .int (nI (w + 1))), (5, .int (pcn z (w + 1))), (4, .int z), (0, .ref h0), (1, .int x), (2, .int y), (3, .int v)]) hx hb dX1_store_60 hl (k := 1) rfl (nI_1 w) (by decide) rfl (fun ls hl => ?_)
    refine lv_goto (tgt := 41) hx hb dX1_store_63 (by decide) ?_
    exact ih (w + 1) (by omega) ls (lv_sub hl [0, 1, 2, 3, 4, 5, 6] rfl)
set_option maxHeartbeats 2000000 in
theorem b1_store {p : Program} {l : Launch} {e : Env} {s : State} {m : MethodId} {args : Array Value} {below : List Frame} {meth : Method} {c : Code} {Q : State → Prop} {D : va_G} {A : Nat → Prop} {h0 : Nat} {h : Nat → Nat} {ca : Nat → ClassId} (x y v : Int32) {σ : St} {H : Heap} {locs : List Loc} {ls : Array Slot} (F : Fx p m c cX1_store 7 s args RX1) (G : Wd1 D s A h0 h ca σ H locs) (hl : lv_has ls 7 [(0, .ref h0), (1, .int x), (2, .int y), (3, .int v)]) (hret : RetI1 p l e rm1_store s m args below meth c cX1_store Q D A h0 h ca (storeM σ x y v)) : W p l e rm1_store s m args below meth c H locs 0 0 Q (F0 m 0 ls []) := by
  have F1 := F
  obtain ⟨hx, hb, hml, hown, hts⟩ := F1
  refine lv_aload_n hx hb dX1_store_0 rfl (lv_at hl 0 rfl) ?_
  refine lv_iload_n hx hb dX1_store_1 rfl (lv_at hl 2 rfl) ?_
  refine call1I (av := [.int y]) (rest := []) hx hb hml hts hown (c1_badSize l σ y) (cw1_badSize hts ⟨Nat.le_of_ble_eq_true rfl, Nat.le_of_ble_eq_true rfl⟩) G rfl hl.1 rfl (Nat.le_of_ble_eq_true rfl) dX1_store_2 ⟨Nat.zero_le _, Nat.zero_le _⟩ (fun H locs G => ?_)
  refine lv_if_eq (tgt := 10) hx hb dX1_store_5 (by decide) (fun c_5 => ?_) (fun c_5 => ?_)
  · refine lv_iload_n hx hb dX1_store_10 rfl (lv_at hl 1 rfl) ?_
    refine lv_if_lt (tgt := 22) hx hb dX1_store_11 (by decide) (fun c_11 => ?_) (fun c_11 => ?_)
    · refine lv_bipush (v := -2) hx hb dX1_store_22 (by decide) ?_
      exact hret _ _ _ _ _ _ G (by unfold storeM; rw [if_pos c_5, if_pos c_11]) dX1_store_24
    · refine lv_iload_n hx hb dX1_store_14 rfl (lv_at hl 1 rfl) ?_
      refine lv_bipush (v := 40) hx hb dX1_store_15 (by decide) ?_
      refine lv_iload_n hx hb dX1_store_17 rfl (lv_at hl 2 rfl) ?_
      refine lv_isub hx hb dX1_store_18 ?_
      refine lv_icmp_le (tgt := 25) hx hb dX1_store_19 (by decide) (fun c_19 => ?_) (fun c_19 => ?_)
      · obtain ⟨a, n, rfl, rfl, ha, hn⟩ := szM_in c_5 c_11 c_19
        have hC := c1_access l σ a n 1 v ha
        generalize hE : accM σ a n 1 v = E at hC
        refine lv_aload_n hx hb dX1_store_25 rfl (lv_at hl 0 rfl) ?_
        refine lv_iload_n hx hb dX1_store_26 rfl (lv_at hl 1 rfl) ?_
        refine lv_iload_n hx hb dX1_store_27 rfl (lv_at hl 2 rfl) ?_
        refine lv_iconst (v := 1) hx hb dX1_store_28 (by decide) ?_
        refine lv_iload_n hx hb dX1_store_29 rfl (lv_at hl 3 rfl) ?_
        refine call1I (av := [.int (nI a), .int (nI n), .int 1, .int v]) (rest := []) hx hb hml hts hown hC (cw1_access hts ⟨Nat.le_of_ble_eq_true rfl, Nat.le_of_ble_eq_true rfl⟩) G rfl hl.1 rfl (Nat.le_of_ble_eq_true rfl) dX1_store_30 ⟨Nat.zero_le _, Nat.zero_le _⟩ (fun H locs G => ?_)
        refine lv_istore (lv' := [(4, .int E.1), (0, .ref h0), (1, .int (nI a)), (2, .int (nI n)), (3, .int v)]) hx hb dX1_store_33 hl (by decide) rfl (fun ls hl => ?_)
        refine lv_iconst (v := 0) hx hb dX1_store_35 (by decide) ?_
        refine lv_istore (lv' := [(5, .int 0), (4, .int E.1), (0, .ref h0), (1, .int (nI a)), (2, .int (nI n)), (3, .int v)]) hx hb dX1_store_36 hl (by decide) rfl (fun ls hl => ?_)
        refine lv_iconst (v := 0) hx hb dX1_store_38 (by decide) ?_
        refine lv_istore (lv' := [(6, .int 0), (5, .int 0), (4, .int E.1), (0, .ref h0), (1, .int (nI a)), (2, .int (nI n)), (3, .int v)]) hx hb dX1_store_39 hl (by decide) rfl (fun ls hl => ?_)
        unfold storeM at hret
        rw [if_pos c_5, if_neg c_11, if_pos c_19, tn_nI (by omega), tn_nI (by omega), storeGM, hE] at hret
        exact q1_store F G hret 8 0 (by omega) ls hl
      · refine lv_bipush (v := -2) hx hb dX1_store_22 (by decide) ?_
        exact hret _ _ _ _ _ _ G (by unfold storeM; rw [if_pos c_5, if_neg c_11, if_neg c_19]) dX1_store_24
  · refine lv_iconst (v := -1) hx hb dX1_store_8 (by decide) ?_
    exact hret _ _ _ _ _ _ G (by unfold storeM; rw [if_neg c_5]) dX1_store_9
theorem c1_store (l : Launch) (σ : St) (x y v : Int32)  : C1 l yX1_store cX1_store 7 (some .int) rm1_store [.int x, .int y, .int v] σ (storeM σ x y v) := C1.of (by decide) rfl (fun _ => Nat.le_of_ble_eq_true rfl) rfl (fun p e s m args below meth c Q D A h0 h ca ls F G hl hret => b1_store x y v F G hl hret)
def swM (y : Int32) : Nat → Nat → Int32 × St → Int32 × St
  | 0, _, q => q
  | d + 1, a, q => if y < nI a then q else swM y d (a + 2) (if (accM q.2 a 1 0 0).1 = 0 then (q.1, (accM q.2 a 1 0 0).2) else (q.1 + 1, (accM q.2 a 1 0 0).2))
def sweepM (σ : St) (x y : Int32) : Int32 × St := if x < 0 then (-1, σ) else if 39 < y then (-1, σ) else if x ≤ y then swM y 40 (tn x) (0, σ) else (-1, σ)
theorem n40 {y : Int32} (hh : ¬ 39 < y) : ¬ 40 ≤ y := by
  rw [Int32.lt_iff_toInt_lt] at hh
  rw [Int32.le_iff_toInt_le]
  have e : (40 : Int32).toInt = 40 := by decide
  have e2 : (39 : Int32).toInt = 39 := by decide
  omega
set_option maxHeartbeats 2000000 in
theorem q1_sweep {p : Program} {l : Launch} {e : Env} {s : State} {m : MethodId} {args : Array Value} {below : List Frame} {meth : Method} {c : Code} {Q : State → Prop} {D : va_G} {A : Nat → Prop} {h0 : Nat} {h : Nat → Nat} {ca : Nat → ClassId} {x y : Int32} (F : Fx p m c cX1_sweep 6 s args RX1) (hy : ¬ 40 ≤ y) {r : Int32 × St} (hret : RetI1 p l e rm1_sweep s m args below meth c cX1_sweep Q D A h0 h ca r) : ∀ (d a : Nat) (q : Int32 × St), 40 ≤ a + d → a ≤ 41 → r = swM y d a q → ∀ (H : Heap) (locs : List Loc) (ls : Array Slot), Wd1 D s A h0 h ca q.2 H locs → lv_has ls 6 [(4, .int (nI a)), (3, .int q.1), (0, .ref h0), (1, .int x), (2, .int y)] → W p l e rm1_sweep s m args below meth c H locs 0 0 Q (F0 m 22 ls []) := by
  have F1 := F
  obtain ⟨hx, hb, hml, hown, hts⟩ := F1
  intro d
  induction d with
  | zero =>
    intro a q h1 h2 hr H locs ls G hl
    refine lv_iload hx hb dX1_sweep_22 (lv_at hl 0 rfl) ?_
    refine lv_iload_n hx hb dX1_sweep_24 rfl (lv_at hl 4 rfl) ?_
    refine lv_icmp_gt (tgt := 53) hx hb dX1_sweep_25 (by decide) (fun _ => ?_) (fun c_25 => absurd (lt_of_40 hy (by omega) (by omega)) c_25)
    refine lv_iload_n hx hb dX1_sweep_53 rfl (lv_at hl 1 rfl) ?_
    exact hret _ _ _ _ _ _ G (by rw [hr]; rfl) dX1_sweep_54
  | succ d ih =>
    intro a q h1 h2 hr H locs ls G hl
    refine lv_iload hx hb dX1_sweep_22 (lv_at hl 0 rfl) ?_
    refine lv_iload_n hx hb dX1_sweep_24 rfl (lv_at hl 4 rfl) ?_
    refine lv_icmp_gt (tgt := 53) hx hb dX1_sweep_25 (by decide) (fun c_25 => ?_) (fun c_25 => ?_)
    · refine lv_iload_n hx hb dX1_sweep_53 rfl (lv_at hl 1 rfl) ?_
      exact hret _ _ _ _ _ _ G (by rw [hr, swM, if_pos c_25]) dX1_sweep_54
    · have h40 := lt40_of hy (by omega) c_25
      have hC := c1_access l q.2 a 1 0 0 (by omega)
      generalize hE : accM q.2 a 1 0 0 = E at hC
      refine lv_aload_n hx hb dX1_sweep_28 rfl (lv_at hl 2 rfl) ?_
      refine lv_iload hx hb dX1_sweep_29 (lv_at hl 0 rfl) ?_
      refine lv_iconst (v := 1) hx hb dX1_sweep_31 (by decide) ?_
      refine lv_iconst (v := 0) hx hb dX1_sweep_32 (by decide) ?_
      refine lv_iconst (v := 0) hx hb dX1_sweep_33 (by decide) ?_
      refine call1I (av := [.int (nI a), .int 1, .int 0, .int 0]) (rest := []) hx hb hml hts hown hC (cw1_access hts ⟨Nat.le_of_ble_eq_true rfl, Nat.le_of_ble_eq_true rfl⟩) G rfl hl.1 rfl (Nat.le_of_ble_eq_true rfl) dX1_sweep_34 ⟨Nat.zero_le _, Nat.zero_le _⟩ (fun H locs G => ?_)
      refine lv_istore (lv' := [(5, .int E.1), (4, .int (nI a)), (3, .int q.1), (0, .ref h0), (1, .int x), (2, .int y)]) hx hb dX1_sweep_37 hl (by decide) rfl (fun ls hl => ?_)
      refine lv_iload hx hb dX1_sweep_39 (lv_at hl 0 rfl) ?_
      refine lv_if_eq (tgt := 47) hx hb dX1_sweep_41 (by decide) (fun c_41 => ?_) (fun c_41 => ?_)
      · refine lv_iinc (v := nI (a + 2)) (lv' := [(4, .int (nI (a + 2))), (5, .int E.1), (3, .int q.1), (0, .ref h0), (1, .int x), (2, .int y)]) hx hb dX1_sweep_47 hl (k := 1) rfl (nI_add a 2) (by decide) rfl (fun ls hl => ?_)
        refine lv_goto (tgt := 22) hx hb dX1_sweep_50 (by decide) ?_
        exact ih (a + 2) (q.1, E.2) (by omega) (by omega) (by rw [hr, swM, if_neg c_25, hE, if_pos c_41]) H locs ls G (lv_sub hl [0, 2, 3, 4, 5] rfl)
      · refine lv_iinc (v := q.1 + 1) (lv' := [(3, .int (q.1 + 1)), (5, .int E.1), (4, .int (nI a)), (0, .ref h0), (1, .int x), (2, .int y)]) hx hb dX1_sweep_44 hl (k := 2) rfl rfl (by decide) rfl (fun ls hl => ?_)
        refine lv_iinc (v := nI (a + 2)) (lv' := [(4, .int (nI (a + 2))), (3, .int (q.1 + 1)), (5, .int E.1), (0, .ref h0), (1, .int x), (2, .int y)]) hx hb dX1_sweep_47 hl (k := 2) rfl (nI_add a 2) (by decide) rfl (fun ls hl => ?_)
        refine lv_goto (tgt := 22) hx hb dX1_sweep_50 (by decide) ?_
        exact ih (a + 2) (q.1 + 1, E.2) (by omega) (by omega) (by rw [hr, swM, if_neg c_25, hE, if_neg c_41]) H locs ls G (lv_sub hl [0, 1, 3, 4, 5] rfl)
set_option maxHeartbeats 2000000 in
theorem b1_sweep {p : Program} {l : Launch} {e : Env} {s : State} {m : MethodId} {args : Array Value} {below : List Frame} {meth : Method} {c : Code} {Q : State → Prop} {D : va_G} {A : Nat → Prop} {h0 : Nat} {h : Nat → Nat} {ca : Nat → ClassId} (x y : Int32) {σ : St} {H : Heap} {locs : List Loc} {ls : Array Slot} (F : Fx p m c cX1_sweep 6 s args RX1) (G : Wd1 D s A h0 h ca σ H locs) (hl : lv_has ls 6 [(0, .ref h0), (1, .int x), (2, .int y)]) (hret : RetI1 p l e rm1_sweep s m args below meth c cX1_sweep Q D A h0 h ca (sweepM σ x y)) : W p l e rm1_sweep s m args below meth c H locs 0 0 Q (F0 m 0 ls []) := by
  have F1 := F
  obtain ⟨hx, hb, hml, hown, hts⟩ := F1
  refine lv_iload_n hx hb dX1_sweep_0 rfl (lv_at hl 1 rfl) ?_
  refine lv_if_lt (tgt := 15) hx hb dX1_sweep_1 (by decide) (fun c_1 => ?_) (fun c_1 => ?_)
  · refine lv_iconst (v := -1) hx hb dX1_sweep_15 (by decide) ?_
    exact hret _ _ _ _ _ _ G (by unfold sweepM; rw [if_pos c_1]) dX1_sweep_16
  · refine lv_iload_n hx hb dX1_sweep_4 rfl (lv_at hl 2 rfl) ?_
    refine lv_bipush (v := 39) hx hb dX1_sweep_5 (by decide) ?_
    refine lv_icmp_gt (tgt := 15) hx hb dX1_sweep_7 (by decide) (fun c_7 => ?_) (fun c_7 => ?_)
    · refine lv_iconst (v := -1) hx hb dX1_sweep_15 (by decide) ?_
      exact hret _ _ _ _ _ _ G (by unfold sweepM; rw [if_neg c_1, if_pos c_7]) dX1_sweep_16
    · refine lv_iload_n hx hb dX1_sweep_10 rfl (lv_at hl 1 rfl) ?_
      refine lv_iload_n hx hb dX1_sweep_11 rfl (lv_at hl 2 rfl) ?_
      refine lv_icmp_le (tgt := 17) hx hb dX1_sweep_12 (by decide) (fun c_12 => ?_) (fun c_12 => ?_)
      · obtain ⟨a, ha, rfl⟩ := nI_of c_1
        have h40 : a < 40 := lt40_of (n40 c_7) ha (fun h => absurd c_12 (Int32.not_le.mpr h))
        refine lv_iconst (v := 0) hx hb dX1_sweep_17 (by decide) ?_
        refine lv_istore_n (lv' := [(3, .int 0), (0, .ref h0), (1, .int (nI a)), (2, .int y)]) hx hb dX1_sweep_18 rfl hl (by decide) rfl (fun ls hl => ?_)
        refine lv_iload_n hx hb dX1_sweep_19 rfl (lv_at hl 2 rfl) ?_
        refine lv_istore (lv' := [(4, .int (nI a)), (3, .int 0), (0, .ref h0), (1, .int (nI a)), (2, .int y)]) hx hb dX1_sweep_20 hl (by decide) rfl (fun ls hl => ?_)
        unfold sweepM at hret
        rw [if_neg c_1, if_neg c_7, if_pos c_12, tn_nI (by omega)] at hret
        exact q1_sweep F (n40 c_7) hret 40 a (0, σ) (by omega) (by omega) rfl H locs ls G hl
      · refine lv_iconst (v := -1) hx hb dX1_sweep_15 (by decide) ?_
        exact hret _ _ _ _ _ _ G (by unfold sweepM; rw [if_neg c_1, if_neg c_7, if_neg c_12]) dX1_sweep_16
theorem c1_sweep (l : Launch) (σ : St) (x y : Int32)  : C1 l yX1_sweep cX1_sweep 6 (some .int) rm1_sweep [.int x, .int y] σ (sweepM σ x y) := C1.of (by decide) rfl (fun _ => Nat.le_of_ble_eq_true rfl) rfl (fun p e s m args below meth c Q D A h0 h ca ls F G hl hret => b1_sweep x y F G hl hret)
def anyM (σ : St) (a : Nat) : Nat → Int32
  | 0 => 0
  | w + 1 => if σ.1 2 w = 0 then anyM σ a w else if σ.1 6 w = 0 then (if inRangeM σ w (nI a) = 0 then anyM σ a w else 1) else anyM σ a w
def wsumM (σ : St) : Nat → Int32
  | 0 => 0
  | a + 1 => if anyM σ a 8 = 0 then wsumM σ a else wsumM σ a + 1
def watchedM (σ : St) : Int32 := wsumM σ 40
set_option maxHeartbeats 2000000 in
theorem q1_watchedI {p : Program} {l : Launch} {e : Env} {s : State} {m : MethodId} {args : Array Value} {below : List Frame} {meth : Method} {c : Code} {Q : State → Prop} {D : va_G} {A : Nat → Prop} {h0 : Nat} {h : Nat → Nat} {ca : Nat → ClassId} {a : Nat} {y : Int32} (F : Fx p m c cX1_watched 5 s args RX1) {σ : St} : ∀ (d w : Nat), w + d = 8 → ∀ (H : Heap) (locs : List Loc) (ls : Array Slot), Wd1 D s A h0 h ca σ H locs → lv_has ls 5 [(4, .int (nI w)), (3, .int (anyM σ a w)), (2, .int (nI a)), (1, .int y), (0, .ref h0)] → (∀ (H : Heap) (locs : List Loc) (ls : Array Slot), Wd1 D s A h0 h ca σ H locs → lv_has ls 5 [(3, .int (anyM σ a 8)), (2, .int (nI a)), (1, .int y), (0, .ref h0)] → W p l e rm1_watched s m args below meth c H locs 0 0 Q (F0 m 60 ls [])) → W p l e rm1_watched s m args below meth c H locs 0 0 Q (F0 m 15 ls []) := by
  have F1 := F
  obtain ⟨hx, hb, hml, hown, hts⟩ := F1
  intro d
  induction d with
  | zero =>
    intro w hw H locs ls G hl K
    refine lv_iload hx hb dX1_watched_15 (lv_at hl 0 rfl) ?_
    refine lv_bipush (v := 8) hx hb dX1_watched_17 (by decide) ?_
    refine lv_icmp_ge (tgt := 60) hx hb dX1_watched_19 (by decide) (fun _ => ?_) (fun c_19 => absurd (nI_le (a := 8) (by omega) (by omega)) c_19)
    rw [show (8 : Nat) = w by omega] at K
    exact K H locs ls G (lv_sub hl [1, 2, 3, 4] rfl)
  | succ d ih =>
    intro w hw H locs ls G hl K
    refine lv_iload hx hb dX1_watched_15 (lv_at hl 0 rfl) ?_
    refine lv_bipush (v := 8) hx hb dX1_watched_17 (by decide) ?_
    refine lv_icmp_ge (tgt := 60) hx hb dX1_watched_19 (by decide) (fun c_19 => absurd c_19 (nI_ge (b := 8) (by omega) (by omega))) (fun _ => ?_)
    refine lv_aload_n hx hb dX1_watched_22 rfl (lv_at hl 4 rfl) ?_
    refine g1_2 hx hb hts hown G dX1_watched_23 ?_
    refine lv_iload hx hb dX1_watched_26 (lv_at hl 0 rfl) ?_
    refine l1_2 w hx hb G rfl (by omega) dX1_watched_28 ?_
    refine lv_if_eq (tgt := 54) hx hb dX1_watched_29 (by decide) (fun c_29 => ?_) (fun c_29 => ?_)
    · refine lv_iinc (v := nI (w + 1)) (lv' := [(4, .int (nI (w + 1))), (3, .int (anyM σ a w)), (2, .int (nI a)), (1, .int y), (0, .ref h0)]) hx hb dX1_watched_54 hl (k := 0) rfl (nI_1 w) (by decide) rfl (fun ls hl => ?_)
      refine lv_goto (tgt := 15) hx hb dX1_watched_57 (by decide) ?_
      exact ih (w + 1) (by omega) H locs ls G (by rw [anyM, if_pos c_29]; exact lv_sub hl [0, 1, 2, 3, 4] rfl) K
    · refine lv_aload_n hx hb dX1_watched_32 rfl (lv_at hl 4 rfl) ?_
      refine g1_6 hx hb hts hown G dX1_watched_33 ?_
      refine lv_iload hx hb dX1_watched_36 (lv_at hl 0 rfl) ?_
      refine l1_6 w hx hb G rfl (by omega) dX1_watched_38 ?_
      refine lv_if_ne (tgt := 54) hx hb dX1_watched_39 (by decide) (fun c_39 => ?_) (fun c_39 => ?_)
      · refine lv_iinc (v := nI (w + 1)) (lv' := [(4, .int (nI (w + 1))), (3, .int (anyM σ a w)), (2, .int (nI a)), (1, .int y), (0, .ref h0)]) hx hb dX1_watched_54 hl (k := 0) rfl (nI_1 w) (by decide) rfl (fun ls hl => ?_)
        refine lv_goto (tgt := 15) hx hb dX1_watched_57 (by decide) ?_
        exact ih (w + 1) (by omega) H locs ls G (by rw [anyM, if_neg c_29, if_neg c_39]; exact lv_sub hl [0, 1, 2, 3, 4] rfl) K
      · refine lv_aload_n hx hb dX1_watched_42 rfl (lv_at hl 4 rfl) ?_
        refine lv_iload hx hb dX1_watched_43 (lv_at hl 0 rfl) ?_
        refine lv_iload_n hx hb dX1_watched_45 rfl (lv_at hl 2 rfl) ?_
        refine call1I (av := [.int (nI w), .int (nI a)]) (rest := []) hx hb hml hts hown (c1_inRange l σ w (nI a) (by omega)) (cw1_inRange hts ⟨Nat.le_of_ble_eq_true rfl, Nat.le_of_ble_eq_true rfl⟩) G rfl hl.1 rfl (Nat.le_of_ble_eq_true rfl) dX1_watched_46 ⟨Nat.zero_le _, Nat.zero_le _⟩ (fun H locs G => ?_)
        refine lv_if_eq (tgt := 54) hx hb dX1_watched_49 (by decide) (fun c_49 => ?_) (fun c_49 => ?_)
        · refine lv_iinc (v := nI (w + 1)) (lv' := [(4, .int (nI (w + 1))), (3, .int (anyM σ a w)), (2, .int (nI a)), (1, .int y), (0, .ref h0)]) hx hb dX1_watched_54 hl (k := 0) rfl (nI_1 w) (by decide) rfl (fun ls hl => ?_)
          refine lv_goto (tgt := 15) hx hb dX1_watched_57 (by decide) ?_
          exact ih (w + 1) (by omega) H locs ls G (by rw [anyM, if_neg c_29, if_pos c_39, if_pos c_49]; exact lv_sub hl [0, 1, 2, 3, 4] rfl) K
        · refine lv_iconst (v := 1) hx hb dX1_watched_52 (by decide) ?_
          refine lv_istore_n (lv' := [(3, .int 1), (4, .int (nI w)), (2, .int (nI a)), (1, .int y), (0, .ref h0)]) hx hb dX1_watched_53 rfl hl (by decide) rfl (fun ls hl => ?_)
          refine lv_iinc (v := nI (w + 1)) (lv' := [(4, .int (nI (w + 1))), (3, .int 1), (2, .int (nI a)), (1, .int y), (0, .ref h0)]) hx hb dX1_watched_54 hl (k := 1) rfl (nI_1 w) (by decide) rfl (fun ls hl => ?_)
          refine lv_goto (tgt := 15) hx hb dX1_watched_57 (by decide) ?_
          exact ih (w + 1) (by omega) H locs ls G (by rw [anyM, if_neg c_29, if_pos c_39, if_neg c_49]; exact lv_sub hl [0, 1, 2, 3, 4] rfl) K
set_option maxHeartbeats 2000000 in
theorem q1_watched {p : Program} {l : Launch} {e : Env} {s : State} {m : MethodId} {args : Array Value} {below : List Frame} {meth : Method} {c : Code} {Q : State → Prop} {D : va_G} {A : Nat → Prop} {h0 : Nat} {h : Nat → Nat} {ca : Nat → ClassId} (F : Fx p m c cX1_watched 5 s args RX1) {σ : St} (hret : RetI1 p l e rm1_watched s m args below meth c cX1_watched Q D A h0 h ca (watchedM σ, σ)) : ∀ (d a : Nat), a + d = 40 → ∀ (H : Heap) (locs : List Loc) (ls : Array Slot), Wd1 D s A h0 h ca σ H locs → lv_has ls 5 [(2, .int (nI a)), (1, .int (wsumM σ a)), (0, .ref h0)] → W p l e rm1_watched s m args below meth c H locs 0 0 Q (F0 m 4 ls []) := by
  have F1 := F
  obtain ⟨hx, hb, hml, hown, hts⟩ := F1
  intro d
  induction d with
  | zero =>
    intro a ha H locs ls G hl
    refine lv_iload_n hx hb dX1_watched_4 rfl (lv_at hl 0 rfl) ?_
    refine lv_bipush (v := 40) hx hb dX1_watched_5 (by decide) ?_
    refine lv_icmp_ge (tgt := 73) hx hb dX1_watched_7 (by decide) (fun _ => ?_) (fun c_7 => absurd (nI_le (a := 40) (by omega) (by omega)) c_7)
    refine lv_iload_n hx hb dX1_watched_73 rfl (lv_at hl 1 rfl) ?_
    exact hret _ _ _ _ _ _ G (by unfold watchedM; rw [show (40 : Nat) = a by omega]) dX1_watched_74
  | succ d ih =>
    intro a ha H locs ls G hl
    refine lv_iload_n hx hb dX1_watched_4 rfl (lv_at hl 0 rfl) ?_
    refine lv_bipush (v := 40) hx hb dX1_watched_5 (by decide) ?_
    refine lv_icmp_ge (tgt := 73) hx hb dX1_watched_7 (by decide) (fun c_7 => absurd c_7 (nI_ge (b := 40) (by omega) (by omega))) (fun _ => ?_)
    refine lv_iconst (v := 0) hx hb dX1_watched_10 (by decide) ?_
    refine lv_istore_n (lv' := [(3, .int 0), (2, .int (nI a)), (1, .int (wsumM σ a)), (0, .ref h0)]) hx hb dX1_watched_11 rfl hl (by decide) rfl (fun ls hl => ?_)
    refine lv_iconst (v := 0) hx hb dX1_watched_12 (by decide) ?_
    refine lv_istore (lv' := [(4, .int 0), (3, .int 0), (2, .int (nI a)), (1, .int (wsumM σ a)), (0, .ref h0)]) hx hb dX1_watched_13 hl (by decide) rfl (fun ls hl => ?_)
    refine q1_watchedI F 8 0 (by omega) H locs ls G (lv_sub hl [0, 1, 2, 3, 4] rfl) (fun H locs ls G hl => ?_)
    refine lv_iload_n hx hb dX1_watched_60 rfl (lv_at hl 0 rfl) ?_
    refine lv_if_eq (tgt := 67) hx hb dX1_watched_61 (by decide) (fun c_61 => ?_) (fun c_61 => ?_)
    · refine lv_iinc (v := nI (a + 1)) (lv' := [(2, .int (nI (a + 1))), (3, .int (anyM σ a 8)), (1, .int (wsumM σ a)), (0, .ref h0)]) hx hb dX1_watched_67 hl (k := 1) rfl (nI_1 a) (by decide) rfl (fun ls hl => ?_)
      refine lv_goto (tgt := 4) hx hb dX1_watched_70 (by decide) ?_
      exact ih (a + 1) (by omega) H locs ls G (by rw [wsumM, if_pos c_61]; exact lv_sub hl [0, 2, 3] rfl)
    · refine lv_iinc (v := (wsumM σ a) + 1) (lv' := [(1, .int ((wsumM σ a) + 1)), (3, .int (anyM σ a 8)), (2, .int (nI a)), (0, .ref h0)]) hx hb dX1_watched_64 hl (k := 2) rfl rfl (by decide) rfl (fun ls hl => ?_)
      refine lv_iinc (v := nI (a + 1)) (lv' := [(2, .int (nI (a + 1))), (1, .int ((wsumM σ a) + 1)), (3, .int (anyM σ a 8)), (0, .ref h0)]) hx hb dX1_watched_67 hl (k := 2) rfl (nI_1 a) (by decide) rfl (fun ls hl => ?_)
      refine lv_goto (tgt := 4) hx hb dX1_watched_70 (by decide) ?_
      exact ih (a + 1) (by omega) H locs ls G (by rw [wsumM, if_neg c_61]; exact lv_sub hl [0, 1, 3] rfl)
set_option maxHeartbeats 2000000 in
theorem b1_watched {p : Program} {l : Launch} {e : Env} {s : State} {m : MethodId} {args : Array Value} {below : List Frame} {meth : Method} {c : Code} {Q : State → Prop} {D : va_G} {A : Nat → Prop} {h0 : Nat} {h : Nat → Nat} {ca : Nat → ClassId} {σ : St} {H : Heap} {locs : List Loc} {ls : Array Slot} (F : Fx p m c cX1_watched 5 s args RX1) (G : Wd1 D s A h0 h ca σ H locs) (hl : lv_has ls 5 [(0, .ref h0)]) (hret : RetI1 p l e rm1_watched s m args below meth c cX1_watched Q D A h0 h ca (watchedM σ, σ)) : W p l e rm1_watched s m args below meth c H locs 0 0 Q (F0 m 0 ls []) := by
  have F1 := F
  obtain ⟨hx, hb, hml, hown, hts⟩ := F1
  refine lv_iconst (v := 0) hx hb dX1_watched_0 (by decide) ?_
  refine lv_istore_n (lv' := [(1, .int 0), (0, .ref h0)]) hx hb dX1_watched_1 rfl hl (by decide) rfl (fun ls hl => ?_)
  refine lv_iconst (v := 0) hx hb dX1_watched_2 (by decide) ?_
  refine lv_istore_n (lv' := [(2, .int 0), (1, .int 0), (0, .ref h0)]) hx hb dX1_watched_3 rfl hl (by decide) rfl (fun ls hl => ?_)
  exact q1_watched F hret 40 0 (by omega) H locs ls G (lv_sub hl [0, 1, 2] rfl)
theorem c1_watched (l : Launch) (σ : St)  : C1 l yX1_watched cX1_watched 5 (some .int) rm1_watched [] σ (watchedM σ, σ) := C1.of (by decide) rfl (fun _ => Nat.le_of_ble_eq_true rfl) rfl (fun p e s m args below meth c Q D A h0 h ca ls F G hl hret => b1_watched  F G hl hret)
end
section
set_option maxRecDepth 100000
def bt (x : Int32) (i : Nat) : Bool := x.toBitVec.getLsbD i
theorem b_ext {x y : Int32} (h : ∀ i, i < 32 → bt x i = bt y i) : x = y := Int32.toBitVec_inj.mp (BitVec.eq_of_getLsbD_eq (fun i hi => h i hi))
theorem b_or (x y : Int32) (i : Nat) : bt (x ||| y) i = (bt x i || bt y i) := by unfold bt; rw [Int32.toBitVec_or, BitVec.getLsbD_or]
theorem b_and (x y : Int32) (i : Nat) : bt (x &&& y) i = (bt x i && bt y i) := by unfold bt; rw [Int32.toBitVec_and, BitVec.getLsbD_and]
theorem b_xor (x y : Int32) (i : Nat) : bt (x ^^^ y) i = (bt x i ^^ bt y i) := by unfold bt; rw [Int32.toBitVec_xor, BitVec.getLsbD_xor]
theorem b_big {x : Int32} {i : Nat} (h : 32 ≤ i) : bt x i = false := BitVec.getLsbD_of_ge _ _ h
theorem b_255 (i : Nat) : bt 255 i = decide (i < 8) := by
  rcases Nat.lt_or_ge i 32 with h | h
  · exact (by decide +kernel : ∀ i, i < 32 → bt 255 i = decide (i < 8)) i h
  · rw [b_big h, decide_eq_false (by omega)]
theorem b_65535 (i : Nat) : bt 65535 i = decide (i < 16) := by
  rcases Nat.lt_or_ge i 32 with h | h
  · exact (by decide +kernel : ∀ i, i < 32 → bt 65535 i = decide (i < 16)) i h
  · rw [b_big h, decide_eq_false (by omega)]
theorem b_m1 : ∀ i, i < 32 → bt (-1) i = true := by decide +kernel
theorem b_0 (i : Nat) : bt 0 i = false := BitVec.getLsbD_zero
theorem s_l : ∀ n, n < 32 → ((nI n &&& 31).toBitVec.smod 32).toNat = n := by decide +kernel
theorem s_u : ∀ n, n < 32 → (((nI n).toUInt32 &&& Int32.toUInt32 31).toBitVec % 32).toNat = n := by decide +kernel
theorem b_shl (n : Nat) (hn : n < 32) (x : Int32) {i : Nat} (hi : i < 32) : bt (x <<< (nI n &&& 31)) i = (decide (n ≤ i) && bt x (i - n)) := by
  unfold bt
  rw [Int32.toBitVec_shiftLeft]
  show (x.toBitVec <<< ((nI n &&& 31).toBitVec.smod 32).toNat).getLsbD i = _
  rw [s_l n hn, BitVec.getLsbD_shiftLeft]
  rcases Nat.lt_or_ge i n with h | h
  · simp [h, Nat.not_le.mpr h]
  · simp [hi, h, Nat.not_lt.mpr h]
theorem b_ushr (n : Nat) (hn : n < 32) (x : Int32) (i : Nat) : bt ((x.toUInt32 >>> ((nI n).toUInt32 &&& Int32.toUInt32 31)).toInt32) i = bt x (n + i) := by
  show (x.toUInt32 >>> ((nI n).toUInt32 &&& Int32.toUInt32 31)).toBitVec.getLsbD i = x.toUInt32.toBitVec.getLsbD (n + i)
  rw [UInt32.toBitVec_shiftRight]
  show (x.toUInt32.toBitVec >>> (((nI n).toUInt32 &&& Int32.toUInt32 31).toBitVec % 32).toNat).getLsbD i = _
  rw [s_u n hn, BitVec.getLsbD_ushiftRight]
theorem b_sshr (n : Nat) (hn : n < 32) (x : Int32) {i : Nat} (hi : i < 32) : bt (x >>> (nI n &&& 31)) i = if n + i < 32 then bt x (n + i) else bt x 31 := by
  unfold bt
  rw [Int32.toBitVec_shiftRight]
  show (x.toBitVec.sshiftRight ((nI n &&& 31).toBitVec.smod 32).toNat).getLsbD i = _
  rw [s_l n hn, BitVec.getLsbD_sshiftRight, BitVec.msb_eq_getLsbD_last]
  simp [hi]
theorem b_shl8 (x : Int32) {i : Nat} (hi : i < 32) : bt (x <<< ((8 : Int32) &&& 31)) i = (decide (8 ≤ i) && bt x (i - 8)) := b_shl 8 (by omega) x hi
theorem b_shl16 (x : Int32) {i : Nat} (hi : i < 32) : bt (x <<< ((16 : Int32) &&& 31)) i = (decide (16 ≤ i) && bt x (i - 16)) := b_shl 16 (by omega) x hi
theorem b_shl24 (x : Int32) {i : Nat} (hi : i < 32) : bt (x <<< ((24 : Int32) &&& 31)) i = (decide (24 ≤ i) && bt x (i - 24)) := b_shl 24 (by omega) x hi
theorem b_sshr8 (x : Int32) {i : Nat} (hi : i < 32) : bt (x >>> ((8 : Int32) &&& 31)) i = if 8 + i < 32 then bt x (8 + i) else bt x 31 := b_sshr 8 (by omega) x hi
theorem b_1 (i : Nat) : bt 1 i = decide (i = 0) := by
  rcases Nat.lt_or_ge i 32 with h | h
  · exact (by decide +kernel : ∀ i, i < 32 → bt 1 i = decide (i = 0)) i h
  · rw [b_big h, decide_eq_false (by omega)]
theorem b_one (w : Nat) (hw : w < 32) {i : Nat} (hi : i < 32) : bt ((1 : Int32) <<< (nI w &&& 31)) i = decide (i = w) := by
  rw [b_shl w hw 1 hi, b_1]
  by_cases h : i = w
  · subst h
    simp
  · rw [decide_eq_false h]
    rcases Nat.lt_or_ge i w with q | q
    · rw [decide_eq_false (by omega), Bool.false_and]
    · rw [decide_eq_false (p := i - w = 0) (by omega), Bool.and_false]
/-- one bit of a mask, as the code reads it -/
theorem b_get (z : Int32) (w : Nat) (hw : w < 32) : (z >>> (nI w &&& 31)) &&& 1 = if bt z w = true then 1 else 0 := by
  apply b_ext
  intro i hi
  rw [b_and, b_1, b_sshr w hw z hi]
  by_cases h0 : i = 0
  · subst h0
    rw [if_pos (by omega), Nat.add_zero]
    cases h : bt z w
    · rw [if_neg (by decide), b_0]
      rfl
    · rw [if_pos rfl, b_1]
      rfl
  · rw [decide_eq_false h0, Bool.and_false]
    split
    · rw [b_1, decide_eq_false h0]
    · rw [b_0]
theorem b_get1 (z : Int32) (w : Nat) (hw : w < 32) : ((z >>> (nI w &&& 31)) &&& 1 = 1) ↔ bt z w = true := by
  rw [b_get z w hw]
  split
  · exact ⟨fun _ => by assumption, fun _ => rfl⟩
  · exact ⟨fun h => absurd h (by decide), fun h => absurd h (by assumption)⟩
theorem b_nz {z : Int32} {i : Nat} (h : bt z i = true) : ¬ z = 0 := by
  intro e
  rw [e, b_0] at h
  exact absurd h (by decide)
theorem b_ex {z : Int32} (h : ¬ z = 0) : ∃ i, i < 32 ∧ bt z i = true := by
  rcases Classical.em (∃ i, i < 32 ∧ bt z i = true) with q | q
  · exact q
  · refine absurd (b_ext (y := 0) (fun i hi => ?_)) h
    rw [b_0]
    cases e : bt z i
    · rfl
    · exact absurd ⟨i, hi, e⟩ q
/-- updates read -/
theorem sA_e (σ : St) (k i : Nat) (x : Int32) (k1 j : Nat) : (sA σ k i x).1 k1 j = if k1 = k then (if j = i then x else σ.1 k j) else σ.1 k1 j := by
  unfold sA va_up upd
  dsimp only
  split <;> rfl
theorem sA_s (σ : St) (k i : Nat) (x : Int32) : (sA σ k i x).1 k i = x := by rw [sA_e, if_pos rfl, if_pos rfl]
theorem sA_i (σ : St) (k : Nat) {i j : Nat} (x : Int32) (h : j ≠ i) : (sA σ k i x).1 k j = σ.1 k j := by rw [sA_e, if_pos rfl, if_neg h]
theorem sA_k (σ : St) {k k1 : Nat} (i : Nat) (x : Int32) (h : k1 ≠ k) : (sA σ k i x).1 k1 = σ.1 k1 := by
  funext j
  rw [sA_e, if_neg h]
theorem sA_2 (σ : St) (k i : Nat) (x : Int32) : (sA σ k i x).2 = σ.2 := rfl
theorem sV_1 (σ : St) (k : Nat) (x : Int32) : (sV σ k x).1 = σ.1 := rfl
theorem sV_s (σ : St) (k : Nat) (x : Int32) : (sV σ k x).2 k = x := va_up_self _ _ _
theorem sV_k (σ : St) {k k1 : Nat} (x : Int32) (h : k1 ≠ k) : (sV σ k x).2 k1 = σ.2 k1 := va_up_ne _ _ h
theorem sV_e (σ : St) (k : Nat) (x : Int32) (k1 : Nat) : (sV σ k x).2 k1 = if k1 = k then x else σ.2 k1 := rfl
/-- shifts and or -/
theorem or_sh (x y : Int32) {s : Nat} (hs : s < 32) : (x ||| y) <<< (nI s &&& 31) = (x <<< (nI s &&& 31)) ||| (y <<< (nI s &&& 31)) := by
  apply b_ext
  intro i hi
  rw [b_shl s hs _ hi, b_or, b_or, b_shl s hs _ hi, b_shl s hs _ hi, Bool.and_or_distrib_left]
theorem sh_sh (x : Int32) {s t : Nat} (hs : s + t < 32) : (x <<< (nI s &&& 31)) <<< (nI t &&& 31) = x <<< (nI (s + t) &&& 31) := by
  apply b_ext
  intro i hi
  rw [b_shl t (by omega) _ hi, b_shl (s + t) hs _ hi, b_shl s (by omega) _ (by omega)]
  rcases Nat.lt_or_ge i (s + t) with q | q
  · rw [decide_eq_false (p := s + t ≤ i) (by omega), Bool.false_and]
    rcases Nat.lt_or_ge i t with q2 | q2
    · rw [decide_eq_false (p := t ≤ i) (by omega), Bool.false_and]
    · rw [decide_eq_false (p := s ≤ i - t) (by omega), Bool.false_and, Bool.and_false]
  · rw [decide_eq_true (p := s + t ≤ i) q, decide_eq_true (p := t ≤ i) (by omega), decide_eq_true (p := s ≤ i - t) (by omega), show i - t - s = i - (s + t) by omega]
    rfl
theorem or_c (x y : Int32) : x ||| y = y ||| x := b_ext (fun i _ => by rw [b_or, b_or, Bool.or_comm])
theorem or_a (x y z : Int32) : (x ||| y) ||| z = x ||| (y ||| z) := b_ext (fun i _ => by rw [b_or, b_or, b_or, b_or, Bool.or_assoc])
theorem or_z (x : Int32) : 0 ||| x = x := b_ext (fun i _ => by rw [b_or, b_0, Bool.false_or])
theorem z_sh {s : Nat} (hs : s < 32) : (0 : Int32) <<< (nI s &&& 31) = 0 := b_ext (fun i hi => by rw [b_shl s hs _ hi, b_0, b_0, Bool.and_false])
theorem sh_0 (x : Int32) : x <<< (nI 0 &&& 31) = x := b_ext (fun i hi => by rw [b_shl 0 (by omega) _ hi, Nat.sub_zero, decide_eq_true (Nat.zero_le i), Bool.true_and])
theorem m8 (k : Nat) : (8 : Int32) * nI k = nI (8 * k) := pk_mul 8 k
/-- the bytes f (a), f (a + 1) .. as a number -/
def nuF (f : Nat → Int32) (a : Nat) : Nat → Int32
  | 0 => 0
  | k + 1 => nuF f a k ||| (f (a + k) <<< (nI (8 * k) &&& 31))
theorem nuF_c {f g : Nat → Int32} {a b : Nat} : ∀ n, (∀ k, k < n → f (a + k) = g (b + k)) → nuF f a n = nuF g b n
  | 0, _ => rfl
  | n + 1, h => by rw [nuF, nuF, nuF_c n (fun k hk => h k (by omega)), h n (by omega)]
theorem vA_nu (f : Nat → Int32) (a : Nat) : ∀ j, j ≤ 3 → ∀ v, vA f a j v = (v <<< (nI (8 * j) &&& 31)) ||| nuF f a j
  | 0, _, v => by
    show v = (v <<< (nI 0 &&& 31)) ||| 0
    rw [sh_0, or_c, or_z]
  | j + 1, h, v => by
    rw [vA, vA_nu f a j (by omega), show (8 : Int32) &&& 31 = nI 8 &&& 31 from rfl, or_sh _ _ (by omega), sh_sh _ (by omega), or_a, nuF, or_c (nuF f a j), show 8 + 8 * j = 8 * (j + 1) by omega]
theorem vA_0 (f : Nat → Int32) (a : Nat) : ∀ n, n ≤ 4 → vA f a n 0 = nuF f a n
  | 0, _ => rfl
  | n + 1, h => by
    rw [vA, vA_nu f a n (by omega), show (8 : Int32) &&& 31 = nI 8 &&& 31 from rfl, z_sh (by omega), or_z, or_c, nuF]
theorem numL_1 (τ : St) (a : Nat) : ∀ n, numL τ a 1 n = nuF (τ.1 0) a n
  | 0 => rfl
  | n + 1 => by rw [numL, numL_1 τ a n, m8, if_neg (by decide), nuF]
theorem numL_0 (τ : St) (a : Nat) : ∀ n, numL τ a 0 n = nuF (τ.1 1) a n
  | 0 => rfl
  | n + 1 => by rw [numL, numL_0 τ a n, m8, if_pos rfl, nuF]
/-- the byte k of a number, by either shift -/
theorem byte_k (v : Int32) {k : Nat} (hk : k < 4) : (v.toUInt32 >>> ((8 * nI k).toUInt32 &&& Int32.toUInt32 31)).toInt32 &&& 255 = (v >>> ((8 * nI k) &&& 31)) &&& 255 := by
  rw [m8]
  apply b_ext
  intro i hi
  rw [b_and, b_and, b_255, b_ushr (8 * k) (by omega), b_sshr (8 * k) (by omega) _ hi]
  rcases Nat.lt_or_ge i 8 with h | h
  · rw [if_pos (by omega)]
  · rw [decide_eq_false (by omega), Bool.and_false, Bool.and_false]
end
section
set_option maxRecDepth 100000
/-- a watch that is set: its first byte f, its length m, its kind k, in both states -/
def okN (σ τ : St) (w f m k : Nat) : Prop := 1 ≤ m ∧ m ≤ 16 ∧ f + m ≤ 40 ∧ 1 ≤ k ∧ k ≤ 4 ∧ σ.1 3 w = nI f ∧ σ.1 4 w = nI (f + m - 1) ∧ σ.1 5 w = nI k ∧ τ.1 3 w = nI f ∧ τ.1 4 w = nI m ∧ τ.1 5 w = nI k
theorem inR_iff {τ : St} {w f m t : Nat} (h3 : τ.1 3 w = nI f) (h4 : τ.1 4 w = nI m) (hf : f + m ≤ 40) (ht : t ≤ 40) : inRangeM τ w (nI t) = 0 ↔ ¬ (f ≤ t ∧ t < f + m) := by
  unfold inRangeM
  rw [h3, h4, nI_add]
  by_cases h1 : nI t < nI f
  · rw [if_pos h1]
    rw [nI_ltI (by omega) (by omega)] at h1
    exact ⟨fun _ h => by omega, fun _ => rfl⟩
  · rw [if_neg h1]
    rw [nI_ltI (by omega) (by omega)] at h1
    by_cases h2 : nI (f + m) ≤ nI t
    · rw [if_pos h2]
      rw [nI_leI (by omega) (by omega)] at h2
      exact ⟨fun _ h => by omega, fun _ => rfl⟩
    · rw [if_neg h2]
      rw [nI_leI (by omega) (by omega)] at h2
      exact ⟨fun h => absurd h (by decide), fun h => absurd ⟨by omega, by omega⟩ h⟩
theorem hitL_1 {τ : St} {w f m : Nat} (h3 : τ.1 3 w = nI f) (h4 : τ.1 4 w = nI m) (hf : f + m ≤ 40) : ∀ (d t : Nat) (p q : Int32), t + d ≤ 40 → ((hitL τ w d t p q).1 = 0 ↔ (p = 0 ∧ ∀ b, t ≤ b → b < t + d → ¬ (f ≤ b ∧ b < f + m)))
  | 0, t, p, q, _ => ⟨fun h => ⟨h, fun b h1 h2 => absurd h2 (by omega)⟩, fun h => h.1⟩
  | d + 1, t, p, q, ht => by
    rw [hitL]
    by_cases h1 : inRangeM τ w (nI t) = 0
    · rw [if_pos h1, hitL_1 h3 h4 hf d (t + 1) p q (by omega)]
      have h2 := (inR_iff h3 h4 hf (by omega)).mp h1
      refine ⟨fun h => ⟨h.1, fun b hb1 hb2 => ?_⟩, fun h => ⟨h.1, fun b hb1 hb2 => h.2 b (by omega) (by omega)⟩⟩
      by_cases e : b = t
      · rw [e]
        exact h2
      · exact h.2 b (by omega) (by omega)
    · rw [if_neg h1]
      have h2 : f ≤ t ∧ t < f + m := by
        by_cases e : f ≤ t ∧ t < f + m
        · exact e
        · exact absurd ((inR_iff h3 h4 hf (by omega)).mpr e) h1
      have key : ∀ q1, ((hitL τ w d (t + 1) 1 q1).1 = 0 ↔ (p = 0 ∧ ∀ b, t ≤ b → b < t + (d + 1) → ¬ (f ≤ b ∧ b < f + m))) := fun q1 => by
        rw [hitL_1 h3 h4 hf d (t + 1) 1 q1 (by omega)]
        exact ⟨fun h => absurd h.1 (by decide), fun h => absurd h2 (h.2 t (Nat.le_refl t) (by omega))⟩
      split
      · exact key q
      · exact key 1
theorem hitL_2 {τ : St} {w f m : Nat} (h3 : τ.1 3 w = nI f) (h4 : τ.1 4 w = nI m) (hf : f + m ≤ 40) : ∀ (d t : Nat) (p q : Int32), t + d ≤ 40 → ((hitL τ w d t p q).2 = 0 ↔ (q = 0 ∧ ∀ b, t ≤ b → b < t + d → (f ≤ b ∧ b < f + m) → τ.1 0 b = τ.1 1 b))
  | 0, t, p, q, _ => ⟨fun h => ⟨h, fun b h1 h2 => absurd h2 (by omega)⟩, fun h => h.1⟩
  | d + 1, t, p, q, ht => by
    rw [hitL]
    by_cases h1 : inRangeM τ w (nI t) = 0
    · rw [if_pos h1, hitL_2 h3 h4 hf d (t + 1) p q (by omega)]
      have h2 := (inR_iff h3 h4 hf (by omega)).mp h1
      refine ⟨fun h => ⟨h.1, fun b hb1 hb2 hb3 => ?_⟩, fun h => ⟨h.1, fun b hb1 hb2 => h.2 b (by omega) (by omega)⟩⟩
      by_cases e : b = t
      · rw [e] at hb3
        exact absurd hb3 h2
      · exact h.2 b (by omega) (by omega) hb3
    · rw [if_neg h1]
      have h2 : f ≤ t ∧ t < f + m := by
        by_cases e : f ≤ t ∧ t < f + m
        · exact e
        · exact absurd ((inR_iff h3 h4 hf (by omega)).mpr e) h1
      by_cases h5 : τ.1 0 t = τ.1 1 t
      · rw [if_pos h5, hitL_2 h3 h4 hf d (t + 1) 1 q (by omega)]
        refine ⟨fun h => ⟨h.1, fun b hb1 hb2 hb3 => ?_⟩, fun h => ⟨h.1, fun b hb1 hb2 => h.2 b (by omega) (by omega)⟩⟩
        by_cases e : b = t
        · rw [e]
          exact h5
        · exact h.2 b (by omega) (by omega) hb3
      · rw [if_neg h5, hitL_2 h3 h4 hf d (t + 1) 1 1 (by omega)]
        exact ⟨fun h => absurd h.1 (by decide), fun h => absurd (h.2 t (Nat.le_refl t) (by omega) h2) h5⟩
theorem chg_0 {σ : St} {w a f m : Nat} (h3 : σ.1 3 w = nI f) (h4 : σ.1 4 w = nI (f + m - 1)) (hm : 1 ≤ m) (hf : f + m ≤ 40) : ∀ (d k : Nat), a + k + d ≤ 40 → (chg σ w a d k = 0 ↔ ∀ j, k ≤ j → j < k + d → (f ≤ a + j ∧ a + j < f + m) → σ.1 0 (a + j) = σ.1 17 j)
  | 0, k, _ => ⟨fun _ j h1 h2 => absurd h2 (by omega), fun _ => rfl⟩
  | d + 1, k, hk => by
    have ih := chg_0 (a := a) h3 h4 hm hf d (k + 1) (by omega)
    rw [chg, h3, h4]
    have skip : ¬ (f ≤ a + k ∧ a + k < f + m) → (chg σ w a d (k + 1) = 0 ↔ ∀ j, k ≤ j → j < k + (d + 1) → (f ≤ a + j ∧ a + j < f + m) → σ.1 0 (a + j) = σ.1 17 j) := by
      intro h2
      rw [ih]
      refine ⟨fun h j hj1 hj2 hj3 => ?_, fun h j hj1 hj2 => h j (by omega) (by omega)⟩
      by_cases e : j = k
      · rw [e] at hj3
        exact absurd hj3 h2
      · exact h j (by omega) (by omega) hj3
    by_cases c1 : nI (a + k) < nI f
    · rw [if_pos c1]
      rw [nI_ltI (by omega) (by omega)] at c1
      exact skip (by omega)
    · rw [if_neg c1]
      rw [nI_ltI (by omega) (by omega)] at c1
      by_cases c2 : nI (f + m - 1) < nI (a + k)
      · rw [if_pos c2]
        rw [nI_ltI (by omega) (by omega)] at c2
        exact skip (by omega)
      · rw [if_neg c2]
        rw [nI_ltI (by omega) (by omega)] at c2
        by_cases c3 : σ.1 0 (a + k) = σ.1 17 k
        · rw [if_pos c3, ih]
          refine ⟨fun h j hj1 hj2 hj3 => ?_, fun h j hj1 hj2 => h j (by omega) (by omega)⟩
          by_cases e : j = k
          · rw [e]
            exact c3
          · exact h j (by omega) (by omega) hj3
        · rw [if_neg c3]
          exact ⟨fun h => absurd h (by decide), fun h => absurd (h k (Nat.le_refl k) (by omega) ⟨by omega, by omega⟩) c3⟩
theorem z01 (p : Int32) : ((if p = 0 then (0 : Int32) else 1) = 0) ↔ p = 0 := by
  by_cases h : p = 0
  · rw [if_pos h]
    exact ⟨fun _ => h, fun _ => rfl⟩
  · rw [if_neg h]
    exact ⟨fun q => absurd q (by decide), fun q => absurd q h⟩
theorem z00 (p : Int32) : ((if p = 0 then (0 : Int32) else 0) = 0) ↔ True := by
  by_cases h : p = 0
  · rw [if_pos h]
    exact ⟨fun _ => trivial, fun _ => rfl⟩
  · rw [if_neg h]
    exact ⟨fun _ => trivial, fun _ => rfl⟩
/-- the two readings of 'the access hits the watch', kind by kind -/
theorem hit_kinds (k : Nat) (h1 : 1 ≤ k) (h4 : k ≤ 4) (wr x p5 q c : Int32) (hxp : x = 0 ↔ p5 = 0) (hcq : c = 0 ↔ q = 0) :
    (if nI k = 4 then (if wr = 0 then 0 else c) else (if nI k &&& (if wr = 0 then 1 else 2) = 0 then 0 else x)) = 0 ↔ (if nI k = 1 then (if p5 = 0 then 0 else (if wr = 0 then 1 else 0)) else (if nI k = 2 then (if p5 = 0 then 0 else (if wr = 0 then 0 else 1)) else (if nI k = 4 then (if q = 0 then 0 else (if wr = 0 then 0 else 1)) else p5))) = 0 := by
  rcases (show k = 1 ∨ k = 2 ∨ k = 3 ∨ k = 4 by omega) with e | e | e | e
  · subst e
    rw [if_neg (by decide), if_pos (show nI 1 = 1 from rfl)]
    by_cases hw : wr = 0
    · rw [if_pos hw, if_pos hw, if_neg (by decide), z01]
      exact hxp
    · rw [if_neg hw, if_neg hw, if_pos (by decide), z00]
      exact ⟨fun _ => trivial, fun _ => rfl⟩
  · subst e
    rw [if_neg (by decide), if_neg (show ¬ nI 2 = 1 by decide), if_pos (show nI 2 = 2 from rfl)]
    by_cases hw : wr = 0
    · rw [if_pos hw, if_pos hw, if_pos (by decide), z00]
      exact ⟨fun _ => trivial, fun _ => rfl⟩
    · rw [if_neg hw, if_neg hw, if_neg (by decide), z01]
      exact hxp
  · subst e
    rw [if_neg (by decide), if_neg (show ¬ nI 3 = 1 by decide), if_neg (show ¬ nI 3 = 2 by decide), if_neg (show ¬ nI 3 = 4 by decide)]
    by_cases hw : wr = 0
    · rw [if_pos hw, if_neg (by decide)]
      exact hxp
    · rw [if_neg hw, if_neg (by decide)]
      exact hxp
  · subst e
    rw [if_pos (by decide), if_neg (show ¬ nI 4 = 1 by decide), if_neg (show ¬ nI 4 = 2 by decide), if_pos (show nI 4 = 4 from rfl)]
    by_cases hw : wr = 0
    · rw [if_pos hw, if_pos hw, z00]
      exact ⟨fun _ => trivial, fun _ => rfl⟩
    · rw [if_neg hw, if_neg hw, z01]
      exact hcq
/-- the access's bytes meet the watch's -/
theorem ov_iff {σ : St} {w a n f m : Nat} (h3 : σ.1 3 w = nI f) (h4 : σ.1 4 w = nI (f + m - 1)) (hm : 1 ≤ m) (hf : f + m ≤ 40) (ha : a + n ≤ 40) : (if σ.1 4 w < nI a then (0 : Int32) else (if nI a + nI n ≤ σ.1 3 w then 0 else 1)) = 0 ↔ (f + m ≤ a ∨ a + n ≤ f) := by
  rw [h3, h4, nI_add]
  by_cases c1 : nI (f + m - 1) < nI a
  · rw [if_pos c1]
    rw [nI_ltI (by omega) (by omega)] at c1
    exact ⟨fun _ => by omega, fun _ => rfl⟩
  · rw [if_neg c1]
    rw [nI_ltI (by omega) (by omega)] at c1
    by_cases c2 : nI (a + n) ≤ nI f
    · rw [if_pos c2]
      rw [nI_leI (by omega) (by omega)] at c2
      exact ⟨fun _ => by omega, fun _ => rfl⟩
    · rw [if_neg c2]
      rw [nI_leI (by omega) (by omega)] at c2
      exact ⟨fun h => absurd h (by decide), fun h => by omega⟩
/-- a running watch: class 0 and class 1 hit together -/
theorem hit_iff {σ τ : St} {w a n f m k : Nat} {wr : Int32} (ho : okN σ τ w f m k) (hon : ¬ τ.1 2 w = 0) (hpa : τ.1 6 w = 0) (hn : 1 ≤ n) (ha : a + n ≤ 40) (hM : ∀ i, i < 40 → σ.1 0 i = τ.1 0 i) (hO : ∀ j, j < n → σ.1 17 j = τ.1 1 (a + j)) : isHitX σ w a n wr = 0 ↔ hitM τ w a n wr = 0 := by
  obtain ⟨m1, m2, fm, k1, k2, s3, s4, s5, t3, t4, t5⟩ := ho
  have hxp : (if σ.1 4 w < nI a then (0 : Int32) else (if nI a + nI n ≤ σ.1 3 w then 0 else 1)) = 0 ↔ (hitL τ w n a 0 0).1 = 0 := by
    rw [ov_iff s3 s4 m1 fm ha, hitL_1 t3 t4 fm n a 0 0 ha]
    refine ⟨fun h => ⟨rfl, fun b h1 h2 h3 => by omega⟩, fun h => ?_⟩
    rcases Nat.lt_or_ge a f with q | q
    · rcases Nat.lt_or_ge f (a + n) with q2 | q2
      · exact absurd ⟨Nat.le_refl f, by omega⟩ (h.2 f (by omega) q2)
      · exact Or.inr q2
    · rcases Nat.lt_or_ge a (f + m) with q2 | q2
      · exact absurd ⟨q, q2⟩ (h.2 a (Nat.le_refl a) (by omega))
      · exact Or.inl q2
  have hcq : chg σ w a n 0 = 0 ↔ (hitL τ w n a 0 0).2 = 0 := by
    rw [chg_0 s3 s4 m1 fm n 0 (by omega), hitL_2 t3 t4 fm n a 0 0 ha]
    refine ⟨fun h => ⟨rfl, fun b h1 h2 h3 => ?_⟩, fun h j h1 h2 h3 => ?_⟩
    · have e := h (b - a) (by omega) (by omega) ⟨by omega, by omega⟩
      have eb : a + (b - a) = b := by omega
      rw [hO (b - a) (by omega), eb, hM b (by omega)] at e
      exact e
    · rw [hM (a + j) (by omega), hO j (by omega)]
      exact h.2 (a + j) (by omega) (by omega) h3
  unfold hitM isHitX hitE
  rw [if_neg hon, if_pos hpa, s5, t5]
  exact hit_kinds k k1 k2 wr _ _ _ _ hxp hcq
/-- a hit lies on the watch, and its way is the watch's -/
theorem hit_touch {σ τ : St} {w a n f m k : Nat} {wr : Int32} (ho : okN σ τ w f m k) (hn : 1 ≤ n) (ha : a + n ≤ 40) (hh : ¬ isHitX σ w a n wr = 0) : (∃ b, a ≤ b ∧ b < a + n ∧ f ≤ b ∧ b < f + m) ∧ ¬ (wayX σ w &&& (if wr = 0 then 1 else 2)) = 0 := by
  obtain ⟨m1, m2, fm, k1, k2, s3, s4, s5, t3, t4, t5⟩ := ho
  unfold isHitX at hh
  unfold wayX
  by_cases c4 : σ.1 5 w = 4
  · rw [if_pos c4] at hh ⊢
    by_cases hw : wr = 0
    · rw [if_pos hw] at hh
      exact absurd rfl hh
    · rw [if_neg hw] at hh ⊢
      rw [chg_0 s3 s4 m1 fm n 0 (by omega)] at hh
      refine ⟨?_, by decide⟩
      rcases Classical.em (∃ b, a ≤ b ∧ b < a + n ∧ f ≤ b ∧ b < f + m) with q | q
      · exact q
      · exact absurd (fun j _ h2 h3 => absurd ⟨a + j, by omega, by omega, h3.1, h3.2⟩ q) hh
  · rw [if_neg c4] at hh ⊢
    by_cases c5 : (σ.1 5 w) &&& (if wr = 0 then 1 else 2) = 0
    · rw [if_pos c5] at hh
      exact absurd rfl hh
    · rw [if_neg c5, ov_iff s3 s4 m1 fm ha] at hh
      refine ⟨?_, c5⟩
      rcases Nat.lt_or_ge a f with q | q
      · exact ⟨f, by omega, by omega, by omega, by omega⟩
      · exact ⟨a, by omega, by omega, by omega, by omega⟩
/-- what the hits don't read may change -/
theorem chg_fr {ρ σ : St} (hk : ∀ k, k ≠ 6 → k ≠ 7 → ρ.1 k = σ.1 k) (w a : Nat) : ∀ d k, chg ρ w a d k = chg σ w a d k
  | 0, _ => rfl
  | d + 1, k => by
    rw [chg, chg, chg_fr hk w a d (k + 1), hk 3 (by decide) (by decide), hk 4 (by decide) (by decide), hk 0 (by decide) (by decide), hk 17 (by decide) (by decide)]
theorem isHit_fr {ρ σ : St} (hk : ∀ k, k ≠ 6 → k ≠ 7 → ρ.1 k = σ.1 k) (w a n : Nat) (wr : Int32) : isHitX ρ w a n wr = isHitX σ w a n wr := by
  unfold isHitX
  rw [chg_fr hk, hk 3 (by decide) (by decide), hk 4 (by decide) (by decide), hk 5 (by decide) (by decide)]
theorem inR_fr {ρ σ : St} (hk : ∀ k, k ≠ 7 → k ≠ 8 → ρ.1 k = σ.1 k) (w : Nat) (x : Int32) : inRangeM ρ w x = inRangeM σ w x := by
  unfold inRangeM
  rw [hk 3 (by decide) (by decide), hk 4 (by decide) (by decide)]
theorem hitL_fr {ρ σ : St} (hk : ∀ k, k ≠ 7 → k ≠ 8 → ρ.1 k = σ.1 k) (w : Nat) : ∀ d t p q, hitL ρ w d t p q = hitL σ w d t p q
  | 0, _, _, _ => rfl
  | d + 1, t, p, q => by
    rw [hitL, hitL, inR_fr hk, hk 0 (by decide) (by decide), hk 1 (by decide) (by decide), hitL_fr hk w d, hitL_fr hk w d, hitL_fr hk w d]
theorem hit_fr {ρ σ : St} (hk : ∀ k, k ≠ 7 → k ≠ 8 → ρ.1 k = σ.1 k) (w a n : Nat) (wr : Int32) : hitM ρ w a n wr = hitM σ w a n wr := by
  unfold hitM hitE
  rw [hitL_fr hk, hk 2 (by decide) (by decide), hk 6 (by decide) (by decide), hk 5 (by decide) (by decide)]
end
section
set_option maxRecDepth 100000
def isRun (σ : St) (w : Nat) : Prop := ¬ σ.1 1 w = 0 ∧ σ.1 2 w = 0
/-- a register that covers the byte b for the watch w, whose ways are W -/
def Cov (ρ : St) (W : Int32) (w b : Nat) : Prop := ∃ r x y : Nat, r < tn (ρ.2 18) ∧ ρ.1 8 r = nI x ∧ ρ.1 9 r = nI y ∧ x ≤ b ∧ b < x + y ∧ x + y ≤ 40 ∧ bt (ρ.1 11 r) w = true ∧ ∀ i, bt W i = true → bt (ρ.1 10 r) i = true
/-- what a block's taking leaves as it was -/
def FrO (σ ρ : St) : Prop := (∀ k, k < 8 ∨ 12 ≤ k → ρ.1 k = σ.1 k) ∧ (∀ k, k ≠ 18 → k ≠ 19 → ρ.2 k = σ.2 k)
theorem FrO.rf (σ : St) : FrO σ σ := ⟨fun _ _ => rfl, fun _ _ _ => rfl⟩
theorem FrO.tr {σ ρ τ : St} (h1 : FrO σ ρ) (h2 : FrO ρ τ) : FrO σ τ := ⟨fun k hk => (h2.1 k hk).trans (h1.1 k hk), fun k a b => (h2.2 k a b).trans (h1.2 k a b)⟩
theorem occU_k (σ : St) (w r : Nat) {k : Nat} (h1 : k ≠ 10) (h2 : k ≠ 11) : (occU σ w r).1 k = σ.1 k := by
  unfold occU
  rw [sA_k _ _ _ h2, sA_k _ _ _ h1]
theorem occU_2 (σ : St) (w r : Nat) : (occU σ w r).2 = σ.2 := rfl
theorem occU_10 (σ : St) (w r j : Nat) : (occU σ w r).1 10 j = if j = r then σ.1 10 r ||| wayX σ w else σ.1 10 j := by
  unfold occU
  rw [sA_k _ _ _ (by decide), sA_e, if_pos rfl]
theorem occU_11 (σ : St) (w r j : Nat) : (occU σ w r).1 11 j = if j = r then σ.1 11 r ||| (1 <<< (nI w &&& 31)) else σ.1 11 j := by
  unfold occU
  rw [sA_e, if_pos rfl, sA_k _ _ _ (by decide)]
/-- a block that gets a register of its own -/
def occN (σ : St) (x y : Int32) (w : Nat) : St := sV (sA (sA (sA (sA σ 8 (tn (σ.2 18)) x) 9 (tn (σ.2 18)) y) 10 (tn (σ.2 18)) (wayX σ w)) 11 (tn (σ.2 18)) (1 <<< (nI w &&& 31))) 18 (σ.2 18 + 1)
theorem occE_cases (σ : St) (x y : Int32) (w : Nat) : (σ.2 18 = 4 ∧ occE σ x y w = sV σ 19 1) ∨ (¬ σ.2 18 = 4 ∧ occE σ x y w = occN σ x y w) := by
  unfold occE
  by_cases h : σ.2 18 = 4
  · rw [if_pos h]
    exact Or.inl ⟨h, rfl⟩
  · rw [if_neg h]
    exact Or.inr ⟨h, rfl⟩
theorem occ_cases (σ : St) (x y : Int32) (w : Nat) : ∀ d k, (∃ r, r < k + d ∧ σ.1 8 r = x ∧ σ.1 9 r = y ∧ occ σ x y w d k = occU σ w r) ∨ occ σ x y w d k = occE σ x y w
  | 0, _ => Or.inr rfl
  | d + 1, k => by
    have ih := occ_cases σ x y w d (k + 1)
    have go : ((∃ r, r < k + (d + 1) ∧ σ.1 8 r = x ∧ σ.1 9 r = y ∧ occ σ x y w d (k + 1) = occU σ w r) ∨ occ σ x y w d (k + 1) = occE σ x y w) := by
      rcases ih with ⟨r, h1, h2⟩ | h
      · exact Or.inl ⟨r, by omega, h2⟩
      · exact Or.inr h
    rw [occ]
    by_cases c1 : σ.1 8 k = x
    · rw [if_pos c1]
      by_cases c2 : σ.1 9 k = y
      · rw [if_pos c2]
        exact Or.inl ⟨k, by omega, c1, c2, rfl⟩
      · rw [if_neg c2]
        exact go
    · rw [if_neg c1]
      exact go
theorem occX_cases (σ : St) (x y : Int32) (w : Nat) : (∃ r, r < tn (σ.2 18) ∧ σ.1 8 r = x ∧ σ.1 9 r = y ∧ occX σ x y w = occU σ w r) ∨ (σ.2 18 = 4 ∧ occX σ x y w = sV σ 19 1) ∨ (¬ σ.2 18 = 4 ∧ occX σ x y w = occN σ x y w) := by
  unfold occX
  rcases occ_cases σ x y w (tn (σ.2 18)) 0 with ⟨r, h1, h2⟩ | h
  · exact Or.inl ⟨r, by omega, h2⟩
  · rw [h]
    exact Or.inr (occE_cases σ x y w)
theorem occN_k (σ : St) (x y : Int32) (w : Nat) {k : Nat} (h : k < 8 ∨ 12 ≤ k) : (occN σ x y w).1 k = σ.1 k := by
  unfold occN
  rw [sV_1, sA_k _ _ _ (by omega), sA_k _ _ _ (by omega), sA_k _ _ _ (by omega), sA_k _ _ _ (by omega)]
theorem occN_2 (σ : St) (x y : Int32) (w : Nat) {k : Nat} (h : k ≠ 18) : (occN σ x y w).2 k = σ.2 k := sV_k _ _ h
theorem occN_18 {σ : St} (x y : Int32) (w : Nat) (hB : BK σ) (hc : ¬ σ.2 18 = 4) : tn ((occN σ x y w).2 18) = tn (σ.2 18) + 1 := by
  have hb4 := bk4 hB hc
  have e1 : σ.2 18 + 1 = nI (tn (σ.2 18) + 1) := by
    have := nI_1 (tn (σ.2 18))
    rw [← hB.1] at this
    exact this
  show (σ.2 18 + 1).toNatClampNeg = _
  rw [e1, nI_clamp (by omega)]
theorem occN_8 (σ : St) (x y : Int32) (w j : Nat) : (occN σ x y w).1 8 j = if j = tn (σ.2 18) then x else σ.1 8 j := by
  unfold occN
  rw [sV_1, sA_k _ _ _ (by decide), sA_k _ _ _ (by decide), sA_k _ _ _ (by decide), sA_e, if_pos rfl]
theorem occN_9 (σ : St) (x y : Int32) (w j : Nat) : (occN σ x y w).1 9 j = if j = tn (σ.2 18) then y else σ.1 9 j := by
  unfold occN
  rw [sV_1, sA_k _ _ _ (by decide), sA_k _ _ _ (by decide), sA_e, if_pos rfl, sA_k _ _ _ (by decide)]
theorem occN_10 (σ : St) (x y : Int32) (w j : Nat) : (occN σ x y w).1 10 j = if j = tn (σ.2 18) then wayX σ w else σ.1 10 j := by
  unfold occN
  rw [sV_1, sA_k _ _ _ (by decide), sA_e, if_pos rfl, sA_k _ _ _ (by decide), sA_k _ _ _ (by decide)]
theorem occN_11 (σ : St) (x y : Int32) (w j : Nat) : (occN σ x y w).1 11 j = if j = tn (σ.2 18) then 1 <<< (nI w &&& 31) else σ.1 11 j := by
  unfold occN
  rw [sV_1, sA_e, if_pos rfl, sA_k _ _ _ (by decide), sA_k _ _ _ (by decide), sA_k _ _ _ (by decide)]
theorem occX_fr (σ : St) (x y : Int32) (w : Nat) : FrO σ (occX σ x y w) := by
  rcases occX_cases σ x y w with ⟨r, -, -, -, e⟩ | ⟨-, e⟩ | ⟨-, e⟩
  · rw [e]
    exact ⟨fun k hk => occU_k σ w r (by omega) (by omega), fun k _ _ => by rw [occU_2]⟩
  · rw [e]
    exact ⟨fun k _ => rfl, fun k _ h => sV_k _ _ h⟩
  · rw [e]
    exact ⟨fun k hk => occN_k σ x y w hk, fun k h _ => occN_2 σ x y w h⟩
theorem occX_step {σ : St} {x y : Int32} {w : Nat} (h0 : (occX σ x y w).2 19 = 0) : σ.2 19 = 0 := by
  rcases occX_cases σ x y w with ⟨r, -, -, -, e⟩ | ⟨-, e⟩ | ⟨-, e⟩
  · rw [e, occU_2] at h0
    exact h0
  · rw [e, sV_s] at h0
    exact absurd h0 (by decide)
  · rw [e, occN_2 _ _ _ _ (by decide)] at h0
    exact h0
theorem b_orl {x y : Int32} {i : Nat} (h : bt x i = true) : bt (x ||| y) i = true := by rw [b_or, h, Bool.true_or]
theorem b_orr {x y : Int32} {i : Nat} (h : bt y i = true) : bt (x ||| y) i = true := by rw [b_or, h, Bool.or_true]
theorem b_oe {x y : Int32} {i : Nat} (h : bt (x ||| y) i = true) : bt x i = true ∨ bt y i = true := by
  rw [b_or, Bool.or_eq_true] at h
  exact h
theorem b_self {w : Nat} (hw : w < 32) : bt ((1 : Int32) <<< (nI w &&& 31)) w = true := by
  rw [b_one w hw hw]
  exact decide_eq_true rfl
theorem b_only {w i : Nat} (hw : w < 32) (hi : i < 32) (h : bt ((1 : Int32) <<< (nI w &&& 31)) i = true) : i = w := by
  rw [b_one w hw hi] at h
  exact of_decide_eq_true h
theorem occX_cov {σ : St} {x y W : Int32} {w w1 b : Nat} (hB : BK σ) (hC : Cov σ W w1 b) : Cov (occX σ x y w) W w1 b := by
  obtain ⟨r, x1, y1, h1, h2, h3, h4, h5, h6, h7, h8⟩ := hC
  rcases occX_cases σ x y w with ⟨r0, -, -, -, e⟩ | ⟨-, e⟩ | ⟨hc, e⟩
  · rw [e]
    refine ⟨r, x1, y1, by rw [occU_2]; exact h1, by rw [occU_k _ _ _ (by decide) (by decide)]; exact h2, by rw [occU_k _ _ _ (by decide) (by decide)]; exact h3, h4, h5, h6, ?_, fun i hi => ?_⟩
    · rw [occU_11]
      by_cases c : r = r0
      · rw [if_pos c, ← c]
        exact b_orl h7
      · rw [if_neg c]
        exact h7
    · rw [occU_10]
      by_cases c : r = r0
      · rw [if_pos c, ← c]
        exact b_orl (h8 i hi)
      · rw [if_neg c]
        exact h8 i hi
  · rw [e]
    exact ⟨r, x1, y1, by rw [sV_k _ _ (by decide)]; exact h1, h2, h3, h4, h5, h6, h7, h8⟩
  · rw [e]
    have hr : r ≠ tn (σ.2 18) := by omega
    refine ⟨r, x1, y1, by rw [occN_18 x y w hB hc]; omega, by rw [occN_8, if_neg hr]; exact h2, by rw [occN_9, if_neg hr]; exact h3, h4, h5, h6, by rw [occN_11, if_neg hr]; exact h7, fun i hi => by rw [occN_10, if_neg hr]; exact h8 i hi⟩
theorem occX_new {σ : St} {x y w b : Nat} (hB : BK σ) (hx : x ≤ b) (hb : b < x + y) (hxy : x + y ≤ 40) (hw : w < 32) (h0 : (occX σ (nI x) (nI y) w).2 19 = 0) : Cov (occX σ (nI x) (nI y) w) (wayX σ w) w b := by
  rcases occX_cases σ (nI x) (nI y) w with ⟨r, h1, h2, h3, e⟩ | ⟨-, e⟩ | ⟨hc, e⟩
  · rw [e]
    refine ⟨r, x, y, by rw [occU_2]; exact h1, by rw [occU_k _ _ _ (by decide) (by decide)]; exact h2, by rw [occU_k _ _ _ (by decide) (by decide)]; exact h3, hx, hb, hxy, ?_, fun i hi => ?_⟩
    · rw [occU_11, if_pos rfl]
      exact b_orr (b_self hw)
    · rw [occU_10, if_pos rfl]
      exact b_orr hi
  · rw [e, sV_s] at h0
    exact absurd h0 (by decide)
  · rw [e]
    refine ⟨tn (σ.2 18), x, y, by rw [occN_18 _ _ w hB hc]; omega, by rw [occN_8, if_pos rfl], by rw [occN_9, if_pos rfl], hx, hb, hxy, by rw [occN_11, if_pos rfl]; exact b_self hw, fun i hi => by rw [occN_10, if_pos rfl]; exact hi⟩
theorem occX_in {σ : St} {x y : Int32} {w : Nat} (hB : BK σ) (hw : w < 32) (P : Nat → Prop) (hP : P w) (hh : ∀ r i, r < tn (σ.2 18) → i < 32 → bt (σ.1 11 r) i = true → P i) : ∀ r i, r < tn ((occX σ x y w).2 18) → i < 32 → bt ((occX σ x y w).1 11 r) i = true → P i := by
  intro r i hr hi hbt
  rcases occX_cases σ x y w with ⟨r0, -, -, -, e⟩ | ⟨-, e⟩ | ⟨hc, e⟩
  · rw [e, occU_2] at hr
    rw [e, occU_11] at hbt
    by_cases c : r = r0
    · rw [if_pos c, ← c] at hbt
      rcases b_oe hbt with q | q
      · exact hh r i hr hi q
      · rw [b_only hw hi q]
        exact hP
    · rw [if_neg c] at hbt
      exact hh r i hr hi hbt
  · rw [e, sV_k _ _ (by decide)] at hr
    rw [e] at hbt
    exact hh r i hr hi hbt
  · rw [e, occN_18 _ _ w hB hc] at hr
    rw [e, occN_11] at hbt
    by_cases c : r = tn (σ.2 18)
    · rw [if_pos c] at hbt
      rw [b_only hw hi hbt]
      exact hP
    · rw [if_neg c] at hbt
      exact hh r i (by omega) hi hbt
theorem bsz_ok {τ : St} {w l p : Nat} (h4 : τ.1 4 w = nI l) (hl : l < 40) (hp : p ≤ l) : ∀ t, t ≤ 3 → 1 ≤ bsz τ w (nI p) t ∧ p + bsz τ w (nI p) t ≤ l + 1
  | 0, _ => ⟨Nat.le_refl 1, Nat.succ_le_succ hp⟩
  | t + 1, ht => by
    have ih := bsz_ok h4 hl hp t (by omega)
    have h8 : 1 ≤ 2 ^ (t + 1) ∧ 2 ^ (t + 1) ≤ 8 := by
      rcases (show t = 0 ∨ t = 1 ∨ t = 2 by omega) with e | e | e <;> subst e <;> decide
    rw [bsz]
    by_cases c1 : nI p &&& (nI (2 ^ (t + 1)) - 1) = 0
    · rw [if_pos c1]
      by_cases c2 : (nI p + nI (2 ^ (t + 1))) - 1 ≤ τ.1 4 w
      · rw [if_pos c2]
        rw [h4, nI_add, show (1 : Int32) = nI 1 from rfl, pk_sub (by omega), nI_leI (by omega) (by omega)] at c2
        omega
      · rw [if_neg c2]
        exact ih
    · rw [if_neg c1]
      exact ih
theorem way_fr {σ ρ : St} (h : FrO σ ρ) (w : Nat) : wayX ρ w = wayX σ w := by
  unfold wayX
  rw [h.1 5 (by omega)]
/-- a watch's bytes are covered behind its split, unless the registers don't suffice -/
theorem spl_ok {w l : Nat} (hw : w < 8) (hl : l < 40) : ∀ (d p : Nat) (τ : St), BK τ → τ.1 4 w = nI l → l + 1 ≤ p + d → p ≤ 40 →
    FrO τ (spl w d (nI p) τ) ∧ ((spl w d (nI p) τ).2 19 = 0 → τ.2 19 = 0 ∧ ∀ b, p ≤ b → b ≤ l → Cov (spl w d (nI p) τ) (wayX τ w) w b) ∧ (∀ W w1 b, Cov τ W w1 b → Cov (spl w d (nI p) τ) W w1 b) ∧ (∀ P : Nat → Prop, P w → (∀ r i, r < tn (τ.2 18) → i < 32 → bt (τ.1 11 r) i = true → P i) → ∀ r i, r < tn ((spl w d (nI p) τ).2 18) → i < 32 → bt ((spl w d (nI p) τ).1 11 r) i = true → P i) := by
  intro d
  induction d with
  | zero =>
    intro p τ hB h4 h1 h2
    exact ⟨FrO.rf τ, fun h => ⟨h, fun b hb1 hb2 => absurd hb1 (by omega)⟩, fun _ _ _ h => h, fun P _ h => h⟩
  | succ d ih =>
    intro p τ hB h4 h1 h2
    rw [spl]
    by_cases c : τ.1 4 w < nI p
    · rw [if_pos c]
      rw [h4, nI_ltI (by omega) (by omega)] at c
      exact ⟨FrO.rf τ, fun h => ⟨h, fun b hb1 hb2 => absurd hb1 (by omega)⟩, fun _ _ _ h => h, fun P _ h => h⟩
    · rw [if_neg c]
      rw [h4, nI_ltI (by omega) (by omega)] at c
      obtain ⟨z1, z2⟩ := bsz_ok (p := p) h4 hl (by omega) 3 (Nat.le_refl 3)
      generalize bsz τ w (nI p) 3 = z at z1 z2 ⊢
      have hF := occX_fr τ (nI p) (nI z) w
      rw [nI_add]
      obtain ⟨i1, i2, i3, i4⟩ := ih (p + z) (occX τ (nI p) (nI z) w) (BK_occX _ _ _ hB) (by rw [hF.1 4 (by omega)]; exact h4) (by omega) (by omega)
      rw [way_fr hF] at i2
      refine ⟨hF.tr i1, fun h => ?_, fun W w1 b h => i3 W w1 b (occX_cov hB h), fun P hP h => i4 P hP (occX_in hB (by omega) P hP h)⟩
      obtain ⟨j1, j2⟩ := i2 h
      refine ⟨occX_step j1, fun b hb1 hb2 => ?_⟩
      rcases Nat.lt_or_ge b (p + z) with q | q
      · exact i3 _ _ _ (occX_new hB hb1 q (by omega) (by omega) j1)
      · exact j2 b q hb2
/-- the registers, loaded for the first W watches -/
def LdI (σ ρ : St) (W : Nat) : Prop := (∀ k, k < 8 ∨ 12 ≤ k → ρ.1 k = σ.1 k) ∧ (∀ k, 22 ≤ k → ρ.2 k = σ.2 k) ∧ ρ.2 20 = 1 ∧ (∀ i, i < 32 → (bt (ρ.2 21) i = true ↔ (i < W ∧ isRun σ i))) ∧ (∀ r i, r < tn (ρ.2 18) → i < 32 → bt (ρ.1 11 r) i = true → (i < W ∧ isRun σ i)) ∧ (ρ.2 19 = 0 → ∀ w, w < W → isRun σ w → ∀ b, b < 40 → σ.1 3 w ≤ nI b → nI b ≤ σ.1 4 w → Cov ρ (wayX σ w) w b)
theorem LdI_skip {σ ρ : St} {W : Nat} (h : LdI σ ρ W) (hn : ¬ isRun σ W) : LdI σ ρ (W + 1) := by
  obtain ⟨h1, h2, h3, h4, h5, h6⟩ := h
  refine ⟨h1, h2, h3, fun i hi => ?_, fun r i hr hi hbt => ?_, fun h0 w hw hr => ?_⟩
  · rw [h4 i hi]
    refine ⟨fun q => ⟨by omega, q.2⟩, fun q => ⟨?_, q.2⟩⟩
    rcases Nat.lt_or_ge i W with c | c
    · exact c
    · have e : i = W := by omega
      rw [e] at q
      exact absurd q.2 hn
  · have q := h5 r i hr hi hbt
    exact ⟨by omega, q.2⟩
  · have c : w ≠ W := fun e => by
      rw [e] at hr
      exact hn hr
    exact h6 h0 w (by omega) hr
theorem LdI_run {σ ρ : St} {W : Nat} (h : LdI σ ρ W) (hB : BK ρ) (hW : W < 8) (hr : isRun σ W) {f l : Nat} (hf : σ.1 3 W = nI f) (hl : σ.1 4 W = nI l) (hl4 : l < 40) (hfl : f ≤ l) (h16 : l + 1 ≤ f + 16) : LdI σ (splitX (sV ρ 21 (ρ.2 21 ||| (1 <<< (nI W &&& 31)))) W) (W + 1) := by
  obtain ⟨h1, h2, h3, h4, h5, h6⟩ := h
  generalize hρ : sV ρ 21 (ρ.2 21 ||| (1 <<< (nI W &&& 31))) = ρ1
  have a1 : ρ1.1 = ρ.1 := by rw [← hρ]; rfl
  have a18 : ρ1.2 18 = ρ.2 18 := by rw [← hρ]; rfl
  have a19 : ρ1.2 19 = ρ.2 19 := by rw [← hρ]; rfl
  have a20 : ρ1.2 20 = ρ.2 20 := by rw [← hρ]; rfl
  have a21 : ρ1.2 21 = ρ.2 21 ||| (1 <<< (nI W &&& 31)) := by rw [← hρ]; rfl
  have a22 : ∀ k, 22 ≤ k → ρ1.2 k = ρ.2 k := fun k hk => by rw [← hρ]; exact sV_k _ _ (by omega)
  have e3 : ρ1.1 3 W = nI f := by rw [a1, h1 3 (by omega)]; exact hf
  have e4 : ρ1.1 4 W = nI l := by rw [a1, h1 4 (by omega)]; exact hl
  have hw1 : wayX ρ1 W = wayX σ W := by
    unfold wayX
    rw [a1, h1 5 (by omega)]
  obtain ⟨i1, i2, i3, i4⟩ := spl_ok hW hl4 16 f ρ1 (BK_eq a18 hB) e4 h16 (by omega)
  unfold splitX
  rw [e3]
  generalize spl W 16 (nI f) ρ1 = ρ2 at i1 i2 i3 i4 ⊢
  refine ⟨fun k hk => ?_, fun k hk => ?_, ?_, fun i hi => ?_, ?_, fun h0 w hw hrw b hb hb1 hb2 => ?_⟩
  · rw [i1.1 k hk, a1, h1 k hk]
  · rw [i1.2 k (by omega) (by omega), a22 k hk, h2 k hk]
  · rw [i1.2 20 (by decide) (by decide), a20, h3]
  · rw [i1.2 21 (by decide) (by decide), a21]
    refine ⟨fun q => ?_, fun q => ?_⟩
    · rcases b_oe q with q | q
      · have q := (h4 i hi).mp q
        exact ⟨by omega, q.2⟩
      · rw [b_only (by omega) hi q]
        exact ⟨by omega, hr⟩
    · by_cases e : i = W
      · rw [e]
        exact b_orr (b_self (by omega))
      · exact b_orl ((h4 i hi).mpr ⟨by omega, q.2⟩)
  · refine i4 (fun i => i < W + 1 ∧ isRun σ i) ⟨by omega, hr⟩ (fun r i hr1 hi hbt => ?_)
    rw [a18] at hr1
    rw [a1] at hbt
    have q := h5 r i hr1 hi hbt
    exact ⟨by omega, q.2⟩
  · obtain ⟨j1, j2⟩ := i2 h0
    rw [hw1] at j2
    by_cases e : w = W
    · subst e
      rw [hf, nI_leI (by omega) (by omega)] at hb1
      rw [hl, nI_leI (by omega) (by omega)] at hb2
      exact j2 b hb1 hb2
    · rw [a19] at j1
      obtain ⟨r, x, y, q1, q2⟩ := h6 j1 w (by omega) hrw b hb hb1 hb2
      refine i3 _ _ _ ⟨r, x, y, by rw [a18]; exact q1, ?_⟩
      rw [a1]
      exact q2
theorem ldL_ok {σ : St} (hok : ∀ w, w < 8 → isRun σ w → ∃ f l, σ.1 3 w = nI f ∧ σ.1 4 w = nI l ∧ l < 40 ∧ f ≤ l ∧ l + 1 ≤ f + 16) : ∀ W, W ≤ 8 → LdI σ (ldL σ W) W
  | 0, _ => by
    refine ⟨fun k _ => rfl, fun k hk => ?_, rfl, fun i hi => ?_, fun r i hr => ?_, fun _ w hw => absurd hw (by omega)⟩
    · show (sV (sV (sV (sV σ 20 1) 19 0) 18 0) 21 0).2 k = σ.2 k
      rw [sV_k _ _ (by omega), sV_k _ _ (by omega), sV_k _ _ (by omega), sV_k _ _ (by omega)]
    · show bt 0 i = true ↔ _
      rw [b_0]
      exact ⟨fun q => absurd q (by decide), fun q => absurd q.1 (by omega)⟩
    · have e : tn ((ldL σ 0).2 18) = 0 := by
        show (0 : Int32).toNatClampNeg = 0
        decide
      rw [e] at hr
      exact absurd hr (by omega)
  | W + 1, hW => by
    have ih := ldL_ok hok W (by omega)
    have hB := BK_ldL σ W
    have a1 : (ldL σ W).1 1 W = σ.1 1 W := by rw [ih.1 1 (by omega)]
    have a2 : (ldL σ W).1 2 W = σ.1 2 W := by rw [ih.1 2 (by omega)]
    rw [ldL]
    by_cases c1 : (ldL σ W).1 1 W = 0
    · rw [if_pos c1]
      rw [a1] at c1
      exact LdI_skip ih (fun q => q.1 c1)
    · rw [if_neg c1]
      rw [a1] at c1
      by_cases c2 : (ldL σ W).1 2 W = 0
      · rw [if_pos c2]
        rw [a2] at c2
        obtain ⟨f, l, q1, q2, q3, q4, q5⟩ := hok W (by omega) ⟨c1, c2⟩
        exact LdI_run ih hB (by omega) ⟨c1, c2⟩ q1 q2 q3 q4 q5
      · rw [if_neg c2]
        rw [a2] at c2
        exact LdI_skip ih (fun q => c2 q.2)
/-- the registers stand for the watches that run -/
def Regs (σ : St) : Prop := (∀ i, i < 8 → (bt (σ.2 21) i = true ↔ isRun σ i)) ∧ (∀ r i, r < tn (σ.2 18) → i < 8 → bt (σ.1 11 r) i = true → isRun σ i) ∧ (σ.2 19 = 0 → ∀ w, w < 8 → isRun σ w → ∀ b, b < 40 → σ.1 3 w ≤ nI b → nI b ≤ σ.1 4 w → Cov σ (wayX σ w) w b)
theorem load_regs {σ : St} (hok : ∀ w, w < 8 → isRun σ w → ∃ f l, σ.1 3 w = nI f ∧ σ.1 4 w = nI l ∧ l < 40 ∧ f ≤ l ∧ l + 1 ≤ f + 16) : Regs (loadX σ) ∧ (∀ k, k < 8 ∨ 12 ≤ k → (loadX σ).1 k = σ.1 k) ∧ (∀ k, 22 ≤ k → (loadX σ).2 k = σ.2 k) ∧ (loadX σ).2 20 = 1 ∧ BK (loadX σ) := by
  have I := ldL_ok hok 8 (Nat.le_refl 8)
  have hB := BK_ldL σ 8
  unfold loadX
  generalize ldL σ 8 = ρ at I hB ⊢
  obtain ⟨h1, h2, h3, h4, h5, h6⟩ := I
  refine ⟨?_, h1, h2, h3, hB⟩
  have hr : ∀ i, isRun ρ i ↔ isRun σ i := fun i => by
    unfold isRun
    rw [h1 1 (by omega), h1 2 (by omega)]
  have hw : ∀ w, wayX ρ w = wayX σ w := fun w => by
    unfold wayX
    rw [h1 5 (by omega)]
  refine ⟨fun i hi => ?_, fun r i hr1 hi hbt => ?_, fun h0 w hw1 hrw b hb hb1 hb2 => ?_⟩
  · rw [h4 i (by omega), hr]
    exact ⟨fun q => q.2, fun q => ⟨hi, q⟩⟩
  · rw [hr]
    exact (h5 r i hr1 (by omega) hbt).2
  · rw [hr] at hrw
    rw [h1 3 (by omega)] at hb1
    rw [h1 4 (by omega)] at hb2
    rw [hw]
    exact h6 h0 w hw1 hrw b hb hb1 hb2
theorem Regs_fr {σ ρ : St} (hA : ∀ k, (1 ≤ k ∧ k ≤ 5) ∨ (8 ≤ k ∧ k ≤ 11) → ρ.1 k = σ.1 k) (hV : ∀ k, 18 ≤ k → k ≤ 21 → ρ.2 k = σ.2 k) (h : Regs σ) : Regs ρ := by
  have e1 := hA 1 (by omega)
  have e2 := hA 2 (by omega)
  have e3 := hA 3 (by omega)
  have e4 := hA 4 (by omega)
  have e5 := hA 5 (by omega)
  have e8 := hA 8 (by omega)
  have e9 := hA 9 (by omega)
  have e10 := hA 10 (by omega)
  have e11 := hA 11 (by omega)
  have v18 := hV 18 (by omega) (by omega)
  have v19 := hV 19 (by omega) (by omega)
  have v21 := hV 21 (by omega) (by omega)
  unfold Regs isRun Cov wayX at h ⊢
  simp only [e1, e2, e3, e4, e5, e8, e9, e10, e11, v18, v19, v21]
  exact h
/-- the suspects' bits -/
theorem sus_bit (σ : St) (a n : Nat) (wy : Int32) (i : Nat) : ∀ d k z, (bt (sus σ a n wy d k z) i = true ↔ (bt z i = true ∨ ∃ r, k ≤ r ∧ r < k + d ∧ ¬ ovl σ a n r = 0 ∧ ¬ (σ.1 10 r &&& wy = 0) ∧ bt (σ.1 11 r) i = true))
  | 0, k, z => ⟨fun h => Or.inl h, fun h => by
      rcases h with h | ⟨r, h1, h2, -⟩
      · exact h
      · exact absurd h2 (by omega)⟩
  | d + 1, k, z => by
    rw [sus, sus_bit σ a n wy i d (k + 1)]
    have keep : ¬ (¬ ovl σ a n k = 0 ∧ ¬ (σ.1 10 k &&& wy = 0)) → ((bt z i = true ∨ ∃ r, k + 1 ≤ r ∧ r < k + 1 + d ∧ ¬ ovl σ a n r = 0 ∧ ¬ (σ.1 10 r &&& wy = 0) ∧ bt (σ.1 11 r) i = true) ↔ (bt z i = true ∨ ∃ r, k ≤ r ∧ r < k + (d + 1) ∧ ¬ ovl σ a n r = 0 ∧ ¬ (σ.1 10 r &&& wy = 0) ∧ bt (σ.1 11 r) i = true)) := by
      intro hn
      refine ⟨fun h => ?_, fun h => ?_⟩
      · rcases h with h | ⟨r, h1, h2, h3⟩
        · exact Or.inl h
        · exact Or.inr ⟨r, by omega, by omega, h3⟩
      · rcases h with h | ⟨r, h1, h2, h3, h4, h5⟩
        · exact Or.inl h
        · refine Or.inr ⟨r, ?_, by omega, h3, h4, h5⟩
          by_cases e : r = k
          · rw [e] at h3 h4
            exact absurd ⟨h3, h4⟩ hn
          · omega
    by_cases c1 : ovl σ a n k = 0
    · rw [if_pos c1]
      exact keep (fun q => q.1 c1)
    · rw [if_neg c1]
      by_cases c2 : σ.1 10 k &&& wy = 0
      · rw [if_pos c2]
        exact keep (fun q => q.2 c2)
      · rw [if_neg c2]
        refine ⟨fun h => ?_, fun h => ?_⟩
        · rcases h with h | ⟨r, h1, h2, h3⟩
          · rcases b_oe h with h | h
            · exact Or.inl h
            · exact Or.inr ⟨k, Nat.le_refl k, by omega, c1, c2, h⟩
          · exact Or.inr ⟨r, by omega, by omega, h3⟩
        · rcases h with h | ⟨r, h1, h2, h3, h4, h5⟩
          · exact Or.inl (b_orl h)
          · by_cases e : r = k
            · rw [e] at h5
              exact Or.inl (b_orr h5)
            · exact Or.inr ⟨r, by omega, by omega, h3, h4, h5⟩
theorem susp_run {σ : St} {a n w : Nat} {wy : Int32} (hR : Regs σ) (hw : w < 8) (h : bt (suspectsX σ a n wy) w = true) : isRun σ w := by
  unfold suspectsX at h
  by_cases c : σ.2 19 = 0
  · rw [if_pos c, sus_bit] at h
    rcases h with h | ⟨r, h1, h2, h3, h4, h5⟩
    · rw [b_0] at h
      exact absurd h (by decide)
    · exact hR.2.1 r w (by omega) hw h5
  · rw [if_neg c] at h
    exact (hR.1 w hw).mp h
theorem susp_hit {σ τ : St} {a n w f m k : Nat} {wr : Int32} (hR : Regs σ) (hw : w < 8) (hr : isRun σ w) (ho : okN σ τ w f m k) (hn : 1 ≤ n) (ha : a + n ≤ 40) (hh : ¬ isHitX σ w a n wr = 0) : bt (suspectsX σ a n (if wr = 0 then 1 else 2)) w = true := by
  obtain ⟨⟨b, b1, b2, b3, b4⟩, hway⟩ := hit_touch ho hn ha hh
  obtain ⟨m1, m2, fm, k1, k2, s3, s4, s5, -, -, -⟩ := ho
  unfold suspectsX
  by_cases c : σ.2 19 = 0
  · rw [if_pos c, sus_bit]
    obtain ⟨r, x, y, q1, q2, q3, q4, q5, q6, q7, q8⟩ := hR.2.2 c w hw hr b (by omega) (by rw [s3]; exact nI_le b3 (by omega)) (by rw [s4]; exact nI_le (by omega) (by omega))
    refine Or.inr ⟨r, Nat.zero_le r, by omega, ?_, ?_, q7⟩
    · unfold ovl
      rw [q2, q3, nI_add, nI_add, if_neg (by rw [nI_leI (by omega) (by omega)]; omega), if_neg (by rw [nI_leI (by omega) (by omega)]; omega)]
      decide
    · obtain ⟨i, -, hi⟩ := b_ex hway
      rw [b_and, Bool.and_eq_true] at hi
      refine b_nz (i := i) ?_
      rw [b_and, q8 i hi.1, hi.2]
      rfl
  · rw [if_neg c]
    exact (hR.1 w hw).mpr hr
end
section
set_option maxRecDepth 100000
/-- a watch in both states -/
def okW (σ τ : St) (w : Nat) : Prop := σ.1 1 w = τ.1 2 w ∧ σ.1 2 w = τ.1 6 w ∧ σ.1 6 w = τ.1 7 w ∧ σ.1 7 w = τ.1 8 w ∧ (¬ σ.1 1 w = 0 → ∃ f m k, okN σ τ w f m k)
/-- the kept stops, of N in all: the ring of class 0, the latest first in class 1 -/
def Ring (N : Nat) (σ τ : St) : Prop := ∀ k, 12 ≤ k → k ≤ 16 → ∀ i, i < N → i < 8 → σ.1 k ((N - 1 - i) % 8) = τ.1 k i
/-- the two objects stand for the same unit, N stops behind them -/
def Rel (N : Nat) (σ τ : St) : Prop := (∀ i, i < 40 → σ.1 0 i = τ.1 0 i) ∧ (∀ w, w < 8 → okW σ τ w) ∧ σ.2 22 = τ.2 9 ∧ σ.2 23 = nI N ∧ τ.2 10 = nI N ∧ τ.2 11 = nI (if N < 8 then N else 8) ∧ Ring N σ τ ∧ BK σ ∧ (¬ σ.2 20 = 0 → Regs σ)
theorem Rel_fr {N : Nat} {σ τ ρ φ : St} (h : Rel N σ τ) (hA : ∀ k, (1 ≤ k ∧ k ≤ 7) ∨ (12 ≤ k ∧ k ≤ 16) → ρ.1 k = σ.1 k) (hA2 : ∀ k, 2 ≤ k → φ.1 k = τ.1 k) (h23 : ρ.2 23 = σ.2 23) (h10 : φ.2 10 = τ.2 10) (h11 : φ.2 11 = τ.2 11) (hM : ∀ i, i < 40 → ρ.1 0 i = φ.1 0 i) (hc : ρ.2 22 = φ.2 9) (hB : BK ρ) (hR : ¬ ρ.2 20 = 0 → Regs ρ) : Rel N ρ φ := by
  obtain ⟨r1, r2, r3, r4, r5, r6, r7, r8, r9⟩ := h
  refine ⟨hM, ?_, hc, h23.trans r4, h10.trans r5, h11.trans r6, ?_, hB, hR⟩
  · intro w hw
    have q := r2 w hw
    unfold okW okN at q ⊢
    rw [hA 1 (by omega), hA 2 (by omega), hA 3 (by omega), hA 4 (by omega), hA 5 (by omega), hA 6 (by omega), hA 7 (by omega), hA2 2 (by omega), hA2 3 (by omega), hA2 4 (by omega), hA2 5 (by omega), hA2 6 (by omega), hA2 7 (by omega), hA2 8 (by omega)]
    exact q
  · intro k h1 h2 i h3 h4
    rw [hA k (by omega), hA2 k (by omega)]
    exact r7 k h1 h2 i h3 h4
/-- one bit more in a mask -/
theorem pcn_set {z : Int32} {w : Nat} (hw : w < 8) (hz : bt z w = false) : ∀ j, j ≤ 8 → pcn (z ||| (1 <<< (nI w &&& 31))) j = pcn z j + (if w < j then 1 else 0)
  | 0, _ => by
    rw [if_neg (by omega)]
    rfl
  | j + 1, hj => by
    rw [pcn, pcn, pcn_set hw hz j (by omega), b_get _ j (by omega), b_get z j (by omega), b_or, b_one w (by omega) (by omega)]
    by_cases e : j = w
    · rw [decide_eq_true e, Bool.or_true, if_pos rfl, e, hz, if_neg (by omega), if_neg (by decide), if_pos (by omega)]
    · rw [decide_eq_false e, Bool.or_false]
      rcases Nat.lt_or_ge w j with q | q
      · rw [if_pos q, if_pos (show w < j + 1 by omega), Int32.add_assoc, Int32.add_comm 1, ← Int32.add_assoc]
      · rw [if_neg (by omega), if_neg (show ¬ w < j + 1 by omega), Int32.add_zero, Int32.add_zero]
/-- the watches settled alike in both -/
def ASim (σ τ : St) (q r : St × Int32 × Int32) (w : Nat) : Prop := (∀ k, k ≠ 6 → k ≠ 7 → q.1.1 k = σ.1 k) ∧ q.1.2 = σ.2 ∧ (∀ k, k ≠ 7 → k ≠ 8 → r.1.1 k = τ.1 k) ∧ r.1.2 = τ.2 ∧ (∀ i, i < 8 → q.1.1 6 i = r.1.1 7 i ∧ q.1.1 7 i = r.1.1 8 i) ∧ q.2 = r.2 ∧ (∀ i, i < 32 → w ≤ i → bt q.2.1 i = false) ∧ q.2.2 = pcn q.2.1 8
theorem acS_sim {σ τ : St} {hp hq : St → Nat → Int32} {q r : St × Int32 × Int32} {w : Nat} (hw : w < 8) (hh : hp q.1 w = 0 ↔ hq r.1 w = 0) (h : ASim σ τ q r w) : ASim σ τ (acS hp 6 7 q w) (acS hq 7 8 r w) (w + 1) := by
  obtain ⟨a1, a2, a3, a4, a5, a6, a7, a8⟩ := h
  unfold acS
  by_cases c1 : hp q.1 w = 0
  · rw [if_pos c1, if_pos (hh.mp c1)]
    exact ⟨a1, a2, a3, a4, a5, a6, fun i h1 h2 => a7 i h1 (by omega), a8⟩
  · rw [if_neg c1, if_neg (fun e => c1 (hh.mpr e)), ← (a5 w hw).1]
    by_cases c2 : q.1.1 6 w ≤ 0
    · rw [if_pos c2, if_pos c2]
      refine ⟨fun k h6 h7 => ?_, a2, fun k h7 h8 => ?_, a4, fun i hi => ?_, ?_, fun i h1 h2 => ?_, ?_⟩
      · rw [sA_k _ _ _ h7, a1 k h6 h7]
      · rw [sA_k _ _ _ h8, a3 k h7 h8]
      · dsimp only
        rw [sA_k _ _ _ (by decide), sA_k _ _ _ (by decide), sA_e, sA_e, if_pos rfl, if_pos rfl, (a5 w hw).2, (a5 i hi).2]
        exact ⟨(a5 i hi).1, rfl⟩
      · rw [a6]
      · show bt (q.2.1 ||| ((1 : Int32) <<< (nI w &&& 31))) i = false
        rw [b_or, a7 i h1 (by omega), b_one w (by omega) h1, decide_eq_false (by omega)]
        rfl
      · show q.2.2 + (1 : Int32) = pcn (q.2.1 ||| ((1 : Int32) <<< (nI w &&& 31))) 8
        rw [pcn_set hw (a7 w (by omega) (Nat.le_refl w)) 8 (Nat.le_refl 8), if_pos hw, a8]
    · rw [if_neg c2, if_neg c2]
      refine ⟨fun k h6 h7 => ?_, a2, fun k h7 h8 => ?_, a4, fun i hi => ?_, ?_, fun i h1 h2 => a7 i h1 (by omega), a8⟩
      · rw [sA_k _ _ _ h6, a1 k h6 h7]
      · rw [sA_k _ _ _ h7, a3 k h7 h8]
      · dsimp only
        refine ⟨?_, ?_⟩
        · rw [sA_e, sA_e, if_pos rfl, if_pos rfl, (a5 i hi).1]
        · rw [sA_k _ _ _ (by decide), sA_k _ _ _ (by decide)]
          exact (a5 i hi).2
      · rw [a6]
theorem accL_sim {σ τ : St} {hp hq : St → Nat → Int32} (H : ∀ w, w < 8 → ∀ ρ φ : St, (∀ k, k ≠ 6 → k ≠ 7 → ρ.1 k = σ.1 k) → (∀ k, k ≠ 7 → k ≠ 8 → φ.1 k = τ.1 k) → (hp ρ w = 0 ↔ hq φ w = 0)) (h67 : ∀ i, i < 8 → σ.1 6 i = τ.1 7 i ∧ σ.1 7 i = τ.1 8 i) : ∀ w, w ≤ 8 → ASim σ τ (accL hp 6 7 σ w) (accL hq 7 8 τ w) w
  | 0, _ => ⟨fun _ _ _ => rfl, rfl, fun _ _ _ => rfl, rfl, h67, rfl, fun i _ _ => b_0 i, (by show (0 : Int32) = pcn 0 8; decide)⟩
  | w + 1, hw => by
    have ih := accL_sim H h67 w (by omega)
    exact acS_sim (by omega) (H w (by omega) _ _ ih.1 ih.2.2.1) ih
/-- a stop kept: class 0 -/
theorem keepX_e (σ : St) (z : Int32) (a n : Nat) : keepX σ z a n = sA (sA (sA (sA (sA (sV σ 23 (σ.2 23 + 1)) 12 (tn (σ.2 23 &&& 7)) z) 13 (tn (σ.2 23 &&& 7)) (nI a)) 14 (tn (σ.2 23 &&& 7)) (σ.2 22)) 15 (tn (σ.2 23 &&& 7)) (vA (σ.1 17) 0 n 0)) 16 (tn (σ.2 23 &&& 7)) (vA (σ.1 0) a n 0) := rfl
theorem keepX_2 (σ : St) (z : Int32) (a n : Nat) {k : Nat} (h : k ≠ 23) : (keepX σ z a n).2 k = σ.2 k := by
  rw [keepX_e, sA_2, sA_2, sA_2, sA_2, sA_2, sV_k _ _ h]
theorem keepX_23 (σ : St) (z : Int32) (a n : Nat) : (keepX σ z a n).2 23 = σ.2 23 + 1 := rfl
theorem keepX_k (σ : St) (z : Int32) (a n : Nat) {k : Nat} (h : k < 12 ∨ 16 < k) : (keepX σ z a n).1 k = σ.1 k := by
  rw [keepX_e, sA_k _ _ _ (by omega), sA_k _ _ _ (by omega), sA_k _ _ _ (by omega), sA_k _ _ _ (by omega), sA_k _ _ _ (by omega), sV_1]
/-- what is kept, by its place -/
def kV (z a22 b f : Int32) (a : Nat) (k : Nat) : Int32 := if k = 12 then z else if k = 13 then nI a else if k = 14 then a22 else if k = 15 then b else f
theorem keepX_r (σ : St) (z : Int32) (a n : Nat) {k : Nat} (h1 : 12 ≤ k) (h2 : k ≤ 16) (j : Nat) : (keepX σ z a n).1 k j = if j = tn (σ.2 23 &&& 7) then kV z (σ.2 22) (vA (σ.1 17) 0 n 0) (vA (σ.1 0) a n 0) a k else σ.1 k j := by
  rw [keepX_e]
  rcases (show k = 12 ∨ k = 13 ∨ k = 14 ∨ k = 15 ∨ k = 16 by omega) with e | e | e | e | e <;> subst e
  · rw [sA_k _ _ _ (by decide), sA_k _ _ _ (by decide), sA_k _ _ _ (by decide), sA_k _ _ _ (by decide), sA_e, if_pos rfl]
    rfl
  · rw [sA_k _ _ _ (by decide), sA_k _ _ _ (by decide), sA_k _ _ _ (by decide), sA_e, if_pos rfl, sA_k _ _ _ (by decide)]
    rfl
  · rw [sA_k _ _ _ (by decide), sA_k _ _ _ (by decide), sA_e, if_pos rfl, sA_k _ _ _ (by decide), sA_k _ _ _ (by decide)]
    rfl
  · rw [sA_k _ _ _ (by decide), sA_e, if_pos rfl, sA_k _ _ _ (by decide), sA_k _ _ _ (by decide), sA_k _ _ _ (by decide)]
    rfl
  · rw [sA_e, if_pos rfl, sA_k _ _ _ (by decide), sA_k _ _ _ (by decide), sA_k _ _ _ (by decide), sA_k _ _ _ (by decide)]
    rfl
/-- class 1 -/
theorem shS_2 (τ : St) (j : Nat) : (shS τ j).2 = τ.2 := rfl
theorem shS_eq (τ : St) (j : Nat) : shS τ j = sA (sA (sA (sA (sA τ 12 (j + 1) (τ.1 12 j)) 13 (j + 1) (τ.1 13 j)) 14 (j + 1) (τ.1 14 j)) 15 (j + 1) (τ.1 15 j)) 16 (j + 1) (τ.1 16 j) := rfl
theorem shS_k (τ : St) (j : Nat) {k : Nat} (h : k < 12 ∨ 16 < k) : (shS τ j).1 k = τ.1 k := by
  rw [shS_eq, sA_k _ _ _ (by omega), sA_k _ _ _ (by omega), sA_k _ _ _ (by omega), sA_k _ _ _ (by omega), sA_k _ _ _ (by omega)]
theorem shS_r (τ : St) (j : Nat) {k : Nat} (h1 : 12 ≤ k) (h2 : k ≤ 16) (i : Nat) : (shS τ j).1 k i = if i = j + 1 then τ.1 k j else τ.1 k i := by
  rw [shS_eq]
  rcases (show k = 12 ∨ k = 13 ∨ k = 14 ∨ k = 15 ∨ k = 16 by omega) with e | e | e | e | e <;> subst e
  · rw [sA_k _ _ _ (by decide), sA_k _ _ _ (by decide), sA_k _ _ _ (by decide), sA_k _ _ _ (by decide), sA_e, if_pos rfl]
  · rw [sA_k _ _ _ (by decide), sA_k _ _ _ (by decide), sA_k _ _ _ (by decide), sA_e, if_pos rfl, sA_k _ _ _ (by decide)]
  · rw [sA_k _ _ _ (by decide), sA_k _ _ _ (by decide), sA_e, if_pos rfl, sA_k _ _ _ (by decide), sA_k _ _ _ (by decide)]
  · rw [sA_k _ _ _ (by decide), sA_e, if_pos rfl, sA_k _ _ _ (by decide), sA_k _ _ _ (by decide), sA_k _ _ _ (by decide)]
  · rw [sA_e, if_pos rfl, sA_k _ _ _ (by decide), sA_k _ _ _ (by decide), sA_k _ _ _ (by decide), sA_k _ _ _ (by decide)]
theorem shf_2 : ∀ (j : Nat) (τ : St), (shf j τ).2 = τ.2
  | 0, _ => rfl
  | j + 1, τ => by rw [shf, shf_2 j, shS_2]
theorem shf_k {k : Nat} (h : k < 12 ∨ 16 < k) : ∀ (j : Nat) (τ : St), (shf j τ).1 k = τ.1 k
  | 0, _ => rfl
  | j + 1, τ => by rw [shf, shf_k h j, shS_k _ _ h]
theorem shf_r {k : Nat} (h1 : 12 ≤ k) (h2 : k ≤ 16) (i : Nat) : ∀ (j : Nat) (τ : St), (shf j τ).1 k i = if 1 ≤ i ∧ i ≤ j then τ.1 k (i - 1) else τ.1 k i
  | 0, τ => by
    rw [if_neg (by omega)]
    rfl
  | j + 1, τ => by
    rw [shf, shf_r h1 h2 i j]
    by_cases c : 1 ≤ i ∧ i ≤ j
    · rw [if_pos c, if_pos (by omega), shS_r _ _ h1 h2, if_neg (by omega)]
    · rw [if_neg c, shS_r _ _ h1 h2]
      by_cases e : i = j + 1
      · rw [if_pos e, if_pos (by omega), show i - 1 = j by omega]
      · rw [if_neg e, if_neg (by omega)]
def kpA (τ : St) (z : Int32) (a n : Nat) : St := sA (sA (sA (sA (sA τ 12 0 z) 13 0 (nI a)) 14 0 (τ.2 9)) 15 0 (nuF (τ.1 1) a n)) 16 0 (nuF (τ.1 0) a n)
theorem kpE_e (τ : St) (z : Int32) (a n : Nat) : kpE τ z a n = (if 8 ≤ τ.2 11 then sV (kpA τ z a n) 10 (τ.2 10 + 1) else sV (sV (kpA τ z a n) 10 (τ.2 10 + 1)) 11 (τ.2 11 + 1)) := by
  unfold kpE
  simp only [numL_0, numL_1]
  rfl
theorem kpA_k (τ : St) (z : Int32) (a n : Nat) {k : Nat} (h : k < 12 ∨ 16 < k) : (kpA τ z a n).1 k = τ.1 k := by
  unfold kpA
  rw [sA_k _ _ _ (by omega), sA_k _ _ _ (by omega), sA_k _ _ _ (by omega), sA_k _ _ _ (by omega), sA_k _ _ _ (by omega)]
theorem kpA_r (τ : St) (z : Int32) (a n : Nat) {k : Nat} (h1 : 12 ≤ k) (h2 : k ≤ 16) (j : Nat) : (kpA τ z a n).1 k j = if j = 0 then kV z (τ.2 9) (nuF (τ.1 1) a n) (nuF (τ.1 0) a n) a k else τ.1 k j := by
  unfold kpA
  rcases (show k = 12 ∨ k = 13 ∨ k = 14 ∨ k = 15 ∨ k = 16 by omega) with e | e | e | e | e <;> subst e
  · rw [sA_k _ _ _ (by decide), sA_k _ _ _ (by decide), sA_k _ _ _ (by decide), sA_k _ _ _ (by decide), sA_e, if_pos rfl]
    rfl
  · rw [sA_k _ _ _ (by decide), sA_k _ _ _ (by decide), sA_k _ _ _ (by decide), sA_e, if_pos rfl, sA_k _ _ _ (by decide)]
    rfl
  · rw [sA_k _ _ _ (by decide), sA_k _ _ _ (by decide), sA_e, if_pos rfl, sA_k _ _ _ (by decide), sA_k _ _ _ (by decide)]
    rfl
  · rw [sA_k _ _ _ (by decide), sA_e, if_pos rfl, sA_k _ _ _ (by decide), sA_k _ _ _ (by decide), sA_k _ _ _ (by decide)]
    rfl
  · rw [sA_e, if_pos rfl, sA_k _ _ _ (by decide), sA_k _ _ _ (by decide), sA_k _ _ _ (by decide), sA_k _ _ _ (by decide)]
    rfl
theorem kpE_1 (τ : St) (z : Int32) (a n : Nat) : (kpE τ z a n).1 = (kpA τ z a n).1 := by
  rw [kpE_e]
  split <;> rfl
theorem kpE_9 (τ : St) (z : Int32) (a n : Nat) : (kpE τ z a n).2 9 = τ.2 9 := by
  rw [kpE_e]
  split <;> rfl
theorem kpE_10 (τ : St) (z : Int32) (a n : Nat) : (kpE τ z a n).2 10 = τ.2 10 + 1 := by
  rw [kpE_e]
  split <;> rfl
theorem kpE_11 (τ : St) (z : Int32) (a n : Nat) : (kpE τ z a n).2 11 = if 8 ≤ τ.2 11 then τ.2 11 else τ.2 11 + 1 := by
  rw [kpE_e]
  split <;> rfl
theorem keepM_k (τ : St) (z : Int32) (a n : Nat) {k : Nat} (h : k < 12 ∨ 16 < k) : (keepM τ z a n).1 k = τ.1 k := by
  unfold keepM
  rw [kpE_1, kpA_k _ _ _ _ h, shf_k h]
theorem keepM_r (τ : St) (z : Int32) (a n : Nat) {k : Nat} (h1 : 12 ≤ k) (h2 : k ≤ 16) {j : Nat} (hj : j < 8) : (keepM τ z a n).1 k j = if j = 0 then kV z (τ.2 9) (nuF (τ.1 1) a n) (nuF (τ.1 0) a n) a k else τ.1 k (j - 1) := by
  unfold keepM
  rw [kpE_1, kpA_r _ _ _ _ h1 h2, shf_2, shf_k (by omega), shf_k (by omega)]
  by_cases c : j = 0
  · rw [if_pos c, if_pos c]
  · rw [if_neg c, if_neg c, shf_r h1 h2, if_pos (by omega)]
theorem keepM_9 (τ : St) (z : Int32) (a n : Nat) : (keepM τ z a n).2 9 = τ.2 9 := by
  unfold keepM
  rw [kpE_9, shf_2]
theorem keepM_10 (τ : St) (z : Int32) (a n : Nat) : (keepM τ z a n).2 10 = τ.2 10 + 1 := by
  unfold keepM
  rw [kpE_10, shf_2]
theorem keepM_11 (τ : St) (z : Int32) (a n : Nat) : (keepM τ z a n).2 11 = if 8 ≤ τ.2 11 then τ.2 11 else τ.2 11 + 1 := by
  unfold keepM
  rw [kpE_11, shf_2]
theorem and7_nI {N : Nat} (hN : N < 2 ^ 30) : tn (nI N &&& 7) = N % 8 := by
  rw [pk_andN (m := 7) (by omega) 3 (by decide)]
  exact nI_clamp (by omega)
/-- a stop kept in both -/
theorem keep_rel {N : Nat} {σ τ : St} (z : Int32) {a n : Nat} (hN : N < 2 ^ 30) (hn : n ≤ 4) (ha : a + n ≤ 40) (h : Rel N σ τ) (hO : ∀ j, j < n → σ.1 17 j = τ.1 1 (a + j)) : Rel (N + 1) (keepX σ z a n) (keepM τ z a n) := by
  obtain ⟨r1, r2, r3, r4, r5, r6, r7, r8, r9⟩ := h
  refine ⟨fun i hi => ?_, fun w hw => ?_, ?_, ?_, ?_, ?_, ?_, BK_keepX z a n r8, fun hl => ?_⟩
  · rw [keepX_k _ _ _ _ (by omega), keepM_k _ _ _ _ (by omega)]
    exact r1 i hi
  · have q := r2 w hw
    unfold okW okN at q ⊢
    simp only [keepX_k σ z a n (show 1 < 12 ∨ 16 < 1 by omega), keepX_k σ z a n (show 2 < 12 ∨ 16 < 2 by omega), keepX_k σ z a n (show 3 < 12 ∨ 16 < 3 by omega), keepX_k σ z a n (show 4 < 12 ∨ 16 < 4 by omega), keepX_k σ z a n (show 5 < 12 ∨ 16 < 5 by omega), keepX_k σ z a n (show 6 < 12 ∨ 16 < 6 by omega), keepX_k σ z a n (show 7 < 12 ∨ 16 < 7 by omega), keepM_k τ z a n (show 2 < 12 ∨ 16 < 2 by omega), keepM_k τ z a n (show 3 < 12 ∨ 16 < 3 by omega), keepM_k τ z a n (show 4 < 12 ∨ 16 < 4 by omega), keepM_k τ z a n (show 5 < 12 ∨ 16 < 5 by omega), keepM_k τ z a n (show 6 < 12 ∨ 16 < 6 by omega), keepM_k τ z a n (show 7 < 12 ∨ 16 < 7 by omega), keepM_k τ z a n (show 8 < 12 ∨ 16 < 8 by omega)]
    exact q
  · rw [keepX_2 _ _ _ _ (by decide), keepM_9]
    exact r3
  · rw [keepX_23, r4]
    exact nI_1 N
  · rw [keepM_10, r5]
    exact nI_1 N
  · rw [keepM_11, r6]
    by_cases c : N < 8
    · rw [if_pos c, if_neg (by rw [show (8 : Int32) = nI 8 from rfl, nI_leI (by omega) (by omega)]; omega), nI_1]
      by_cases c2 : N + 1 < 8
      · rw [if_pos c2]
      · rw [if_neg c2, show N + 1 = 8 by omega]
    · rw [if_neg c, if_pos (by decide), if_neg (by omega)]
  · intro k h1 h2 i h3 h4
    have e1 : nuF (σ.1 17) 0 n = nuF (τ.1 1) a n := nuF_c n (fun j hj => by
      rw [Nat.zero_add]
      exact hO j hj)
    have e2 : nuF (σ.1 0) a n = nuF (τ.1 0) a n := nuF_c n (fun j hj => r1 (a + j) (by omega))
    rw [keepX_r _ _ _ _ h1 h2, keepM_r _ _ _ _ h1 h2 h4, r4, and7_nI hN]
    by_cases c : i = 0
    · rw [if_pos c, if_pos (by rw [c]; rfl), r3, vA_0 _ _ n hn, vA_0 _ _ n hn, e1, e2]
    · rw [if_neg c, if_neg (by omega), show N + 1 - 1 - i = N - 1 - (i - 1) by omega]
      exact r7 k h1 h2 (i - 1) (by omega) (by omega)
  · rw [keepX_2 _ _ _ _ (by decide)] at hl
    exact Regs_fr (fun k hk => keepX_k _ _ _ _ (by omega)) (fun k h1 h2 => keepX_2 _ _ _ _ (by omega)) (r9 hl)
/-- who is a suspect and hit in class 0 is hit in class 1 -/
theorem hp_iff {N : Nat} {σ τ : St} {w a n : Nat} {wr : Int32} (h : Rel N σ τ) (hR : Regs σ) (hw : w < 8) (hn : 1 ≤ n) (ha : a + n ≤ 40) (hO : ∀ j, j < n → σ.1 17 j = τ.1 1 (a + j)) : hpX (suspectsX σ a n (if wr = 0 then 1 else 2)) a n wr σ w = 0 ↔ hitM τ w a n wr = 0 := by
  obtain ⟨r1, r2, -, -, -, -, -, -, -⟩ := h
  obtain ⟨o1, o2, o3, o4, o5⟩ := r2 w hw
  have bg := b_get1 (suspectsX σ a n (if wr = 0 then 1 else 2)) w (by omega)
  unfold hpX
  by_cases hr : isRun σ w
  · obtain ⟨f, m, k, ho⟩ := o5 hr.1
    have hi := hit_iff (wr := wr) ho (by rw [← o1]; exact hr.1) (by rw [← o2]; exact hr.2) hn ha r1 hO
    by_cases c : bt (suspectsX σ a n (if wr = 0 then 1 else 2)) w = true
    · rw [if_pos (bg.mpr c)]
      exact hi
    · rw [if_neg (fun q => c (bg.mp q))]
      refine ⟨fun _ => hi.mp ?_, fun _ => rfl⟩
      rcases Classical.em (isHitX σ w a n wr = 0) with q | q
      · exact q
      · exact absurd (susp_hit hR hw hr ho hn ha q) c
  · rw [if_neg (fun q => hr (susp_run hR hw (bg.mp q)))]
    refine ⟨fun _ => ?_, fun _ => rfl⟩
    unfold hitM
    by_cases c1 : τ.1 2 w = 0
    · rw [if_pos c1]
    · rw [if_neg c1]
      by_cases c2 : τ.1 6 w = 0
      · exact absurd ⟨by rw [o1]; exact c1, by rw [o2]; exact c2⟩ hr
      · rw [if_neg c2]
/-- an access settled in both -/
theorem settle {N : Nat} {σ τ : St} {a n : Nat} {wr : Int32} (hN : N < 2 ^ 30) (h : Rel N σ τ) (hR : Regs σ) (hn : 1 ≤ n) (hn4 : n ≤ 4) (ha : a + n ≤ 40) (hO : ∀ j, j < n → σ.1 17 j = τ.1 1 (a + j)) : (finT σ a n wr).1 = pcn (accT τ a n wr).1 8 ∧ ((accT τ a n wr).1 = 0 → Rel N (finT σ a n wr).2 (accT τ a n wr).2) ∧ (¬ (accT τ a n wr).1 = 0 → Rel (N + 1) (finT σ a n wr).2 (accT τ a n wr).2) ∧ (finT σ a n wr).2.1 0 = σ.1 0 := by
  have S := accL_sim (σ := σ) (τ := τ) (hp := hpX (suspectsX σ a n (if wr = 0 then 1 else 2)) a n wr) (hq := hpM a n wr) (fun w hw ρ φ h1 h2 => by
    have e := hp_iff (wr := wr) h hR hw hn ha hO
    unfold hpX at e ⊢
    unfold hpM
    rw [isHit_fr h1, hit_fr h2]
    exact e) (fun i hi => ⟨(h.2.1 i hi).2.2.1, (h.2.1 i hi).2.2.2.1⟩) 8 (Nat.le_refl 8)
  unfold finT accT
  generalize accL (hpX (suspectsX σ a n (if wr = 0 then 1 else 2)) a n wr) 6 7 σ 8 = q at S ⊢
  generalize accL (hpM a n wr) 7 8 τ 8 = r at S ⊢
  obtain ⟨s1, s2, s3, s4, s5, s6, s7, s8⟩ := S
  have hrel : Rel N q.1 r.1 := by
    obtain ⟨r1, r2, r3, r4, r5, r6, r7, r8, r9⟩ := h
    refine ⟨fun i hi => ?_, fun w hw => ?_, ?_, ?_, ?_, ?_, ?_, ?_, ?_⟩
    · rw [s1 0 (by decide) (by decide), s3 0 (by decide) (by decide)]
      exact r1 i hi
    · obtain ⟨o1, o2, o3, o4, o5⟩ := r2 w hw
      unfold okW okN at *
      rw [s1 1 (by decide) (by decide), s1 2 (by decide) (by decide), s1 3 (by decide) (by decide), s1 4 (by decide) (by decide), s1 5 (by decide) (by decide), s3 2 (by decide) (by decide), s3 3 (by decide) (by decide), s3 4 (by decide) (by decide), s3 5 (by decide) (by decide), s3 6 (by decide) (by decide)]
      exact ⟨o1, o2, (s5 w hw).1, (s5 w hw).2, o5⟩
    · rw [s2, s4]
      exact r3
    · rw [s2]
      exact r4
    · rw [s4]
      exact r5
    · rw [s4]
      exact r6
    · intro k h1 h2 i h3 h4
      rw [s1 k (by omega) (by omega), s3 k (by omega) (by omega)]
      exact r7 k h1 h2 i h3 h4
    · exact BK_eq (by rw [s2]) r8
    · intro hl
      rw [s2] at hl
      exact Regs_fr (fun k hk => s1 k (by omega) (by omega)) (fun k _ _ => by rw [s2]) (r9 hl)
  have hO2 : ∀ j, j < n → q.1.1 17 j = r.1.1 1 (a + j) := fun j hj => by
    rw [s1 17 (by decide) (by decide), s3 1 (by decide) (by decide)]
    exact hO j hj
  have e21 : q.2.1 = r.2.1 := by rw [s6]
  unfold finE accE
  by_cases c : q.2.1 = 0
  · rw [if_pos c, if_pos (e21 ▸ c)]
    exact ⟨by rw [← e21]; exact s8, fun _ => hrel, fun hc => absurd (e21 ▸ c) hc, s1 0 (by decide) (by decide)⟩
  · rw [if_neg c, if_neg (e21 ▸ c), ← e21]
    exact ⟨s8, fun hc => absurd hc c, fun _ => keep_rel _ hN hn4 ha hrel hO2, by dsimp only; rw [keepX_k _ _ _ _ (by omega)]; exact s1 0 (by decide) (by decide)⟩
/-- the registers are loaded where they weren't -/
theorem fin0_rel {N : Nat} {σ τ : St} (h : Rel N σ τ) : Rel N (fin0 σ) (accI τ) ∧ Regs (fin0 σ) ∧ (fin0 σ).1 17 = σ.1 17 ∧ (fin0 σ).1 0 = σ.1 0 := by
  have h0 := h
  obtain ⟨r1, r2, r3, r4, r5, r6, r7, r8, r9⟩ := h
  have hc : σ.2 22 + 1 = (accI τ).2 9 := by
    rw [r3]
    rfl
  unfold fin0
  by_cases c : (acc1 σ).2 20 = 0
  · rw [if_pos c]
    have hok : ∀ w, w < 8 → isRun (acc1 σ) w → ∃ f l, (acc1 σ).1 3 w = nI f ∧ (acc1 σ).1 4 w = nI l ∧ l < 40 ∧ f ≤ l ∧ l + 1 ≤ f + 16 := fun w hw hr => by
      obtain ⟨f, m, k, m1, m2, fm, k1, k2, s3, s4, -⟩ := (r2 w hw).2.2.2.2 hr.1
      exact ⟨f, f + m - 1, s3, s4, by omega, by omega, by omega⟩
    obtain ⟨g1, g2, g3, g4, g5⟩ := load_regs hok
    refine ⟨Rel_fr h0 (fun k hk => by rw [g2 k (by omega)]; rfl) (fun k _ => rfl) ?_ rfl rfl (fun i hi => ?_) ?_ g5 (fun _ => g1), g1, by rw [g2 17 (by omega)]; rfl, by rw [g2 0 (by omega)]; rfl⟩
    · rw [g3 23 (by omega)]
      rfl
    · rw [g2 0 (by omega)]
      exact r1 i hi
    · rw [g3 22 (by omega)]
      exact hc
  · rw [if_neg c]
    have c1 : ¬ σ.2 20 = 0 := c
    have hR : Regs (acc1 σ) := Regs_fr (σ := σ) (fun k _ => rfl) (fun k h1 h2 => sV_k _ _ (by omega)) (r9 c1)
    exact ⟨Rel_fr h0 (fun k _ => rfl) (fun k _ => rfl) rfl rfl rfl r1 hc (BK_eq (σ := σ) rfl r8) (fun _ => hR), hR, rfl, rfl⟩
theorem rem_k (σ : St) (a : Nat) {k : Nat} (hk : k ≠ 17) : ∀ n, (rem σ a n).1 k = σ.1 k
  | 0 => rfl
  | n + 1 => by rw [rem, sA_k _ _ _ hk, rem_k σ a hk n]
theorem rem_17 (σ : St) (a : Nat) : ∀ n j, j < n → (rem σ a n).1 17 j = σ.1 0 (a + j)
  | 0, j, h => absurd h (by omega)
  | n + 1, j, h => by
    rw [rem, sA_e, if_pos rfl]
    by_cases c : j = n
    · rw [if_pos c, rem_k σ a (by decide), c]
    · rw [if_neg c, rem_17 σ a n j (by omega)]
theorem cpy_k (τ : St) {k : Nat} (hk : k ≠ 1) : ∀ n, (cpy τ n).1 k = τ.1 k
  | 0 => rfl
  | n + 1 => by rw [cpy, sA_k _ _ _ hk, cpy_k τ hk n]
theorem cpy_2 (τ : St) : ∀ n, (cpy τ n).2 = τ.2
  | 0 => rfl
  | n + 1 => by rw [cpy, sA_2, cpy_2 τ n]
theorem cpy_1 (τ : St) : ∀ n j, j < n → (cpy τ n).1 1 j = τ.1 0 j
  | 0, j, h => absurd h (by omega)
  | n + 1, j, h => by
    rw [cpy, sA_e, if_pos rfl]
    by_cases c : j = n
    · rw [if_pos c, cpy_k τ (by decide), c]
    · rw [if_neg c, cpy_1 τ n j (by omega)]
theorem mw_0 (τ : St) (a : Nat) (v : Int32) : ∀ n, mw τ a 0 v n = τ
  | 0 => rfl
  | n + 1 => by rw [mw, if_pos rfl, mw_0 τ a v n]
theorem mw_k (τ : St) (a : Nat) (wr v : Int32) {k : Nat} (hk : k ≠ 0) : ∀ n, (mw τ a wr v n).1 k = τ.1 k
  | 0 => rfl
  | n + 1 => by
    rw [mw]
    split
    · exact mw_k τ a wr v hk n
    · rw [sA_k _ _ _ hk, mw_k τ a wr v hk n]
theorem mw_2 (τ : St) (a : Nat) (wr v : Int32) : ∀ n, (mw τ a wr v n).2 = τ.2
  | 0 => rfl
  | n + 1 => by
    rw [mw]
    split
    · exact mw_2 τ a wr v n
    · rw [sA_2, mw_2 τ a wr v n]
theorem stw_k (σ : St) (a : Nat) (v : Int32) {k : Nat} (hk : k ≠ 0) : ∀ n, (stw σ a v n).1 k = σ.1 k
  | 0 => rfl
  | n + 1 => by rw [stw, sA_k _ _ _ hk, stw_k σ a v hk n]
theorem stw_mw {σ τ : St} (a : Nat) (v : Int32) (h : ∀ i, i < 40 → σ.1 0 i = τ.1 0 i) : ∀ n, n ≤ 4 → ∀ i, i < 40 → (stw σ a v n).1 0 i = (mw τ a 1 v n).1 0 i
  | 0, _, i, hi => h i hi
  | n + 1, hn, i, hi => by
    rw [stw, mw, if_neg (by decide), sA_e, sA_e, if_pos rfl, if_pos rfl, stw_mw a v h n (by omega) i hi, byte_k v (by omega)]
/-- a load's access -/
theorem acc_load {N : Nat} {σ τ : St} {a n : Nat} (hN : N < 2 ^ 30) (h : Rel N σ τ) (hn : 1 ≤ n) (hn4 : n ≤ 4) (ha : a + n ≤ 40) : (finX (rem σ a n) a n 0).1 = pcn (accM τ a n 0 0).1 8 ∧ ((accM τ a n 0 0).1 = 0 → Rel N (finX (rem σ a n) a n 0).2 (accM τ a n 0 0).2) ∧ (¬ (accM τ a n 0 0).1 = 0 → Rel (N + 1) (finX (rem σ a n) a n 0).2 (accM τ a n 0 0).2) ∧ (finX (rem σ a n) a n 0).2.1 0 = σ.1 0 := by
  have hr : Rel N (rem σ a n) (cpy τ 40) := by
    obtain ⟨r1, r2, r3, r4, r5, r6, r7, r8, r9⟩ := id h
    refine Rel_fr h (fun k hk => rem_k σ a (by omega) n) (fun k hk => cpy_k τ (by omega) 40) (by rw [rem_2]) (by rw [cpy_2]) (by rw [cpy_2]) (fun i hi => ?_) (by rw [rem_2, cpy_2]; exact r3) (BK_rem a n r8) (fun hl => ?_)
    · rw [rem_k σ a (by decide), cpy_k τ (by decide)]
      exact r1 i hi
    · rw [rem_2] at hl
      exact Regs_fr (fun k hk => rem_k σ a (by omega) n) (fun k _ _ => by rw [rem_2]) (r9 hl)
  obtain ⟨f1, f2, f3, f4⟩ := fin0_rel hr
  have S := settle (wr := 0) (a := a) (n := n) hN f1 f2 hn hn4 ha (fun j hj => by
    rw [f3, rem_17 σ a n j hj]
    show _ = (cpy τ 40).1 1 (a + j)
    rw [cpy_1 τ 40 _ (by omega)]
    exact h.1 (a + j) (by omega))
  rw [f4, rem_k σ a (by decide)] at S
  unfold finX accM
  rw [mw_0]
  exact S
/-- a store's access -/
theorem acc_store {N : Nat} {σ τ : St} {a n : Nat} (v : Int32) (hN : N < 2 ^ 30) (h : Rel N σ τ) (hn : 1 ≤ n) (hn4 : n ≤ 4) (ha : a + n ≤ 40) : (finX (stw (rem σ a n) a v n) a n 1).1 = pcn (accM τ a n 1 v).1 8 ∧ ((accM τ a n 1 v).1 = 0 → Rel N (finX (stw (rem σ a n) a v n) a n 1).2 (accM τ a n 1 v).2) ∧ (¬ (accM τ a n 1 v).1 = 0 → Rel (N + 1) (finX (stw (rem σ a n) a v n) a n 1).2 (accM τ a n 1 v).2) := by
  have hk : ∀ k, k ≠ 0 → k ≠ 17 → (stw (rem σ a n) a v n).1 k = σ.1 k := fun k h0 h17 => by rw [stw_k _ _ _ h0, rem_k σ a h17]
  have hr : Rel N (stw (rem σ a n) a v n) (mw (cpy τ 40) a 1 v n) := by
    obtain ⟨r1, r2, r3, r4, r5, r6, r7, r8, r9⟩ := id h
    refine Rel_fr h (fun k hk1 => hk k (by omega) (by omega)) (fun k hk1 => by rw [mw_k _ _ _ _ (by omega), cpy_k τ (by omega)]) (by rw [stw_2, rem_2]) (by rw [mw_2, cpy_2]) (by rw [mw_2, cpy_2]) (fun i hi => ?_) (by rw [stw_2, rem_2, mw_2, cpy_2]; exact r3) (BK_stw a n v (BK_rem a n r8)) (fun hl => ?_)
    · refine stw_mw a v (fun i hi => ?_) n hn4 i hi
      rw [rem_k σ a (by decide), cpy_k τ (by decide)]
      exact r1 i hi
    · rw [stw_2, rem_2] at hl
      exact Regs_fr (fun k hk1 => hk k (by omega) (by omega)) (fun k _ _ => by rw [stw_2, rem_2]) (r9 hl)
  obtain ⟨f1, f2, f3, f4⟩ := fin0_rel hr
  have S := settle (wr := 1) (a := a) (n := n) hN f1 f2 hn hn4 ha (fun j hj => by
    rw [f3, stw_k _ _ _ (by decide), rem_17 σ a n j hj]
    show _ = (mw (cpy τ 40) a 1 v n).1 1 (a + j)
    rw [mw_k _ _ _ _ (by decide), cpy_1 τ 40 _ (by omega)]
    exact h.1 (a + j) (by omega))
  unfold finX accM
  exact ⟨S.1, S.2.1, S.2.2.1⟩
end
section
set_option maxRecDepth 100000
theorem Rel_w {N : Nat} {σ τ ρ φ : St} (h : Rel N σ τ) (hA : ∀ k, k = 0 ∨ 12 ≤ k → ρ.1 k = σ.1 k) (hV : ∀ k, k ≠ 20 → ρ.2 k = σ.2 k) (hA2 : ∀ k, k = 0 ∨ 12 ≤ k → φ.1 k = τ.1 k) (hV2 : φ.2 = τ.2) (hW : ∀ w, w < 8 → okW ρ φ w) (hR : ¬ ρ.2 20 = 0 → Regs ρ) : Rel N ρ φ := by
  obtain ⟨r1, r2, r3, r4, r5, r6, r7, r8, r9⟩ := h
  refine ⟨fun i hi => ?_, hW, ?_, ?_, ?_, ?_, ?_, BK_eq (hV 18 (by decide)) r8, hR⟩
  · rw [hA 0 (by omega), hA2 0 (by omega)]
    exact r1 i hi
  · rw [hV 22 (by decide), hV2]
    exact r3
  · rw [hV 23 (by decide)]
    exact r4
  · rw [hV2]
    exact r5
  · rw [hV2]
    exact r6
  · intro k h1 h2 i h3 h4
    rw [hA k (by omega), hA2 k (by omega)]
    exact r7 k h1 h2 i h3 h4
theorem okW_cg {σ τ ρ φ : St} {w : Nat} (q : okW σ τ w) (ha : ∀ k, 1 ≤ k → k ≤ 7 → ρ.1 k w = σ.1 k w) (hb : ∀ k, 2 ≤ k → k ≤ 8 → φ.1 k w = τ.1 k w) : okW ρ φ w := by
  unfold okW okN at q ⊢
  rw [ha 1 (by omega) (by omega), ha 2 (by omega) (by omega), ha 3 (by omega) (by omega), ha 4 (by omega) (by omega), ha 5 (by omega) (by omega), ha 6 (by omega) (by omega), ha 7 (by omega) (by omega), hb 2 (by omega) (by omega), hb 3 (by omega) (by omega), hb 4 (by omega) (by omega), hb 5 (by omega) (by omega), hb 6 (by omega) (by omega), hb 7 (by omega) (by omega), hb 8 (by omega) (by omega)]
  exact q
theorem sA_w (σ : St) (k : Nat) {i j : Nat} (x : Int32) (h : j ≠ i) (k1 : Nat) : (sA σ k i x).1 k1 j = σ.1 k1 j := by
  rw [sA_e, if_neg h]
  split
  · rename_i e
    rw [e]
  · rfl
theorem n_ge8 {i : Nat} (h : i < 8) : ¬ (8 : Int32) ≤ nI i := nI_ge (b := 8) h (by omega)
theorem n_le8 {i : Nat} (h : 8 ≤ i) (h2 : i < 2 ^ 31) : (8 : Int32) ≤ nI i := nI_le (a := 8) h h2
theorem n_le7 {i : Nat} (h : i ≤ 7) : nI i ≤ (7 : Int32) := nI_le (b := 7) h (by omega)
theorem n_lt8 {i : Nat} (h : i < 8) : nI i < (8 : Int32) := nI_lt (b := 8) h (by omega)
theorem z_if {z : Int32} (h : z = 0 ∨ z = 1) : (if z = 0 then (0 : Int32) else 1) = z := by
  rcases h with e | e <;> subst e <;> decide
theorem le_7 (x : Int32) : x ≤ 7 ↔ ¬ 8 ≤ x := by
  rw [Int32.le_iff_toInt_le, Int32.le_iff_toInt_le]
  have e8 : (8 : Int32).toInt = 8 := by decide
  have e7 : (7 : Int32).toInt = 7 := by decide
  omega
theorem le_39 (x : Int32) : x ≤ 39 ↔ ¬ 40 ≤ x := by
  rw [Int32.le_iff_toInt_le, Int32.le_iff_toInt_le]
  have e8 : (40 : Int32).toInt = 40 := by decide
  have e7 : (39 : Int32).toInt = 39 := by decide
  omega
theorem num_in {x : Int32} {lo hi : Nat} (hlo : lo < 2 ^ 31) (hhi : hi < 2 ^ 31) (h1 : ¬ x < nI lo) (h2 : x ≤ nI hi) : ∃ j, lo ≤ j ∧ j ≤ hi ∧ x = nI j := by
  have h0 : ¬ x < 0 := fun h => h1 (by
    rw [Int32.lt_iff_toInt_lt] at h ⊢
    rw [nI_toInt hlo]
    have e : (0 : Int32).toInt = 0 := by decide
    omega)
  obtain ⟨j, hj, rfl⟩ := nI_of h0
  rw [nI_ltI hj hlo] at h1
  rw [nI_leI hj hhi] at h2
  exact ⟨j, by omega, h2, rfl⟩
theorem watch_bad (x : Int32) : (isWatchX x = 0 ∧ ¬ badM x = 0) ∨ (¬ isWatchX x = 0 ∧ badM x = 0 ∧ x = nI (tn x) ∧ tn x < 8) := by
  by_cases h : badM x = 0
  · refine Or.inr ⟨?_, h, bad_in h⟩
    obtain ⟨e, hl⟩ := bad_in h
    unfold isWatchX
    rw [e, if_neg (nI_pos (by omega)), if_neg (n_ge8 hl)]
    decide
  · refine Or.inl ⟨?_, h⟩
    by_cases c : isWatchX x = 0
    · exact c
    · refine absurd ?_ h
      obtain ⟨e, hl⟩ := isWatch_in c
      unfold badM
      rw [e, if_neg (nI_pos (by omega)), if_pos (n_le7 (by omega))]
theorem ref_cases {N : Nat} {σ τ : St} (h : Rel N σ τ) (x : Int32) : (refusedX σ x = -1 ∧ ¬ badM x = 0) ∨ (refusedX σ x = -2 ∧ badM x = 0 ∧ τ.1 2 (tn x) = 0) ∨ (refusedX σ x = 0 ∧ badM x = 0 ∧ ¬ τ.1 2 (tn x) = 0 ∧ ¬ σ.1 1 (tn x) = 0 ∧ x = nI (tn x) ∧ tn x < 8) := by
  unfold refusedX
  rcases watch_bad x with ⟨h1, h2⟩ | ⟨h1, h2, h3, h4⟩
  · rw [if_pos h1]
    exact Or.inl ⟨rfl, h2⟩
  · rw [if_neg h1]
    have e := (h.2.1 _ h4).1
    by_cases c : σ.1 1 (tn x) = 0
    · rw [if_pos c]
      exact Or.inr (Or.inl ⟨rfl, h2, by rw [← e]; exact c⟩)
    · rw [if_neg c]
      exact Or.inr (Or.inr ⟨rfl, h2, by rw [← e]; exact c, c, h3, h4⟩)
theorem rel_set {N : Nat} {σ τ : St} (h : Rel N σ τ) (x y z u : Int32) : (setX σ x y z u).1 = (setM τ x y z u).1 ∧ Rel N (setX σ x y z u).2 (setM τ x y z u).2 := by
  unfold setX setM
  rcases watch_bad x with ⟨h1, h2⟩ | ⟨h1, h2, h3, hj⟩
  · rw [if_pos h1, if_neg h2]
    exact ⟨rfl, h⟩
  · rw [if_neg h1, if_pos h2]
    by_cases c1 : z < 1
    · rw [if_pos c1, if_pos c1]
      exact ⟨rfl, h⟩
    · rw [if_neg c1, if_neg c1]
      by_cases c2 : z ≤ 16
      · rw [if_pos c2, if_pos c2]
        by_cases c3 : y < 0
        · rw [if_pos c3, if_pos c3]
          exact ⟨rfl, h⟩
        · rw [if_neg c3, if_neg c3]
          by_cases c4 : y ≤ 40 - z
          · rw [if_pos c4, if_pos c4]
            by_cases c5 : u < 1
            · rw [if_pos c5, if_pos c5]
              exact ⟨rfl, h⟩
            · rw [if_neg c5, if_neg c5]
              by_cases c6 : u ≤ 4
              · rw [if_pos c6, if_pos c6, (h.2.1 _ hj).1]
                refine ⟨rfl, ?_⟩
                obtain ⟨m, m1, m2, rfl⟩ := num_in (lo := 1) (hi := 16) (by omega) (by omega) c1 c2
                obtain ⟨k, k1, k2, rfl⟩ := num_in (lo := 1) (hi := 4) (by omega) (by omega) c5 c6
                rw [show (40 : Int32) - nI m = nI (40 - m) from pk_sub (a := 40) (by omega)] at c4
                obtain ⟨f, -, f2, rfl⟩ := num_in (lo := 0) (hi := 40 - m) (by omega) (by omega) c3 c4
                have e4 : (nI f + nI m) - 1 = nI (f + m - 1) := by
                  rw [nI_add]
                  exact pk_sub (b := 1) (by omega)
                rw [e4]
                generalize tn x = j at hj ⊢
                dsimp only
                refine Rel_w h (fun k hk => ?_) (fun k hk => ?_) (fun k hk => ?_) rfl (fun w hw => ?_) (fun hl => absurd rfl hl)
                · rw [sV_1, sA_k _ _ _ (by omega), sA_k _ _ _ (by omega), sA_k _ _ _ (by omega), sA_k _ _ _ (by omega), sA_k _ _ _ (by omega), sA_k _ _ _ (by omega), sA_k _ _ _ (by omega)]
                · rw [sV_k _ _ hk]
                  rfl
                · rw [sA_k _ _ _ (by omega), sA_k _ _ _ (by omega), sA_k _ _ _ (by omega), sA_k _ _ _ (by omega), sA_k _ _ _ (by omega), sA_k _ _ _ (by omega), sA_k _ _ _ (by omega)]
                · by_cases c : w = j
                  · subst c
                    show upd (σ.1 1) w 1 w = upd (τ.1 2) w 1 w ∧ upd (σ.1 2) w 0 w = upd (τ.1 6) w 0 w ∧ upd (σ.1 6) w 0 w = upd (τ.1 7) w 0 w ∧ upd (σ.1 7) w 0 w = upd (τ.1 8) w 0 w ∧ _
                    rw [pk_us, pk_us, pk_us, pk_us, pk_us, pk_us, pk_us, pk_us]
                    refine ⟨rfl, rfl, rfl, rfl, fun _ => ⟨f, m, k, m1, m2, by omega, k1, k2, ?_, ?_, ?_, ?_, ?_, ?_⟩⟩
                    · exact pk_us
                    · exact pk_us
                    · exact pk_us
                    · exact pk_us
                    · exact pk_us
                    · exact pk_us
                  · refine okW_cg (h.2.1 w hw) (fun k1 _ _ => ?_) (fun k1 _ _ => ?_)
                    · rw [sV_1, sA_w _ _ _ c, sA_w _ _ _ c, sA_w _ _ _ c, sA_w _ _ _ c, sA_w _ _ _ c, sA_w _ _ _ c, sA_w _ _ _ c]
                    · rw [sA_w _ _ _ c, sA_w _ _ _ c, sA_w _ _ _ c, sA_w _ _ _ c, sA_w _ _ _ c, sA_w _ _ _ c, sA_w _ _ _ c]
              · rw [if_neg c6, if_neg c6]
                exact ⟨rfl, h⟩
          · rw [if_neg c4, if_neg c4]
            exact ⟨rfl, h⟩
      · rw [if_neg c2, if_neg c2]
        exact ⟨rfl, h⟩
theorem rel_clear {N : Nat} {σ τ : St} (h : Rel N σ τ) (x : Int32) : (clearX σ x).1 = (clearM τ x).1 ∧ Rel N (clearX σ x).2 (clearM τ x).2 := by
  unfold clearX clearM
  rcases ref_cases h x with ⟨e, h1⟩ | ⟨e, h1, h2⟩ | ⟨e, h1, h2, h3, h4, hj⟩
  · rw [e, if_neg (by decide), if_neg h1]
    exact ⟨rfl, h⟩
  · rw [e, if_neg (by decide), if_pos h1, if_pos h2]
    exact ⟨rfl, h⟩
  · rw [e, if_pos (by decide), if_pos h1, if_neg h2]
    generalize tn x = j at hj h2 h3 ⊢
    refine ⟨(h.2.1 j hj).2.2.2.1, ?_⟩
    dsimp only
    refine Rel_w h (fun k hk => ?_) (fun k hk => ?_) (fun k hk => ?_) rfl (fun w hw => ?_) (fun hl => absurd rfl hl)
    · rw [sV_1, sA_k _ _ _ (by omega)]
    · rw [sV_k _ _ hk]
      rfl
    · rw [sA_k _ _ _ (by omega)]
    · by_cases c : w = j
      · subst c
        have q := h.2.1 w hw
        show upd (σ.1 1) w 0 w = upd (τ.1 2) w 0 w ∧ σ.1 2 w = τ.1 6 w ∧ σ.1 6 w = τ.1 7 w ∧ σ.1 7 w = τ.1 8 w ∧ (¬ upd (σ.1 1) w 0 w = 0 → _)
        rw [pk_us, pk_us]
        exact ⟨rfl, q.2.1, q.2.2.1, q.2.2.2.1, fun hh => absurd rfl hh⟩
      · refine okW_cg (h.2.1 w hw) (fun k1 _ _ => ?_) (fun k1 _ _ => ?_)
        · rw [sV_1, sA_w _ _ _ c]
        · rw [sA_w _ _ _ c]
theorem rel_pause {N : Nat} {σ τ : St} (h : Rel N σ τ) (x y : Int32) : (pauseX σ x y).1 = (pauseM τ x y).1 ∧ Rel N (pauseX σ x y).2 (pauseM τ x y).2 := by
  unfold pauseX pauseM
  rcases ref_cases h x with ⟨e, h1⟩ | ⟨e, h1, h2⟩ | ⟨e, h1, h2, h3, h4, hj⟩
  · rw [e, if_neg (by decide), if_neg h1]
    exact ⟨rfl, h⟩
  · rw [e, if_neg (by decide), if_pos h1, if_pos h2]
    exact ⟨rfl, h⟩
  · rw [e, if_pos (by decide), if_pos h1, if_neg h2, (h.2.1 _ hj).2.1]
    generalize (if y = 0 then (0 : Int32) else 1) = v
    generalize tn x = j at hj h2 h3 ⊢
    refine ⟨rfl, ?_⟩
    dsimp only
    refine Rel_w h (fun k hk => ?_) (fun k hk => ?_) (fun k hk => ?_) rfl (fun w hw => ?_) (fun hl => absurd rfl hl)
    · rw [sV_1, sA_k _ _ _ (by omega)]
    · rw [sV_k _ _ hk]
      rfl
    · rw [sA_k _ _ _ (by omega)]
    · by_cases c : w = j
      · subst c
        have q := h.2.1 w hw
        show σ.1 1 w = τ.1 2 w ∧ upd (σ.1 2) w v w = upd (τ.1 6) w v w ∧ σ.1 6 w = τ.1 7 w ∧ σ.1 7 w = τ.1 8 w ∧ (¬ σ.1 1 w = 0 → ∃ f m k, okN σ τ w f m k)
        rw [pk_us, pk_us]
        exact ⟨q.1, rfl, q.2.2.1, q.2.2.2.1, q.2.2.2.2⟩
      · refine okW_cg (h.2.1 w hw) (fun k1 _ _ => ?_) (fun k1 _ _ => ?_)
        · rw [sV_1, sA_w _ _ _ c]
        · rw [sA_w _ _ _ c]
theorem rel_skip {N : Nat} {σ τ : St} (h : Rel N σ τ) (x y : Int32) : (skipX σ x y).1 = (skipM τ x y).1 ∧ Rel N (skipX σ x y).2 (skipM τ x y).2 := by
  unfold skipX skipM
  rcases ref_cases h x with ⟨e, h1⟩ | ⟨e, h1, h2⟩ | ⟨e, h1, h2, h3, h4, hj⟩
  · rw [e, if_neg (by decide), if_neg h1]
    exact ⟨rfl, h⟩
  · rw [e, if_neg (by decide), if_pos h1, if_pos h2]
    exact ⟨rfl, h⟩
  · rw [e, if_pos (by decide), if_pos h1, if_neg h2]
    by_cases c1 : y < 0
    · rw [if_pos c1, if_pos c1]
      exact ⟨rfl, h⟩
    · rw [if_neg c1, if_neg c1]
      by_cases c2 : y ≤ 100
      · rw [if_pos c2, if_pos c2]
        generalize tn x = j at hj h2 h3 ⊢
        refine ⟨(h.2.1 j hj).2.2.1, ?_⟩
        dsimp only
        refine Rel_w h (fun k hk => ?_) (fun k hk => rfl) (fun k hk => ?_) rfl (fun w hw => ?_) (fun hl => ?_)
        · rw [sA_k _ _ _ (by omega)]
        · rw [sA_k _ _ _ (by omega)]
        · by_cases c : w = j
          · subst c
            have q := h.2.1 w hw
            show σ.1 1 w = τ.1 2 w ∧ σ.1 2 w = τ.1 6 w ∧ upd (σ.1 6) w y w = upd (τ.1 7) w y w ∧ σ.1 7 w = τ.1 8 w ∧ (¬ σ.1 1 w = 0 → ∃ f m k, okN σ τ w f m k)
            rw [pk_us, pk_us]
            exact ⟨q.1, q.2.1, rfl, q.2.2.2.1, q.2.2.2.2⟩
          · refine okW_cg (h.2.1 w hw) (fun k1 _ _ => ?_) (fun k1 _ _ => ?_)
            · rw [sA_w _ _ _ c]
            · rw [sA_w _ _ _ c]
        · exact Regs_fr (fun k hk => sA_k _ _ _ (by omega)) (fun k _ _ => rfl) (h.2.2.2.2.2.2.2.2 hl)
      · rw [if_neg c2, if_neg c2]
        exact ⟨rfl, h⟩
theorem rel_peek {N : Nat} {σ τ : St} (h : Rel N σ τ) (x : Int32) : peekX σ x = peekM τ x := by
  unfold peekX peekM
  by_cases c1 : x < 0
  · rw [if_pos c1, if_pos c1]
  · rw [if_neg c1, if_neg c1]
    by_cases c2 : 40 ≤ x
    · rw [if_pos c2, if_neg (fun q => (le_39 x).mp q c2)]
    · rw [if_neg c2, if_pos ((le_39 x).mpr c2)]
      exact h.1 _ (in40 c1 ((le_39 x).mpr c2)).2
theorem rel_hits {N : Nat} {σ τ : St} (h : Rel N σ τ) (x : Int32) : hitsX σ x = hitsM τ x := by
  unfold hitsX hitsM
  rcases ref_cases h x with ⟨e, h1⟩ | ⟨e, h1, h2⟩ | ⟨e, h1, h2, h3, h4, hj⟩
  · rw [e, if_neg (by decide), if_neg h1]
  · rw [e, if_neg (by decide), if_pos h1, if_pos h2]
  · rw [e, if_pos (by decide), if_pos h1, if_neg h2]
    exact (h.2.1 _ hj).2.2.2.1
theorem rel_skips {N : Nat} {σ τ : St} (h : Rel N σ τ) (x : Int32) : skipsX σ x = skipsM τ x := by
  unfold skipsX skipsM
  rcases ref_cases h x with ⟨e, h1⟩ | ⟨e, h1, h2⟩ | ⟨e, h1, h2, h3, h4, hj⟩
  · rw [e, if_neg (by decide), if_neg h1]
  · rw [e, if_neg (by decide), if_pos h1, if_pos h2]
  · rw [e, if_pos (by decide), if_pos h1, if_neg h2]
    exact (h.2.1 _ hj).2.2.1
theorem rel_stops {N : Nat} {σ τ : St} (h : Rel N σ τ) : stopsX σ = stopsM τ := h.2.2.2.1.trans h.2.2.2.2.1.symm
theorem rel_accesses {N : Nat} {σ τ : St} (h : Rel N σ τ) : accessesX σ = accessesM τ := h.2.2.1
theorem rel_kept {N : Nat} {σ τ : St} (hN : N < 2 ^ 30) (h : Rel N σ τ) : keptX σ = keptM τ := by
  unfold keptX keptM
  rw [h.2.2.2.1, h.2.2.2.2.2.1]
  by_cases c : N < 8
  · rw [if_pos c, if_neg (n_ge8 c)]
  · rw [if_neg c, if_pos (n_le8 (by omega) (by omega))]
    rfl
theorem kept_cases {N : Nat} {σ τ : St} (hN : N < 2 ^ 30) (h : Rel N σ τ) (x : Int32) : (isKeptX σ x = 0 ∧ ¬ noStopM τ x = 0) ∨ (¬ isKeptX σ x = 0 ∧ noStopM τ x = 0 ∧ tn x < 8 ∧ tn x < N ∧ tn (cellOfX σ x) = (N - 1 - tn x) % 8) := by
  unfold isKeptX noStopM
  rw [h.2.2.2.1, h.2.2.2.2.2.1]
  by_cases c1 : x < 0
  · rw [if_pos c1, if_pos c1]
    exact Or.inl ⟨rfl, by decide⟩
  · rw [if_neg c1, if_neg c1]
    obtain ⟨i, hi, rfl⟩ := nI_of c1
    have ei : tn (nI i) = i := nI_clamp hi
    rw [ei]
    by_cases c2 : i < 8
    · rw [if_neg (n_ge8 c2)]
      by_cases c3 : i < N
      · have c4 : i < (if N < 8 then N else 8) := by
          split
          · exact c3
          · exact c2
        have c5 : (if N < 8 then N else 8) < 2 ^ 31 := by
          split
          · omega
          · omega
        rw [if_neg (nI_ge c3 (by omega)), if_neg (nI_ge c4 c5), if_pos (n_lt8 c2)]
        refine Or.inr ⟨by decide, rfl, c2, c3, ?_⟩
        unfold cellOfX
        rw [h.2.2.2.1, show nI N - 1 = nI (N - 1) from pk_sub (b := 1) (by omega), pk_sub (by omega)]
        exact and7_nI (by omega)
      · have c4 : (if N < 8 then N else 8) ≤ i := by
          split
          · omega
          · omega
        rw [if_pos (nI_le (by omega) hi), if_pos (nI_le c4 hi)]
        exact Or.inl ⟨rfl, by decide⟩
    · rw [if_pos (n_le8 (by omega) hi)]
      refine Or.inl ⟨rfl, ?_⟩
      have c4 : (if N < 8 then N else 8) ≤ i := by
        split
        · omega
        · omega
      rw [if_pos (nI_le c4 hi)]
      decide
theorem rel_stopMask {N : Nat} {σ τ : St} (hN : N < 2 ^ 30) (h : Rel N σ τ) (x : Int32) : stopMaskX σ x = stopMaskM τ x := by
  unfold stopMaskX stopMaskM
  rcases kept_cases hN h x with ⟨h1, h2⟩ | ⟨h1, h2, h3, h4, h5⟩
  · rw [if_pos h1, if_neg h2]
  · rw [if_neg h1, if_pos h2, h5]
    exact h.2.2.2.2.2.2.1 12 (by omega) (by omega) (tn x) h4 h3
theorem rel_stopAddress {N : Nat} {σ τ : St} (hN : N < 2 ^ 30) (h : Rel N σ τ) (x : Int32) : stopAddressX σ x = stopAddressM τ x := by
  unfold stopAddressX stopAddressM
  rcases kept_cases hN h x with ⟨h1, h2⟩ | ⟨h1, h2, h3, h4, h5⟩
  · rw [if_pos h1, if_neg h2]
  · rw [if_neg h1, if_pos h2, h5]
    exact h.2.2.2.2.2.2.1 13 (by omega) (by omega) (tn x) h4 h3
theorem rel_stopNumber {N : Nat} {σ τ : St} (hN : N < 2 ^ 30) (h : Rel N σ τ) (x : Int32) : stopNumberX σ x = stopNumberM τ x := by
  unfold stopNumberX stopNumberM
  rcases kept_cases hN h x with ⟨h1, h2⟩ | ⟨h1, h2, h3, h4, h5⟩
  · rw [if_pos h1, if_neg h2]
  · rw [if_neg h1, if_pos h2, h5]
    exact h.2.2.2.2.2.2.1 14 (by omega) (by omega) (tn x) h4 h3
theorem rel_before {N : Nat} {σ τ : St} (hN : N < 2 ^ 30) (h : Rel N σ τ) (x : Int32) : beforeX σ x = beforeM τ x := by
  unfold beforeX beforeM
  rcases kept_cases hN h x with ⟨h1, h2⟩ | ⟨h1, h2, h3, h4, h5⟩
  · rw [if_pos h1, if_neg h2]
  · rw [if_neg h1, if_pos h2, h5]
    exact h.2.2.2.2.2.2.1 15 (by omega) (by omega) (tn x) h4 h3
theorem rel_after {N : Nat} {σ τ : St} (hN : N < 2 ^ 30) (h : Rel N σ τ) (x : Int32) : afterX σ x = afterM τ x := by
  unfold afterX afterM
  rcases kept_cases hN h x with ⟨h1, h2⟩ | ⟨h1, h2, h3, h4, h5⟩
  · rw [if_pos h1, if_neg h2]
  · rw [if_neg h1, if_pos h2, h5]
    exact h.2.2.2.2.2.2.1 16 (by omega) (by omega) (tn x) h4 h3
theorem any_eq {N : Nat} {σ τ : St} (h : Rel N σ τ) {a : Nat} (ha : a < 40) : ∀ w, w ≤ 8 → anyX σ a w = anyM τ a w ∧ (anyM τ a w = 0 ∨ anyM τ a w = 1)
  | 0, _ => ⟨rfl, Or.inl rfl⟩
  | w + 1, hw => by
    obtain ⟨ih, i01⟩ := any_eq h ha w (by omega)
    obtain ⟨o1, o2, o3, o4, o5⟩ := h.2.1 w (by omega)
    rw [anyX, anyM, ih]
    generalize anyM τ a w = z at i01 ⊢
    unfold anS
    by_cases c1 : σ.1 1 w = 0
    · have t1 : τ.1 2 w = 0 := by
        rw [← o1]
        exact c1
      rw [if_pos c1, if_pos t1]
      exact ⟨z_if i01, i01⟩
    · have t1 : ¬ τ.1 2 w = 0 := by
        rw [← o1]
        exact c1
      rw [if_neg c1, if_neg t1]
      by_cases c2 : σ.1 2 w = 0
      · have t2 : τ.1 6 w = 0 := by
          rw [← o2]
          exact c2
        rw [if_pos c2, if_pos t2]
        obtain ⟨f, m, k, m1, m2, fm, k1, k2, s3, s4, s5, t3, t4, t5⟩ := o5 c1
        have ir := inR_iff (t := a) t3 t4 fm (by omega)
        rw [s3, s4]
        by_cases c3 : nI a < nI f
        · rw [if_pos c3]
          rw [nI_ltI (by omega) (by omega)] at c3
          rw [if_pos (ir.mpr (by omega))]
          exact ⟨z_if i01, i01⟩
        · rw [if_neg c3]
          rw [nI_ltI (by omega) (by omega)] at c3
          by_cases c4 : nI (f + m - 1) < nI a
          · rw [if_pos c4]
            rw [nI_ltI (by omega) (by omega)] at c4
            rw [if_pos (ir.mpr (by omega))]
            exact ⟨z_if i01, i01⟩
          · rw [if_neg c4]
            rw [nI_ltI (by omega) (by omega)] at c4
            rw [if_neg (fun q => ir.mp q ⟨by omega, by omega⟩)]
            refine ⟨?_, Or.inr rfl⟩
            split <;> rfl
      · have t2 : ¬ τ.1 6 w = 0 := by
          rw [← o2]
          exact c2
        rw [if_neg c2, if_neg t2]
        exact ⟨z_if i01, i01⟩
theorem wsum_eq {N : Nat} {σ τ : St} (h : Rel N σ τ) : ∀ a, a ≤ 40 → wsum σ a = wsumM τ a
  | 0, _ => rfl
  | a + 1, ha => by
    rw [wsum, wsumM, wsum_eq h a (by omega), (any_eq h (by omega) 8 (Nat.le_refl 8)).1]
    split
    · rw [Int32.add_zero]
    · rfl
theorem rel_watched {N : Nat} {σ τ : St} (h : Rel N σ τ) : watchedX σ = watchedM τ := wsum_eq h 40 (Nat.le_refl 40)
theorem size_bad (y : Int32) : (isSizeX y = 0 ∧ ¬ badSizeM y = 0) ∨ (¬ isSizeX y = 0 ∧ badSizeM y = 0 ∧ ¬ y = 0) := by
  unfold isSizeX badSizeM
  by_cases e1 : y = 1
  · rw [if_pos e1, if_pos e1, e1]
    exact Or.inr ⟨by decide, rfl, by decide⟩
  · rw [if_neg e1, if_neg e1]
    by_cases e2 : y = 2
    · rw [if_pos e2, if_pos e2, e2]
      exact Or.inr ⟨by decide, rfl, by decide⟩
    · rw [if_neg e2, if_neg e2]
      by_cases e4 : y = 4
      · rw [if_pos e4, if_pos e4, e4]
        exact Or.inr ⟨by decide, rfl, by decide⟩
      · rw [if_neg e4, if_neg e4]
        exact Or.inl ⟨rfl, by decide⟩
theorem acc_cases {x y : Int32} : (isSizeX y = 0 ∧ ¬ badSizeM y = 0) ∨ (¬ isSizeX y = 0 ∧ badSizeM y = 0 ∧ fitsX x y = 0 ∧ (x < 0 ∨ (¬ x < 0 ∧ ¬ x ≤ 40 - y))) ∨ (¬ isSizeX y = 0 ∧ badSizeM y = 0 ∧ ¬ fitsX x y = 0 ∧ ¬ x < 0 ∧ x ≤ 40 - y ∧ 1 ≤ tn y ∧ tn y ≤ 4 ∧ tn x + tn y ≤ 40) := by
  rcases size_bad y with h | ⟨h1, h2, h3⟩
  · exact Or.inl h
  · refine Or.inr ?_
    by_cases c : fitsX x y = 0
    · refine Or.inl ⟨h1, h2, c, ?_⟩
      unfold fitsX at c
      by_cases c1 : x < 0
      · exact Or.inl c1
      · rw [if_neg c1] at c
        by_cases c2 : 40 - y < x
        · exact Or.inr ⟨c1, Int32.not_le.mpr c2⟩
        · rw [if_neg c2] at c
          exact absurd c (by decide)
    · refine Or.inr ⟨h1, h2, c, ?_⟩
      obtain ⟨a, n, rfl, rfl, ha, hn⟩ := sz_in h1 c
      rw [tn_nI (by omega), tn_nI (by omega)]
      have hn1 : 1 ≤ n := by
        rcases Nat.eq_zero_or_pos n with e | e
        · rw [e] at h3
          exact absurd nI_0 h3
        · exact e
      refine ⟨nI_pos (by omega), ?_, hn1, hn, ha⟩
      rw [show (40 : Int32) - nI n = nI (40 - n) from pk_sub (a := 40) (by omega)]
      exact nI_le (by omega) (by omega)
theorem rel_load {N : Nat} {σ τ : St} (hN : N < 2 ^ 30) (h : Rel N σ τ) (x y : Int32) : (loadXX σ x y).1 = (loadM τ x y).1 ∧ ∃ M, M ≤ N + 40 ∧ Rel M (loadXX σ x y).2 (loadM τ x y).2 := by
  unfold loadXX loadM
  rcases acc_cases (x := x) (y := y) with ⟨h1, h2⟩ | ⟨h1, h2, h3, h4⟩ | ⟨h1, h2, h3, h4, h5, h6, h7, h8⟩
  · rw [if_pos h1, if_neg h2]
    exact ⟨rfl, N, by omega, h⟩
  · rw [if_neg h1, if_pos h2, if_pos h3]
    rcases h4 with c | ⟨c1, c2⟩
    · rw [if_pos c]
      exact ⟨rfl, N, by omega, h⟩
    · rw [if_neg c1, if_neg c2]
      exact ⟨rfl, N, by omega, h⟩
  · rw [if_neg h1, if_pos h2, if_neg h3, if_neg h4, if_pos h5]
    generalize tn x = a at h8 ⊢
    generalize tn y = n at h6 h7 h8 ⊢
    have S := acc_load hN h h6 h7 h8
    unfold loadG loadGM
    generalize accM τ a n 0 0 = E at S ⊢
    generalize finX (rem σ a n) a n 0 = E2 at S ⊢
    obtain ⟨s1, s2, s3, s4⟩ := S
    have key : ∀ M, Rel M E2.2 E.2 → vA (σ.1 0) a n 0 = numL E.2 a 1 n := fun M hM => by
      rw [vA_0 _ _ n h7, numL_1, ← s4]
      exact nuF_c n (fun k hk => hM.1 (a + k) (by omega))
    by_cases c : E.1 = 0
    · exact ⟨key N (s2 c), N, by omega, s2 c⟩
    · exact ⟨key (N + 1) (s3 c), N + 1, by omega, s3 c⟩
theorem rel_store {N : Nat} {σ τ : St} (hN : N < 2 ^ 30) (h : Rel N σ τ) (x y v : Int32) : (storeX σ x y v).1 = (storeM τ x y v).1 ∧ ∃ M, M ≤ N + 40 ∧ Rel M (storeX σ x y v).2 (storeM τ x y v).2 := by
  unfold storeX storeM
  rcases acc_cases (x := x) (y := y) with ⟨h1, h2⟩ | ⟨h1, h2, h3, h4⟩ | ⟨h1, h2, h3, h4, h5, h6, h7, h8⟩
  · rw [if_pos h1, if_neg h2]
    exact ⟨rfl, N, by omega, h⟩
  · rw [if_neg h1, if_pos h2, if_pos h3]
    rcases h4 with c | ⟨c1, c2⟩
    · rw [if_pos c]
      exact ⟨rfl, N, by omega, h⟩
    · rw [if_neg c1, if_neg c2]
      exact ⟨rfl, N, by omega, h⟩
  · rw [if_neg h1, if_pos h2, if_neg h3, if_neg h4, if_pos h5]
    generalize tn x = a at h8 ⊢
    generalize tn y = n at h6 h7 h8 ⊢
    have S := acc_store v hN h h6 h7 h8
    unfold storeG storeGM
    generalize accM τ a n 1 v = E at S ⊢
    generalize finX (stw (rem σ a n) a v n) a n 1 = E2 at S ⊢
    obtain ⟨s1, s2, s3⟩ := S
    by_cases c : E.1 = 0
    · exact ⟨s1, N, by omega, s2 c⟩
    · exact ⟨s1, N + 1, by omega, s3 c⟩
theorem sw_rel {y : Int32} (hy : ¬ 40 ≤ y) : ∀ (d a N : Nat) (σ τ : St) (c : Int32), a ≤ 41 → N + d < 2 ^ 30 → Rel N σ τ → ∃ M, N ≤ M ∧ M ≤ N + d ∧ Rel M (swX y d a σ) (swM y d a (c, τ)).2 ∧ (swM y d a (c, τ)).1 = c + nI (M - N)
  | 0, a, N, σ, τ, c, _, _, h => ⟨N, Nat.le_refl N, Nat.le_refl N, h, by
      rw [Nat.sub_self, nI_0, Int32.add_zero]
      rfl⟩
  | d + 1, a, N, σ, τ, c, ha, hN, h => by
    rw [swX, swM]
    by_cases e : y < nI a
    · rw [if_pos e, if_pos e]
      exact ⟨N, Nat.le_refl N, by omega, h, by rw [Nat.sub_self, nI_0, Int32.add_zero]⟩
    · rw [if_neg e, if_neg e]
      have h40 := lt40_of hy (by omega) e
      have S := acc_load (a := a) (n := 1) (by omega) h (by omega) (by omega) (by omega)
      dsimp only
      generalize accM τ a 1 0 0 = E at S ⊢
      generalize finX (rem σ a 1) a 1 0 = E2 at S ⊢
      obtain ⟨s1, s2, s3, s4⟩ := S
      by_cases z : E.1 = 0
      · rw [if_pos z]
        obtain ⟨M, m1, m2, m3, m4⟩ := sw_rel hy d (a + 2) N _ _ c (by omega) (by omega) (s2 z)
        exact ⟨M, m1, by omega, m3, m4⟩
      · rw [if_neg z]
        obtain ⟨M, m1, m2, m3, m4⟩ := sw_rel hy d (a + 2) (N + 1) _ _ (c + 1) (by omega) (by omega) (s3 z)
        refine ⟨M, by omega, by omega, m3, ?_⟩
        rw [m4, Int32.add_assoc, show (1 : Int32) = nI 1 from rfl, nI_add, show 1 + (M - (N + 1)) = M - N by omega]
theorem rel_sweep {N : Nat} {σ τ : St} (hN : N + 40 < 2 ^ 30) (h : Rel N σ τ) (x y : Int32) : (sweepX σ x y).1 = (sweepM τ x y).1 ∧ ∃ M, M ≤ N + 40 ∧ Rel M (sweepX σ x y).2 (sweepM τ x y).2 := by
  unfold sweepX sweepM
  by_cases c1 : x < 0
  · rw [if_pos c1, if_pos c1]
    exact ⟨rfl, N, by omega, h⟩
  · rw [if_neg c1, if_neg c1]
    by_cases c2 : 40 ≤ y
    · rw [if_pos c2, if_pos (Int32.not_le.mp (fun q => (le_39 y).mp q c2))]
      exact ⟨rfl, N, by omega, h⟩
    · rw [if_neg c2, if_neg (Int32.not_lt.mpr ((le_39 y).mpr c2))]
      by_cases c3 : x ≤ y
      · rw [if_pos c3, if_pos c3]
        obtain ⟨a, ha, rfl⟩ := nI_of c1
        rw [tn_nI ha]
        have h40 : a < 40 := lt40_of c2 ha (fun q => absurd c3 (Int32.not_le.mpr q))
        obtain ⟨M, m1, m2, m3, m4⟩ := sw_rel c2 40 a N σ τ 0 (by omega) hN h
        refine ⟨?_, M, m2, m3⟩
        dsimp only
        rw [m4, m3.2.2.2.1, h.2.2.2.1, pk_sub m1, Int32.zero_add]
      · rw [if_neg c3, if_neg c3]
        exact ⟨rfl, N, by omega, h⟩
theorem rel_0 {σ τ : St} (hs1 : ∀ k i, σ.1 k i = 0) (hs2 : ∀ k, 18 ≤ k → σ.2 k = 0) (ht1 : ∀ k i, τ.1 k i = 0) (ht2 : ∀ k, τ.2 k = 0) : Rel 0 σ τ := by
  refine ⟨fun i _ => by rw [hs1, ht1], fun w _ => ?_, by rw [hs2 22 (by omega), ht2], by rw [hs2 23 (by omega)]; exact nI_0.symm, by rw [ht2]; exact nI_0.symm, by rw [ht2]; exact nI_0.symm, fun k _ _ i hi => absurd hi (by omega), ?_, fun hl => absurd (hs2 20 (by omega)) hl⟩
  · refine ⟨by rw [hs1, ht1], by rw [hs1, ht1], by rw [hs1, ht1], by rw [hs1, ht1], fun hh => absurd (hs1 1 w) hh⟩
  · unfold BK
    rw [hs2 18 (by omega)]
    exact ⟨by decide, by decide⟩
end
section
set_option maxRecDepth 100000
/-- a new object's state -/
def z0 : St := (fun _ _ => 0, fun _ => 0)
abbrev ix_a (l : List Nat) (k : Nat) : Nat := l.getD k 0
abbrev ix_c (l : List ClassId) (k : Nat) : ClassId := l.getD k 0
abbrev fs0 : List Value := [.null, .null, .null, .null, .null, .null, .null, .null, .null, .null, .null, .null, .null, .null, .null, .null, .null, .null, .int 0, .int 0, .int 0, .int 0, .int 0, .int 0]
abbrev rmI0 : Room := { frames := 1, cells := 18, slots := 156, locals := 12 }
set_option maxHeartbeats 8000000 in
theorem c0_init (l : Launch) (dC : Nat → ClassId) (dI : Nat → Nat → Nat) (h0 sz : Nat) : Met l yX0_init (ws_ yX0_init cX0_init 1 none) rmI0 (va_Pc [.ref h0] (fun U => U.heap.size = sz ∧ va_P (dC, dI) vwCl [(h0, .inr (0, fs0))] U.heap ∧ va_K (dC, dI) vwCl [] U ∧ va_D (fun _ => True) [(h0, .inr (0, fs0))])) (va_Qv (fun (_ : (Nat → Nat) × (Nat → ClassId)) => True) (fun u t => va_P (dC, dI) vwCl (w0 h0 u.1 u.2 z0) t.heap ∧ va_K (dC, dI) vwCl (t0 u.2) t ∧ va_D (va_A [(h0, .inr (0, fs0))] sz) (w0 h0 u.1 u.2 z0)) (va_A [(h0, .inr (0, fs0))] sz)) 18 156 (va_A [(h0, .inr (0, fs0))] sz) := by
  refine Met.ofW (cc := cX0_init) (maxL := 1) (ret := none) (by decide) rfl ?_
  intro p e s m args below meth c s₁ B hml hv
  obtain ⟨rfl, hsz, hP, hK, hD0⟩ := hv
  have hx := B.exec
  have hb := B.bytes
  have hr := B.returns
  have hts := atoms_spec (ws := ws_ yX0_init cX0_init 1 none) B.pre
  have hts : ∀ w ∈ lw_all, w.before _ s = true := fun w h => hts w (List.mem_cons_of_mem _ h)
  have hown : s.vm.findClass RX0 = some m.cls := findClass_of_methodNamed B.named
  have hlocks := B.notSynchronized
  have hin : meth.name = "<init>" := (name_of_methodNamed B.named B.method).1
  subst hsz
  have hD := hD0.self (sz := s.heap.size)
  generalize hAe : va_A [(h0, .inr (0, fs0))] s.heap.size = A at hD ⊢
  have hA : ∀ q : Nat, s.heap.size ≤ q → A q := fun q h => by rw [← hAe]; exact Or.inr h
  have hS : va_S A s.heap s.heap [] := va_S.rf
  have hl := lv_entry ([.ref h0]) (n := 1) (Nat.le_of_ble_eq_true rfl)
  rw [lg_entry_eq]
  generalize (lg_sl ([.ref h0]) ++ List.replicate (1 - (lg_sl ([.ref h0])).length) Slot.unset).toArray = ls at hl ⊢
  have hl : lv_has ls 1 [(0, .ref h0)] := hl
  refine lv_aload_n hx hb dX0_init_0 rfl (lv_at hl 0 rfl) ?_
  refine W.objInit hx hb hown (hts _ q28) (hts _ q29) (hts _ q30) rfl (by rw [hml]; exact hl.1) rfl dX0_init_1 (Nat.le_of_ble_eq_true rfl) (Nat.le_of_ble_eq_true rfl) ?_
  refine W.eq (g2 := F0 m 4 ls []) rfl ?_
  refine lv_aload_n hx hb dX0_init_4 rfl (lv_at hl 0 rfl) ?_
  refine lv_bipush (v := 40) hx hb dX0_init_5 (by decide) ?_
  refine va_newa (atype := .int) (ty := .int) (a0 := (40, .inl (fun _ => 0))) hx hb (hts _ q104) rfl hK hP hD hS hA (fun _ => rfl) (by decide) (N' := 40) (by decide) (by decide) (Nat.le_of_ble_eq_true rfl) (Nat.le_of_ble_eq_true rfl) dX0_init_7 (fun q0 ca0 H hK hP hD hS => ?_)
  refine W.widen (k := 1) (n := 40) (Nat.le_of_ble_eq_true rfl) (Nat.le_of_ble_eq_true rfl) ?_
  refine va_putF (D := (dC, dI)) (ci := 0) (v := .ref q0) (ty := .array .int) (C := RX0) (T := TX0) (N := 24) hx hb hts in_X0 tyX0 tyX0_ok nmX0 hown hK hP hD hS 0 rfl rfl 0 (by decide) (hts _ q31) (fun _ h9 => h9) rfl hin rfl (by decide +kernel) rfl rfl (Nat.le_of_ble_eq_true rfl) dX0_init_9 (fun H locs hP hD hS => ?_)
  have hK : va_K (dC, dI) vwCl [(ca0, .int)] s := hK
  have hP : va_P (dC, dI) vwCl [(h0, .inr (0, [.ref q0, .null, .null, .null, .null, .null, .null, .null, .null, .null, .null, .null, .null, .null, .null, .null, .null, .null, .int 0, .int 0, .int 0, .int 0, .int 0, .int 0])), (q0, .inl (ca0, 40, .inl (fun _ => 0)))] H := hP
  have hD : va_D A [(h0, .inr (0, [.ref q0, .null, .null, .null, .null, .null, .null, .null, .null, .null, .null, .null, .null, .null, .null, .null, .null, .null, .int 0, .int 0, .int 0, .int 0, .int 0, .int 0])), (q0, .inl (ca0, 40, .inl (fun _ => 0)))] := hD
  refine lv_aload_n hx hb dX0_init_12 rfl (lv_at hl 0 rfl) ?_
  refine lv_bipush (v := 8) hx hb dX0_init_13 (by decide) ?_
  refine va_newa (atype := .boolean) (ty := .boolean) (a0 := (8, .inl (fun _ => 0))) hx hb (hts _ q105) rfl hK hP hD hS hA (fun _ => rfl) (by decide) (N' := 8) (by decide) (by decide) (Nat.le_of_ble_eq_true rfl) (Nat.le_of_ble_eq_true rfl) dX0_init_15 (fun q1 ca1 H hK hP hD hS => ?_)
  refine W.widen (k := 2) (n := 48) (Nat.le_of_ble_eq_true rfl) (Nat.le_of_ble_eq_true rfl) ?_
  refine va_putF (D := (dC, dI)) (ci := 0) (v := .ref q1) (ty := .array .boolean) (C := RX0) (T := TX0) (N := 24) hx hb hts in_X0 tyX0 tyX0_ok nmX0 hown hK hP hD hS 0 rfl rfl 1 (by decide) (hts _ q32) (fun _ h9 => h9) rfl hin rfl (by decide +kernel) rfl rfl (Nat.le_of_ble_eq_true rfl) dX0_init_17 (fun H locs hP hD hS => ?_)
  have hK : va_K (dC, dI) vwCl [(ca0, .int), (ca1, .boolean)] s := hK
  have hP : va_P (dC, dI) vwCl [(h0, .inr (0, [.ref q0, .ref q1, .null, .null, .null, .null, .null, .null, .null, .null, .null, .null, .null, .null, .null, .null, .null, .null, .int 0, .int 0, .int 0, .int 0, .int 0, .int 0])), (q0, .inl (ca0, 40, .inl (fun _ => 0))), (q1, .inl (ca1, 8, .inl (fun _ => 0)))] H := hP
  have hD : va_D A [(h0, .inr (0, [.ref q0, .ref q1, .null, .null, .null, .null, .null, .null, .null, .null, .null, .null, .null, .null, .null, .null, .null, .null, .int 0, .int 0, .int 0, .int 0, .int 0, .int 0])), (q0, .inl (ca0, 40, .inl (fun _ => 0))), (q1, .inl (ca1, 8, .inl (fun _ => 0)))] := hD
  refine lv_aload_n hx hb dX0_init_20 rfl (lv_at hl 0 rfl) ?_
  refine lv_bipush (v := 8) hx hb dX0_init_21 (by decide) ?_
  refine va_newa (atype := .boolean) (ty := .boolean) (a0 := (8, .inl (fun _ => 0))) hx hb (hts _ q105) rfl hK hP hD hS hA (fun _ => rfl) (by decide) (N' := 8) (by decide) (by decide) (Nat.le_of_ble_eq_true rfl) (Nat.le_of_ble_eq_true rfl) dX0_init_23 (fun q2 ca2 H hK hP hD hS => ?_)
  refine W.widen (k := 3) (n := 56) (Nat.le_of_ble_eq_true rfl) (Nat.le_of_ble_eq_true rfl) ?_
  refine va_putF (D := (dC, dI)) (ci := 0) (v := .ref q2) (ty := .array .boolean) (C := RX0) (T := TX0) (N := 24) hx hb hts in_X0 tyX0 tyX0_ok nmX0 hown hK hP hD hS 0 rfl rfl 2 (by decide) (hts _ q33) (fun _ h9 => h9) rfl hin rfl (by decide +kernel) rfl rfl (Nat.le_of_ble_eq_true rfl) dX0_init_25 (fun H locs hP hD hS => ?_)
  have hK : va_K (dC, dI) vwCl [(ca0, .int), (ca1, .boolean), (ca2, .boolean)] s := hK
  have hP : va_P (dC, dI) vwCl [(h0, .inr (0, [.ref q0, .ref q1, .ref q2, .null, .null, .null, .null, .null, .null, .null, .null, .null, .null, .null, .null, .null, .null, .null, .int 0, .int 0, .int 0, .int 0, .int 0, .int 0])), (q0, .inl (ca0, 40, .inl (fun _ => 0))), (q1, .inl (ca1, 8, .inl (fun _ => 0))), (q2, .inl (ca2, 8, .inl (fun _ => 0)))] H := hP
  have hD : va_D A [(h0, .inr (0, [.ref q0, .ref q1, .ref q2, .null, .null, .null, .null, .null, .null, .null, .null, .null, .null, .null, .null, .null, .null, .null, .int 0, .int 0, .int 0, .int 0, .int 0, .int 0])), (q0, .inl (ca0, 40, .inl (fun _ => 0))), (q1, .inl (ca1, 8, .inl (fun _ => 0))), (q2, .inl (ca2, 8, .inl (fun _ => 0)))] := hD
  refine lv_aload_n hx hb dX0_init_28 rfl (lv_at hl 0 rfl) ?_
  refine lv_bipush (v := 8) hx hb dX0_init_29 (by decide) ?_
  refine va_newa (atype := .int) (ty := .int) (a0 := (8, .inl (fun _ => 0))) hx hb (hts _ q104) rfl hK hP hD hS hA (fun _ => rfl) (by decide) (N' := 8) (by decide) (by decide) (Nat.le_of_ble_eq_true rfl) (Nat.le_of_ble_eq_true rfl) dX0_init_31 (fun q3 ca3 H hK hP hD hS => ?_)
  refine W.widen (k := 4) (n := 64) (Nat.le_of_ble_eq_true rfl) (Nat.le_of_ble_eq_true rfl) ?_
  refine va_putF (D := (dC, dI)) (ci := 0) (v := .ref q3) (ty := .array .int) (C := RX0) (T := TX0) (N := 24) hx hb hts in_X0 tyX0 tyX0_ok nmX0 hown hK hP hD hS 0 rfl rfl 3 (by decide) (hts _ q34) (fun _ h9 => h9) rfl hin rfl (by decide +kernel) rfl rfl (Nat.le_of_ble_eq_true rfl) dX0_init_33 (fun H locs hP hD hS => ?_)
  have hK : va_K (dC, dI) vwCl [(ca0, .int), (ca1, .boolean), (ca2, .boolean), (ca3, .int)] s := hK
  have hP : va_P (dC, dI) vwCl [(h0, .inr (0, [.ref q0, .ref q1, .ref q2, .ref q3, .null, .null, .null, .null, .null, .null, .null, .null, .null, .null, .null, .null, .null, .null, .int 0, .int 0, .int 0, .int 0, .int 0, .int 0])), (q0, .inl (ca0, 40, .inl (fun _ => 0))), (q1, .inl (ca1, 8, .inl (fun _ => 0))), (q2, .inl (ca2, 8, .inl (fun _ => 0))), (q3, .inl (ca3, 8, .inl (fun _ => 0)))] H := hP
  have hD : va_D A [(h0, .inr (0, [.ref q0, .ref q1, .ref q2, .ref q3, .null, .null, .null, .null, .null, .null, .null, .null, .null, .null, .null, .null, .null, .null, .int 0, .int 0, .int 0, .int 0, .int 0, .int 0])), (q0, .inl (ca0, 40, .inl (fun _ => 0))), (q1, .inl (ca1, 8, .inl (fun _ => 0))), (q2, .inl (ca2, 8, .inl (fun _ => 0))), (q3, .inl (ca3, 8, .inl (fun _ => 0)))] := hD
  refine lv_aload_n hx hb dX0_init_36 rfl (lv_at hl 0 rfl) ?_
  refine lv_bipush (v := 8) hx hb dX0_init_37 (by decide) ?_
  refine va_newa (atype := .int) (ty := .int) (a0 := (8, .inl (fun _ => 0))) hx hb (hts _ q104) rfl hK hP hD hS hA (fun _ => rfl) (by decide) (N' := 8) (by decide) (by decide) (Nat.le_of_ble_eq_true rfl) (Nat.le_of_ble_eq_true rfl) dX0_init_39 (fun q4 ca4 H hK hP hD hS => ?_)
  refine W.widen (k := 5) (n := 72) (Nat.le_of_ble_eq_true rfl) (Nat.le_of_ble_eq_true rfl) ?_
  refine va_putF (D := (dC, dI)) (ci := 0) (v := .ref q4) (ty := .array .int) (C := RX0) (T := TX0) (N := 24) hx hb hts in_X0 tyX0 tyX0_ok nmX0 hown hK hP hD hS 0 rfl rfl 4 (by decide) (hts _ q35) (fun _ h9 => h9) rfl hin rfl (by decide +kernel) rfl rfl (Nat.le_of_ble_eq_true rfl) dX0_init_41 (fun H locs hP hD hS => ?_)
  have hK : va_K (dC, dI) vwCl [(ca0, .int), (ca1, .boolean), (ca2, .boolean), (ca3, .int), (ca4, .int)] s := hK
  have hP : va_P (dC, dI) vwCl [(h0, .inr (0, [.ref q0, .ref q1, .ref q2, .ref q3, .ref q4, .null, .null, .null, .null, .null, .null, .null, .null, .null, .null, .null, .null, .null, .int 0, .int 0, .int 0, .int 0, .int 0, .int 0])), (q0, .inl (ca0, 40, .inl (fun _ => 0))), (q1, .inl (ca1, 8, .inl (fun _ => 0))), (q2, .inl (ca2, 8, .inl (fun _ => 0))), (q3, .inl (ca3, 8, .inl (fun _ => 0))), (q4, .inl (ca4, 8, .inl (fun _ => 0)))] H := hP
  have hD : va_D A [(h0, .inr (0, [.ref q0, .ref q1, .ref q2, .ref q3, .ref q4, .null, .null, .null, .null, .null, .null, .null, .null, .null, .null, .null, .null, .null, .int 0, .int 0, .int 0, .int 0, .int 0, .int 0])), (q0, .inl (ca0, 40, .inl (fun _ => 0))), (q1, .inl (ca1, 8, .inl (fun _ => 0))), (q2, .inl (ca2, 8, .inl (fun _ => 0))), (q3, .inl (ca3, 8, .inl (fun _ => 0))), (q4, .inl (ca4, 8, .inl (fun _ => 0)))] := hD
  refine lv_aload_n hx hb dX0_init_44 rfl (lv_at hl 0 rfl) ?_
  refine lv_bipush (v := 8) hx hb dX0_init_45 (by decide) ?_
  refine va_newa (atype := .int) (ty := .int) (a0 := (8, .inl (fun _ => 0))) hx hb (hts _ q104) rfl hK hP hD hS hA (fun _ => rfl) (by decide) (N' := 8) (by decide) (by decide) (Nat.le_of_ble_eq_true rfl) (Nat.le_of_ble_eq_true rfl) dX0_init_47 (fun q5 ca5 H hK hP hD hS => ?_)
  refine W.widen (k := 6) (n := 80) (Nat.le_of_ble_eq_true rfl) (Nat.le_of_ble_eq_true rfl) ?_
  refine va_putF (D := (dC, dI)) (ci := 0) (v := .ref q5) (ty := .array .int) (C := RX0) (T := TX0) (N := 24) hx hb hts in_X0 tyX0 tyX0_ok nmX0 hown hK hP hD hS 0 rfl rfl 5 (by decide) (hts _ q36) (fun _ h9 => h9) rfl hin rfl (by decide +kernel) rfl rfl (Nat.le_of_ble_eq_true rfl) dX0_init_49 (fun H locs hP hD hS => ?_)
  have hK : va_K (dC, dI) vwCl [(ca0, .int), (ca1, .boolean), (ca2, .boolean), (ca3, .int), (ca4, .int), (ca5, .int)] s := hK
  have hP : va_P (dC, dI) vwCl [(h0, .inr (0, [.ref q0, .ref q1, .ref q2, .ref q3, .ref q4, .ref q5, .null, .null, .null, .null, .null, .null, .null, .null, .null, .null, .null, .null, .int 0, .int 0, .int 0, .int 0, .int 0, .int 0])), (q0, .inl (ca0, 40, .inl (fun _ => 0))), (q1, .inl (ca1, 8, .inl (fun _ => 0))), (q2, .inl (ca2, 8, .inl (fun _ => 0))), (q3, .inl (ca3, 8, .inl (fun _ => 0))), (q4, .inl (ca4, 8, .inl (fun _ => 0))), (q5, .inl (ca5, 8, .inl (fun _ => 0)))] H := hP
  have hD : va_D A [(h0, .inr (0, [.ref q0, .ref q1, .ref q2, .ref q3, .ref q4, .ref q5, .null, .null, .null, .null, .null, .null, .null, .null, .null, .null, .null, .null, .int 0, .int 0, .int 0, .int 0, .int 0, .int 0])), (q0, .inl (ca0, 40, .inl (fun _ => 0))), (q1, .inl (ca1, 8, .inl (fun _ => 0))), (q2, .inl (ca2, 8, .inl (fun _ => 0))), (q3, .inl (ca3, 8, .inl (fun _ => 0))), (q4, .inl (ca4, 8, .inl (fun _ => 0))), (q5, .inl (ca5, 8, .inl (fun _ => 0)))] := hD
  refine lv_aload_n hx hb dX0_init_52 rfl (lv_at hl 0 rfl) ?_
  refine lv_bipush (v := 8) hx hb dX0_init_53 (by decide) ?_
  refine va_newa (atype := .int) (ty := .int) (a0 := (8, .inl (fun _ => 0))) hx hb (hts _ q104) rfl hK hP hD hS hA (fun _ => rfl) (by decide) (N' := 8) (by decide) (by decide) (Nat.le_of_ble_eq_true rfl) (Nat.le_of_ble_eq_true rfl) dX0_init_55 (fun q6 ca6 H hK hP hD hS => ?_)
  refine W.widen (k := 7) (n := 88) (Nat.le_of_ble_eq_true rfl) (Nat.le_of_ble_eq_true rfl) ?_
  refine va_putF (D := (dC, dI)) (ci := 0) (v := .ref q6) (ty := .array .int) (C := RX0) (T := TX0) (N := 24) hx hb hts in_X0 tyX0 tyX0_ok nmX0 hown hK hP hD hS 0 rfl rfl 6 (by decide) (hts _ q37) (fun _ h9 => h9) rfl hin rfl (by decide +kernel) rfl rfl (Nat.le_of_ble_eq_true rfl) dX0_init_57 (fun H locs hP hD hS => ?_)
  have hK : va_K (dC, dI) vwCl [(ca0, .int), (ca1, .boolean), (ca2, .boolean), (ca3, .int), (ca4, .int), (ca5, .int), (ca6, .int)] s := hK
  have hP : va_P (dC, dI) vwCl [(h0, .inr (0, [.ref q0, .ref q1, .ref q2, .ref q3, .ref q4, .ref q5, .ref q6, .null, .null, .null, .null, .null, .null, .null, .null, .null, .null, .null, .int 0, .int 0, .int 0, .int 0, .int 0, .int 0])), (q0, .inl (ca0, 40, .inl (fun _ => 0))), (q1, .inl (ca1, 8, .inl (fun _ => 0))), (q2, .inl (ca2, 8, .inl (fun _ => 0))), (q3, .inl (ca3, 8, .inl (fun _ => 0))), (q4, .inl (ca4, 8, .inl (fun _ => 0))), (q5, .inl (ca5, 8, .inl (fun _ => 0))), (q6, .inl (ca6, 8, .inl (fun _ => 0)))] H := hP
  have hD : va_D A [(h0, .inr (0, [.ref q0, .ref q1, .ref q2, .ref q3, .ref q4, .ref q5, .ref q6, .null, .null, .null, .null, .null, .null, .null, .null, .null, .null, .null, .int 0, .int 0, .int 0, .int 0, .int 0, .int 0])), (q0, .inl (ca0, 40, .inl (fun _ => 0))), (q1, .inl (ca1, 8, .inl (fun _ => 0))), (q2, .inl (ca2, 8, .inl (fun _ => 0))), (q3, .inl (ca3, 8, .inl (fun _ => 0))), (q4, .inl (ca4, 8, .inl (fun _ => 0))), (q5, .inl (ca5, 8, .inl (fun _ => 0))), (q6, .inl (ca6, 8, .inl (fun _ => 0)))] := hD
  refine lv_aload_n hx hb dX0_init_60 rfl (lv_at hl 0 rfl) ?_
  refine lv_bipush (v := 8) hx hb dX0_init_61 (by decide) ?_
  refine va_newa (atype := .int) (ty := .int) (a0 := (8, .inl (fun _ => 0))) hx hb (hts _ q104) rfl hK hP hD hS hA (fun _ => rfl) (by decide) (N' := 8) (by decide) (by decide) (Nat.le_of_ble_eq_true rfl) (Nat.le_of_ble_eq_true rfl) dX0_init_63 (fun q7 ca7 H hK hP hD hS => ?_)
  refine W.widen (k := 8) (n := 96) (Nat.le_of_ble_eq_true rfl) (Nat.le_of_ble_eq_true rfl) ?_
  refine va_putF (D := (dC, dI)) (ci := 0) (v := .ref q7) (ty := .array .int) (C := RX0) (T := TX0) (N := 24) hx hb hts in_X0 tyX0 tyX0_ok nmX0 hown hK hP hD hS 0 rfl rfl 7 (by decide) (hts _ q38) (fun _ h9 => h9) rfl hin rfl (by decide +kernel) rfl rfl (Nat.le_of_ble_eq_true rfl) dX0_init_65 (fun H locs hP hD hS => ?_)
  have hK : va_K (dC, dI) vwCl [(ca0, .int), (ca1, .boolean), (ca2, .boolean), (ca3, .int), (ca4, .int), (ca5, .int), (ca6, .int), (ca7, .int)] s := hK
  have hP : va_P (dC, dI) vwCl [(h0, .inr (0, [.ref q0, .ref q1, .ref q2, .ref q3, .ref q4, .ref q5, .ref q6, .ref q7, .null, .null, .null, .null, .null, .null, .null, .null, .null, .null, .int 0, .int 0, .int 0, .int 0, .int 0, .int 0])), (q0, .inl (ca0, 40, .inl (fun _ => 0))), (q1, .inl (ca1, 8, .inl (fun _ => 0))), (q2, .inl (ca2, 8, .inl (fun _ => 0))), (q3, .inl (ca3, 8, .inl (fun _ => 0))), (q4, .inl (ca4, 8, .inl (fun _ => 0))), (q5, .inl (ca5, 8, .inl (fun _ => 0))), (q6, .inl (ca6, 8, .inl (fun _ => 0))), (q7, .inl (ca7, 8, .inl (fun _ => 0)))] H := hP
  have hD : va_D A [(h0, .inr (0, [.ref q0, .ref q1, .ref q2, .ref q3, .ref q4, .ref q5, .ref q6, .ref q7, .null, .null, .null, .null, .null, .null, .null, .null, .null, .null, .int 0, .int 0, .int 0, .int 0, .int 0, .int 0])), (q0, .inl (ca0, 40, .inl (fun _ => 0))), (q1, .inl (ca1, 8, .inl (fun _ => 0))), (q2, .inl (ca2, 8, .inl (fun _ => 0))), (q3, .inl (ca3, 8, .inl (fun _ => 0))), (q4, .inl (ca4, 8, .inl (fun _ => 0))), (q5, .inl (ca5, 8, .inl (fun _ => 0))), (q6, .inl (ca6, 8, .inl (fun _ => 0))), (q7, .inl (ca7, 8, .inl (fun _ => 0)))] := hD
  refine lv_aload_n hx hb dX0_init_68 rfl (lv_at hl 0 rfl) ?_
  refine lv_iconst (v := 4) hx hb dX0_init_69 (by decide) ?_
  refine va_newa (atype := .int) (ty := .int) (a0 := (4, .inl (fun _ => 0))) hx hb (hts _ q104) rfl hK hP hD hS hA (fun _ => rfl) (by decide) (N' := 4) (by decide) (by decide) (Nat.le_of_ble_eq_true rfl) (Nat.le_of_ble_eq_true rfl) dX0_init_70 (fun q8 ca8 H hK hP hD hS => ?_)
  refine W.widen (k := 9) (n := 100) (Nat.le_of_ble_eq_true rfl) (Nat.le_of_ble_eq_true rfl) ?_
  refine va_putF (D := (dC, dI)) (ci := 0) (v := .ref q8) (ty := .array .int) (C := RX0) (T := TX0) (N := 24) hx hb hts in_X0 tyX0 tyX0_ok nmX0 hown hK hP hD hS 0 rfl rfl 8 (by decide) (hts _ q39) (fun _ h9 => h9) rfl hin rfl (by decide +kernel) rfl rfl (Nat.le_of_ble_eq_true rfl) dX0_init_72 (fun H locs hP hD hS => ?_)
  have hK : va_K (dC, dI) vwCl [(ca0, .int), (ca1, .boolean), (ca2, .boolean), (ca3, .int), (ca4, .int), (ca5, .int), (ca6, .int), (ca7, .int), (ca8, .int)] s := hK
  have hP : va_P (dC, dI) vwCl [(h0, .inr (0, [.ref q0, .ref q1, .ref q2, .ref q3, .ref q4, .ref q5, .ref q6, .ref q7, .ref q8, .null, .null, .null, .null, .null, .null, .null, .null, .null, .int 0, .int 0, .int 0, .int 0, .int 0, .int 0])), (q0, .inl (ca0, 40, .inl (fun _ => 0))), (q1, .inl (ca1, 8, .inl (fun _ => 0))), (q2, .inl (ca2, 8, .inl (fun _ => 0))), (q3, .inl (ca3, 8, .inl (fun _ => 0))), (q4, .inl (ca4, 8, .inl (fun _ => 0))), (q5, .inl (ca5, 8, .inl (fun _ => 0))), (q6, .inl (ca6, 8, .inl (fun _ => 0))), (q7, .inl (ca7, 8, .inl (fun _ => 0))), (q8, .inl (ca8, 4, .inl (fun _ => 0)))] H := hP
  have hD : va_D A [(h0, .inr (0, [.ref q0, .ref q1, .ref q2, .ref q3, .ref q4, .ref q5, .ref q6, .ref q7, .ref q8, .null, .null, .null, .null, .null, .null, .null, .null, .null, .int 0, .int 0, .int 0, .int 0, .int 0, .int 0])), (q0, .inl (ca0, 40, .inl (fun _ => 0))), (q1, .inl (ca1, 8, .inl (fun _ => 0))), (q2, .inl (ca2, 8, .inl (fun _ => 0))), (q3, .inl (ca3, 8, .inl (fun _ => 0))), (q4, .inl (ca4, 8, .inl (fun _ => 0))), (q5, .inl (ca5, 8, .inl (fun _ => 0))), (q6, .inl (ca6, 8, .inl (fun _ => 0))), (q7, .inl (ca7, 8, .inl (fun _ => 0))), (q8, .inl (ca8, 4, .inl (fun _ => 0)))] := hD
  refine lv_aload_n hx hb dX0_init_75 rfl (lv_at hl 0 rfl) ?_
  refine lv_iconst (v := 4) hx hb dX0_init_76 (by decide) ?_
  refine va_newa (atype := .int) (ty := .int) (a0 := (4, .inl (fun _ => 0))) hx hb (hts _ q104) rfl hK hP hD hS hA (fun _ => rfl) (by decide) (N' := 4) (by decide) (by decide) (Nat.le_of_ble_eq_true rfl) (Nat.le_of_ble_eq_true rfl) dX0_init_77 (fun q9 ca9 H hK hP hD hS => ?_)
  refine W.widen (k := 10) (n := 104) (Nat.le_of_ble_eq_true rfl) (Nat.le_of_ble_eq_true rfl) ?_
  refine va_putF (D := (dC, dI)) (ci := 0) (v := .ref q9) (ty := .array .int) (C := RX0) (T := TX0) (N := 24) hx hb hts in_X0 tyX0 tyX0_ok nmX0 hown hK hP hD hS 0 rfl rfl 9 (by decide) (hts _ q40) (fun _ h9 => h9) rfl hin rfl (by decide +kernel) rfl rfl (Nat.le_of_ble_eq_true rfl) dX0_init_79 (fun H locs hP hD hS => ?_)
  have hK : va_K (dC, dI) vwCl [(ca0, .int), (ca1, .boolean), (ca2, .boolean), (ca3, .int), (ca4, .int), (ca5, .int), (ca6, .int), (ca7, .int), (ca8, .int), (ca9, .int)] s := hK
  have hP : va_P (dC, dI) vwCl [(h0, .inr (0, [.ref q0, .ref q1, .ref q2, .ref q3, .ref q4, .ref q5, .ref q6, .ref q7, .ref q8, .ref q9, .null, .null, .null, .null, .null, .null, .null, .null, .int 0, .int 0, .int 0, .int 0, .int 0, .int 0])), (q0, .inl (ca0, 40, .inl (fun _ => 0))), (q1, .inl (ca1, 8, .inl (fun _ => 0))), (q2, .inl (ca2, 8, .inl (fun _ => 0))), (q3, .inl (ca3, 8, .inl (fun _ => 0))), (q4, .inl (ca4, 8, .inl (fun _ => 0))), (q5, .inl (ca5, 8, .inl (fun _ => 0))), (q6, .inl (ca6, 8, .inl (fun _ => 0))), (q7, .inl (ca7, 8, .inl (fun _ => 0))), (q8, .inl (ca8, 4, .inl (fun _ => 0))), (q9, .inl (ca9, 4, .inl (fun _ => 0)))] H := hP
  have hD : va_D A [(h0, .inr (0, [.ref q0, .ref q1, .ref q2, .ref q3, .ref q4, .ref q5, .ref q6, .ref q7, .ref q8, .ref q9, .null, .null, .null, .null, .null, .null, .null, .null, .int 0, .int 0, .int 0, .int 0, .int 0, .int 0])), (q0, .inl (ca0, 40, .inl (fun _ => 0))), (q1, .inl (ca1, 8, .inl (fun _ => 0))), (q2, .inl (ca2, 8, .inl (fun _ => 0))), (q3, .inl (ca3, 8, .inl (fun _ => 0))), (q4, .inl (ca4, 8, .inl (fun _ => 0))), (q5, .inl (ca5, 8, .inl (fun _ => 0))), (q6, .inl (ca6, 8, .inl (fun _ => 0))), (q7, .inl (ca7, 8, .inl (fun _ => 0))), (q8, .inl (ca8, 4, .inl (fun _ => 0))), (q9, .inl (ca9, 4, .inl (fun _ => 0)))] := hD
  refine lv_aload_n hx hb dX0_init_82 rfl (lv_at hl 0 rfl) ?_
  refine lv_iconst (v := 4) hx hb dX0_init_83 (by decide) ?_
  refine va_newa (atype := .int) (ty := .int) (a0 := (4, .inl (fun _ => 0))) hx hb (hts _ q104) rfl hK hP hD hS hA (fun _ => rfl) (by decide) (N' := 4) (by decide) (by decide) (Nat.le_of_ble_eq_true rfl) (Nat.le_of_ble_eq_true rfl) dX0_init_84 (fun q10 ca10 H hK hP hD hS => ?_)
  refine W.widen (k := 11) (n := 108) (Nat.le_of_ble_eq_true rfl) (Nat.le_of_ble_eq_true rfl) ?_
  refine va_putF (D := (dC, dI)) (ci := 0) (v := .ref q10) (ty := .array .int) (C := RX0) (T := TX0) (N := 24) hx hb hts in_X0 tyX0 tyX0_ok nmX0 hown hK hP hD hS 0 rfl rfl 10 (by decide) (hts _ q41) (fun _ h9 => h9) rfl hin rfl (by decide +kernel) rfl rfl (Nat.le_of_ble_eq_true rfl) dX0_init_86 (fun H locs hP hD hS => ?_)
  have hK : va_K (dC, dI) vwCl [(ca0, .int), (ca1, .boolean), (ca2, .boolean), (ca3, .int), (ca4, .int), (ca5, .int), (ca6, .int), (ca7, .int), (ca8, .int), (ca9, .int), (ca10, .int)] s := hK
  have hP : va_P (dC, dI) vwCl [(h0, .inr (0, [.ref q0, .ref q1, .ref q2, .ref q3, .ref q4, .ref q5, .ref q6, .ref q7, .ref q8, .ref q9, .ref q10, .null, .null, .null, .null, .null, .null, .null, .int 0, .int 0, .int 0, .int 0, .int 0, .int 0])), (q0, .inl (ca0, 40, .inl (fun _ => 0))), (q1, .inl (ca1, 8, .inl (fun _ => 0))), (q2, .inl (ca2, 8, .inl (fun _ => 0))), (q3, .inl (ca3, 8, .inl (fun _ => 0))), (q4, .inl (ca4, 8, .inl (fun _ => 0))), (q5, .inl (ca5, 8, .inl (fun _ => 0))), (q6, .inl (ca6, 8, .inl (fun _ => 0))), (q7, .inl (ca7, 8, .inl (fun _ => 0))), (q8, .inl (ca8, 4, .inl (fun _ => 0))), (q9, .inl (ca9, 4, .inl (fun _ => 0))), (q10, .inl (ca10, 4, .inl (fun _ => 0)))] H := hP
  have hD : va_D A [(h0, .inr (0, [.ref q0, .ref q1, .ref q2, .ref q3, .ref q4, .ref q5, .ref q6, .ref q7, .ref q8, .ref q9, .ref q10, .null, .null, .null, .null, .null, .null, .null, .int 0, .int 0, .int 0, .int 0, .int 0, .int 0])), (q0, .inl (ca0, 40, .inl (fun _ => 0))), (q1, .inl (ca1, 8, .inl (fun _ => 0))), (q2, .inl (ca2, 8, .inl (fun _ => 0))), (q3, .inl (ca3, 8, .inl (fun _ => 0))), (q4, .inl (ca4, 8, .inl (fun _ => 0))), (q5, .inl (ca5, 8, .inl (fun _ => 0))), (q6, .inl (ca6, 8, .inl (fun _ => 0))), (q7, .inl (ca7, 8, .inl (fun _ => 0))), (q8, .inl (ca8, 4, .inl (fun _ => 0))), (q9, .inl (ca9, 4, .inl (fun _ => 0))), (q10, .inl (ca10, 4, .inl (fun _ => 0)))] := hD
  refine lv_aload_n hx hb dX0_init_89 rfl (lv_at hl 0 rfl) ?_
  refine lv_iconst (v := 4) hx hb dX0_init_90 (by decide) ?_
  refine va_newa (atype := .int) (ty := .int) (a0 := (4, .inl (fun _ => 0))) hx hb (hts _ q104) rfl hK hP hD hS hA (fun _ => rfl) (by decide) (N' := 4) (by decide) (by decide) (Nat.le_of_ble_eq_true rfl) (Nat.le_of_ble_eq_true rfl) dX0_init_91 (fun q11 ca11 H hK hP hD hS => ?_)
  refine W.widen (k := 12) (n := 112) (Nat.le_of_ble_eq_true rfl) (Nat.le_of_ble_eq_true rfl) ?_
  refine va_putF (D := (dC, dI)) (ci := 0) (v := .ref q11) (ty := .array .int) (C := RX0) (T := TX0) (N := 24) hx hb hts in_X0 tyX0 tyX0_ok nmX0 hown hK hP hD hS 0 rfl rfl 11 (by decide) (hts _ q42) (fun _ h9 => h9) rfl hin rfl (by decide +kernel) rfl rfl (Nat.le_of_ble_eq_true rfl) dX0_init_93 (fun H locs hP hD hS => ?_)
  have hK : va_K (dC, dI) vwCl [(ca0, .int), (ca1, .boolean), (ca2, .boolean), (ca3, .int), (ca4, .int), (ca5, .int), (ca6, .int), (ca7, .int), (ca8, .int), (ca9, .int), (ca10, .int), (ca11, .int)] s := hK
  have hP : va_P (dC, dI) vwCl [(h0, .inr (0, [.ref q0, .ref q1, .ref q2, .ref q3, .ref q4, .ref q5, .ref q6, .ref q7, .ref q8, .ref q9, .ref q10, .ref q11, .null, .null, .null, .null, .null, .null, .int 0, .int 0, .int 0, .int 0, .int 0, .int 0])), (q0, .inl (ca0, 40, .inl (fun _ => 0))), (q1, .inl (ca1, 8, .inl (fun _ => 0))), (q2, .inl (ca2, 8, .inl (fun _ => 0))), (q3, .inl (ca3, 8, .inl (fun _ => 0))), (q4, .inl (ca4, 8, .inl (fun _ => 0))), (q5, .inl (ca5, 8, .inl (fun _ => 0))), (q6, .inl (ca6, 8, .inl (fun _ => 0))), (q7, .inl (ca7, 8, .inl (fun _ => 0))), (q8, .inl (ca8, 4, .inl (fun _ => 0))), (q9, .inl (ca9, 4, .inl (fun _ => 0))), (q10, .inl (ca10, 4, .inl (fun _ => 0))), (q11, .inl (ca11, 4, .inl (fun _ => 0)))] H := hP
  have hD : va_D A [(h0, .inr (0, [.ref q0, .ref q1, .ref q2, .ref q3, .ref q4, .ref q5, .ref q6, .ref q7, .ref q8, .ref q9, .ref q10, .ref q11, .null, .null, .null, .null, .null, .null, .int 0, .int 0, .int 0, .int 0, .int 0, .int 0])), (q0, .inl (ca0, 40, .inl (fun _ => 0))), (q1, .inl (ca1, 8, .inl (fun _ => 0))), (q2, .inl (ca2, 8, .inl (fun _ => 0))), (q3, .inl (ca3, 8, .inl (fun _ => 0))), (q4, .inl (ca4, 8, .inl (fun _ => 0))), (q5, .inl (ca5, 8, .inl (fun _ => 0))), (q6, .inl (ca6, 8, .inl (fun _ => 0))), (q7, .inl (ca7, 8, .inl (fun _ => 0))), (q8, .inl (ca8, 4, .inl (fun _ => 0))), (q9, .inl (ca9, 4, .inl (fun _ => 0))), (q10, .inl (ca10, 4, .inl (fun _ => 0))), (q11, .inl (ca11, 4, .inl (fun _ => 0)))] := hD
  refine lv_aload_n hx hb dX0_init_96 rfl (lv_at hl 0 rfl) ?_
  refine lv_bipush (v := 8) hx hb dX0_init_97 (by decide) ?_
  refine va_newa (atype := .int) (ty := .int) (a0 := (8, .inl (fun _ => 0))) hx hb (hts _ q104) rfl hK hP hD hS hA (fun _ => rfl) (by decide) (N' := 8) (by decide) (by decide) (Nat.le_of_ble_eq_true rfl) (Nat.le_of_ble_eq_true rfl) dX0_init_99 (fun q12 ca12 H hK hP hD hS => ?_)
  refine W.widen (k := 13) (n := 120) (Nat.le_of_ble_eq_true rfl) (Nat.le_of_ble_eq_true rfl) ?_
  refine va_putF (D := (dC, dI)) (ci := 0) (v := .ref q12) (ty := .array .int) (C := RX0) (T := TX0) (N := 24) hx hb hts in_X0 tyX0 tyX0_ok nmX0 hown hK hP hD hS 0 rfl rfl 12 (by decide) (hts _ q43) (fun _ h9 => h9) rfl hin rfl (by decide +kernel) rfl rfl (Nat.le_of_ble_eq_true rfl) dX0_init_101 (fun H locs hP hD hS => ?_)
  have hK : va_K (dC, dI) vwCl [(ca0, .int), (ca1, .boolean), (ca2, .boolean), (ca3, .int), (ca4, .int), (ca5, .int), (ca6, .int), (ca7, .int), (ca8, .int), (ca9, .int), (ca10, .int), (ca11, .int), (ca12, .int)] s := hK
  have hP : va_P (dC, dI) vwCl [(h0, .inr (0, [.ref q0, .ref q1, .ref q2, .ref q3, .ref q4, .ref q5, .ref q6, .ref q7, .ref q8, .ref q9, .ref q10, .ref q11, .ref q12, .null, .null, .null, .null, .null, .int 0, .int 0, .int 0, .int 0, .int 0, .int 0])), (q0, .inl (ca0, 40, .inl (fun _ => 0))), (q1, .inl (ca1, 8, .inl (fun _ => 0))), (q2, .inl (ca2, 8, .inl (fun _ => 0))), (q3, .inl (ca3, 8, .inl (fun _ => 0))), (q4, .inl (ca4, 8, .inl (fun _ => 0))), (q5, .inl (ca5, 8, .inl (fun _ => 0))), (q6, .inl (ca6, 8, .inl (fun _ => 0))), (q7, .inl (ca7, 8, .inl (fun _ => 0))), (q8, .inl (ca8, 4, .inl (fun _ => 0))), (q9, .inl (ca9, 4, .inl (fun _ => 0))), (q10, .inl (ca10, 4, .inl (fun _ => 0))), (q11, .inl (ca11, 4, .inl (fun _ => 0))), (q12, .inl (ca12, 8, .inl (fun _ => 0)))] H := hP
  have hD : va_D A [(h0, .inr (0, [.ref q0, .ref q1, .ref q2, .ref q3, .ref q4, .ref q5, .ref q6, .ref q7, .ref q8, .ref q9, .ref q10, .ref q11, .ref q12, .null, .null, .null, .null, .null, .int 0, .int 0, .int 0, .int 0, .int 0, .int 0])), (q0, .inl (ca0, 40, .inl (fun _ => 0))), (q1, .inl (ca1, 8, .inl (fun _ => 0))), (q2, .inl (ca2, 8, .inl (fun _ => 0))), (q3, .inl (ca3, 8, .inl (fun _ => 0))), (q4, .inl (ca4, 8, .inl (fun _ => 0))), (q5, .inl (ca5, 8, .inl (fun _ => 0))), (q6, .inl (ca6, 8, .inl (fun _ => 0))), (q7, .inl (ca7, 8, .inl (fun _ => 0))), (q8, .inl (ca8, 4, .inl (fun _ => 0))), (q9, .inl (ca9, 4, .inl (fun _ => 0))), (q10, .inl (ca10, 4, .inl (fun _ => 0))), (q11, .inl (ca11, 4, .inl (fun _ => 0))), (q12, .inl (ca12, 8, .inl (fun _ => 0)))] := hD
  refine lv_aload_n hx hb dX0_init_104 rfl (lv_at hl 0 rfl) ?_
  refine lv_bipush (v := 8) hx hb dX0_init_105 (by decide) ?_
  refine va_newa (atype := .int) (ty := .int) (a0 := (8, .inl (fun _ => 0))) hx hb (hts _ q104) rfl hK hP hD hS hA (fun _ => rfl) (by decide) (N' := 8) (by decide) (by decide) (Nat.le_of_ble_eq_true rfl) (Nat.le_of_ble_eq_true rfl) dX0_init_107 (fun q13 ca13 H hK hP hD hS => ?_)
  refine W.widen (k := 14) (n := 128) (Nat.le_of_ble_eq_true rfl) (Nat.le_of_ble_eq_true rfl) ?_
  refine va_putF (D := (dC, dI)) (ci := 0) (v := .ref q13) (ty := .array .int) (C := RX0) (T := TX0) (N := 24) hx hb hts in_X0 tyX0 tyX0_ok nmX0 hown hK hP hD hS 0 rfl rfl 13 (by decide) (hts _ q44) (fun _ h9 => h9) rfl hin rfl (by decide +kernel) rfl rfl (Nat.le_of_ble_eq_true rfl) dX0_init_109 (fun H locs hP hD hS => ?_)
  have hK : va_K (dC, dI) vwCl [(ca0, .int), (ca1, .boolean), (ca2, .boolean), (ca3, .int), (ca4, .int), (ca5, .int), (ca6, .int), (ca7, .int), (ca8, .int), (ca9, .int), (ca10, .int), (ca11, .int), (ca12, .int), (ca13, .int)] s := hK
  have hP : va_P (dC, dI) vwCl [(h0, .inr (0, [.ref q0, .ref q1, .ref q2, .ref q3, .ref q4, .ref q5, .ref q6, .ref q7, .ref q8, .ref q9, .ref q10, .ref q11, .ref q12, .ref q13, .null, .null, .null, .null, .int 0, .int 0, .int 0, .int 0, .int 0, .int 0])), (q0, .inl (ca0, 40, .inl (fun _ => 0))), (q1, .inl (ca1, 8, .inl (fun _ => 0))), (q2, .inl (ca2, 8, .inl (fun _ => 0))), (q3, .inl (ca3, 8, .inl (fun _ => 0))), (q4, .inl (ca4, 8, .inl (fun _ => 0))), (q5, .inl (ca5, 8, .inl (fun _ => 0))), (q6, .inl (ca6, 8, .inl (fun _ => 0))), (q7, .inl (ca7, 8, .inl (fun _ => 0))), (q8, .inl (ca8, 4, .inl (fun _ => 0))), (q9, .inl (ca9, 4, .inl (fun _ => 0))), (q10, .inl (ca10, 4, .inl (fun _ => 0))), (q11, .inl (ca11, 4, .inl (fun _ => 0))), (q12, .inl (ca12, 8, .inl (fun _ => 0))), (q13, .inl (ca13, 8, .inl (fun _ => 0)))] H := hP
  have hD : va_D A [(h0, .inr (0, [.ref q0, .ref q1, .ref q2, .ref q3, .ref q4, .ref q5, .ref q6, .ref q7, .ref q8, .ref q9, .ref q10, .ref q11, .ref q12, .ref q13, .null, .null, .null, .null, .int 0, .int 0, .int 0, .int 0, .int 0, .int 0])), (q0, .inl (ca0, 40, .inl (fun _ => 0))), (q1, .inl (ca1, 8, .inl (fun _ => 0))), (q2, .inl (ca2, 8, .inl (fun _ => 0))), (q3, .inl (ca3, 8, .inl (fun _ => 0))), (q4, .inl (ca4, 8, .inl (fun _ => 0))), (q5, .inl (ca5, 8, .inl (fun _ => 0))), (q6, .inl (ca6, 8, .inl (fun _ => 0))), (q7, .inl (ca7, 8, .inl (fun _ => 0))), (q8, .inl (ca8, 4, .inl (fun _ => 0))), (q9, .inl (ca9, 4, .inl (fun _ => 0))), (q10, .inl (ca10, 4, .inl (fun _ => 0))), (q11, .inl (ca11, 4, .inl (fun _ => 0))), (q12, .inl (ca12, 8, .inl (fun _ => 0))), (q13, .inl (ca13, 8, .inl (fun _ => 0)))] := hD
  refine lv_aload_n hx hb dX0_init_112 rfl (lv_at hl 0 rfl) ?_
  refine lv_bipush (v := 8) hx hb dX0_init_113 (by decide) ?_
  refine va_newa (atype := .int) (ty := .int) (a0 := (8, .inl (fun _ => 0))) hx hb (hts _ q104) rfl hK hP hD hS hA (fun _ => rfl) (by decide) (N' := 8) (by decide) (by decide) (Nat.le_of_ble_eq_true rfl) (Nat.le_of_ble_eq_true rfl) dX0_init_115 (fun q14 ca14 H hK hP hD hS => ?_)
  refine W.widen (k := 15) (n := 136) (Nat.le_of_ble_eq_true rfl) (Nat.le_of_ble_eq_true rfl) ?_
  refine va_putF (D := (dC, dI)) (ci := 0) (v := .ref q14) (ty := .array .int) (C := RX0) (T := TX0) (N := 24) hx hb hts in_X0 tyX0 tyX0_ok nmX0 hown hK hP hD hS 0 rfl rfl 14 (by decide) (hts _ q45) (fun _ h9 => h9) rfl hin rfl (by decide +kernel) rfl rfl (Nat.le_of_ble_eq_true rfl) dX0_init_117 (fun H locs hP hD hS => ?_)
  have hK : va_K (dC, dI) vwCl [(ca0, .int), (ca1, .boolean), (ca2, .boolean), (ca3, .int), (ca4, .int), (ca5, .int), (ca6, .int), (ca7, .int), (ca8, .int), (ca9, .int), (ca10, .int), (ca11, .int), (ca12, .int), (ca13, .int), (ca14, .int)] s := hK
  have hP : va_P (dC, dI) vwCl [(h0, .inr (0, [.ref q0, .ref q1, .ref q2, .ref q3, .ref q4, .ref q5, .ref q6, .ref q7, .ref q8, .ref q9, .ref q10, .ref q11, .ref q12, .ref q13, .ref q14, .null, .null, .null, .int 0, .int 0, .int 0, .int 0, .int 0, .int 0])), (q0, .inl (ca0, 40, .inl (fun _ => 0))), (q1, .inl (ca1, 8, .inl (fun _ => 0))), (q2, .inl (ca2, 8, .inl (fun _ => 0))), (q3, .inl (ca3, 8, .inl (fun _ => 0))), (q4, .inl (ca4, 8, .inl (fun _ => 0))), (q5, .inl (ca5, 8, .inl (fun _ => 0))), (q6, .inl (ca6, 8, .inl (fun _ => 0))), (q7, .inl (ca7, 8, .inl (fun _ => 0))), (q8, .inl (ca8, 4, .inl (fun _ => 0))), (q9, .inl (ca9, 4, .inl (fun _ => 0))), (q10, .inl (ca10, 4, .inl (fun _ => 0))), (q11, .inl (ca11, 4, .inl (fun _ => 0))), (q12, .inl (ca12, 8, .inl (fun _ => 0))), (q13, .inl (ca13, 8, .inl (fun _ => 0))), (q14, .inl (ca14, 8, .inl (fun _ => 0)))] H := hP
  have hD : va_D A [(h0, .inr (0, [.ref q0, .ref q1, .ref q2, .ref q3, .ref q4, .ref q5, .ref q6, .ref q7, .ref q8, .ref q9, .ref q10, .ref q11, .ref q12, .ref q13, .ref q14, .null, .null, .null, .int 0, .int 0, .int 0, .int 0, .int 0, .int 0])), (q0, .inl (ca0, 40, .inl (fun _ => 0))), (q1, .inl (ca1, 8, .inl (fun _ => 0))), (q2, .inl (ca2, 8, .inl (fun _ => 0))), (q3, .inl (ca3, 8, .inl (fun _ => 0))), (q4, .inl (ca4, 8, .inl (fun _ => 0))), (q5, .inl (ca5, 8, .inl (fun _ => 0))), (q6, .inl (ca6, 8, .inl (fun _ => 0))), (q7, .inl (ca7, 8, .inl (fun _ => 0))), (q8, .inl (ca8, 4, .inl (fun _ => 0))), (q9, .inl (ca9, 4, .inl (fun _ => 0))), (q10, .inl (ca10, 4, .inl (fun _ => 0))), (q11, .inl (ca11, 4, .inl (fun _ => 0))), (q12, .inl (ca12, 8, .inl (fun _ => 0))), (q13, .inl (ca13, 8, .inl (fun _ => 0))), (q14, .inl (ca14, 8, .inl (fun _ => 0)))] := hD
  refine lv_aload_n hx hb dX0_init_120 rfl (lv_at hl 0 rfl) ?_
  refine lv_bipush (v := 8) hx hb dX0_init_121 (by decide) ?_
  refine va_newa (atype := .int) (ty := .int) (a0 := (8, .inl (fun _ => 0))) hx hb (hts _ q104) rfl hK hP hD hS hA (fun _ => rfl) (by decide) (N' := 8) (by decide) (by decide) (Nat.le_of_ble_eq_true rfl) (Nat.le_of_ble_eq_true rfl) dX0_init_123 (fun q15 ca15 H hK hP hD hS => ?_)
  refine W.widen (k := 16) (n := 144) (Nat.le_of_ble_eq_true rfl) (Nat.le_of_ble_eq_true rfl) ?_
  refine va_putF (D := (dC, dI)) (ci := 0) (v := .ref q15) (ty := .array .int) (C := RX0) (T := TX0) (N := 24) hx hb hts in_X0 tyX0 tyX0_ok nmX0 hown hK hP hD hS 0 rfl rfl 15 (by decide) (hts _ q46) (fun _ h9 => h9) rfl hin rfl (by decide +kernel) rfl rfl (Nat.le_of_ble_eq_true rfl) dX0_init_125 (fun H locs hP hD hS => ?_)
  have hK : va_K (dC, dI) vwCl [(ca0, .int), (ca1, .boolean), (ca2, .boolean), (ca3, .int), (ca4, .int), (ca5, .int), (ca6, .int), (ca7, .int), (ca8, .int), (ca9, .int), (ca10, .int), (ca11, .int), (ca12, .int), (ca13, .int), (ca14, .int), (ca15, .int)] s := hK
  have hP : va_P (dC, dI) vwCl [(h0, .inr (0, [.ref q0, .ref q1, .ref q2, .ref q3, .ref q4, .ref q5, .ref q6, .ref q7, .ref q8, .ref q9, .ref q10, .ref q11, .ref q12, .ref q13, .ref q14, .ref q15, .null, .null, .int 0, .int 0, .int 0, .int 0, .int 0, .int 0])), (q0, .inl (ca0, 40, .inl (fun _ => 0))), (q1, .inl (ca1, 8, .inl (fun _ => 0))), (q2, .inl (ca2, 8, .inl (fun _ => 0))), (q3, .inl (ca3, 8, .inl (fun _ => 0))), (q4, .inl (ca4, 8, .inl (fun _ => 0))), (q5, .inl (ca5, 8, .inl (fun _ => 0))), (q6, .inl (ca6, 8, .inl (fun _ => 0))), (q7, .inl (ca7, 8, .inl (fun _ => 0))), (q8, .inl (ca8, 4, .inl (fun _ => 0))), (q9, .inl (ca9, 4, .inl (fun _ => 0))), (q10, .inl (ca10, 4, .inl (fun _ => 0))), (q11, .inl (ca11, 4, .inl (fun _ => 0))), (q12, .inl (ca12, 8, .inl (fun _ => 0))), (q13, .inl (ca13, 8, .inl (fun _ => 0))), (q14, .inl (ca14, 8, .inl (fun _ => 0))), (q15, .inl (ca15, 8, .inl (fun _ => 0)))] H := hP
  have hD : va_D A [(h0, .inr (0, [.ref q0, .ref q1, .ref q2, .ref q3, .ref q4, .ref q5, .ref q6, .ref q7, .ref q8, .ref q9, .ref q10, .ref q11, .ref q12, .ref q13, .ref q14, .ref q15, .null, .null, .int 0, .int 0, .int 0, .int 0, .int 0, .int 0])), (q0, .inl (ca0, 40, .inl (fun _ => 0))), (q1, .inl (ca1, 8, .inl (fun _ => 0))), (q2, .inl (ca2, 8, .inl (fun _ => 0))), (q3, .inl (ca3, 8, .inl (fun _ => 0))), (q4, .inl (ca4, 8, .inl (fun _ => 0))), (q5, .inl (ca5, 8, .inl (fun _ => 0))), (q6, .inl (ca6, 8, .inl (fun _ => 0))), (q7, .inl (ca7, 8, .inl (fun _ => 0))), (q8, .inl (ca8, 4, .inl (fun _ => 0))), (q9, .inl (ca9, 4, .inl (fun _ => 0))), (q10, .inl (ca10, 4, .inl (fun _ => 0))), (q11, .inl (ca11, 4, .inl (fun _ => 0))), (q12, .inl (ca12, 8, .inl (fun _ => 0))), (q13, .inl (ca13, 8, .inl (fun _ => 0))), (q14, .inl (ca14, 8, .inl (fun _ => 0))), (q15, .inl (ca15, 8, .inl (fun _ => 0)))] := hD
  refine lv_aload_n hx hb dX0_init_128 rfl (lv_at hl 0 rfl) ?_
  refine lv_bipush (v := 8) hx hb dX0_init_129 (by decide) ?_
  refine va_newa (atype := .int) (ty := .int) (a0 := (8, .inl (fun _ => 0))) hx hb (hts _ q104) rfl hK hP hD hS hA (fun _ => rfl) (by decide) (N' := 8) (by decide) (by decide) (Nat.le_of_ble_eq_true rfl) (Nat.le_of_ble_eq_true rfl) dX0_init_131 (fun q16 ca16 H hK hP hD hS => ?_)
  refine W.widen (k := 17) (n := 152) (Nat.le_of_ble_eq_true rfl) (Nat.le_of_ble_eq_true rfl) ?_
  refine va_putF (D := (dC, dI)) (ci := 0) (v := .ref q16) (ty := .array .int) (C := RX0) (T := TX0) (N := 24) hx hb hts in_X0 tyX0 tyX0_ok nmX0 hown hK hP hD hS 0 rfl rfl 16 (by decide) (hts _ q47) (fun _ h9 => h9) rfl hin rfl (by decide +kernel) rfl rfl (Nat.le_of_ble_eq_true rfl) dX0_init_133 (fun H locs hP hD hS => ?_)
  have hK : va_K (dC, dI) vwCl [(ca0, .int), (ca1, .boolean), (ca2, .boolean), (ca3, .int), (ca4, .int), (ca5, .int), (ca6, .int), (ca7, .int), (ca8, .int), (ca9, .int), (ca10, .int), (ca11, .int), (ca12, .int), (ca13, .int), (ca14, .int), (ca15, .int), (ca16, .int)] s := hK
  have hP : va_P (dC, dI) vwCl [(h0, .inr (0, [.ref q0, .ref q1, .ref q2, .ref q3, .ref q4, .ref q5, .ref q6, .ref q7, .ref q8, .ref q9, .ref q10, .ref q11, .ref q12, .ref q13, .ref q14, .ref q15, .ref q16, .null, .int 0, .int 0, .int 0, .int 0, .int 0, .int 0])), (q0, .inl (ca0, 40, .inl (fun _ => 0))), (q1, .inl (ca1, 8, .inl (fun _ => 0))), (q2, .inl (ca2, 8, .inl (fun _ => 0))), (q3, .inl (ca3, 8, .inl (fun _ => 0))), (q4, .inl (ca4, 8, .inl (fun _ => 0))), (q5, .inl (ca5, 8, .inl (fun _ => 0))), (q6, .inl (ca6, 8, .inl (fun _ => 0))), (q7, .inl (ca7, 8, .inl (fun _ => 0))), (q8, .inl (ca8, 4, .inl (fun _ => 0))), (q9, .inl (ca9, 4, .inl (fun _ => 0))), (q10, .inl (ca10, 4, .inl (fun _ => 0))), (q11, .inl (ca11, 4, .inl (fun _ => 0))), (q12, .inl (ca12, 8, .inl (fun _ => 0))), (q13, .inl (ca13, 8, .inl (fun _ => 0))), (q14, .inl (ca14, 8, .inl (fun _ => 0))), (q15, .inl (ca15, 8, .inl (fun _ => 0))), (q16, .inl (ca16, 8, .inl (fun _ => 0)))] H := hP
  have hD : va_D A [(h0, .inr (0, [.ref q0, .ref q1, .ref q2, .ref q3, .ref q4, .ref q5, .ref q6, .ref q7, .ref q8, .ref q9, .ref q10, .ref q11, .ref q12, .ref q13, .ref q14, .ref q15, .ref q16, .null, .int 0, .int 0, .int 0, .int 0, .int 0, .int 0])), (q0, .inl (ca0, 40, .inl (fun _ => 0))), (q1, .inl (ca1, 8, .inl (fun _ => 0))), (q2, .inl (ca2, 8, .inl (fun _ => 0))), (q3, .inl (ca3, 8, .inl (fun _ => 0))), (q4, .inl (ca4, 8, .inl (fun _ => 0))), (q5, .inl (ca5, 8, .inl (fun _ => 0))), (q6, .inl (ca6, 8, .inl (fun _ => 0))), (q7, .inl (ca7, 8, .inl (fun _ => 0))), (q8, .inl (ca8, 4, .inl (fun _ => 0))), (q9, .inl (ca9, 4, .inl (fun _ => 0))), (q10, .inl (ca10, 4, .inl (fun _ => 0))), (q11, .inl (ca11, 4, .inl (fun _ => 0))), (q12, .inl (ca12, 8, .inl (fun _ => 0))), (q13, .inl (ca13, 8, .inl (fun _ => 0))), (q14, .inl (ca14, 8, .inl (fun _ => 0))), (q15, .inl (ca15, 8, .inl (fun _ => 0))), (q16, .inl (ca16, 8, .inl (fun _ => 0)))] := hD
  refine lv_aload_n hx hb dX0_init_136 rfl (lv_at hl 0 rfl) ?_
  refine lv_iconst (v := 4) hx hb dX0_init_137 (by decide) ?_
  refine va_newa (atype := .int) (ty := .int) (a0 := (4, .inl (fun _ => 0))) hx hb (hts _ q104) rfl hK hP hD hS hA (fun _ => rfl) (by decide) (N' := 4) (by decide) (by decide) (Nat.le_of_ble_eq_true rfl) (Nat.le_of_ble_eq_true rfl) dX0_init_138 (fun q17 ca17 H hK hP hD hS => ?_)
  refine W.widen (k := 18) (n := 156) (Nat.le_of_ble_eq_true rfl) (Nat.le_of_ble_eq_true rfl) ?_
  refine va_putF (D := (dC, dI)) (ci := 0) (v := .ref q17) (ty := .array .int) (C := RX0) (T := TX0) (N := 24) hx hb hts in_X0 tyX0 tyX0_ok nmX0 hown hK hP hD hS 0 rfl rfl 17 (by decide) (hts _ q48) (fun _ h9 => h9) rfl hin rfl (by decide +kernel) rfl rfl (Nat.le_of_ble_eq_true rfl) dX0_init_140 (fun H locs hP hD hS => ?_)
  have hK : va_K (dC, dI) vwCl [(ca0, .int), (ca1, .boolean), (ca2, .boolean), (ca3, .int), (ca4, .int), (ca5, .int), (ca6, .int), (ca7, .int), (ca8, .int), (ca9, .int), (ca10, .int), (ca11, .int), (ca12, .int), (ca13, .int), (ca14, .int), (ca15, .int), (ca16, .int), (ca17, .int)] s := hK
  have hP : va_P (dC, dI) vwCl [(h0, .inr (0, [.ref q0, .ref q1, .ref q2, .ref q3, .ref q4, .ref q5, .ref q6, .ref q7, .ref q8, .ref q9, .ref q10, .ref q11, .ref q12, .ref q13, .ref q14, .ref q15, .ref q16, .ref q17, .int 0, .int 0, .int 0, .int 0, .int 0, .int 0])), (q0, .inl (ca0, 40, .inl (fun _ => 0))), (q1, .inl (ca1, 8, .inl (fun _ => 0))), (q2, .inl (ca2, 8, .inl (fun _ => 0))), (q3, .inl (ca3, 8, .inl (fun _ => 0))), (q4, .inl (ca4, 8, .inl (fun _ => 0))), (q5, .inl (ca5, 8, .inl (fun _ => 0))), (q6, .inl (ca6, 8, .inl (fun _ => 0))), (q7, .inl (ca7, 8, .inl (fun _ => 0))), (q8, .inl (ca8, 4, .inl (fun _ => 0))), (q9, .inl (ca9, 4, .inl (fun _ => 0))), (q10, .inl (ca10, 4, .inl (fun _ => 0))), (q11, .inl (ca11, 4, .inl (fun _ => 0))), (q12, .inl (ca12, 8, .inl (fun _ => 0))), (q13, .inl (ca13, 8, .inl (fun _ => 0))), (q14, .inl (ca14, 8, .inl (fun _ => 0))), (q15, .inl (ca15, 8, .inl (fun _ => 0))), (q16, .inl (ca16, 8, .inl (fun _ => 0))), (q17, .inl (ca17, 4, .inl (fun _ => 0)))] H := hP
  have hD : va_D A [(h0, .inr (0, [.ref q0, .ref q1, .ref q2, .ref q3, .ref q4, .ref q5, .ref q6, .ref q7, .ref q8, .ref q9, .ref q10, .ref q11, .ref q12, .ref q13, .ref q14, .ref q15, .ref q16, .ref q17, .int 0, .int 0, .int 0, .int 0, .int 0, .int 0])), (q0, .inl (ca0, 40, .inl (fun _ => 0))), (q1, .inl (ca1, 8, .inl (fun _ => 0))), (q2, .inl (ca2, 8, .inl (fun _ => 0))), (q3, .inl (ca3, 8, .inl (fun _ => 0))), (q4, .inl (ca4, 8, .inl (fun _ => 0))), (q5, .inl (ca5, 8, .inl (fun _ => 0))), (q6, .inl (ca6, 8, .inl (fun _ => 0))), (q7, .inl (ca7, 8, .inl (fun _ => 0))), (q8, .inl (ca8, 4, .inl (fun _ => 0))), (q9, .inl (ca9, 4, .inl (fun _ => 0))), (q10, .inl (ca10, 4, .inl (fun _ => 0))), (q11, .inl (ca11, 4, .inl (fun _ => 0))), (q12, .inl (ca12, 8, .inl (fun _ => 0))), (q13, .inl (ca13, 8, .inl (fun _ => 0))), (q14, .inl (ca14, 8, .inl (fun _ => 0))), (q15, .inl (ca15, 8, .inl (fun _ => 0))), (q16, .inl (ca16, 8, .inl (fun _ => 0))), (q17, .inl (ca17, 4, .inl (fun _ => 0)))] := hD
  refine lv_aload_n hx hb dX0_init_143 rfl (lv_at hl 0 rfl) ?_
  refine lv_iconst (v := 0) hx hb dX0_init_144 (by decide) ?_
  refine va_put (D := (dC, dI)) (ci := 0) (v := .int 0) (ty := .boolean) (C := RX0) (T := TX0) (N := 24) hx hb hts in_X0 tyX0 tyX0_ok nmX0 hown hK hP hD hS 0 rfl rfl 20 (by decide) (hts _ q51) (fun _ h9 => h9) rfl (by decide +kernel) rfl rfl (Nat.le_of_ble_eq_true rfl) dX0_init_145 (fun H locs hP hD hS => ?_)
  have hK : va_K (dC, dI) vwCl [(ca0, .int), (ca1, .boolean), (ca2, .boolean), (ca3, .int), (ca4, .int), (ca5, .int), (ca6, .int), (ca7, .int), (ca8, .int), (ca9, .int), (ca10, .int), (ca11, .int), (ca12, .int), (ca13, .int), (ca14, .int), (ca15, .int), (ca16, .int), (ca17, .int)] s := hK
  have hP : va_P (dC, dI) vwCl [(h0, .inr (0, [.ref q0, .ref q1, .ref q2, .ref q3, .ref q4, .ref q5, .ref q6, .ref q7, .ref q8, .ref q9, .ref q10, .ref q11, .ref q12, .ref q13, .ref q14, .ref q15, .ref q16, .ref q17, .int 0, .int 0, .int 0, .int 0, .int 0, .int 0])), (q0, .inl (ca0, 40, .inl (fun _ => 0))), (q1, .inl (ca1, 8, .inl (fun _ => 0))), (q2, .inl (ca2, 8, .inl (fun _ => 0))), (q3, .inl (ca3, 8, .inl (fun _ => 0))), (q4, .inl (ca4, 8, .inl (fun _ => 0))), (q5, .inl (ca5, 8, .inl (fun _ => 0))), (q6, .inl (ca6, 8, .inl (fun _ => 0))), (q7, .inl (ca7, 8, .inl (fun _ => 0))), (q8, .inl (ca8, 4, .inl (fun _ => 0))), (q9, .inl (ca9, 4, .inl (fun _ => 0))), (q10, .inl (ca10, 4, .inl (fun _ => 0))), (q11, .inl (ca11, 4, .inl (fun _ => 0))), (q12, .inl (ca12, 8, .inl (fun _ => 0))), (q13, .inl (ca13, 8, .inl (fun _ => 0))), (q14, .inl (ca14, 8, .inl (fun _ => 0))), (q15, .inl (ca15, 8, .inl (fun _ => 0))), (q16, .inl (ca16, 8, .inl (fun _ => 0))), (q17, .inl (ca17, 4, .inl (fun _ => 0)))] H := hP
  have hD : va_D A [(h0, .inr (0, [.ref q0, .ref q1, .ref q2, .ref q3, .ref q4, .ref q5, .ref q6, .ref q7, .ref q8, .ref q9, .ref q10, .ref q11, .ref q12, .ref q13, .ref q14, .ref q15, .ref q16, .ref q17, .int 0, .int 0, .int 0, .int 0, .int 0, .int 0])), (q0, .inl (ca0, 40, .inl (fun _ => 0))), (q1, .inl (ca1, 8, .inl (fun _ => 0))), (q2, .inl (ca2, 8, .inl (fun _ => 0))), (q3, .inl (ca3, 8, .inl (fun _ => 0))), (q4, .inl (ca4, 8, .inl (fun _ => 0))), (q5, .inl (ca5, 8, .inl (fun _ => 0))), (q6, .inl (ca6, 8, .inl (fun _ => 0))), (q7, .inl (ca7, 8, .inl (fun _ => 0))), (q8, .inl (ca8, 4, .inl (fun _ => 0))), (q9, .inl (ca9, 4, .inl (fun _ => 0))), (q10, .inl (ca10, 4, .inl (fun _ => 0))), (q11, .inl (ca11, 4, .inl (fun _ => 0))), (q12, .inl (ca12, 8, .inl (fun _ => 0))), (q13, .inl (ca13, 8, .inl (fun _ => 0))), (q14, .inl (ca14, 8, .inl (fun _ => 0))), (q15, .inl (ca15, 8, .inl (fun _ => 0))), (q16, .inl (ca16, 8, .inl (fun _ => 0))), (q17, .inl (ca17, 4, .inl (fun _ => 0)))] := hD
  have hP : va_P (dC, dI) vwCl (w0 h0 (ix_a [q0, q1, q2, q3, q4, q5, q6, q7, q8, q9, q10, q11, q12, q13, q14, q15, q16, q17]) (ix_c [ca0, ca1, ca2, ca3, ca4, ca5, ca6, ca7, ca8, ca9, ca10, ca11, ca12, ca13, ca14, ca15, ca16, ca17]) z0) H := hP
  have hD : va_D A (w0 h0 (ix_a [q0, q1, q2, q3, q4, q5, q6, q7, q8, q9, q10, q11, q12, q13, q14, q15, q16, q17]) (ix_c [ca0, ca1, ca2, ca3, ca4, ca5, ca6, ca7, ca8, ca9, ca10, ca11, ca12, ca13, ca14, ca15, ca16, ca17]) z0) := hD
  have hK : va_K (dC, dI) vwCl (t0 (ix_c [ca0, ca1, ca2, ca3, ca4, ca5, ca6, ca7, ca8, ca9, ca10, ca11, ca12, ca13, ca14, ca15, ca16, ca17])) s := hK
  exact W.vret hx hb hr (fun t ht hW => ⟨⟨(ix_a [q0, q1, q2, q3, q4, q5, q6, q7, q8, q9, q10, q11, q12, q13, q14, q15, q16, q17], ix_c [ca0, ca1, ca2, ca3, ca4, ca5, ca6, ca7, ca8, ca9, ca10, ca11, ca12, ca13, ca14, ca15, ca16, ca17]), rfl, trivial, by rw [ht]; exact hP, va_K.moved hW.alike hK, hD⟩, hS.F ht⟩) hS.2.2 dX0_init_148
abbrev fs1 : List Value := [.null, .null, .null, .null, .null, .null, .null, .null, .null, .int 0, .int 0, .int 0, .null, .null, .null, .null, .null]
abbrev rmI1 : Room := { frames := 1, cells := 14, slots := 176, locals := 12 }
set_option maxHeartbeats 8000000 in
theorem c1_init (l : Launch) (dC : Nat → ClassId) (dI : Nat → Nat → Nat) (h0 sz : Nat) : Met l yX1_init (ws_ yX1_init cX1_init 1 none) rmI1 (va_Pc [.ref h0] (fun U => U.heap.size = sz ∧ va_P (dC, dI) vwCl [(h0, .inr (1, fs1))] U.heap ∧ va_K (dC, dI) vwCl [] U ∧ va_D (fun _ => True) [(h0, .inr (1, fs1))])) (va_Qv (fun (_ : (Nat → Nat) × (Nat → ClassId)) => True) (fun u t => va_P (dC, dI) vwCl (w1 h0 u.1 u.2 z0) t.heap ∧ va_K (dC, dI) vwCl (t1 u.2) t ∧ va_D (va_A [(h0, .inr (1, fs1))] sz) (w1 h0 u.1 u.2 z0)) (va_A [(h0, .inr (1, fs1))] sz)) 14 176 (va_A [(h0, .inr (1, fs1))] sz) := by
  refine Met.ofW (cc := cX1_init) (maxL := 1) (ret := none) (by decide) rfl ?_
  intro p e s m args below meth c s₁ B hml hv
  obtain ⟨rfl, hsz, hP, hK, hD0⟩ := hv
  have hx := B.exec
  have hb := B.bytes
  have hr := B.returns
  have hts := atoms_spec (ws := ws_ yX1_init cX1_init 1 none) B.pre
  have hts : ∀ w ∈ lw_all, w.before _ s = true := fun w h => hts w (List.mem_cons_of_mem _ h)
  have hown : s.vm.findClass RX1 = some m.cls := findClass_of_methodNamed B.named
  have hlocks := B.notSynchronized
  have hin : meth.name = "<init>" := (name_of_methodNamed B.named B.method).1
  subst hsz
  have hD := hD0.self (sz := s.heap.size)
  generalize hAe : va_A [(h0, .inr (1, fs1))] s.heap.size = A at hD ⊢
  have hA : ∀ q : Nat, s.heap.size ≤ q → A q := fun q h => by rw [← hAe]; exact Or.inr h
  have hS : va_S A s.heap s.heap [] := va_S.rf
  have hl := lv_entry ([.ref h0]) (n := 1) (Nat.le_of_ble_eq_true rfl)
  rw [lg_entry_eq]
  generalize (lg_sl ([.ref h0]) ++ List.replicate (1 - (lg_sl ([.ref h0])).length) Slot.unset).toArray = ls at hl ⊢
  have hl : lv_has ls 1 [(0, .ref h0)] := hl
  refine lv_aload_n hx hb dX1_init_0 rfl (lv_at hl 0 rfl) ?_
  refine W.objInit hx hb hown (hts _ q244) (hts _ q29) (hts _ q30) rfl (by rw [hml]; exact hl.1) rfl dX1_init_1 (Nat.le_of_ble_eq_true rfl) (Nat.le_of_ble_eq_true rfl) ?_
  refine W.eq (g2 := F0 m 4 ls []) rfl ?_
  refine lv_aload_n hx hb dX1_init_4 rfl (lv_at hl 0 rfl) ?_
  refine lv_bipush (v := 40) hx hb dX1_init_5 (by decide) ?_
  refine va_newa (atype := .int) (ty := .int) (a0 := (40, .inl (fun _ => 0))) hx hb (hts _ q104) rfl hK hP hD hS hA (fun _ => rfl) (by decide) (N' := 40) (by decide) (by decide) (Nat.le_of_ble_eq_true rfl) (Nat.le_of_ble_eq_true rfl) dX1_init_7 (fun q0 ca0 H hK hP hD hS => ?_)
  refine W.widen (k := 1) (n := 40) (Nat.le_of_ble_eq_true rfl) (Nat.le_of_ble_eq_true rfl) ?_
  refine va_put (D := (dC, dI)) (ci := 1) (v := .ref q0) (ty := .array .int) (C := RX1) (T := TX1) (N := 17) hx hb hts in_X1 tyX1 tyX1_ok nmX1 hown hK hP hD hS 0 rfl rfl 0 (by decide) (hts _ q245) (fun _ h9 => h9) rfl (by decide +kernel) rfl rfl (Nat.le_of_ble_eq_true rfl) dX1_init_9 (fun H locs hP hD hS => ?_)
  have hK : va_K (dC, dI) vwCl [(ca0, .int)] s := hK
  have hP : va_P (dC, dI) vwCl [(h0, .inr (1, [.ref q0, .null, .null, .null, .null, .null, .null, .null, .null, .int 0, .int 0, .int 0, .null, .null, .null, .null, .null])), (q0, .inl (ca0, 40, .inl (fun _ => 0)))] H := hP
  have hD : va_D A [(h0, .inr (1, [.ref q0, .null, .null, .null, .null, .null, .null, .null, .null, .int 0, .int 0, .int 0, .null, .null, .null, .null, .null])), (q0, .inl (ca0, 40, .inl (fun _ => 0)))] := hD
  refine lv_aload_n hx hb dX1_init_12 rfl (lv_at hl 0 rfl) ?_
  refine lv_bipush (v := 40) hx hb dX1_init_13 (by decide) ?_
  refine va_newa (atype := .int) (ty := .int) (a0 := (40, .inl (fun _ => 0))) hx hb (hts _ q104) rfl hK hP hD hS hA (fun _ => rfl) (by decide) (N' := 40) (by decide) (by decide) (Nat.le_of_ble_eq_true rfl) (Nat.le_of_ble_eq_true rfl) dX1_init_15 (fun q1 ca1 H hK hP hD hS => ?_)
  refine W.widen (k := 2) (n := 80) (Nat.le_of_ble_eq_true rfl) (Nat.le_of_ble_eq_true rfl) ?_
  refine va_put (D := (dC, dI)) (ci := 1) (v := .ref q1) (ty := .array .int) (C := RX1) (T := TX1) (N := 17) hx hb hts in_X1 tyX1 tyX1_ok nmX1 hown hK hP hD hS 0 rfl rfl 1 (by decide) (hts _ q246) (fun _ h9 => h9) rfl (by decide +kernel) rfl rfl (Nat.le_of_ble_eq_true rfl) dX1_init_17 (fun H locs hP hD hS => ?_)
  have hK : va_K (dC, dI) vwCl [(ca0, .int), (ca1, .int)] s := hK
  have hP : va_P (dC, dI) vwCl [(h0, .inr (1, [.ref q0, .ref q1, .null, .null, .null, .null, .null, .null, .null, .int 0, .int 0, .int 0, .null, .null, .null, .null, .null])), (q0, .inl (ca0, 40, .inl (fun _ => 0))), (q1, .inl (ca1, 40, .inl (fun _ => 0)))] H := hP
  have hD : va_D A [(h0, .inr (1, [.ref q0, .ref q1, .null, .null, .null, .null, .null, .null, .null, .int 0, .int 0, .int 0, .null, .null, .null, .null, .null])), (q0, .inl (ca0, 40, .inl (fun _ => 0))), (q1, .inl (ca1, 40, .inl (fun _ => 0)))] := hD
  refine lv_aload_n hx hb dX1_init_20 rfl (lv_at hl 0 rfl) ?_
  refine lv_bipush (v := 8) hx hb dX1_init_21 (by decide) ?_
  refine va_newa (atype := .boolean) (ty := .boolean) (a0 := (8, .inl (fun _ => 0))) hx hb (hts _ q105) rfl hK hP hD hS hA (fun _ => rfl) (by decide) (N' := 8) (by decide) (by decide) (Nat.le_of_ble_eq_true rfl) (Nat.le_of_ble_eq_true rfl) dX1_init_23 (fun q2 ca2 H hK hP hD hS => ?_)
  refine W.widen (k := 3) (n := 88) (Nat.le_of_ble_eq_true rfl) (Nat.le_of_ble_eq_true rfl) ?_
  refine va_put (D := (dC, dI)) (ci := 1) (v := .ref q2) (ty := .array .boolean) (C := RX1) (T := TX1) (N := 17) hx hb hts in_X1 tyX1 tyX1_ok nmX1 hown hK hP hD hS 0 rfl rfl 2 (by decide) (hts _ q247) (fun _ h9 => h9) rfl (by decide +kernel) rfl rfl (Nat.le_of_ble_eq_true rfl) dX1_init_25 (fun H locs hP hD hS => ?_)
  have hK : va_K (dC, dI) vwCl [(ca0, .int), (ca1, .int), (ca2, .boolean)] s := hK
  have hP : va_P (dC, dI) vwCl [(h0, .inr (1, [.ref q0, .ref q1, .ref q2, .null, .null, .null, .null, .null, .null, .int 0, .int 0, .int 0, .null, .null, .null, .null, .null])), (q0, .inl (ca0, 40, .inl (fun _ => 0))), (q1, .inl (ca1, 40, .inl (fun _ => 0))), (q2, .inl (ca2, 8, .inl (fun _ => 0)))] H := hP
  have hD : va_D A [(h0, .inr (1, [.ref q0, .ref q1, .ref q2, .null, .null, .null, .null, .null, .null, .int 0, .int 0, .int 0, .null, .null, .null, .null, .null])), (q0, .inl (ca0, 40, .inl (fun _ => 0))), (q1, .inl (ca1, 40, .inl (fun _ => 0))), (q2, .inl (ca2, 8, .inl (fun _ => 0)))] := hD
  refine lv_aload_n hx hb dX1_init_28 rfl (lv_at hl 0 rfl) ?_
  refine lv_bipush (v := 8) hx hb dX1_init_29 (by decide) ?_
  refine va_newa (atype := .int) (ty := .int) (a0 := (8, .inl (fun _ => 0))) hx hb (hts _ q104) rfl hK hP hD hS hA (fun _ => rfl) (by decide) (N' := 8) (by decide) (by decide) (Nat.le_of_ble_eq_true rfl) (Nat.le_of_ble_eq_true rfl) dX1_init_31 (fun q3 ca3 H hK hP hD hS => ?_)
  refine W.widen (k := 4) (n := 96) (Nat.le_of_ble_eq_true rfl) (Nat.le_of_ble_eq_true rfl) ?_
  refine va_put (D := (dC, dI)) (ci := 1) (v := .ref q3) (ty := .array .int) (C := RX1) (T := TX1) (N := 17) hx hb hts in_X1 tyX1 tyX1_ok nmX1 hown hK hP hD hS 0 rfl rfl 3 (by decide) (hts _ q248) (fun _ h9 => h9) rfl (by decide +kernel) rfl rfl (Nat.le_of_ble_eq_true rfl) dX1_init_33 (fun H locs hP hD hS => ?_)
  have hK : va_K (dC, dI) vwCl [(ca0, .int), (ca1, .int), (ca2, .boolean), (ca3, .int)] s := hK
  have hP : va_P (dC, dI) vwCl [(h0, .inr (1, [.ref q0, .ref q1, .ref q2, .ref q3, .null, .null, .null, .null, .null, .int 0, .int 0, .int 0, .null, .null, .null, .null, .null])), (q0, .inl (ca0, 40, .inl (fun _ => 0))), (q1, .inl (ca1, 40, .inl (fun _ => 0))), (q2, .inl (ca2, 8, .inl (fun _ => 0))), (q3, .inl (ca3, 8, .inl (fun _ => 0)))] H := hP
  have hD : va_D A [(h0, .inr (1, [.ref q0, .ref q1, .ref q2, .ref q3, .null, .null, .null, .null, .null, .int 0, .int 0, .int 0, .null, .null, .null, .null, .null])), (q0, .inl (ca0, 40, .inl (fun _ => 0))), (q1, .inl (ca1, 40, .inl (fun _ => 0))), (q2, .inl (ca2, 8, .inl (fun _ => 0))), (q3, .inl (ca3, 8, .inl (fun _ => 0)))] := hD
  refine lv_aload_n hx hb dX1_init_36 rfl (lv_at hl 0 rfl) ?_
  refine lv_bipush (v := 8) hx hb dX1_init_37 (by decide) ?_
  refine va_newa (atype := .int) (ty := .int) (a0 := (8, .inl (fun _ => 0))) hx hb (hts _ q104) rfl hK hP hD hS hA (fun _ => rfl) (by decide) (N' := 8) (by decide) (by decide) (Nat.le_of_ble_eq_true rfl) (Nat.le_of_ble_eq_true rfl) dX1_init_39 (fun q4 ca4 H hK hP hD hS => ?_)
  refine W.widen (k := 5) (n := 104) (Nat.le_of_ble_eq_true rfl) (Nat.le_of_ble_eq_true rfl) ?_
  refine va_put (D := (dC, dI)) (ci := 1) (v := .ref q4) (ty := .array .int) (C := RX1) (T := TX1) (N := 17) hx hb hts in_X1 tyX1 tyX1_ok nmX1 hown hK hP hD hS 0 rfl rfl 4 (by decide) (hts _ q249) (fun _ h9 => h9) rfl (by decide +kernel) rfl rfl (Nat.le_of_ble_eq_true rfl) dX1_init_41 (fun H locs hP hD hS => ?_)
  have hK : va_K (dC, dI) vwCl [(ca0, .int), (ca1, .int), (ca2, .boolean), (ca3, .int), (ca4, .int)] s := hK
  have hP : va_P (dC, dI) vwCl [(h0, .inr (1, [.ref q0, .ref q1, .ref q2, .ref q3, .ref q4, .null, .null, .null, .null, .int 0, .int 0, .int 0, .null, .null, .null, .null, .null])), (q0, .inl (ca0, 40, .inl (fun _ => 0))), (q1, .inl (ca1, 40, .inl (fun _ => 0))), (q2, .inl (ca2, 8, .inl (fun _ => 0))), (q3, .inl (ca3, 8, .inl (fun _ => 0))), (q4, .inl (ca4, 8, .inl (fun _ => 0)))] H := hP
  have hD : va_D A [(h0, .inr (1, [.ref q0, .ref q1, .ref q2, .ref q3, .ref q4, .null, .null, .null, .null, .int 0, .int 0, .int 0, .null, .null, .null, .null, .null])), (q0, .inl (ca0, 40, .inl (fun _ => 0))), (q1, .inl (ca1, 40, .inl (fun _ => 0))), (q2, .inl (ca2, 8, .inl (fun _ => 0))), (q3, .inl (ca3, 8, .inl (fun _ => 0))), (q4, .inl (ca4, 8, .inl (fun _ => 0)))] := hD
  refine lv_aload_n hx hb dX1_init_44 rfl (lv_at hl 0 rfl) ?_
  refine lv_bipush (v := 8) hx hb dX1_init_45 (by decide) ?_
  refine va_newa (atype := .int) (ty := .int) (a0 := (8, .inl (fun _ => 0))) hx hb (hts _ q104) rfl hK hP hD hS hA (fun _ => rfl) (by decide) (N' := 8) (by decide) (by decide) (Nat.le_of_ble_eq_true rfl) (Nat.le_of_ble_eq_true rfl) dX1_init_47 (fun q5 ca5 H hK hP hD hS => ?_)
  refine W.widen (k := 6) (n := 112) (Nat.le_of_ble_eq_true rfl) (Nat.le_of_ble_eq_true rfl) ?_
  refine va_put (D := (dC, dI)) (ci := 1) (v := .ref q5) (ty := .array .int) (C := RX1) (T := TX1) (N := 17) hx hb hts in_X1 tyX1 tyX1_ok nmX1 hown hK hP hD hS 0 rfl rfl 5 (by decide) (hts _ q250) (fun _ h9 => h9) rfl (by decide +kernel) rfl rfl (Nat.le_of_ble_eq_true rfl) dX1_init_49 (fun H locs hP hD hS => ?_)
  have hK : va_K (dC, dI) vwCl [(ca0, .int), (ca1, .int), (ca2, .boolean), (ca3, .int), (ca4, .int), (ca5, .int)] s := hK
  have hP : va_P (dC, dI) vwCl [(h0, .inr (1, [.ref q0, .ref q1, .ref q2, .ref q3, .ref q4, .ref q5, .null, .null, .null, .int 0, .int 0, .int 0, .null, .null, .null, .null, .null])), (q0, .inl (ca0, 40, .inl (fun _ => 0))), (q1, .inl (ca1, 40, .inl (fun _ => 0))), (q2, .inl (ca2, 8, .inl (fun _ => 0))), (q3, .inl (ca3, 8, .inl (fun _ => 0))), (q4, .inl (ca4, 8, .inl (fun _ => 0))), (q5, .inl (ca5, 8, .inl (fun _ => 0)))] H := hP
  have hD : va_D A [(h0, .inr (1, [.ref q0, .ref q1, .ref q2, .ref q3, .ref q4, .ref q5, .null, .null, .null, .int 0, .int 0, .int 0, .null, .null, .null, .null, .null])), (q0, .inl (ca0, 40, .inl (fun _ => 0))), (q1, .inl (ca1, 40, .inl (fun _ => 0))), (q2, .inl (ca2, 8, .inl (fun _ => 0))), (q3, .inl (ca3, 8, .inl (fun _ => 0))), (q4, .inl (ca4, 8, .inl (fun _ => 0))), (q5, .inl (ca5, 8, .inl (fun _ => 0)))] := hD
  refine lv_aload_n hx hb dX1_init_52 rfl (lv_at hl 0 rfl) ?_
  refine lv_bipush (v := 8) hx hb dX1_init_53 (by decide) ?_
  refine va_newa (atype := .boolean) (ty := .boolean) (a0 := (8, .inl (fun _ => 0))) hx hb (hts _ q105) rfl hK hP hD hS hA (fun _ => rfl) (by decide) (N' := 8) (by decide) (by decide) (Nat.le_of_ble_eq_true rfl) (Nat.le_of_ble_eq_true rfl) dX1_init_55 (fun q6 ca6 H hK hP hD hS => ?_)
  refine W.widen (k := 7) (n := 120) (Nat.le_of_ble_eq_true rfl) (Nat.le_of_ble_eq_true rfl) ?_
  refine va_put (D := (dC, dI)) (ci := 1) (v := .ref q6) (ty := .array .boolean) (C := RX1) (T := TX1) (N := 17) hx hb hts in_X1 tyX1 tyX1_ok nmX1 hown hK hP hD hS 0 rfl rfl 6 (by decide) (hts _ q251) (fun _ h9 => h9) rfl (by decide +kernel) rfl rfl (Nat.le_of_ble_eq_true rfl) dX1_init_57 (fun H locs hP hD hS => ?_)
  have hK : va_K (dC, dI) vwCl [(ca0, .int), (ca1, .int), (ca2, .boolean), (ca3, .int), (ca4, .int), (ca5, .int), (ca6, .boolean)] s := hK
  have hP : va_P (dC, dI) vwCl [(h0, .inr (1, [.ref q0, .ref q1, .ref q2, .ref q3, .ref q4, .ref q5, .ref q6, .null, .null, .int 0, .int 0, .int 0, .null, .null, .null, .null, .null])), (q0, .inl (ca0, 40, .inl (fun _ => 0))), (q1, .inl (ca1, 40, .inl (fun _ => 0))), (q2, .inl (ca2, 8, .inl (fun _ => 0))), (q3, .inl (ca3, 8, .inl (fun _ => 0))), (q4, .inl (ca4, 8, .inl (fun _ => 0))), (q5, .inl (ca5, 8, .inl (fun _ => 0))), (q6, .inl (ca6, 8, .inl (fun _ => 0)))] H := hP
  have hD : va_D A [(h0, .inr (1, [.ref q0, .ref q1, .ref q2, .ref q3, .ref q4, .ref q5, .ref q6, .null, .null, .int 0, .int 0, .int 0, .null, .null, .null, .null, .null])), (q0, .inl (ca0, 40, .inl (fun _ => 0))), (q1, .inl (ca1, 40, .inl (fun _ => 0))), (q2, .inl (ca2, 8, .inl (fun _ => 0))), (q3, .inl (ca3, 8, .inl (fun _ => 0))), (q4, .inl (ca4, 8, .inl (fun _ => 0))), (q5, .inl (ca5, 8, .inl (fun _ => 0))), (q6, .inl (ca6, 8, .inl (fun _ => 0)))] := hD
  refine lv_aload_n hx hb dX1_init_60 rfl (lv_at hl 0 rfl) ?_
  refine lv_bipush (v := 8) hx hb dX1_init_61 (by decide) ?_
  refine va_newa (atype := .int) (ty := .int) (a0 := (8, .inl (fun _ => 0))) hx hb (hts _ q104) rfl hK hP hD hS hA (fun _ => rfl) (by decide) (N' := 8) (by decide) (by decide) (Nat.le_of_ble_eq_true rfl) (Nat.le_of_ble_eq_true rfl) dX1_init_63 (fun q7 ca7 H hK hP hD hS => ?_)
  refine W.widen (k := 8) (n := 128) (Nat.le_of_ble_eq_true rfl) (Nat.le_of_ble_eq_true rfl) ?_
  refine va_put (D := (dC, dI)) (ci := 1) (v := .ref q7) (ty := .array .int) (C := RX1) (T := TX1) (N := 17) hx hb hts in_X1 tyX1 tyX1_ok nmX1 hown hK hP hD hS 0 rfl rfl 7 (by decide) (hts _ q252) (fun _ h9 => h9) rfl (by decide +kernel) rfl rfl (Nat.le_of_ble_eq_true rfl) dX1_init_65 (fun H locs hP hD hS => ?_)
  have hK : va_K (dC, dI) vwCl [(ca0, .int), (ca1, .int), (ca2, .boolean), (ca3, .int), (ca4, .int), (ca5, .int), (ca6, .boolean), (ca7, .int)] s := hK
  have hP : va_P (dC, dI) vwCl [(h0, .inr (1, [.ref q0, .ref q1, .ref q2, .ref q3, .ref q4, .ref q5, .ref q6, .ref q7, .null, .int 0, .int 0, .int 0, .null, .null, .null, .null, .null])), (q0, .inl (ca0, 40, .inl (fun _ => 0))), (q1, .inl (ca1, 40, .inl (fun _ => 0))), (q2, .inl (ca2, 8, .inl (fun _ => 0))), (q3, .inl (ca3, 8, .inl (fun _ => 0))), (q4, .inl (ca4, 8, .inl (fun _ => 0))), (q5, .inl (ca5, 8, .inl (fun _ => 0))), (q6, .inl (ca6, 8, .inl (fun _ => 0))), (q7, .inl (ca7, 8, .inl (fun _ => 0)))] H := hP
  have hD : va_D A [(h0, .inr (1, [.ref q0, .ref q1, .ref q2, .ref q3, .ref q4, .ref q5, .ref q6, .ref q7, .null, .int 0, .int 0, .int 0, .null, .null, .null, .null, .null])), (q0, .inl (ca0, 40, .inl (fun _ => 0))), (q1, .inl (ca1, 40, .inl (fun _ => 0))), (q2, .inl (ca2, 8, .inl (fun _ => 0))), (q3, .inl (ca3, 8, .inl (fun _ => 0))), (q4, .inl (ca4, 8, .inl (fun _ => 0))), (q5, .inl (ca5, 8, .inl (fun _ => 0))), (q6, .inl (ca6, 8, .inl (fun _ => 0))), (q7, .inl (ca7, 8, .inl (fun _ => 0)))] := hD
  refine lv_aload_n hx hb dX1_init_68 rfl (lv_at hl 0 rfl) ?_
  refine lv_bipush (v := 8) hx hb dX1_init_69 (by decide) ?_
  refine va_newa (atype := .int) (ty := .int) (a0 := (8, .inl (fun _ => 0))) hx hb (hts _ q104) rfl hK hP hD hS hA (fun _ => rfl) (by decide) (N' := 8) (by decide) (by decide) (Nat.le_of_ble_eq_true rfl) (Nat.le_of_ble_eq_true rfl) dX1_init_71 (fun q8 ca8 H hK hP hD hS => ?_)
  refine W.widen (k := 9) (n := 136) (Nat.le_of_ble_eq_true rfl) (Nat.le_of_ble_eq_true rfl) ?_
  refine va_put (D := (dC, dI)) (ci := 1) (v := .ref q8) (ty := .array .int) (C := RX1) (T := TX1) (N := 17) hx hb hts in_X1 tyX1 tyX1_ok nmX1 hown hK hP hD hS 0 rfl rfl 8 (by decide) (hts _ q253) (fun _ h9 => h9) rfl (by decide +kernel) rfl rfl (Nat.le_of_ble_eq_true rfl) dX1_init_73 (fun H locs hP hD hS => ?_)
  have hK : va_K (dC, dI) vwCl [(ca0, .int), (ca1, .int), (ca2, .boolean), (ca3, .int), (ca4, .int), (ca5, .int), (ca6, .boolean), (ca7, .int), (ca8, .int)] s := hK
  have hP : va_P (dC, dI) vwCl [(h0, .inr (1, [.ref q0, .ref q1, .ref q2, .ref q3, .ref q4, .ref q5, .ref q6, .ref q7, .ref q8, .int 0, .int 0, .int 0, .null, .null, .null, .null, .null])), (q0, .inl (ca0, 40, .inl (fun _ => 0))), (q1, .inl (ca1, 40, .inl (fun _ => 0))), (q2, .inl (ca2, 8, .inl (fun _ => 0))), (q3, .inl (ca3, 8, .inl (fun _ => 0))), (q4, .inl (ca4, 8, .inl (fun _ => 0))), (q5, .inl (ca5, 8, .inl (fun _ => 0))), (q6, .inl (ca6, 8, .inl (fun _ => 0))), (q7, .inl (ca7, 8, .inl (fun _ => 0))), (q8, .inl (ca8, 8, .inl (fun _ => 0)))] H := hP
  have hD : va_D A [(h0, .inr (1, [.ref q0, .ref q1, .ref q2, .ref q3, .ref q4, .ref q5, .ref q6, .ref q7, .ref q8, .int 0, .int 0, .int 0, .null, .null, .null, .null, .null])), (q0, .inl (ca0, 40, .inl (fun _ => 0))), (q1, .inl (ca1, 40, .inl (fun _ => 0))), (q2, .inl (ca2, 8, .inl (fun _ => 0))), (q3, .inl (ca3, 8, .inl (fun _ => 0))), (q4, .inl (ca4, 8, .inl (fun _ => 0))), (q5, .inl (ca5, 8, .inl (fun _ => 0))), (q6, .inl (ca6, 8, .inl (fun _ => 0))), (q7, .inl (ca7, 8, .inl (fun _ => 0))), (q8, .inl (ca8, 8, .inl (fun _ => 0)))] := hD
  refine lv_aload_n hx hb dX1_init_76 rfl (lv_at hl 0 rfl) ?_
  refine lv_bipush (v := 8) hx hb dX1_init_77 (by decide) ?_
  refine va_newa (atype := .int) (ty := .int) (a0 := (8, .inl (fun _ => 0))) hx hb (hts _ q104) rfl hK hP hD hS hA (fun _ => rfl) (by decide) (N' := 8) (by decide) (by decide) (Nat.le_of_ble_eq_true rfl) (Nat.le_of_ble_eq_true rfl) dX1_init_79 (fun q12 ca12 H hK hP hD hS => ?_)
  refine W.widen (k := 10) (n := 144) (Nat.le_of_ble_eq_true rfl) (Nat.le_of_ble_eq_true rfl) ?_
  refine va_put (D := (dC, dI)) (ci := 1) (v := .ref q12) (ty := .array .int) (C := RX1) (T := TX1) (N := 17) hx hb hts in_X1 tyX1 tyX1_ok nmX1 hown hK hP hD hS 0 rfl rfl 12 (by decide) (hts _ q257) (fun _ h9 => h9) rfl (by decide +kernel) rfl rfl (Nat.le_of_ble_eq_true rfl) dX1_init_81 (fun H locs hP hD hS => ?_)
  have hK : va_K (dC, dI) vwCl [(ca0, .int), (ca1, .int), (ca2, .boolean), (ca3, .int), (ca4, .int), (ca5, .int), (ca6, .boolean), (ca7, .int), (ca8, .int), (ca12, .int)] s := hK
  have hP : va_P (dC, dI) vwCl [(h0, .inr (1, [.ref q0, .ref q1, .ref q2, .ref q3, .ref q4, .ref q5, .ref q6, .ref q7, .ref q8, .int 0, .int 0, .int 0, .ref q12, .null, .null, .null, .null])), (q0, .inl (ca0, 40, .inl (fun _ => 0))), (q1, .inl (ca1, 40, .inl (fun _ => 0))), (q2, .inl (ca2, 8, .inl (fun _ => 0))), (q3, .inl (ca3, 8, .inl (fun _ => 0))), (q4, .inl (ca4, 8, .inl (fun _ => 0))), (q5, .inl (ca5, 8, .inl (fun _ => 0))), (q6, .inl (ca6, 8, .inl (fun _ => 0))), (q7, .inl (ca7, 8, .inl (fun _ => 0))), (q8, .inl (ca8, 8, .inl (fun _ => 0))), (q12, .inl (ca12, 8, .inl (fun _ => 0)))] H := hP
  have hD : va_D A [(h0, .inr (1, [.ref q0, .ref q1, .ref q2, .ref q3, .ref q4, .ref q5, .ref q6, .ref q7, .ref q8, .int 0, .int 0, .int 0, .ref q12, .null, .null, .null, .null])), (q0, .inl (ca0, 40, .inl (fun _ => 0))), (q1, .inl (ca1, 40, .inl (fun _ => 0))), (q2, .inl (ca2, 8, .inl (fun _ => 0))), (q3, .inl (ca3, 8, .inl (fun _ => 0))), (q4, .inl (ca4, 8, .inl (fun _ => 0))), (q5, .inl (ca5, 8, .inl (fun _ => 0))), (q6, .inl (ca6, 8, .inl (fun _ => 0))), (q7, .inl (ca7, 8, .inl (fun _ => 0))), (q8, .inl (ca8, 8, .inl (fun _ => 0))), (q12, .inl (ca12, 8, .inl (fun _ => 0)))] := hD
  refine lv_aload_n hx hb dX1_init_84 rfl (lv_at hl 0 rfl) ?_
  refine lv_bipush (v := 8) hx hb dX1_init_85 (by decide) ?_
  refine va_newa (atype := .int) (ty := .int) (a0 := (8, .inl (fun _ => 0))) hx hb (hts _ q104) rfl hK hP hD hS hA (fun _ => rfl) (by decide) (N' := 8) (by decide) (by decide) (Nat.le_of_ble_eq_true rfl) (Nat.le_of_ble_eq_true rfl) dX1_init_87 (fun q13 ca13 H hK hP hD hS => ?_)
  refine W.widen (k := 11) (n := 152) (Nat.le_of_ble_eq_true rfl) (Nat.le_of_ble_eq_true rfl) ?_
  refine va_put (D := (dC, dI)) (ci := 1) (v := .ref q13) (ty := .array .int) (C := RX1) (T := TX1) (N := 17) hx hb hts in_X1 tyX1 tyX1_ok nmX1 hown hK hP hD hS 0 rfl rfl 13 (by decide) (hts _ q258) (fun _ h9 => h9) rfl (by decide +kernel) rfl rfl (Nat.le_of_ble_eq_true rfl) dX1_init_89 (fun H locs hP hD hS => ?_)
  have hK : va_K (dC, dI) vwCl [(ca0, .int), (ca1, .int), (ca2, .boolean), (ca3, .int), (ca4, .int), (ca5, .int), (ca6, .boolean), (ca7, .int), (ca8, .int), (ca12, .int), (ca13, .int)] s := hK
  have hP : va_P (dC, dI) vwCl [(h0, .inr (1, [.ref q0, .ref q1, .ref q2, .ref q3, .ref q4, .ref q5, .ref q6, .ref q7, .ref q8, .int 0, .int 0, .int 0, .ref q12, .ref q13, .null, .null, .null])), (q0, .inl (ca0, 40, .inl (fun _ => 0))), (q1, .inl (ca1, 40, .inl (fun _ => 0))), (q2, .inl (ca2, 8, .inl (fun _ => 0))), (q3, .inl (ca3, 8, .inl (fun _ => 0))), (q4, .inl (ca4, 8, .inl (fun _ => 0))), (q5, .inl (ca5, 8, .inl (fun _ => 0))), (q6, .inl (ca6, 8, .inl (fun _ => 0))), (q7, .inl (ca7, 8, .inl (fun _ => 0))), (q8, .inl (ca8, 8, .inl (fun _ => 0))), (q12, .inl (ca12, 8, .inl (fun _ => 0))), (q13, .inl (ca13, 8, .inl (fun _ => 0)))] H := hP
  have hD : va_D A [(h0, .inr (1, [.ref q0, .ref q1, .ref q2, .ref q3, .ref q4, .ref q5, .ref q6, .ref q7, .ref q8, .int 0, .int 0, .int 0, .ref q12, .ref q13, .null, .null, .null])), (q0, .inl (ca0, 40, .inl (fun _ => 0))), (q1, .inl (ca1, 40, .inl (fun _ => 0))), (q2, .inl (ca2, 8, .inl (fun _ => 0))), (q3, .inl (ca3, 8, .inl (fun _ => 0))), (q4, .inl (ca4, 8, .inl (fun _ => 0))), (q5, .inl (ca5, 8, .inl (fun _ => 0))), (q6, .inl (ca6, 8, .inl (fun _ => 0))), (q7, .inl (ca7, 8, .inl (fun _ => 0))), (q8, .inl (ca8, 8, .inl (fun _ => 0))), (q12, .inl (ca12, 8, .inl (fun _ => 0))), (q13, .inl (ca13, 8, .inl (fun _ => 0)))] := hD
  refine lv_aload_n hx hb dX1_init_92 rfl (lv_at hl 0 rfl) ?_
  refine lv_bipush (v := 8) hx hb dX1_init_93 (by decide) ?_
  refine va_newa (atype := .int) (ty := .int) (a0 := (8, .inl (fun _ => 0))) hx hb (hts _ q104) rfl hK hP hD hS hA (fun _ => rfl) (by decide) (N' := 8) (by decide) (by decide) (Nat.le_of_ble_eq_true rfl) (Nat.le_of_ble_eq_true rfl) dX1_init_95 (fun q14 ca14 H hK hP hD hS => ?_)
  refine W.widen (k := 12) (n := 160) (Nat.le_of_ble_eq_true rfl) (Nat.le_of_ble_eq_true rfl) ?_
  refine va_put (D := (dC, dI)) (ci := 1) (v := .ref q14) (ty := .array .int) (C := RX1) (T := TX1) (N := 17) hx hb hts in_X1 tyX1 tyX1_ok nmX1 hown hK hP hD hS 0 rfl rfl 14 (by decide) (hts _ q259) (fun _ h9 => h9) rfl (by decide +kernel) rfl rfl (Nat.le_of_ble_eq_true rfl) dX1_init_97 (fun H locs hP hD hS => ?_)
  have hK : va_K (dC, dI) vwCl [(ca0, .int), (ca1, .int), (ca2, .boolean), (ca3, .int), (ca4, .int), (ca5, .int), (ca6, .boolean), (ca7, .int), (ca8, .int), (ca12, .int), (ca13, .int), (ca14, .int)] s := hK
  have hP : va_P (dC, dI) vwCl [(h0, .inr (1, [.ref q0, .ref q1, .ref q2, .ref q3, .ref q4, .ref q5, .ref q6, .ref q7, .ref q8, .int 0, .int 0, .int 0, .ref q12, .ref q13, .ref q14, .null, .null])), (q0, .inl (ca0, 40, .inl (fun _ => 0))), (q1, .inl (ca1, 40, .inl (fun _ => 0))), (q2, .inl (ca2, 8, .inl (fun _ => 0))), (q3, .inl (ca3, 8, .inl (fun _ => 0))), (q4, .inl (ca4, 8, .inl (fun _ => 0))), (q5, .inl (ca5, 8, .inl (fun _ => 0))), (q6, .inl (ca6, 8, .inl (fun _ => 0))), (q7, .inl (ca7, 8, .inl (fun _ => 0))), (q8, .inl (ca8, 8, .inl (fun _ => 0))), (q12, .inl (ca12, 8, .inl (fun _ => 0))), (q13, .inl (ca13, 8, .inl (fun _ => 0))), (q14, .inl (ca14, 8, .inl (fun _ => 0)))] H := hP
  have hD : va_D A [(h0, .inr (1, [.ref q0, .ref q1, .ref q2, .ref q3, .ref q4, .ref q5, .ref q6, .ref q7, .ref q8, .int 0, .int 0, .int 0, .ref q12, .ref q13, .ref q14, .null, .null])), (q0, .inl (ca0, 40, .inl (fun _ => 0))), (q1, .inl (ca1, 40, .inl (fun _ => 0))), (q2, .inl (ca2, 8, .inl (fun _ => 0))), (q3, .inl (ca3, 8, .inl (fun _ => 0))), (q4, .inl (ca4, 8, .inl (fun _ => 0))), (q5, .inl (ca5, 8, .inl (fun _ => 0))), (q6, .inl (ca6, 8, .inl (fun _ => 0))), (q7, .inl (ca7, 8, .inl (fun _ => 0))), (q8, .inl (ca8, 8, .inl (fun _ => 0))), (q12, .inl (ca12, 8, .inl (fun _ => 0))), (q13, .inl (ca13, 8, .inl (fun _ => 0))), (q14, .inl (ca14, 8, .inl (fun _ => 0)))] := hD
  refine lv_aload_n hx hb dX1_init_100 rfl (lv_at hl 0 rfl) ?_
  refine lv_bipush (v := 8) hx hb dX1_init_101 (by decide) ?_
  refine va_newa (atype := .int) (ty := .int) (a0 := (8, .inl (fun _ => 0))) hx hb (hts _ q104) rfl hK hP hD hS hA (fun _ => rfl) (by decide) (N' := 8) (by decide) (by decide) (Nat.le_of_ble_eq_true rfl) (Nat.le_of_ble_eq_true rfl) dX1_init_103 (fun q15 ca15 H hK hP hD hS => ?_)
  refine W.widen (k := 13) (n := 168) (Nat.le_of_ble_eq_true rfl) (Nat.le_of_ble_eq_true rfl) ?_
  refine va_put (D := (dC, dI)) (ci := 1) (v := .ref q15) (ty := .array .int) (C := RX1) (T := TX1) (N := 17) hx hb hts in_X1 tyX1 tyX1_ok nmX1 hown hK hP hD hS 0 rfl rfl 15 (by decide) (hts _ q260) (fun _ h9 => h9) rfl (by decide +kernel) rfl rfl (Nat.le_of_ble_eq_true rfl) dX1_init_105 (fun H locs hP hD hS => ?_)
  have hK : va_K (dC, dI) vwCl [(ca0, .int), (ca1, .int), (ca2, .boolean), (ca3, .int), (ca4, .int), (ca5, .int), (ca6, .boolean), (ca7, .int), (ca8, .int), (ca12, .int), (ca13, .int), (ca14, .int), (ca15, .int)] s := hK
  have hP : va_P (dC, dI) vwCl [(h0, .inr (1, [.ref q0, .ref q1, .ref q2, .ref q3, .ref q4, .ref q5, .ref q6, .ref q7, .ref q8, .int 0, .int 0, .int 0, .ref q12, .ref q13, .ref q14, .ref q15, .null])), (q0, .inl (ca0, 40, .inl (fun _ => 0))), (q1, .inl (ca1, 40, .inl (fun _ => 0))), (q2, .inl (ca2, 8, .inl (fun _ => 0))), (q3, .inl (ca3, 8, .inl (fun _ => 0))), (q4, .inl (ca4, 8, .inl (fun _ => 0))), (q5, .inl (ca5, 8, .inl (fun _ => 0))), (q6, .inl (ca6, 8, .inl (fun _ => 0))), (q7, .inl (ca7, 8, .inl (fun _ => 0))), (q8, .inl (ca8, 8, .inl (fun _ => 0))), (q12, .inl (ca12, 8, .inl (fun _ => 0))), (q13, .inl (ca13, 8, .inl (fun _ => 0))), (q14, .inl (ca14, 8, .inl (fun _ => 0))), (q15, .inl (ca15, 8, .inl (fun _ => 0)))] H := hP
  have hD : va_D A [(h0, .inr (1, [.ref q0, .ref q1, .ref q2, .ref q3, .ref q4, .ref q5, .ref q6, .ref q7, .ref q8, .int 0, .int 0, .int 0, .ref q12, .ref q13, .ref q14, .ref q15, .null])), (q0, .inl (ca0, 40, .inl (fun _ => 0))), (q1, .inl (ca1, 40, .inl (fun _ => 0))), (q2, .inl (ca2, 8, .inl (fun _ => 0))), (q3, .inl (ca3, 8, .inl (fun _ => 0))), (q4, .inl (ca4, 8, .inl (fun _ => 0))), (q5, .inl (ca5, 8, .inl (fun _ => 0))), (q6, .inl (ca6, 8, .inl (fun _ => 0))), (q7, .inl (ca7, 8, .inl (fun _ => 0))), (q8, .inl (ca8, 8, .inl (fun _ => 0))), (q12, .inl (ca12, 8, .inl (fun _ => 0))), (q13, .inl (ca13, 8, .inl (fun _ => 0))), (q14, .inl (ca14, 8, .inl (fun _ => 0))), (q15, .inl (ca15, 8, .inl (fun _ => 0)))] := hD
  refine lv_aload_n hx hb dX1_init_108 rfl (lv_at hl 0 rfl) ?_
  refine lv_bipush (v := 8) hx hb dX1_init_109 (by decide) ?_
  refine va_newa (atype := .int) (ty := .int) (a0 := (8, .inl (fun _ => 0))) hx hb (hts _ q104) rfl hK hP hD hS hA (fun _ => rfl) (by decide) (N' := 8) (by decide) (by decide) (Nat.le_of_ble_eq_true rfl) (Nat.le_of_ble_eq_true rfl) dX1_init_111 (fun q16 ca16 H hK hP hD hS => ?_)
  refine W.widen (k := 14) (n := 176) (Nat.le_of_ble_eq_true rfl) (Nat.le_of_ble_eq_true rfl) ?_
  refine va_put (D := (dC, dI)) (ci := 1) (v := .ref q16) (ty := .array .int) (C := RX1) (T := TX1) (N := 17) hx hb hts in_X1 tyX1 tyX1_ok nmX1 hown hK hP hD hS 0 rfl rfl 16 (by decide) (hts _ q261) (fun _ h9 => h9) rfl (by decide +kernel) rfl rfl (Nat.le_of_ble_eq_true rfl) dX1_init_113 (fun H locs hP hD hS => ?_)
  have hK : va_K (dC, dI) vwCl [(ca0, .int), (ca1, .int), (ca2, .boolean), (ca3, .int), (ca4, .int), (ca5, .int), (ca6, .boolean), (ca7, .int), (ca8, .int), (ca12, .int), (ca13, .int), (ca14, .int), (ca15, .int), (ca16, .int)] s := hK
  have hP : va_P (dC, dI) vwCl [(h0, .inr (1, [.ref q0, .ref q1, .ref q2, .ref q3, .ref q4, .ref q5, .ref q6, .ref q7, .ref q8, .int 0, .int 0, .int 0, .ref q12, .ref q13, .ref q14, .ref q15, .ref q16])), (q0, .inl (ca0, 40, .inl (fun _ => 0))), (q1, .inl (ca1, 40, .inl (fun _ => 0))), (q2, .inl (ca2, 8, .inl (fun _ => 0))), (q3, .inl (ca3, 8, .inl (fun _ => 0))), (q4, .inl (ca4, 8, .inl (fun _ => 0))), (q5, .inl (ca5, 8, .inl (fun _ => 0))), (q6, .inl (ca6, 8, .inl (fun _ => 0))), (q7, .inl (ca7, 8, .inl (fun _ => 0))), (q8, .inl (ca8, 8, .inl (fun _ => 0))), (q12, .inl (ca12, 8, .inl (fun _ => 0))), (q13, .inl (ca13, 8, .inl (fun _ => 0))), (q14, .inl (ca14, 8, .inl (fun _ => 0))), (q15, .inl (ca15, 8, .inl (fun _ => 0))), (q16, .inl (ca16, 8, .inl (fun _ => 0)))] H := hP
  have hD : va_D A [(h0, .inr (1, [.ref q0, .ref q1, .ref q2, .ref q3, .ref q4, .ref q5, .ref q6, .ref q7, .ref q8, .int 0, .int 0, .int 0, .ref q12, .ref q13, .ref q14, .ref q15, .ref q16])), (q0, .inl (ca0, 40, .inl (fun _ => 0))), (q1, .inl (ca1, 40, .inl (fun _ => 0))), (q2, .inl (ca2, 8, .inl (fun _ => 0))), (q3, .inl (ca3, 8, .inl (fun _ => 0))), (q4, .inl (ca4, 8, .inl (fun _ => 0))), (q5, .inl (ca5, 8, .inl (fun _ => 0))), (q6, .inl (ca6, 8, .inl (fun _ => 0))), (q7, .inl (ca7, 8, .inl (fun _ => 0))), (q8, .inl (ca8, 8, .inl (fun _ => 0))), (q12, .inl (ca12, 8, .inl (fun _ => 0))), (q13, .inl (ca13, 8, .inl (fun _ => 0))), (q14, .inl (ca14, 8, .inl (fun _ => 0))), (q15, .inl (ca15, 8, .inl (fun _ => 0))), (q16, .inl (ca16, 8, .inl (fun _ => 0)))] := hD
  have hP : va_P (dC, dI) vwCl (w1 h0 (ix_a [q0, q1, q2, q3, q4, q5, q6, q7, q8, 0, 0, 0, q12, q13, q14, q15, q16]) (ix_c [ca0, ca1, ca2, ca3, ca4, ca5, ca6, ca7, ca8, ca0, ca0, ca0, ca12, ca13, ca14, ca15, ca16]) z0) H := hP
  have hD : va_D A (w1 h0 (ix_a [q0, q1, q2, q3, q4, q5, q6, q7, q8, 0, 0, 0, q12, q13, q14, q15, q16]) (ix_c [ca0, ca1, ca2, ca3, ca4, ca5, ca6, ca7, ca8, ca0, ca0, ca0, ca12, ca13, ca14, ca15, ca16]) z0) := hD
  have hK : va_K (dC, dI) vwCl (t1 (ix_c [ca0, ca1, ca2, ca3, ca4, ca5, ca6, ca7, ca8, ca0, ca0, ca0, ca12, ca13, ca14, ca15, ca16])) s := hK
  exact W.vret hx hb hr (fun t ht hW => ⟨⟨(ix_a [q0, q1, q2, q3, q4, q5, q6, q7, q8, 0, 0, 0, q12, q13, q14, q15, q16], ix_c [ca0, ca1, ca2, ca3, ca4, ca5, ca6, ca7, ca8, ca0, ca0, ca0, ca12, ca13, ca14, ca15, ca16]), rfl, trivial, by rw [ht]; exact hP, va_K.moved hW.alike hK, hD⟩, hS.F ht⟩) hS.2.2 dX1_init_116
end
section
set_option maxRecDepth 100000
/-- the law's world: an object of each class, apart -/
def WL (D : va_G) (s : State) (A : Nat → Prop) (ox : Nat) (hx1 : Nat → Nat) (cx : Nat → ClassId) (σ : St) (oy : Nat) (hy1 : Nat → Nat) (cy : Nat → ClassId) (τ : St) (H : Heap) (locs : List Loc) : Prop := (va_K D vwCl (t0 cx) s ∧ va_P D vwCl (w0 ox hx1 cx σ) H ∧ va_D A (w0 ox hx1 cx σ)) ∧ (va_K D vwCl (t1 cy) s ∧ va_P D vwCl (w1 oy hy1 cy τ) H ∧ va_D A (w1 oy hy1 cy τ)) ∧ (∀ (i j : Nat) (x y : Nat × va_E), (w0 ox hx1 cx σ)[i]? = some x → (w1 oy hy1 cy τ)[j]? = some y → x.1 ≠ y.1) ∧ va_S A s.heap H locs ∧ ∀ q : Nat, s.heap.size ≤ q → A q
section LW
variable {p : Program} {l : Launch} {e : Env} {R : Room} {s : State} {m : MethodId} {args : Array Value} {below : List Frame} {meth : Method} {c : Code} {H : Heap} {locs : List Loc} {cells slots : Nat} {Q : State → Prop}
variable {cc : ByteArray} {pc : Nat} {ls : Array Slot} {rest : List Value} {D : va_G} {A : Nat → Prop} {ox oy : Nat} {hx1 hy1 : Nat → Nat} {cx cy : Nat → ClassId} {σ τ : St}
theorem callL0 {nL : Nat} {y : MethodName} {cc1 : ByteArray} {nL1 n idx : Nat} {rt : Option FieldType} {rm : Room} {av st : List Value} {res : Int32 × St} (hx : p.tables.exec = Jvm.exec) (hb : c.code = cc) (hml : c.maxLocals = nL) (hts : ∀ w ∈ lw_all, w.before args s = true) (hown : s.vm.findClass "WatchpointUnitLaw" = some m.cls) (hC : C0 l y cc1 nL1 rt rm av σ res) (cw : CallW R s args "WatchpointUnitLaw" RX0 idx y cc1 nL1 rt (ws_ y cc1 nL1 rt) rm 0 0 n) (G : WL D s A ox hx1 cx σ oy hy1 cy τ H locs) (hn : av.length = n) (hls : ls.size = nL) (hst : st = av.reverse ++ .ref ox :: rest) (hro : (rest.map fun v => v.category).sum ≤ 8) (hdg : decode cc pc = .ok (.invokevirtual idx, 3)) (hcs : cells ≤ R.cells ∧ slots ≤ R.slots)
    (kk : ∀ (H : Heap) (locs : List Loc), WL D s A ox hx1 cx res.2 oy hy1 cy τ H locs → W p l e R s m args below meth c H locs cells slots Q (F0 m (pc + 3) ls (.int res.1 :: rest))) : W p l e R s m args below meth c H locs cells slots Q (F0 m pc ls st) := by
  obtain ⟨⟨xK, xP, xD⟩, ⟨yK, yP, yD⟩, ap, hS, hA⟩ := G
  have hFc : ∀ q, va_A (w0 ox hx1 cx σ) H.size q → A q := fun q h => by
    rcases h with ⟨k, e, h⟩ | h
    · exact xD.2 k (q, e) h
    · exact hA q (Nat.le_trans hS.1 h)
  refine va_calli (va_runV (As := av) (rest := rest) ⟨hx, hb, hml, hown, hts⟩ (hC D ox hx1 cx H.size) cw ⟨fun a U g mk q => by obtain ⟨q0, q1, qP, qK, qD⟩ := q; exact ⟨q0, q1, qP, va_K.moved (u := U) (U := U.calling g mk a) (Vm.Alike.refl U.vm) qK, qD⟩, va_recv xK xP (ci := 0) (q0 := 0) rfl rfl, fun U hU hW => ⟨rfl, by rw [hU], by rw [hU]; exact xP, va_K.moved hW.alike xK, xD.weaken (fun _ _ _ _ => trivial)⟩⟩ rfl hn hls hst (lv_room hro) hdg ⟨hcs.1, hcs.2⟩) hS (fun q _ h => hFc q h) hFc ?_
  intro r u t H1 locs1 ht hvm hw hB hz1 hk1 hS1
  obtain ⟨rfl, rfl⟩ := hw
  obtain ⟨hP1, hK1, hD1⟩ := hB
  rw [ht] at hP1
  have far : ∀ (j : Nat) (y : Nat × va_E), (w1 oy hy1 cy τ)[j]? = some y → ¬ va_A (w0 ox hx1 cx σ) H.size y.1 := fun j y hy h => by
    rcases h with ⟨k, e, h⟩ | h
    · exact ap k j _ _ h hy rfl
    · exact absurd (yP j y hy).lt (Nat.not_lt.mpr h)
  exact kk H1 locs1 ⟨⟨va_K.moved hvm.symm hK1, hP1, hD1.weaken (fun _ q _ h => hFc q.1 h)⟩, ⟨yK, yP.kept (fun j y hy => hk1 y.1 (yP j y hy).lt (far j y hy)), yD⟩, fun i j x y hx hy hxy => far j y hy (by rw [← hxy]; exact hD1.2 i x hx), hS1, hA⟩
theorem callL1 {nL : Nat} {y : MethodName} {cc1 : ByteArray} {nL1 n idx : Nat} {rt : Option FieldType} {rm : Room} {av st : List Value} {res : Int32 × St} (hx : p.tables.exec = Jvm.exec) (hb : c.code = cc) (hml : c.maxLocals = nL) (hts : ∀ w ∈ lw_all, w.before args s = true) (hown : s.vm.findClass "WatchpointUnitLaw" = some m.cls) (hC : C1 l y cc1 nL1 rt rm av τ res) (cw : CallW R s args "WatchpointUnitLaw" RX1 idx y cc1 nL1 rt (ws_ y cc1 nL1 rt) rm 0 0 n) (G : WL D s A ox hx1 cx σ oy hy1 cy τ H locs) (hn : av.length = n) (hls : ls.size = nL) (hst : st = av.reverse ++ .ref oy :: rest) (hro : (rest.map fun v => v.category).sum ≤ 8) (hdg : decode cc pc = .ok (.invokevirtual idx, 3)) (hcs : cells ≤ R.cells ∧ slots ≤ R.slots)
    (kk : ∀ (H : Heap) (locs : List Loc), WL D s A ox hx1 cx σ oy hy1 cy res.2 H locs → W p l e R s m args below meth c H locs cells slots Q (F0 m (pc + 3) ls (.int res.1 :: rest))) : W p l e R s m args below meth c H locs cells slots Q (F0 m pc ls st) := by
  obtain ⟨⟨xK, xP, xD⟩, ⟨yK, yP, yD⟩, ap, hS, hA⟩ := G
  have hFc : ∀ q, va_A (w1 oy hy1 cy τ) H.size q → A q := fun q h => by
    rcases h with ⟨k, e, h⟩ | h
    · exact yD.2 k (q, e) h
    · exact hA q (Nat.le_trans hS.1 h)
  refine va_calli (va_runV (As := av) (rest := rest) ⟨hx, hb, hml, hown, hts⟩ (hC D oy hy1 cy H.size) cw ⟨fun a U g mk q => by obtain ⟨q0, q1, qP, qK, qD⟩ := q; exact ⟨q0, q1, qP, va_K.moved (u := U) (U := U.calling g mk a) (Vm.Alike.refl U.vm) qK, qD⟩, va_recv yK yP (ci := 1) (q0 := 0) rfl rfl, fun U hU hW => ⟨rfl, by rw [hU], by rw [hU]; exact yP, va_K.moved hW.alike yK, yD.weaken (fun _ _ _ _ => trivial)⟩⟩ rfl hn hls hst (lv_room hro) hdg ⟨hcs.1, hcs.2⟩) hS (fun q _ h => hFc q h) hFc ?_
  intro r u t H1 locs1 ht hvm hw hB hz1 hk1 hS1
  obtain ⟨rfl, rfl⟩ := hw
  obtain ⟨hP1, hK1, hD1⟩ := hB
  rw [ht] at hP1
  have far : ∀ (j : Nat) (y : Nat × va_E), (w0 ox hx1 cx σ)[j]? = some y → ¬ va_A (w1 oy hy1 cy τ) H.size y.1 := fun j y hy h => by
    rcases h with ⟨k, e, h⟩ | h
    · exact ap j k _ _ hy h rfl
    · exact absurd (xP j y hy).lt (Nat.not_lt.mpr h)
  exact kk H1 locs1 ⟨⟨xK, xP.kept (fun j y hy => hk1 y.1 (xP j y hy).lt (far j y hy)), xD⟩, ⟨va_K.moved hvm.symm hK1, hP1, hD1.weaken (fun _ q _ h => hFc q.1 h)⟩, fun i j x y hx hy hxy => far i x hx (by rw [hxy]; exact hD1.2 j y hy), hS1, hA⟩
/-- an int of the script -/
theorem sld {b N : Nat} {xs : Nat → Int32} (hx : p.tables.exec = Jvm.exec) (hb : c.code = cc) (hX : va_X b N xs s s.heap) (hbl : b < s.heap.size) (hbA : ¬ A b) (G : WL D s A ox hx1 cx σ oy hy1 cy τ H locs) (hN : N < 2 ^ 31) (i : Nat) (hi : i < N) (hdg : decode cc pc = .ok (.iaload, 1)) (kk : W p l e R s m args below meth c H locs cells slots Q (F0 m (pc + 1) ls (.int (xs i) :: rest))) : W p l e R s m args below meth c H locs cells slots Q (F0 m pc ls (.int (nI i) :: .ref b :: rest)) := by
  refine va_sld hx hb hX hbl hbA G.2.2.2.1 (vp_in_nI hi hN) hdg ?_
  rw [nI_clamp (by omega)]
  exact kk
end LW
/-- what holds all through the law -/
abbrev LF (p : Program) (s : State) (m : MethodId) (c : Code) (args : Array Value) (A : Nat → Prop) (b L : Nat) (xs : Nat → Int32) (cells slots : Nat) : Prop := p.tables.exec = Jvm.exec ∧ c.code = code ∧ c.maxLocals = 4 ∧ s.vm.findClass "WatchpointUnitLaw" = some m.cls ∧ (∀ w ∈ lw_all, w.before args s = true) ∧ va_X b L xs s s.heap ∧ b < s.heap.size ∧ ¬ A b ∧ L ≤ 320 ∧ cells ≤ 600000 ∧ slots ≤ 7290000
set_option maxHeartbeats 2000000 in
theorem case_set {p : Program} {l : Launch} {e : Env} {s : State} {m : MethodId} {below : List Frame} {meth : Method} {c : Code} {H : Heap} {locs : List Loc} {cells slots : Nat} {Q : State → Prop} {ls : Array Slot} {D : va_G} {A : Nat → Prop} {ox oy : Nat} {hx1 hy1 : Nat → Nat} {cx cy : Nat → ClassId} {σ τ : St} {b L i : Nat} {xs : Nat → Int32} {args : Array Value} {N : Nat} (F : LF p s m c args A b L xs cells slots) (hi : i + 5 ≤ L) (hN : N + 40 < 2 ^ 30) (hR : Rel N σ τ) (G : WL D s A ox hx1 cx σ oy hy1 cy τ H locs) (hl : lv_has ls 4 [(3, .int (nI i)), (0, .ref b), (1, .ref ox), (2, .ref oy)]) (K : ∀ (M : Nat) (σ τ : St) (H : Heap) (locs : List Loc), M ≤ N + 40 → Rel M σ τ → WL D s A ox hx1 cx σ oy hy1 cy τ H locs → W p l e room_1 s m args below meth c H locs cells slots Q (F0 m 611 ls [])) : W p l e room_1 s m args below meth c H locs cells slots Q (F0 m 124 ls []) := by
  obtain ⟨hx, hb, hml, hown, hts, hX, hbl, hbA, hL, hce, hsl⟩ := F
  refine lv_aload_n hx hb dL_law_124 rfl (lv_at hl 2 rfl) ?_
  refine lv_aload_n hx hb dL_law_125 rfl (lv_at hl 1 rfl) ?_
  refine lv_iload_n hx hb dL_law_126 rfl (lv_at hl 0 rfl) ?_
  refine lv_iconst (v := 1) hx hb dL_law_127 (by decide) ?_
  refine lv_iadd hx hb dL_law_128 ?_
  refine lv_ren (nI_add i 1) ?_
  refine sld hx hb hX hbl hbA G (by omega) (i + 1) (by omega) dL_law_129 ?_
  refine lv_aload_n hx hb dL_law_130 rfl (lv_at hl 1 rfl) ?_
  refine lv_iload_n hx hb dL_law_131 rfl (lv_at hl 0 rfl) ?_
  refine lv_iconst (v := 2) hx hb dL_law_132 (by decide) ?_
  refine lv_iadd hx hb dL_law_133 ?_
  refine lv_ren (nI_add i 2) ?_
  refine sld hx hb hX hbl hbA G (by omega) (i + 2) (by omega) dL_law_134 ?_
  refine lv_aload_n hx hb dL_law_135 rfl (lv_at hl 1 rfl) ?_
  refine lv_iload_n hx hb dL_law_136 rfl (lv_at hl 0 rfl) ?_
  refine lv_iconst (v := 3) hx hb dL_law_137 (by decide) ?_
  refine lv_iadd hx hb dL_law_138 ?_
  refine lv_ren (nI_add i 3) ?_
  refine sld hx hb hX hbl hbA G (by omega) (i + 3) (by omega) dL_law_139 ?_
  refine lv_aload_n hx hb dL_law_140 rfl (lv_at hl 1 rfl) ?_
  refine lv_iload_n hx hb dL_law_141 rfl (lv_at hl 0 rfl) ?_
  refine lv_iconst (v := 4) hx hb dL_law_142 (by decide) ?_
  refine lv_iadd hx hb dL_law_143 ?_
  refine lv_ren (nI_add i 4) ?_
  refine sld hx hb hX hbl hbA G (by omega) (i + 4) (by omega) dL_law_144 ?_
  refine callL0 (res := (setX σ (xs (i + 1)) (xs (i + 2)) (xs (i + 3)) (xs (i + 4)))) (av := [.int (xs (i + 1)), .int (xs (i + 2)), .int (xs (i + 3)), .int (xs (i + 4))]) (rest := []) hx hb hml hts hown (c0_set l σ (xs (i + 1)) (xs (i + 2)) (xs (i + 3)) (xs (i + 4))) (cwL0_set hts ⟨Nat.le_of_ble_eq_true rfl, Nat.le_of_ble_eq_true rfl⟩) G rfl hl.1 rfl (Nat.le_of_ble_eq_true rfl) dL_law_145 ⟨hce, hsl⟩ (fun H locs G => ?_)
  refine lv_aload_n hx hb dL_law_148 rfl (lv_at hl 3 rfl) ?_
  refine lv_aload_n hx hb dL_law_149 rfl (lv_at hl 1 rfl) ?_
  refine lv_iload_n hx hb dL_law_150 rfl (lv_at hl 0 rfl) ?_
  refine lv_iconst (v := 1) hx hb dL_law_151 (by decide) ?_
  refine lv_iadd hx hb dL_law_152 ?_
  refine lv_ren (nI_add i 1) ?_
  refine sld hx hb hX hbl hbA G (by omega) (i + 1) (by omega) dL_law_153 ?_
  refine lv_aload_n hx hb dL_law_154 rfl (lv_at hl 1 rfl) ?_
  refine lv_iload_n hx hb dL_law_155 rfl (lv_at hl 0 rfl) ?_
  refine lv_iconst (v := 2) hx hb dL_law_156 (by decide) ?_
  refine lv_iadd hx hb dL_law_157 ?_
  refine lv_ren (nI_add i 2) ?_
  refine sld hx hb hX hbl hbA G (by omega) (i + 2) (by omega) dL_law_158 ?_
  refine lv_aload_n hx hb dL_law_159 rfl (lv_at hl 1 rfl) ?_
  refine lv_iload_n hx hb dL_law_160 rfl (lv_at hl 0 rfl) ?_
  refine lv_iconst (v := 3) hx hb dL_law_161 (by decide) ?_
  refine lv_iadd hx hb dL_law_162 ?_
  refine lv_ren (nI_add i 3) ?_
  refine sld hx hb hX hbl hbA G (by omega) (i + 3) (by omega) dL_law_163 ?_
  refine lv_aload_n hx hb dL_law_164 rfl (lv_at hl 1 rfl) ?_
  refine lv_iload_n hx hb dL_law_165 rfl (lv_at hl 0 rfl) ?_
  refine lv_iconst (v := 4) hx hb dL_law_166 (by decide) ?_
  refine lv_iadd hx hb dL_law_167 ?_
  refine lv_ren (nI_add i 4) ?_
  refine sld hx hb hX hbl hbA G (by omega) (i + 4) (by omega) dL_law_168 ?_
  refine callL1 (res := (setM τ (xs (i + 1)) (xs (i + 2)) (xs (i + 3)) (xs (i + 4)))) (av := [.int (xs (i + 1)), .int (xs (i + 2)), .int (xs (i + 3)), .int (xs (i + 4))]) (rest := [.int (setX σ (xs (i + 1)) (xs (i + 2)) (xs (i + 3)) (xs (i + 4))).1]) hx hb hml hts hown (c1_set l τ (xs (i + 1)) (xs (i + 2)) (xs (i + 3)) (xs (i + 4))) (cwL1_set hts ⟨Nat.le_of_ble_eq_true rfl, Nat.le_of_ble_eq_true rfl⟩) G rfl hl.1 rfl (Nat.le_of_ble_eq_true rfl) dL_law_169 ⟨hce, hsl⟩ (fun H locs G => ?_)
  have e := rel_set hR (xs (i + 1)) (xs (i + 2)) (xs (i + 3)) (xs (i + 4))
  refine lv_icmp_eq (tgt := 611) hx hb dL_law_172 (by decide) (fun _ => ?_) (fun q => absurd e.1 q)
  exact K N _ _ H locs (by omega) e.2 G
set_option maxHeartbeats 2000000 in
theorem case_clear {p : Program} {l : Launch} {e : Env} {s : State} {m : MethodId} {below : List Frame} {meth : Method} {c : Code} {H : Heap} {locs : List Loc} {cells slots : Nat} {Q : State → Prop} {ls : Array Slot} {D : va_G} {A : Nat → Prop} {ox oy : Nat} {hx1 hy1 : Nat → Nat} {cx cy : Nat → ClassId} {σ τ : St} {b L i : Nat} {xs : Nat → Int32} {args : Array Value} {N : Nat} (F : LF p s m c args A b L xs cells slots) (hi : i + 5 ≤ L) (hN : N + 40 < 2 ^ 30) (hR : Rel N σ τ) (G : WL D s A ox hx1 cx σ oy hy1 cy τ H locs) (hl : lv_has ls 4 [(3, .int (nI i)), (0, .ref b), (1, .ref ox), (2, .ref oy)]) (K : ∀ (M : Nat) (σ τ : St) (H : Heap) (locs : List Loc), M ≤ N + 40 → Rel M σ τ → WL D s A ox hx1 cx σ oy hy1 cy τ H locs → W p l e room_1 s m args below meth c H locs cells slots Q (F0 m 611 ls [])) : W p l e room_1 s m args below meth c H locs cells slots Q (F0 m 177 ls []) := by
  obtain ⟨hx, hb, hml, hown, hts, hX, hbl, hbA, hL, hce, hsl⟩ := F
  refine lv_aload_n hx hb dL_law_177 rfl (lv_at hl 2 rfl) ?_
  refine lv_aload_n hx hb dL_law_178 rfl (lv_at hl 1 rfl) ?_
  refine lv_iload_n hx hb dL_law_179 rfl (lv_at hl 0 rfl) ?_
  refine lv_iconst (v := 1) hx hb dL_law_180 (by decide) ?_
  refine lv_iadd hx hb dL_law_181 ?_
  refine lv_ren (nI_add i 1) ?_
  refine sld hx hb hX hbl hbA G (by omega) (i + 1) (by omega) dL_law_182 ?_
  refine callL0 (res := (clearX σ (xs (i + 1)))) (av := [.int (xs (i + 1))]) (rest := []) hx hb hml hts hown (c0_clear l σ (xs (i + 1))) (cwL0_clear hts ⟨Nat.le_of_ble_eq_true rfl, Nat.le_of_ble_eq_true rfl⟩) G rfl hl.1 rfl (Nat.le_of_ble_eq_true rfl) dL_law_183 ⟨hce, hsl⟩ (fun H locs G => ?_)
  refine lv_aload_n hx hb dL_law_186 rfl (lv_at hl 3 rfl) ?_
  refine lv_aload_n hx hb dL_law_187 rfl (lv_at hl 1 rfl) ?_
  refine lv_iload_n hx hb dL_law_188 rfl (lv_at hl 0 rfl) ?_
  refine lv_iconst (v := 1) hx hb dL_law_189 (by decide) ?_
  refine lv_iadd hx hb dL_law_190 ?_
  refine lv_ren (nI_add i 1) ?_
  refine sld hx hb hX hbl hbA G (by omega) (i + 1) (by omega) dL_law_191 ?_
  refine callL1 (res := (clearM τ (xs (i + 1)))) (av := [.int (xs (i + 1))]) (rest := [.int (clearX σ (xs (i + 1))).1]) hx hb hml hts hown (c1_clear l τ (xs (i + 1))) (cwL1_clear hts ⟨Nat.le_of_ble_eq_true rfl, Nat.le_of_ble_eq_true rfl⟩) G rfl hl.1 rfl (Nat.le_of_ble_eq_true rfl) dL_law_192 ⟨hce, hsl⟩ (fun H locs G => ?_)
  have e := rel_clear hR (xs (i + 1))
  refine lv_icmp_eq (tgt := 611) hx hb dL_law_195 (by decide) (fun _ => ?_) (fun q => absurd e.1 q)
  exact K N _ _ H locs (by omega) e.2 G
set_option maxHeartbeats 2000000 in
theorem case_pause {p : Program} {l : Launch} {e : Env} {s : State} {m : MethodId} {below : List Frame} {meth : Method} {c : Code} {H : Heap} {locs : List Loc} {cells slots : Nat} {Q : State → Prop} {ls : Array Slot} {D : va_G} {A : Nat → Prop} {ox oy : Nat} {hx1 hy1 : Nat → Nat} {cx cy : Nat → ClassId} {σ τ : St} {b L i : Nat} {xs : Nat → Int32} {args : Array Value} {N : Nat} (F : LF p s m c args A b L xs cells slots) (hi : i + 5 ≤ L) (hN : N + 40 < 2 ^ 30) (hR : Rel N σ τ) (G : WL D s A ox hx1 cx σ oy hy1 cy τ H locs) (hl : lv_has ls 4 [(3, .int (nI i)), (0, .ref b), (1, .ref ox), (2, .ref oy)]) (K : ∀ (M : Nat) (σ τ : St) (H : Heap) (locs : List Loc), M ≤ N + 40 → Rel M σ τ → WL D s A ox hx1 cx σ oy hy1 cy τ H locs → W p l e room_1 s m args below meth c H locs cells slots Q (F0 m 611 ls [])) : W p l e room_1 s m args below meth c H locs cells slots Q (F0 m 200 ls []) := by
  obtain ⟨hx, hb, hml, hown, hts, hX, hbl, hbA, hL, hce, hsl⟩ := F
  refine lv_aload_n hx hb dL_law_200 rfl (lv_at hl 2 rfl) ?_
  refine lv_aload_n hx hb dL_law_201 rfl (lv_at hl 1 rfl) ?_
  refine lv_iload_n hx hb dL_law_202 rfl (lv_at hl 0 rfl) ?_
  refine lv_iconst (v := 1) hx hb dL_law_203 (by decide) ?_
  refine lv_iadd hx hb dL_law_204 ?_
  refine lv_ren (nI_add i 1) ?_
  refine sld hx hb hX hbl hbA G (by omega) (i + 1) (by omega) dL_law_205 ?_
  refine lv_aload_n hx hb dL_law_206 rfl (lv_at hl 1 rfl) ?_
  refine lv_iload_n hx hb dL_law_207 rfl (lv_at hl 0 rfl) ?_
  refine lv_iconst (v := 2) hx hb dL_law_208 (by decide) ?_
  refine lv_iadd hx hb dL_law_209 ?_
  refine lv_ren (nI_add i 2) ?_
  refine sld hx hb hX hbl hbA G (by omega) (i + 2) (by omega) dL_law_210 ?_
  refine callL0 (res := (pauseX σ (xs (i + 1)) (xs (i + 2)))) (av := [.int (xs (i + 1)), .int (xs (i + 2))]) (rest := []) hx hb hml hts hown (c0_pause l σ (xs (i + 1)) (xs (i + 2))) (cwL0_pause hts ⟨Nat.le_of_ble_eq_true rfl, Nat.le_of_ble_eq_true rfl⟩) G rfl hl.1 rfl (Nat.le_of_ble_eq_true rfl) dL_law_211 ⟨hce, hsl⟩ (fun H locs G => ?_)
  refine lv_aload_n hx hb dL_law_214 rfl (lv_at hl 3 rfl) ?_
  refine lv_aload_n hx hb dL_law_215 rfl (lv_at hl 1 rfl) ?_
  refine lv_iload_n hx hb dL_law_216 rfl (lv_at hl 0 rfl) ?_
  refine lv_iconst (v := 1) hx hb dL_law_217 (by decide) ?_
  refine lv_iadd hx hb dL_law_218 ?_
  refine lv_ren (nI_add i 1) ?_
  refine sld hx hb hX hbl hbA G (by omega) (i + 1) (by omega) dL_law_219 ?_
  refine lv_aload_n hx hb dL_law_220 rfl (lv_at hl 1 rfl) ?_
  refine lv_iload_n hx hb dL_law_221 rfl (lv_at hl 0 rfl) ?_
  refine lv_iconst (v := 2) hx hb dL_law_222 (by decide) ?_
  refine lv_iadd hx hb dL_law_223 ?_
  refine lv_ren (nI_add i 2) ?_
  refine sld hx hb hX hbl hbA G (by omega) (i + 2) (by omega) dL_law_224 ?_
  refine callL1 (res := (pauseM τ (xs (i + 1)) (xs (i + 2)))) (av := [.int (xs (i + 1)), .int (xs (i + 2))]) (rest := [.int (pauseX σ (xs (i + 1)) (xs (i + 2))).1]) hx hb hml hts hown (c1_pause l τ (xs (i + 1)) (xs (i + 2))) (cwL1_pause hts ⟨Nat.le_of_ble_eq_true rfl, Nat.le_of_ble_eq_true rfl⟩) G rfl hl.1 rfl (Nat.le_of_ble_eq_true rfl) dL_law_225 ⟨hce, hsl⟩ (fun H locs G => ?_)
  have e := rel_pause hR (xs (i + 1)) (xs (i + 2))
  refine lv_icmp_eq (tgt := 611) hx hb dL_law_228 (by decide) (fun _ => ?_) (fun q => absurd e.1 q)
  exact K N _ _ H locs (by omega) e.2 G
set_option maxHeartbeats 2000000 in
theorem case_skip {p : Program} {l : Launch} {e : Env} {s : State} {m : MethodId} {below : List Frame} {meth : Method} {c : Code} {H : Heap} {locs : List Loc} {cells slots : Nat} {Q : State → Prop} {ls : Array Slot} {D : va_G} {A : Nat → Prop} {ox oy : Nat} {hx1 hy1 : Nat → Nat} {cx cy : Nat → ClassId} {σ τ : St} {b L i : Nat} {xs : Nat → Int32} {args : Array Value} {N : Nat} (F : LF p s m c args A b L xs cells slots) (hi : i + 5 ≤ L) (hN : N + 40 < 2 ^ 30) (hR : Rel N σ τ) (G : WL D s A ox hx1 cx σ oy hy1 cy τ H locs) (hl : lv_has ls 4 [(3, .int (nI i)), (0, .ref b), (1, .ref ox), (2, .ref oy)]) (K : ∀ (M : Nat) (σ τ : St) (H : Heap) (locs : List Loc), M ≤ N + 40 → Rel M σ τ → WL D s A ox hx1 cx σ oy hy1 cy τ H locs → W p l e room_1 s m args below meth c H locs cells slots Q (F0 m 611 ls [])) : W p l e room_1 s m args below meth c H locs cells slots Q (F0 m 233 ls []) := by
  obtain ⟨hx, hb, hml, hown, hts, hX, hbl, hbA, hL, hce, hsl⟩ := F
  refine lv_aload_n hx hb dL_law_233 rfl (lv_at hl 2 rfl) ?_
  refine lv_aload_n hx hb dL_law_234 rfl (lv_at hl 1 rfl) ?_
  refine lv_iload_n hx hb dL_law_235 rfl (lv_at hl 0 rfl) ?_
  refine lv_iconst (v := 1) hx hb dL_law_236 (by decide) ?_
  refine lv_iadd hx hb dL_law_237 ?_
  refine lv_ren (nI_add i 1) ?_
  refine sld hx hb hX hbl hbA G (by omega) (i + 1) (by omega) dL_law_238 ?_
  refine lv_aload_n hx hb dL_law_239 rfl (lv_at hl 1 rfl) ?_
  refine lv_iload_n hx hb dL_law_240 rfl (lv_at hl 0 rfl) ?_
  refine lv_iconst (v := 2) hx hb dL_law_241 (by decide) ?_
  refine lv_iadd hx hb dL_law_242 ?_
  refine lv_ren (nI_add i 2) ?_
  refine sld hx hb hX hbl hbA G (by omega) (i + 2) (by omega) dL_law_243 ?_
  refine callL0 (res := (skipX σ (xs (i + 1)) (xs (i + 2)))) (av := [.int (xs (i + 1)), .int (xs (i + 2))]) (rest := []) hx hb hml hts hown (c0_skip l σ (xs (i + 1)) (xs (i + 2))) (cwL0_skip hts ⟨Nat.le_of_ble_eq_true rfl, Nat.le_of_ble_eq_true rfl⟩) G rfl hl.1 rfl (Nat.le_of_ble_eq_true rfl) dL_law_244 ⟨hce, hsl⟩ (fun H locs G => ?_)
  refine lv_aload_n hx hb dL_law_247 rfl (lv_at hl 3 rfl) ?_
  refine lv_aload_n hx hb dL_law_248 rfl (lv_at hl 1 rfl) ?_
  refine lv_iload_n hx hb dL_law_249 rfl (lv_at hl 0 rfl) ?_
  refine lv_iconst (v := 1) hx hb dL_law_250 (by decide) ?_
  refine lv_iadd hx hb dL_law_251 ?_
  refine lv_ren (nI_add i 1) ?_
  refine sld hx hb hX hbl hbA G (by omega) (i + 1) (by omega) dL_law_252 ?_
  refine lv_aload_n hx hb dL_law_253 rfl (lv_at hl 1 rfl) ?_
  refine lv_iload_n hx hb dL_law_254 rfl (lv_at hl 0 rfl) ?_
  refine lv_iconst (v := 2) hx hb dL_law_255 (by decide) ?_
  refine lv_iadd hx hb dL_law_256 ?_
  refine lv_ren (nI_add i 2) ?_
  refine sld hx hb hX hbl hbA G (by omega) (i + 2) (by omega) dL_law_257 ?_
  refine callL1 (res := (skipM τ (xs (i + 1)) (xs (i + 2)))) (av := [.int (xs (i + 1)), .int (xs (i + 2))]) (rest := [.int (skipX σ (xs (i + 1)) (xs (i + 2))).1]) hx hb hml hts hown (c1_skip l τ (xs (i + 1)) (xs (i + 2))) (cwL1_skip hts ⟨Nat.le_of_ble_eq_true rfl, Nat.le_of_ble_eq_true rfl⟩) G rfl hl.1 rfl (Nat.le_of_ble_eq_true rfl) dL_law_258 ⟨hce, hsl⟩ (fun H locs G => ?_)
  have e := rel_skip hR (xs (i + 1)) (xs (i + 2))
  refine lv_icmp_eq (tgt := 611) hx hb dL_law_261 (by decide) (fun _ => ?_) (fun q => absurd e.1 q)
  exact K N _ _ H locs (by omega) e.2 G
set_option maxHeartbeats 2000000 in
theorem case_load {p : Program} {l : Launch} {e : Env} {s : State} {m : MethodId} {below : List Frame} {meth : Method} {c : Code} {H : Heap} {locs : List Loc} {cells slots : Nat} {Q : State → Prop} {ls : Array Slot} {D : va_G} {A : Nat → Prop} {ox oy : Nat} {hx1 hy1 : Nat → Nat} {cx cy : Nat → ClassId} {σ τ : St} {b L i : Nat} {xs : Nat → Int32} {args : Array Value} {N : Nat} (F : LF p s m c args A b L xs cells slots) (hi : i + 5 ≤ L) (hN : N + 40 < 2 ^ 30) (hR : Rel N σ τ) (G : WL D s A ox hx1 cx σ oy hy1 cy τ H locs) (hl : lv_has ls 4 [(3, .int (nI i)), (0, .ref b), (1, .ref ox), (2, .ref oy)]) (K : ∀ (M : Nat) (σ τ : St) (H : Heap) (locs : List Loc), M ≤ N + 40 → Rel M σ τ → WL D s A ox hx1 cx σ oy hy1 cy τ H locs → W p l e room_1 s m args below meth c H locs cells slots Q (F0 m 611 ls [])) : W p l e room_1 s m args below meth c H locs cells slots Q (F0 m 266 ls []) := by
  obtain ⟨hx, hb, hml, hown, hts, hX, hbl, hbA, hL, hce, hsl⟩ := F
  refine lv_aload_n hx hb dL_law_266 rfl (lv_at hl 2 rfl) ?_
  refine lv_aload_n hx hb dL_law_267 rfl (lv_at hl 1 rfl) ?_
  refine lv_iload_n hx hb dL_law_268 rfl (lv_at hl 0 rfl) ?_
  refine lv_iconst (v := 1) hx hb dL_law_269 (by decide) ?_
  refine lv_iadd hx hb dL_law_270 ?_
  refine lv_ren (nI_add i 1) ?_
  refine sld hx hb hX hbl hbA G (by omega) (i + 1) (by omega) dL_law_271 ?_
  refine lv_aload_n hx hb dL_law_272 rfl (lv_at hl 1 rfl) ?_
  refine lv_iload_n hx hb dL_law_273 rfl (lv_at hl 0 rfl) ?_
  refine lv_iconst (v := 2) hx hb dL_law_274 (by decide) ?_
  refine lv_iadd hx hb dL_law_275 ?_
  refine lv_ren (nI_add i 2) ?_
  refine sld hx hb hX hbl hbA G (by omega) (i + 2) (by omega) dL_law_276 ?_
  refine callL0 (res := (loadXX σ (xs (i + 1)) (xs (i + 2)))) (av := [.int (xs (i + 1)), .int (xs (i + 2))]) (rest := []) hx hb hml hts hown (c0_load l σ (xs (i + 1)) (xs (i + 2)) hR.2.2.2.2.2.2.2.1) (cwL0_load hts ⟨Nat.le_of_ble_eq_true rfl, Nat.le_of_ble_eq_true rfl⟩) G rfl hl.1 rfl (Nat.le_of_ble_eq_true rfl) dL_law_277 ⟨hce, hsl⟩ (fun H locs G => ?_)
  refine lv_aload_n hx hb dL_law_280 rfl (lv_at hl 3 rfl) ?_
  refine lv_aload_n hx hb dL_law_281 rfl (lv_at hl 1 rfl) ?_
  refine lv_iload_n hx hb dL_law_282 rfl (lv_at hl 0 rfl) ?_
  refine lv_iconst (v := 1) hx hb dL_law_283 (by decide) ?_
  refine lv_iadd hx hb dL_law_284 ?_
  refine lv_ren (nI_add i 1) ?_
  refine sld hx hb hX hbl hbA G (by omega) (i + 1) (by omega) dL_law_285 ?_
  refine lv_aload_n hx hb dL_law_286 rfl (lv_at hl 1 rfl) ?_
  refine lv_iload_n hx hb dL_law_287 rfl (lv_at hl 0 rfl) ?_
  refine lv_iconst (v := 2) hx hb dL_law_288 (by decide) ?_
  refine lv_iadd hx hb dL_law_289 ?_
  refine lv_ren (nI_add i 2) ?_
  refine sld hx hb hX hbl hbA G (by omega) (i + 2) (by omega) dL_law_290 ?_
  refine callL1 (res := (loadM τ (xs (i + 1)) (xs (i + 2)))) (av := [.int (xs (i + 1)), .int (xs (i + 2))]) (rest := [.int (loadXX σ (xs (i + 1)) (xs (i + 2))).1]) hx hb hml hts hown (c1_load l τ (xs (i + 1)) (xs (i + 2))) (cwL1_load hts ⟨Nat.le_of_ble_eq_true rfl, Nat.le_of_ble_eq_true rfl⟩) G rfl hl.1 rfl (Nat.le_of_ble_eq_true rfl) dL_law_291 ⟨hce, hsl⟩ (fun H locs G => ?_)
  have e := rel_load (by omega) hR (xs (i + 1)) (xs (i + 2))
  refine lv_icmp_eq (tgt := 611) hx hb dL_law_294 (by decide) (fun _ => ?_) (fun q => absurd e.1 q)
  obtain ⟨-, M, hM, hR2⟩ := e
  exact K M _ _ H locs hM hR2 G
set_option maxHeartbeats 2000000 in
theorem case_store {p : Program} {l : Launch} {e : Env} {s : State} {m : MethodId} {below : List Frame} {meth : Method} {c : Code} {H : Heap} {locs : List Loc} {cells slots : Nat} {Q : State → Prop} {ls : Array Slot} {D : va_G} {A : Nat → Prop} {ox oy : Nat} {hx1 hy1 : Nat → Nat} {cx cy : Nat → ClassId} {σ τ : St} {b L i : Nat} {xs : Nat → Int32} {args : Array Value} {N : Nat} (F : LF p s m c args A b L xs cells slots) (hi : i + 5 ≤ L) (hN : N + 40 < 2 ^ 30) (hR : Rel N σ τ) (G : WL D s A ox hx1 cx σ oy hy1 cy τ H locs) (hl : lv_has ls 4 [(3, .int (nI i)), (0, .ref b), (1, .ref ox), (2, .ref oy)]) (K : ∀ (M : Nat) (σ τ : St) (H : Heap) (locs : List Loc), M ≤ N + 40 → Rel M σ τ → WL D s A ox hx1 cx σ oy hy1 cy τ H locs → W p l e room_1 s m args below meth c H locs cells slots Q (F0 m 611 ls [])) : W p l e room_1 s m args below meth c H locs cells slots Q (F0 m 299 ls []) := by
  obtain ⟨hx, hb, hml, hown, hts, hX, hbl, hbA, hL, hce, hsl⟩ := F
  refine lv_aload_n hx hb dL_law_299 rfl (lv_at hl 2 rfl) ?_
  refine lv_aload_n hx hb dL_law_300 rfl (lv_at hl 1 rfl) ?_
  refine lv_iload_n hx hb dL_law_301 rfl (lv_at hl 0 rfl) ?_
  refine lv_iconst (v := 1) hx hb dL_law_302 (by decide) ?_
  refine lv_iadd hx hb dL_law_303 ?_
  refine lv_ren (nI_add i 1) ?_
  refine sld hx hb hX hbl hbA G (by omega) (i + 1) (by omega) dL_law_304 ?_
  refine lv_aload_n hx hb dL_law_305 rfl (lv_at hl 1 rfl) ?_
  refine lv_iload_n hx hb dL_law_306 rfl (lv_at hl 0 rfl) ?_
  refine lv_iconst (v := 2) hx hb dL_law_307 (by decide) ?_
  refine lv_iadd hx hb dL_law_308 ?_
  refine lv_ren (nI_add i 2) ?_
  refine sld hx hb hX hbl hbA G (by omega) (i + 2) (by omega) dL_law_309 ?_
  refine lv_aload_n hx hb dL_law_310 rfl (lv_at hl 1 rfl) ?_
  refine lv_iload_n hx hb dL_law_311 rfl (lv_at hl 0 rfl) ?_
  refine lv_iconst (v := 3) hx hb dL_law_312 (by decide) ?_
  refine lv_iadd hx hb dL_law_313 ?_
  refine lv_ren (nI_add i 3) ?_
  refine sld hx hb hX hbl hbA G (by omega) (i + 3) (by omega) dL_law_314 ?_
  refine callL0 (res := (storeX σ (xs (i + 1)) (xs (i + 2)) (xs (i + 3)))) (av := [.int (xs (i + 1)), .int (xs (i + 2)), .int (xs (i + 3))]) (rest := []) hx hb hml hts hown (c0_store l σ (xs (i + 1)) (xs (i + 2)) (xs (i + 3)) hR.2.2.2.2.2.2.2.1) (cwL0_store hts ⟨Nat.le_of_ble_eq_true rfl, Nat.le_of_ble_eq_true rfl⟩) G rfl hl.1 rfl (Nat.le_of_ble_eq_true rfl) dL_law_315 ⟨hce, hsl⟩ (fun H locs G => ?_)
  refine lv_aload_n hx hb dL_law_318 rfl (lv_at hl 3 rfl) ?_
  refine lv_aload_n hx hb dL_law_319 rfl (lv_at hl 1 rfl) ?_
  refine lv_iload_n hx hb dL_law_320 rfl (lv_at hl 0 rfl) ?_
  refine lv_iconst (v := 1) hx hb dL_law_321 (by decide) ?_
  refine lv_iadd hx hb dL_law_322 ?_
  refine lv_ren (nI_add i 1) ?_
  refine sld hx hb hX hbl hbA G (by omega) (i + 1) (by omega) dL_law_323 ?_
  refine lv_aload_n hx hb dL_law_324 rfl (lv_at hl 1 rfl) ?_
  refine lv_iload_n hx hb dL_law_325 rfl (lv_at hl 0 rfl) ?_
  refine lv_iconst (v := 2) hx hb dL_law_326 (by decide) ?_
  refine lv_iadd hx hb dL_law_327 ?_
  refine lv_ren (nI_add i 2) ?_
  refine sld hx hb hX hbl hbA G (by omega) (i + 2) (by omega) dL_law_328 ?_
  refine lv_aload_n hx hb dL_law_329 rfl (lv_at hl 1 rfl) ?_
  refine lv_iload_n hx hb dL_law_330 rfl (lv_at hl 0 rfl) ?_
  refine lv_iconst (v := 3) hx hb dL_law_331 (by decide) ?_
  refine lv_iadd hx hb dL_law_332 ?_
  refine lv_ren (nI_add i 3) ?_
  refine sld hx hb hX hbl hbA G (by omega) (i + 3) (by omega) dL_law_333 ?_
  refine callL1 (res := (storeM τ (xs (i + 1)) (xs (i + 2)) (xs (i + 3)))) (av := [.int (xs (i + 1)), .int (xs (i + 2)), .int (xs (i + 3))]) (rest := [.int (storeX σ (xs (i + 1)) (xs (i + 2)) (xs (i + 3))).1]) hx hb hml hts hown (c1_store l τ (xs (i + 1)) (xs (i + 2)) (xs (i + 3))) (cwL1_store hts ⟨Nat.le_of_ble_eq_true rfl, Nat.le_of_ble_eq_true rfl⟩) G rfl hl.1 rfl (Nat.le_of_ble_eq_true rfl) dL_law_334 ⟨hce, hsl⟩ (fun H locs G => ?_)
  have e := rel_store (by omega) hR (xs (i + 1)) (xs (i + 2)) (xs (i + 3))
  refine lv_icmp_eq (tgt := 611) hx hb dL_law_337 (by decide) (fun _ => ?_) (fun q => absurd e.1 q)
  obtain ⟨-, M, hM, hR2⟩ := e
  exact K M _ _ H locs hM hR2 G
set_option maxHeartbeats 2000000 in
theorem case_sweep {p : Program} {l : Launch} {e : Env} {s : State} {m : MethodId} {below : List Frame} {meth : Method} {c : Code} {H : Heap} {locs : List Loc} {cells slots : Nat} {Q : State → Prop} {ls : Array Slot} {D : va_G} {A : Nat → Prop} {ox oy : Nat} {hx1 hy1 : Nat → Nat} {cx cy : Nat → ClassId} {σ τ : St} {b L i : Nat} {xs : Nat → Int32} {args : Array Value} {N : Nat} (F : LF p s m c args A b L xs cells slots) (hi : i + 5 ≤ L) (hN : N + 40 < 2 ^ 30) (hR : Rel N σ τ) (G : WL D s A ox hx1 cx σ oy hy1 cy τ H locs) (hl : lv_has ls 4 [(3, .int (nI i)), (0, .ref b), (1, .ref ox), (2, .ref oy)]) (K : ∀ (M : Nat) (σ τ : St) (H : Heap) (locs : List Loc), M ≤ N + 40 → Rel M σ τ → WL D s A ox hx1 cx σ oy hy1 cy τ H locs → W p l e room_1 s m args below meth c H locs cells slots Q (F0 m 611 ls [])) : W p l e room_1 s m args below meth c H locs cells slots Q (F0 m 342 ls []) := by
  obtain ⟨hx, hb, hml, hown, hts, hX, hbl, hbA, hL, hce, hsl⟩ := F
  refine lv_aload_n hx hb dL_law_342 rfl (lv_at hl 2 rfl) ?_
  refine lv_aload_n hx hb dL_law_343 rfl (lv_at hl 1 rfl) ?_
  refine lv_iload_n hx hb dL_law_344 rfl (lv_at hl 0 rfl) ?_
  refine lv_iconst (v := 1) hx hb dL_law_345 (by decide) ?_
  refine lv_iadd hx hb dL_law_346 ?_
  refine lv_ren (nI_add i 1) ?_
  refine sld hx hb hX hbl hbA G (by omega) (i + 1) (by omega) dL_law_347 ?_
  refine lv_aload_n hx hb dL_law_348 rfl (lv_at hl 1 rfl) ?_
  refine lv_iload_n hx hb dL_law_349 rfl (lv_at hl 0 rfl) ?_
  refine lv_iconst (v := 2) hx hb dL_law_350 (by decide) ?_
  refine lv_iadd hx hb dL_law_351 ?_
  refine lv_ren (nI_add i 2) ?_
  refine sld hx hb hX hbl hbA G (by omega) (i + 2) (by omega) dL_law_352 ?_
  refine callL0 (res := (sweepX σ (xs (i + 1)) (xs (i + 2)))) (av := [.int (xs (i + 1)), .int (xs (i + 2))]) (rest := []) hx hb hml hts hown (c0_sweep l σ (xs (i + 1)) (xs (i + 2)) hR.2.2.2.2.2.2.2.1) (cwL0_sweep hts ⟨Nat.le_of_ble_eq_true rfl, Nat.le_of_ble_eq_true rfl⟩) G rfl hl.1 rfl (Nat.le_of_ble_eq_true rfl) dL_law_353 ⟨hce, hsl⟩ (fun H locs G => ?_)
  refine lv_aload_n hx hb dL_law_356 rfl (lv_at hl 3 rfl) ?_
  refine lv_aload_n hx hb dL_law_357 rfl (lv_at hl 1 rfl) ?_
  refine lv_iload_n hx hb dL_law_358 rfl (lv_at hl 0 rfl) ?_
  refine lv_iconst (v := 1) hx hb dL_law_359 (by decide) ?_
  refine lv_iadd hx hb dL_law_360 ?_
  refine lv_ren (nI_add i 1) ?_
  refine sld hx hb hX hbl hbA G (by omega) (i + 1) (by omega) dL_law_361 ?_
  refine lv_aload_n hx hb dL_law_362 rfl (lv_at hl 1 rfl) ?_
  refine lv_iload_n hx hb dL_law_363 rfl (lv_at hl 0 rfl) ?_
  refine lv_iconst (v := 2) hx hb dL_law_364 (by decide) ?_
  refine lv_iadd hx hb dL_law_365 ?_
  refine lv_ren (nI_add i 2) ?_
  refine sld hx hb hX hbl hbA G (by omega) (i + 2) (by omega) dL_law_366 ?_
  refine callL1 (res := (sweepM τ (xs (i + 1)) (xs (i + 2)))) (av := [.int (xs (i + 1)), .int (xs (i + 2))]) (rest := [.int (sweepX σ (xs (i + 1)) (xs (i + 2))).1]) hx hb hml hts hown (c1_sweep l τ (xs (i + 1)) (xs (i + 2))) (cwL1_sweep hts ⟨Nat.le_of_ble_eq_true rfl, Nat.le_of_ble_eq_true rfl⟩) G rfl hl.1 rfl (Nat.le_of_ble_eq_true rfl) dL_law_367 ⟨hce, hsl⟩ (fun H locs G => ?_)
  have e := rel_sweep hN hR (xs (i + 1)) (xs (i + 2))
  refine lv_icmp_eq (tgt := 611) hx hb dL_law_370 (by decide) (fun _ => ?_) (fun q => absurd e.1 q)
  obtain ⟨-, M, hM, hR2⟩ := e
  exact K M _ _ H locs hM hR2 G
set_option maxHeartbeats 2000000 in
theorem case_peek {p : Program} {l : Launch} {e : Env} {s : State} {m : MethodId} {below : List Frame} {meth : Method} {c : Code} {H : Heap} {locs : List Loc} {cells slots : Nat} {Q : State → Prop} {ls : Array Slot} {D : va_G} {A : Nat → Prop} {ox oy : Nat} {hx1 hy1 : Nat → Nat} {cx cy : Nat → ClassId} {σ τ : St} {b L i : Nat} {xs : Nat → Int32} {args : Array Value} {N : Nat} (F : LF p s m c args A b L xs cells slots) (hi : i + 5 ≤ L) (hN : N + 40 < 2 ^ 30) (hR : Rel N σ τ) (G : WL D s A ox hx1 cx σ oy hy1 cy τ H locs) (hl : lv_has ls 4 [(3, .int (nI i)), (0, .ref b), (1, .ref ox), (2, .ref oy)]) (K : ∀ (M : Nat) (σ τ : St) (H : Heap) (locs : List Loc), M ≤ N + 40 → Rel M σ τ → WL D s A ox hx1 cx σ oy hy1 cy τ H locs → W p l e room_1 s m args below meth c H locs cells slots Q (F0 m 611 ls [])) : W p l e room_1 s m args below meth c H locs cells slots Q (F0 m 375 ls []) := by
  obtain ⟨hx, hb, hml, hown, hts, hX, hbl, hbA, hL, hce, hsl⟩ := F
  refine lv_aload_n hx hb dL_law_375 rfl (lv_at hl 2 rfl) ?_
  refine lv_aload_n hx hb dL_law_376 rfl (lv_at hl 1 rfl) ?_
  refine lv_iload_n hx hb dL_law_377 rfl (lv_at hl 0 rfl) ?_
  refine lv_iconst (v := 1) hx hb dL_law_378 (by decide) ?_
  refine lv_iadd hx hb dL_law_379 ?_
  refine lv_ren (nI_add i 1) ?_
  refine sld hx hb hX hbl hbA G (by omega) (i + 1) (by omega) dL_law_380 ?_
  refine callL0 (res := (peekX σ (xs (i + 1)), σ)) (av := [.int (xs (i + 1))]) (rest := []) hx hb hml hts hown (c0_peek l σ (xs (i + 1))) (cwL0_peek hts ⟨Nat.le_of_ble_eq_true rfl, Nat.le_of_ble_eq_true rfl⟩) G rfl hl.1 rfl (Nat.le_of_ble_eq_true rfl) dL_law_381 ⟨hce, hsl⟩ (fun H locs G => ?_)
  refine lv_aload_n hx hb dL_law_384 rfl (lv_at hl 3 rfl) ?_
  refine lv_aload_n hx hb dL_law_385 rfl (lv_at hl 1 rfl) ?_
  refine lv_iload_n hx hb dL_law_386 rfl (lv_at hl 0 rfl) ?_
  refine lv_iconst (v := 1) hx hb dL_law_387 (by decide) ?_
  refine lv_iadd hx hb dL_law_388 ?_
  refine lv_ren (nI_add i 1) ?_
  refine sld hx hb hX hbl hbA G (by omega) (i + 1) (by omega) dL_law_389 ?_
  refine callL1 (res := (peekM τ (xs (i + 1)), τ)) (av := [.int (xs (i + 1))]) (rest := [.int (peekX σ (xs (i + 1)))]) hx hb hml hts hown (c1_peek l τ (xs (i + 1))) (cwL1_peek hts ⟨Nat.le_of_ble_eq_true rfl, Nat.le_of_ble_eq_true rfl⟩) G rfl hl.1 rfl (Nat.le_of_ble_eq_true rfl) dL_law_390 ⟨hce, hsl⟩ (fun H locs G => ?_)
  have e := rel_peek hR (xs (i + 1))
  refine lv_icmp_eq (tgt := 611) hx hb dL_law_393 (by decide) (fun _ => ?_) (fun q => absurd e q)
  exact K N _ _ H locs (by omega) hR G
set_option maxHeartbeats 2000000 in
theorem case_hits {p : Program} {l : Launch} {e : Env} {s : State} {m : MethodId} {below : List Frame} {meth : Method} {c : Code} {H : Heap} {locs : List Loc} {cells slots : Nat} {Q : State → Prop} {ls : Array Slot} {D : va_G} {A : Nat → Prop} {ox oy : Nat} {hx1 hy1 : Nat → Nat} {cx cy : Nat → ClassId} {σ τ : St} {b L i : Nat} {xs : Nat → Int32} {args : Array Value} {N : Nat} (F : LF p s m c args A b L xs cells slots) (hi : i + 5 ≤ L) (hN : N + 40 < 2 ^ 30) (hR : Rel N σ τ) (G : WL D s A ox hx1 cx σ oy hy1 cy τ H locs) (hl : lv_has ls 4 [(3, .int (nI i)), (0, .ref b), (1, .ref ox), (2, .ref oy)]) (K : ∀ (M : Nat) (σ τ : St) (H : Heap) (locs : List Loc), M ≤ N + 40 → Rel M σ τ → WL D s A ox hx1 cx σ oy hy1 cy τ H locs → W p l e room_1 s m args below meth c H locs cells slots Q (F0 m 611 ls [])) : W p l e room_1 s m args below meth c H locs cells slots Q (F0 m 398 ls []) := by
  obtain ⟨hx, hb, hml, hown, hts, hX, hbl, hbA, hL, hce, hsl⟩ := F
  refine lv_aload_n hx hb dL_law_398 rfl (lv_at hl 2 rfl) ?_
  refine lv_aload_n hx hb dL_law_399 rfl (lv_at hl 1 rfl) ?_
  refine lv_iload_n hx hb dL_law_400 rfl (lv_at hl 0 rfl) ?_
  refine lv_iconst (v := 1) hx hb dL_law_401 (by decide) ?_
  refine lv_iadd hx hb dL_law_402 ?_
  refine lv_ren (nI_add i 1) ?_
  refine sld hx hb hX hbl hbA G (by omega) (i + 1) (by omega) dL_law_403 ?_
  refine callL0 (res := (hitsX σ (xs (i + 1)), σ)) (av := [.int (xs (i + 1))]) (rest := []) hx hb hml hts hown (c0_hits l σ (xs (i + 1))) (cwL0_hits hts ⟨Nat.le_of_ble_eq_true rfl, Nat.le_of_ble_eq_true rfl⟩) G rfl hl.1 rfl (Nat.le_of_ble_eq_true rfl) dL_law_404 ⟨hce, hsl⟩ (fun H locs G => ?_)
  refine lv_aload_n hx hb dL_law_407 rfl (lv_at hl 3 rfl) ?_
  refine lv_aload_n hx hb dL_law_408 rfl (lv_at hl 1 rfl) ?_
  refine lv_iload_n hx hb dL_law_409 rfl (lv_at hl 0 rfl) ?_
  refine lv_iconst (v := 1) hx hb dL_law_410 (by decide) ?_
  refine lv_iadd hx hb dL_law_411 ?_
  refine lv_ren (nI_add i 1) ?_
  refine sld hx hb hX hbl hbA G (by omega) (i + 1) (by omega) dL_law_412 ?_
  refine callL1 (res := (hitsM τ (xs (i + 1)), τ)) (av := [.int (xs (i + 1))]) (rest := [.int (hitsX σ (xs (i + 1)))]) hx hb hml hts hown (c1_hits l τ (xs (i + 1))) (cwL1_hits hts ⟨Nat.le_of_ble_eq_true rfl, Nat.le_of_ble_eq_true rfl⟩) G rfl hl.1 rfl (Nat.le_of_ble_eq_true rfl) dL_law_413 ⟨hce, hsl⟩ (fun H locs G => ?_)
  have e := rel_hits hR (xs (i + 1))
  refine lv_icmp_eq (tgt := 611) hx hb dL_law_416 (by decide) (fun _ => ?_) (fun q => absurd e q)
  exact K N _ _ H locs (by omega) hR G
set_option maxHeartbeats 2000000 in
theorem case_skips {p : Program} {l : Launch} {e : Env} {s : State} {m : MethodId} {below : List Frame} {meth : Method} {c : Code} {H : Heap} {locs : List Loc} {cells slots : Nat} {Q : State → Prop} {ls : Array Slot} {D : va_G} {A : Nat → Prop} {ox oy : Nat} {hx1 hy1 : Nat → Nat} {cx cy : Nat → ClassId} {σ τ : St} {b L i : Nat} {xs : Nat → Int32} {args : Array Value} {N : Nat} (F : LF p s m c args A b L xs cells slots) (hi : i + 5 ≤ L) (hN : N + 40 < 2 ^ 30) (hR : Rel N σ τ) (G : WL D s A ox hx1 cx σ oy hy1 cy τ H locs) (hl : lv_has ls 4 [(3, .int (nI i)), (0, .ref b), (1, .ref ox), (2, .ref oy)]) (K : ∀ (M : Nat) (σ τ : St) (H : Heap) (locs : List Loc), M ≤ N + 40 → Rel M σ τ → WL D s A ox hx1 cx σ oy hy1 cy τ H locs → W p l e room_1 s m args below meth c H locs cells slots Q (F0 m 611 ls [])) : W p l e room_1 s m args below meth c H locs cells slots Q (F0 m 421 ls []) := by
  obtain ⟨hx, hb, hml, hown, hts, hX, hbl, hbA, hL, hce, hsl⟩ := F
  refine lv_aload_n hx hb dL_law_421 rfl (lv_at hl 2 rfl) ?_
  refine lv_aload_n hx hb dL_law_422 rfl (lv_at hl 1 rfl) ?_
  refine lv_iload_n hx hb dL_law_423 rfl (lv_at hl 0 rfl) ?_
  refine lv_iconst (v := 1) hx hb dL_law_424 (by decide) ?_
  refine lv_iadd hx hb dL_law_425 ?_
  refine lv_ren (nI_add i 1) ?_
  refine sld hx hb hX hbl hbA G (by omega) (i + 1) (by omega) dL_law_426 ?_
  refine callL0 (res := (skipsX σ (xs (i + 1)), σ)) (av := [.int (xs (i + 1))]) (rest := []) hx hb hml hts hown (c0_skips l σ (xs (i + 1))) (cwL0_skips hts ⟨Nat.le_of_ble_eq_true rfl, Nat.le_of_ble_eq_true rfl⟩) G rfl hl.1 rfl (Nat.le_of_ble_eq_true rfl) dL_law_427 ⟨hce, hsl⟩ (fun H locs G => ?_)
  refine lv_aload_n hx hb dL_law_430 rfl (lv_at hl 3 rfl) ?_
  refine lv_aload_n hx hb dL_law_431 rfl (lv_at hl 1 rfl) ?_
  refine lv_iload_n hx hb dL_law_432 rfl (lv_at hl 0 rfl) ?_
  refine lv_iconst (v := 1) hx hb dL_law_433 (by decide) ?_
  refine lv_iadd hx hb dL_law_434 ?_
  refine lv_ren (nI_add i 1) ?_
  refine sld hx hb hX hbl hbA G (by omega) (i + 1) (by omega) dL_law_435 ?_
  refine callL1 (res := (skipsM τ (xs (i + 1)), τ)) (av := [.int (xs (i + 1))]) (rest := [.int (skipsX σ (xs (i + 1)))]) hx hb hml hts hown (c1_skips l τ (xs (i + 1))) (cwL1_skips hts ⟨Nat.le_of_ble_eq_true rfl, Nat.le_of_ble_eq_true rfl⟩) G rfl hl.1 rfl (Nat.le_of_ble_eq_true rfl) dL_law_436 ⟨hce, hsl⟩ (fun H locs G => ?_)
  have e := rel_skips hR (xs (i + 1))
  refine lv_icmp_eq (tgt := 611) hx hb dL_law_439 (by decide) (fun _ => ?_) (fun q => absurd e q)
  exact K N _ _ H locs (by omega) hR G
set_option maxHeartbeats 2000000 in
theorem case_stops {p : Program} {l : Launch} {e : Env} {s : State} {m : MethodId} {below : List Frame} {meth : Method} {c : Code} {H : Heap} {locs : List Loc} {cells slots : Nat} {Q : State → Prop} {ls : Array Slot} {D : va_G} {A : Nat → Prop} {ox oy : Nat} {hx1 hy1 : Nat → Nat} {cx cy : Nat → ClassId} {σ τ : St} {b L i : Nat} {xs : Nat → Int32} {args : Array Value} {N : Nat} (F : LF p s m c args A b L xs cells slots) (hi : i + 5 ≤ L) (hN : N + 40 < 2 ^ 30) (hR : Rel N σ τ) (G : WL D s A ox hx1 cx σ oy hy1 cy τ H locs) (hl : lv_has ls 4 [(3, .int (nI i)), (0, .ref b), (1, .ref ox), (2, .ref oy)]) (K : ∀ (M : Nat) (σ τ : St) (H : Heap) (locs : List Loc), M ≤ N + 40 → Rel M σ τ → WL D s A ox hx1 cx σ oy hy1 cy τ H locs → W p l e room_1 s m args below meth c H locs cells slots Q (F0 m 611 ls [])) : W p l e room_1 s m args below meth c H locs cells slots Q (F0 m 444 ls []) := by
  obtain ⟨hx, hb, hml, hown, hts, hX, hbl, hbA, hL, hce, hsl⟩ := F
  refine lv_aload_n hx hb dL_law_444 rfl (lv_at hl 2 rfl) ?_
  refine callL0 (res := (stopsX σ, σ)) (av := []) (rest := []) hx hb hml hts hown (c0_stops l σ ) (cwL0_stops hts ⟨Nat.le_of_ble_eq_true rfl, Nat.le_of_ble_eq_true rfl⟩) G rfl hl.1 rfl (Nat.le_of_ble_eq_true rfl) dL_law_445 ⟨hce, hsl⟩ (fun H locs G => ?_)
  refine lv_aload_n hx hb dL_law_448 rfl (lv_at hl 3 rfl) ?_
  refine callL1 (res := (stopsM τ, τ)) (av := []) (rest := [.int (stopsX σ)]) hx hb hml hts hown (c1_stops l τ ) (cwL1_stops hts ⟨Nat.le_of_ble_eq_true rfl, Nat.le_of_ble_eq_true rfl⟩) G rfl hl.1 rfl (Nat.le_of_ble_eq_true rfl) dL_law_449 ⟨hce, hsl⟩ (fun H locs G => ?_)
  have e := rel_stops hR
  refine lv_icmp_eq (tgt := 611) hx hb dL_law_452 (by decide) (fun _ => ?_) (fun q => absurd e q)
  exact K N _ _ H locs (by omega) hR G
set_option maxHeartbeats 2000000 in
theorem case_accesses {p : Program} {l : Launch} {e : Env} {s : State} {m : MethodId} {below : List Frame} {meth : Method} {c : Code} {H : Heap} {locs : List Loc} {cells slots : Nat} {Q : State → Prop} {ls : Array Slot} {D : va_G} {A : Nat → Prop} {ox oy : Nat} {hx1 hy1 : Nat → Nat} {cx cy : Nat → ClassId} {σ τ : St} {b L i : Nat} {xs : Nat → Int32} {args : Array Value} {N : Nat} (F : LF p s m c args A b L xs cells slots) (hi : i + 5 ≤ L) (hN : N + 40 < 2 ^ 30) (hR : Rel N σ τ) (G : WL D s A ox hx1 cx σ oy hy1 cy τ H locs) (hl : lv_has ls 4 [(3, .int (nI i)), (0, .ref b), (1, .ref ox), (2, .ref oy)]) (K : ∀ (M : Nat) (σ τ : St) (H : Heap) (locs : List Loc), M ≤ N + 40 → Rel M σ τ → WL D s A ox hx1 cx σ oy hy1 cy τ H locs → W p l e room_1 s m args below meth c H locs cells slots Q (F0 m 611 ls [])) : W p l e room_1 s m args below meth c H locs cells slots Q (F0 m 457 ls []) := by
  obtain ⟨hx, hb, hml, hown, hts, hX, hbl, hbA, hL, hce, hsl⟩ := F
  refine lv_aload_n hx hb dL_law_457 rfl (lv_at hl 2 rfl) ?_
  refine callL0 (res := (accessesX σ, σ)) (av := []) (rest := []) hx hb hml hts hown (c0_accesses l σ ) (cwL0_accesses hts ⟨Nat.le_of_ble_eq_true rfl, Nat.le_of_ble_eq_true rfl⟩) G rfl hl.1 rfl (Nat.le_of_ble_eq_true rfl) dL_law_458 ⟨hce, hsl⟩ (fun H locs G => ?_)
  refine lv_aload_n hx hb dL_law_461 rfl (lv_at hl 3 rfl) ?_
  refine callL1 (res := (accessesM τ, τ)) (av := []) (rest := [.int (accessesX σ)]) hx hb hml hts hown (c1_accesses l τ ) (cwL1_accesses hts ⟨Nat.le_of_ble_eq_true rfl, Nat.le_of_ble_eq_true rfl⟩) G rfl hl.1 rfl (Nat.le_of_ble_eq_true rfl) dL_law_462 ⟨hce, hsl⟩ (fun H locs G => ?_)
  have e := rel_accesses hR
  refine lv_icmp_eq (tgt := 611) hx hb dL_law_465 (by decide) (fun _ => ?_) (fun q => absurd e q)
  exact K N _ _ H locs (by omega) hR G
set_option maxHeartbeats 2000000 in
theorem case_kept {p : Program} {l : Launch} {e : Env} {s : State} {m : MethodId} {below : List Frame} {meth : Method} {c : Code} {H : Heap} {locs : List Loc} {cells slots : Nat} {Q : State → Prop} {ls : Array Slot} {D : va_G} {A : Nat → Prop} {ox oy : Nat} {hx1 hy1 : Nat → Nat} {cx cy : Nat → ClassId} {σ τ : St} {b L i : Nat} {xs : Nat → Int32} {args : Array Value} {N : Nat} (F : LF p s m c args A b L xs cells slots) (hi : i + 5 ≤ L) (hN : N + 40 < 2 ^ 30) (hR : Rel N σ τ) (G : WL D s A ox hx1 cx σ oy hy1 cy τ H locs) (hl : lv_has ls 4 [(3, .int (nI i)), (0, .ref b), (1, .ref ox), (2, .ref oy)]) (K : ∀ (M : Nat) (σ τ : St) (H : Heap) (locs : List Loc), M ≤ N + 40 → Rel M σ τ → WL D s A ox hx1 cx σ oy hy1 cy τ H locs → W p l e room_1 s m args below meth c H locs cells slots Q (F0 m 611 ls [])) : W p l e room_1 s m args below meth c H locs cells slots Q (F0 m 470 ls []) := by
  obtain ⟨hx, hb, hml, hown, hts, hX, hbl, hbA, hL, hce, hsl⟩ := F
  refine lv_aload_n hx hb dL_law_470 rfl (lv_at hl 2 rfl) ?_
  refine callL0 (res := (keptX σ, σ)) (av := []) (rest := []) hx hb hml hts hown (c0_kept l σ ) (cwL0_kept hts ⟨Nat.le_of_ble_eq_true rfl, Nat.le_of_ble_eq_true rfl⟩) G rfl hl.1 rfl (Nat.le_of_ble_eq_true rfl) dL_law_471 ⟨hce, hsl⟩ (fun H locs G => ?_)
  refine lv_aload_n hx hb dL_law_474 rfl (lv_at hl 3 rfl) ?_
  refine callL1 (res := (keptM τ, τ)) (av := []) (rest := [.int (keptX σ)]) hx hb hml hts hown (c1_kept l τ ) (cwL1_kept hts ⟨Nat.le_of_ble_eq_true rfl, Nat.le_of_ble_eq_true rfl⟩) G rfl hl.1 rfl (Nat.le_of_ble_eq_true rfl) dL_law_475 ⟨hce, hsl⟩ (fun H locs G => ?_)
  have e := rel_kept (by omega) hR
  refine lv_icmp_eq (tgt := 611) hx hb dL_law_478 (by decide) (fun _ => ?_) (fun q => absurd e q)
  exact K N _ _ H locs (by omega) hR G
set_option maxHeartbeats 2000000 in
theorem case_stopMask {p : Program} {l : Launch} {e : Env} {s : State} {m : MethodId} {below : List Frame} {meth : Method} {c : Code} {H : Heap} {locs : List Loc} {cells slots : Nat} {Q : State → Prop} {ls : Array Slot} {D : va_G} {A : Nat → Prop} {ox oy : Nat} {hx1 hy1 : Nat → Nat} {cx cy : Nat → ClassId} {σ τ : St} {b L i : Nat} {xs : Nat → Int32} {args : Array Value} {N : Nat} (F : LF p s m c args A b L xs cells slots) (hi : i + 5 ≤ L) (hN : N + 40 < 2 ^ 30) (hR : Rel N σ τ) (G : WL D s A ox hx1 cx σ oy hy1 cy τ H locs) (hl : lv_has ls 4 [(3, .int (nI i)), (0, .ref b), (1, .ref ox), (2, .ref oy)]) (K : ∀ (M : Nat) (σ τ : St) (H : Heap) (locs : List Loc), M ≤ N + 40 → Rel M σ τ → WL D s A ox hx1 cx σ oy hy1 cy τ H locs → W p l e room_1 s m args below meth c H locs cells slots Q (F0 m 611 ls [])) : W p l e room_1 s m args below meth c H locs cells slots Q (F0 m 483 ls []) := by
  obtain ⟨hx, hb, hml, hown, hts, hX, hbl, hbA, hL, hce, hsl⟩ := F
  refine lv_aload_n hx hb dL_law_483 rfl (lv_at hl 2 rfl) ?_
  refine lv_aload_n hx hb dL_law_484 rfl (lv_at hl 1 rfl) ?_
  refine lv_iload_n hx hb dL_law_485 rfl (lv_at hl 0 rfl) ?_
  refine lv_iconst (v := 1) hx hb dL_law_486 (by decide) ?_
  refine lv_iadd hx hb dL_law_487 ?_
  refine lv_ren (nI_add i 1) ?_
  refine sld hx hb hX hbl hbA G (by omega) (i + 1) (by omega) dL_law_488 ?_
  refine callL0 (res := (stopMaskX σ (xs (i + 1)), σ)) (av := [.int (xs (i + 1))]) (rest := []) hx hb hml hts hown (c0_stopMask l σ (xs (i + 1))) (cwL0_stopMask hts ⟨Nat.le_of_ble_eq_true rfl, Nat.le_of_ble_eq_true rfl⟩) G rfl hl.1 rfl (Nat.le_of_ble_eq_true rfl) dL_law_489 ⟨hce, hsl⟩ (fun H locs G => ?_)
  refine lv_aload_n hx hb dL_law_492 rfl (lv_at hl 3 rfl) ?_
  refine lv_aload_n hx hb dL_law_493 rfl (lv_at hl 1 rfl) ?_
  refine lv_iload_n hx hb dL_law_494 rfl (lv_at hl 0 rfl) ?_
  refine lv_iconst (v := 1) hx hb dL_law_495 (by decide) ?_
  refine lv_iadd hx hb dL_law_496 ?_
  refine lv_ren (nI_add i 1) ?_
  refine sld hx hb hX hbl hbA G (by omega) (i + 1) (by omega) dL_law_497 ?_
  refine callL1 (res := (stopMaskM τ (xs (i + 1)), τ)) (av := [.int (xs (i + 1))]) (rest := [.int (stopMaskX σ (xs (i + 1)))]) hx hb hml hts hown (c1_stopMask l τ (xs (i + 1))) (cwL1_stopMask hts ⟨Nat.le_of_ble_eq_true rfl, Nat.le_of_ble_eq_true rfl⟩) G rfl hl.1 rfl (Nat.le_of_ble_eq_true rfl) dL_law_498 ⟨hce, hsl⟩ (fun H locs G => ?_)
  have e := rel_stopMask (by omega) hR (xs (i + 1))
  refine lv_icmp_eq (tgt := 611) hx hb dL_law_501 (by decide) (fun _ => ?_) (fun q => absurd e q)
  exact K N _ _ H locs (by omega) hR G
set_option maxHeartbeats 2000000 in
theorem case_stopAddress {p : Program} {l : Launch} {e : Env} {s : State} {m : MethodId} {below : List Frame} {meth : Method} {c : Code} {H : Heap} {locs : List Loc} {cells slots : Nat} {Q : State → Prop} {ls : Array Slot} {D : va_G} {A : Nat → Prop} {ox oy : Nat} {hx1 hy1 : Nat → Nat} {cx cy : Nat → ClassId} {σ τ : St} {b L i : Nat} {xs : Nat → Int32} {args : Array Value} {N : Nat} (F : LF p s m c args A b L xs cells slots) (hi : i + 5 ≤ L) (hN : N + 40 < 2 ^ 30) (hR : Rel N σ τ) (G : WL D s A ox hx1 cx σ oy hy1 cy τ H locs) (hl : lv_has ls 4 [(3, .int (nI i)), (0, .ref b), (1, .ref ox), (2, .ref oy)]) (K : ∀ (M : Nat) (σ τ : St) (H : Heap) (locs : List Loc), M ≤ N + 40 → Rel M σ τ → WL D s A ox hx1 cx σ oy hy1 cy τ H locs → W p l e room_1 s m args below meth c H locs cells slots Q (F0 m 611 ls [])) : W p l e room_1 s m args below meth c H locs cells slots Q (F0 m 506 ls []) := by
  obtain ⟨hx, hb, hml, hown, hts, hX, hbl, hbA, hL, hce, hsl⟩ := F
  refine lv_aload_n hx hb dL_law_506 rfl (lv_at hl 2 rfl) ?_
  refine lv_aload_n hx hb dL_law_507 rfl (lv_at hl 1 rfl) ?_
  refine lv_iload_n hx hb dL_law_508 rfl (lv_at hl 0 rfl) ?_
  refine lv_iconst (v := 1) hx hb dL_law_509 (by decide) ?_
  refine lv_iadd hx hb dL_law_510 ?_
  refine lv_ren (nI_add i 1) ?_
  refine sld hx hb hX hbl hbA G (by omega) (i + 1) (by omega) dL_law_511 ?_
  refine callL0 (res := (stopAddressX σ (xs (i + 1)), σ)) (av := [.int (xs (i + 1))]) (rest := []) hx hb hml hts hown (c0_stopAddress l σ (xs (i + 1))) (cwL0_stopAddress hts ⟨Nat.le_of_ble_eq_true rfl, Nat.le_of_ble_eq_true rfl⟩) G rfl hl.1 rfl (Nat.le_of_ble_eq_true rfl) dL_law_512 ⟨hce, hsl⟩ (fun H locs G => ?_)
  refine lv_aload_n hx hb dL_law_515 rfl (lv_at hl 3 rfl) ?_
  refine lv_aload_n hx hb dL_law_516 rfl (lv_at hl 1 rfl) ?_
  refine lv_iload_n hx hb dL_law_517 rfl (lv_at hl 0 rfl) ?_
  refine lv_iconst (v := 1) hx hb dL_law_518 (by decide) ?_
  refine lv_iadd hx hb dL_law_519 ?_
  refine lv_ren (nI_add i 1) ?_
  refine sld hx hb hX hbl hbA G (by omega) (i + 1) (by omega) dL_law_520 ?_
  refine callL1 (res := (stopAddressM τ (xs (i + 1)), τ)) (av := [.int (xs (i + 1))]) (rest := [.int (stopAddressX σ (xs (i + 1)))]) hx hb hml hts hown (c1_stopAddress l τ (xs (i + 1))) (cwL1_stopAddress hts ⟨Nat.le_of_ble_eq_true rfl, Nat.le_of_ble_eq_true rfl⟩) G rfl hl.1 rfl (Nat.le_of_ble_eq_true rfl) dL_law_521 ⟨hce, hsl⟩ (fun H locs G => ?_)
  have e := rel_stopAddress (by omega) hR (xs (i + 1))
  refine lv_icmp_eq (tgt := 611) hx hb dL_law_524 (by decide) (fun _ => ?_) (fun q => absurd e q)
  exact K N _ _ H locs (by omega) hR G
set_option maxHeartbeats 2000000 in
theorem case_stopNumber {p : Program} {l : Launch} {e : Env} {s : State} {m : MethodId} {below : List Frame} {meth : Method} {c : Code} {H : Heap} {locs : List Loc} {cells slots : Nat} {Q : State → Prop} {ls : Array Slot} {D : va_G} {A : Nat → Prop} {ox oy : Nat} {hx1 hy1 : Nat → Nat} {cx cy : Nat → ClassId} {σ τ : St} {b L i : Nat} {xs : Nat → Int32} {args : Array Value} {N : Nat} (F : LF p s m c args A b L xs cells slots) (hi : i + 5 ≤ L) (hN : N + 40 < 2 ^ 30) (hR : Rel N σ τ) (G : WL D s A ox hx1 cx σ oy hy1 cy τ H locs) (hl : lv_has ls 4 [(3, .int (nI i)), (0, .ref b), (1, .ref ox), (2, .ref oy)]) (K : ∀ (M : Nat) (σ τ : St) (H : Heap) (locs : List Loc), M ≤ N + 40 → Rel M σ τ → WL D s A ox hx1 cx σ oy hy1 cy τ H locs → W p l e room_1 s m args below meth c H locs cells slots Q (F0 m 611 ls [])) : W p l e room_1 s m args below meth c H locs cells slots Q (F0 m 529 ls []) := by
  obtain ⟨hx, hb, hml, hown, hts, hX, hbl, hbA, hL, hce, hsl⟩ := F
  refine lv_aload_n hx hb dL_law_529 rfl (lv_at hl 2 rfl) ?_
  refine lv_aload_n hx hb dL_law_530 rfl (lv_at hl 1 rfl) ?_
  refine lv_iload_n hx hb dL_law_531 rfl (lv_at hl 0 rfl) ?_
  refine lv_iconst (v := 1) hx hb dL_law_532 (by decide) ?_
  refine lv_iadd hx hb dL_law_533 ?_
  refine lv_ren (nI_add i 1) ?_
  refine sld hx hb hX hbl hbA G (by omega) (i + 1) (by omega) dL_law_534 ?_
  refine callL0 (res := (stopNumberX σ (xs (i + 1)), σ)) (av := [.int (xs (i + 1))]) (rest := []) hx hb hml hts hown (c0_stopNumber l σ (xs (i + 1))) (cwL0_stopNumber hts ⟨Nat.le_of_ble_eq_true rfl, Nat.le_of_ble_eq_true rfl⟩) G rfl hl.1 rfl (Nat.le_of_ble_eq_true rfl) dL_law_535 ⟨hce, hsl⟩ (fun H locs G => ?_)
  refine lv_aload_n hx hb dL_law_538 rfl (lv_at hl 3 rfl) ?_
  refine lv_aload_n hx hb dL_law_539 rfl (lv_at hl 1 rfl) ?_
  refine lv_iload_n hx hb dL_law_540 rfl (lv_at hl 0 rfl) ?_
  refine lv_iconst (v := 1) hx hb dL_law_541 (by decide) ?_
  refine lv_iadd hx hb dL_law_542 ?_
  refine lv_ren (nI_add i 1) ?_
  refine sld hx hb hX hbl hbA G (by omega) (i + 1) (by omega) dL_law_543 ?_
  refine callL1 (res := (stopNumberM τ (xs (i + 1)), τ)) (av := [.int (xs (i + 1))]) (rest := [.int (stopNumberX σ (xs (i + 1)))]) hx hb hml hts hown (c1_stopNumber l τ (xs (i + 1))) (cwL1_stopNumber hts ⟨Nat.le_of_ble_eq_true rfl, Nat.le_of_ble_eq_true rfl⟩) G rfl hl.1 rfl (Nat.le_of_ble_eq_true rfl) dL_law_544 ⟨hce, hsl⟩ (fun H locs G => ?_)
  have e := rel_stopNumber (by omega) hR (xs (i + 1))
  refine lv_icmp_eq (tgt := 611) hx hb dL_law_547 (by decide) (fun _ => ?_) (fun q => absurd e q)
  exact K N _ _ H locs (by omega) hR G
set_option maxHeartbeats 2000000 in
theorem case_before {p : Program} {l : Launch} {e : Env} {s : State} {m : MethodId} {below : List Frame} {meth : Method} {c : Code} {H : Heap} {locs : List Loc} {cells slots : Nat} {Q : State → Prop} {ls : Array Slot} {D : va_G} {A : Nat → Prop} {ox oy : Nat} {hx1 hy1 : Nat → Nat} {cx cy : Nat → ClassId} {σ τ : St} {b L i : Nat} {xs : Nat → Int32} {args : Array Value} {N : Nat} (F : LF p s m c args A b L xs cells slots) (hi : i + 5 ≤ L) (hN : N + 40 < 2 ^ 30) (hR : Rel N σ τ) (G : WL D s A ox hx1 cx σ oy hy1 cy τ H locs) (hl : lv_has ls 4 [(3, .int (nI i)), (0, .ref b), (1, .ref ox), (2, .ref oy)]) (K : ∀ (M : Nat) (σ τ : St) (H : Heap) (locs : List Loc), M ≤ N + 40 → Rel M σ τ → WL D s A ox hx1 cx σ oy hy1 cy τ H locs → W p l e room_1 s m args below meth c H locs cells slots Q (F0 m 611 ls [])) : W p l e room_1 s m args below meth c H locs cells slots Q (F0 m 552 ls []) := by
  obtain ⟨hx, hb, hml, hown, hts, hX, hbl, hbA, hL, hce, hsl⟩ := F
  refine lv_aload_n hx hb dL_law_552 rfl (lv_at hl 2 rfl) ?_
  refine lv_aload_n hx hb dL_law_553 rfl (lv_at hl 1 rfl) ?_
  refine lv_iload_n hx hb dL_law_554 rfl (lv_at hl 0 rfl) ?_
  refine lv_iconst (v := 1) hx hb dL_law_555 (by decide) ?_
  refine lv_iadd hx hb dL_law_556 ?_
  refine lv_ren (nI_add i 1) ?_
  refine sld hx hb hX hbl hbA G (by omega) (i + 1) (by omega) dL_law_557 ?_
  refine callL0 (res := (beforeX σ (xs (i + 1)), σ)) (av := [.int (xs (i + 1))]) (rest := []) hx hb hml hts hown (c0_before l σ (xs (i + 1))) (cwL0_before hts ⟨Nat.le_of_ble_eq_true rfl, Nat.le_of_ble_eq_true rfl⟩) G rfl hl.1 rfl (Nat.le_of_ble_eq_true rfl) dL_law_558 ⟨hce, hsl⟩ (fun H locs G => ?_)
  refine lv_aload_n hx hb dL_law_561 rfl (lv_at hl 3 rfl) ?_
  refine lv_aload_n hx hb dL_law_562 rfl (lv_at hl 1 rfl) ?_
  refine lv_iload_n hx hb dL_law_563 rfl (lv_at hl 0 rfl) ?_
  refine lv_iconst (v := 1) hx hb dL_law_564 (by decide) ?_
  refine lv_iadd hx hb dL_law_565 ?_
  refine lv_ren (nI_add i 1) ?_
  refine sld hx hb hX hbl hbA G (by omega) (i + 1) (by omega) dL_law_566 ?_
  refine callL1 (res := (beforeM τ (xs (i + 1)), τ)) (av := [.int (xs (i + 1))]) (rest := [.int (beforeX σ (xs (i + 1)))]) hx hb hml hts hown (c1_before l τ (xs (i + 1))) (cwL1_before hts ⟨Nat.le_of_ble_eq_true rfl, Nat.le_of_ble_eq_true rfl⟩) G rfl hl.1 rfl (Nat.le_of_ble_eq_true rfl) dL_law_567 ⟨hce, hsl⟩ (fun H locs G => ?_)
  have e := rel_before (by omega) hR (xs (i + 1))
  refine lv_icmp_eq (tgt := 611) hx hb dL_law_570 (by decide) (fun _ => ?_) (fun q => absurd e q)
  exact K N _ _ H locs (by omega) hR G
set_option maxHeartbeats 2000000 in
theorem case_after {p : Program} {l : Launch} {e : Env} {s : State} {m : MethodId} {below : List Frame} {meth : Method} {c : Code} {H : Heap} {locs : List Loc} {cells slots : Nat} {Q : State → Prop} {ls : Array Slot} {D : va_G} {A : Nat → Prop} {ox oy : Nat} {hx1 hy1 : Nat → Nat} {cx cy : Nat → ClassId} {σ τ : St} {b L i : Nat} {xs : Nat → Int32} {args : Array Value} {N : Nat} (F : LF p s m c args A b L xs cells slots) (hi : i + 5 ≤ L) (hN : N + 40 < 2 ^ 30) (hR : Rel N σ τ) (G : WL D s A ox hx1 cx σ oy hy1 cy τ H locs) (hl : lv_has ls 4 [(3, .int (nI i)), (0, .ref b), (1, .ref ox), (2, .ref oy)]) (K : ∀ (M : Nat) (σ τ : St) (H : Heap) (locs : List Loc), M ≤ N + 40 → Rel M σ τ → WL D s A ox hx1 cx σ oy hy1 cy τ H locs → W p l e room_1 s m args below meth c H locs cells slots Q (F0 m 611 ls [])) : W p l e room_1 s m args below meth c H locs cells slots Q (F0 m 575 ls []) := by
  obtain ⟨hx, hb, hml, hown, hts, hX, hbl, hbA, hL, hce, hsl⟩ := F
  refine lv_aload_n hx hb dL_law_575 rfl (lv_at hl 2 rfl) ?_
  refine lv_aload_n hx hb dL_law_576 rfl (lv_at hl 1 rfl) ?_
  refine lv_iload_n hx hb dL_law_577 rfl (lv_at hl 0 rfl) ?_
  refine lv_iconst (v := 1) hx hb dL_law_578 (by decide) ?_
  refine lv_iadd hx hb dL_law_579 ?_
  refine lv_ren (nI_add i 1) ?_
  refine sld hx hb hX hbl hbA G (by omega) (i + 1) (by omega) dL_law_580 ?_
  refine callL0 (res := (afterX σ (xs (i + 1)), σ)) (av := [.int (xs (i + 1))]) (rest := []) hx hb hml hts hown (c0_after l σ (xs (i + 1))) (cwL0_after hts ⟨Nat.le_of_ble_eq_true rfl, Nat.le_of_ble_eq_true rfl⟩) G rfl hl.1 rfl (Nat.le_of_ble_eq_true rfl) dL_law_581 ⟨hce, hsl⟩ (fun H locs G => ?_)
  refine lv_aload_n hx hb dL_law_584 rfl (lv_at hl 3 rfl) ?_
  refine lv_aload_n hx hb dL_law_585 rfl (lv_at hl 1 rfl) ?_
  refine lv_iload_n hx hb dL_law_586 rfl (lv_at hl 0 rfl) ?_
  refine lv_iconst (v := 1) hx hb dL_law_587 (by decide) ?_
  refine lv_iadd hx hb dL_law_588 ?_
  refine lv_ren (nI_add i 1) ?_
  refine sld hx hb hX hbl hbA G (by omega) (i + 1) (by omega) dL_law_589 ?_
  refine callL1 (res := (afterM τ (xs (i + 1)), τ)) (av := [.int (xs (i + 1))]) (rest := [.int (afterX σ (xs (i + 1)))]) hx hb hml hts hown (c1_after l τ (xs (i + 1))) (cwL1_after hts ⟨Nat.le_of_ble_eq_true rfl, Nat.le_of_ble_eq_true rfl⟩) G rfl hl.1 rfl (Nat.le_of_ble_eq_true rfl) dL_law_590 ⟨hce, hsl⟩ (fun H locs G => ?_)
  have e := rel_after (by omega) hR (xs (i + 1))
  refine lv_icmp_eq (tgt := 611) hx hb dL_law_593 (by decide) (fun _ => ?_) (fun q => absurd e q)
  exact K N _ _ H locs (by omega) hR G
set_option maxHeartbeats 2000000 in
theorem case_watched {p : Program} {l : Launch} {e : Env} {s : State} {m : MethodId} {below : List Frame} {meth : Method} {c : Code} {H : Heap} {locs : List Loc} {cells slots : Nat} {Q : State → Prop} {ls : Array Slot} {D : va_G} {A : Nat → Prop} {ox oy : Nat} {hx1 hy1 : Nat → Nat} {cx cy : Nat → ClassId} {σ τ : St} {b L i : Nat} {xs : Nat → Int32} {args : Array Value} {N : Nat} (F : LF p s m c args A b L xs cells slots) (hi : i + 5 ≤ L) (hN : N + 40 < 2 ^ 30) (hR : Rel N σ τ) (G : WL D s A ox hx1 cx σ oy hy1 cy τ H locs) (hl : lv_has ls 4 [(3, .int (nI i)), (0, .ref b), (1, .ref ox), (2, .ref oy)]) (K : ∀ (M : Nat) (σ τ : St) (H : Heap) (locs : List Loc), M ≤ N + 40 → Rel M σ τ → WL D s A ox hx1 cx σ oy hy1 cy τ H locs → W p l e room_1 s m args below meth c H locs cells slots Q (F0 m 611 ls [])) : W p l e room_1 s m args below meth c H locs cells slots Q (F0 m 598 ls []) := by
  obtain ⟨hx, hb, hml, hown, hts, hX, hbl, hbA, hL, hce, hsl⟩ := F
  refine lv_aload_n hx hb dL_law_598 rfl (lv_at hl 2 rfl) ?_
  refine callL0 (res := (watchedX σ, σ)) (av := []) (rest := []) hx hb hml hts hown (c0_watched l σ ) (cwL0_watched hts ⟨Nat.le_of_ble_eq_true rfl, Nat.le_of_ble_eq_true rfl⟩) G rfl hl.1 rfl (Nat.le_of_ble_eq_true rfl) dL_law_599 ⟨hce, hsl⟩ (fun H locs G => ?_)
  refine lv_aload_n hx hb dL_law_602 rfl (lv_at hl 3 rfl) ?_
  refine callL1 (res := (watchedM τ, τ)) (av := []) (rest := [.int (watchedX σ)]) hx hb hml hts hown (c1_watched l τ ) (cwL1_watched hts ⟨Nat.le_of_ble_eq_true rfl, Nat.le_of_ble_eq_true rfl⟩) G rfl hl.1 rfl (Nat.le_of_ble_eq_true rfl) dL_law_603 ⟨hce, hsl⟩ (fun H locs G => ?_)
  have e := rel_watched hR
  refine lv_icmp_eq (tgt := 611) hx hb dL_law_606 (by decide) (fun _ => ?_) (fun q => absurd e q)
  exact K N _ _ H locs (by omega) hR G
theorem le5 {L i : Nat} (hL : L ≤ 320) (hi : i ≤ 320) : (nI L - 5 < nI i → ¬ i + 5 ≤ L) ∧ (¬ nI L - 5 < nI i → i + 5 ≤ L) := by
  rw [Int32.lt_iff_toInt_lt, show (5 : Int32) = nI 5 from rfl, pk_sub_toInt (by omega) (by omega), nI_toInt (by omega)]
  omega
set_option maxHeartbeats 4000000 in
/-- the law's loop at its head, j calls behind it -/
theorem law_loop {p : Program} {l : Launch} {e : Env} {s : State} {m : MethodId} {below : List Frame} {meth : Method} {c : Code} {cells slots : Nat} {Q : State → Prop} {D : va_G} {A : Nat → Prop} {ox oy : Nat} {hx1 hy1 : Nat → Nat} {cx cy : Nat → ClassId} {b L : Nat} {xs : Nat → Int32} {args : Array Value} (F : LF p s m c args A b L xs cells slots) (K : ∀ (σ τ : St) (H : Heap) (locs : List Loc) (ls : Array Slot), WL D s A ox hx1 cx σ oy hy1 cy τ H locs → W p l e room_1 s m args below meth c H locs cells slots Q (F0 m 617 ls [])) :
    ∀ (n j N : Nat) (σ τ : St) (H : Heap) (locs : List Loc) (ls : Array Slot), j + n = 65 → N ≤ 40 * j → Rel N σ τ → WL D s A ox hx1 cx σ oy hy1 cy τ H locs → lv_has ls 4 [(3, .int (nI (5 * j))), (0, .ref b), (1, .ref ox), (2, .ref oy)] → (5 * j ≤ L + 4) → W p l e room_1 s m args below meth c H locs cells slots Q (F0 m 18 ls []) := by
  have F1 := F
  obtain ⟨hx, hb, hml, hown, hts, hX, hbl, hbA, hL, hce, hsl⟩ := F1
  intro n
  induction n with
  | zero =>
    intro j N σ τ H locs ls hj hN hR G hl h5
    exact absurd h5 (by omega)
  | succ n ih =>
    intro j N σ τ H locs ls hj hN hR G hl h5
    refine lv_iload_n hx hb dL_law_18 rfl (lv_at hl 0 rfl) ?_
    refine lv_aload_n hx hb dL_law_19 rfl (lv_at hl 1 rfl) ?_
    refine va_slen hx hb hX hbl hbA G.2.2.2.1 dL_law_20 ?_
    refine lv_iconst (v := 5) hx hb dL_law_21 (by decide) ?_
    refine lv_isub hx hb dL_law_22 ?_
    refine lv_icmp_gt (tgt := 617) hx hb dL_law_23 (by decide) (fun c_23 => ?_) (fun c_23 => ?_)
    · exact K σ τ H locs ls G
    · have hi : 5 * j + 5 ≤ L := (le5 hL (by omega)).2 c_23
      have hN2 : N + 40 < 2 ^ 30 := by omega
      have K2 : ∀ (M : Nat) (σ τ : St) (H : Heap) (locs : List Loc), M ≤ N + 40 → Rel M σ τ → WL D s A ox hx1 cx σ oy hy1 cy τ H locs → W p l e room_1 s m args below meth c H locs cells slots Q (F0 m 611 ls []) := by
        intro M σ τ H locs hM hR G
        refine lv_iinc (v := nI (5 * j + 5)) (lv' := [(3, .int (nI (5 * j + 5))), (0, .ref b), (1, .ref ox), (2, .ref oy)]) hx hb dL_law_611 hl (k := 0) rfl (nI_add (5 * j) 5) (by decide) rfl (fun ls hl => ?_)
        refine lv_goto (tgt := 18) hx hb dL_law_614 (by decide) ?_
        exact ih (j + 1) M σ τ H locs ls (by omega) (by omega) hR G hl (by omega)
      refine lv_aload_n hx hb dL_law_26 rfl (lv_at hl 1 rfl) ?_
      refine lv_iload_n hx hb dL_law_27 rfl (lv_at hl 0 rfl) ?_
      refine sld hx hb hX hbl hbA G (by omega) (5 * j) (by omega) dL_law_28 ?_
      refine lv_bipush (v := 31) hx hb dL_law_29 (by decide) ?_
      refine lv_iand hx hb dL_law_31 ?_
      obtain ⟨k, hk, ek⟩ := pk_andE (xs (5 * j)) (m := 31) 5 (by decide)
      refine lv_ren ek ?_
      rcases (show k = 0 ∨ k = 1 ∨ k = 2 ∨ k = 3 ∨ k = 4 ∨ k = 5 ∨ k = 6 ∨ k = 7 ∨ k = 8 ∨ k = 9 ∨ k = 10 ∨ k = 11 ∨ k = 12 ∨ k = 13 ∨ k = 14 ∨ k = 15 ∨ k = 16 ∨ k = 17 ∨ k = 18 ∨ 19 ≤ k by omega) with ek0 | ek1 | ek2 | ek3 | ek4 | ek5 | ek6 | ek7 | ek8 | ek9 | ek10 | ek11 | ek12 | ek13 | ek14 | ek15 | ek16 | ek17 | ek18 | ek19
      · subst ek0
        refine lv_tableIn (off := 92) (tgt := 124) hx hb dL_law_32 (by decide) (by decide) (by decide +kernel) (by decide) ?_
        exact case_set F hi hN2 hR G hl K2
      · subst ek1
        refine lv_tableIn (off := 145) (tgt := 177) hx hb dL_law_32 (by decide) (by decide) (by decide +kernel) (by decide) ?_
        exact case_clear F hi hN2 hR G hl K2
      · subst ek2
        refine lv_tableIn (off := 168) (tgt := 200) hx hb dL_law_32 (by decide) (by decide) (by decide +kernel) (by decide) ?_
        exact case_pause F hi hN2 hR G hl K2
      · subst ek3
        refine lv_tableIn (off := 201) (tgt := 233) hx hb dL_law_32 (by decide) (by decide) (by decide +kernel) (by decide) ?_
        exact case_skip F hi hN2 hR G hl K2
      · subst ek4
        refine lv_tableIn (off := 234) (tgt := 266) hx hb dL_law_32 (by decide) (by decide) (by decide +kernel) (by decide) ?_
        exact case_load F hi hN2 hR G hl K2
      · subst ek5
        refine lv_tableIn (off := 267) (tgt := 299) hx hb dL_law_32 (by decide) (by decide) (by decide +kernel) (by decide) ?_
        exact case_store F hi hN2 hR G hl K2
      · subst ek6
        refine lv_tableIn (off := 310) (tgt := 342) hx hb dL_law_32 (by decide) (by decide) (by decide +kernel) (by decide) ?_
        exact case_sweep F hi hN2 hR G hl K2
      · subst ek7
        refine lv_tableIn (off := 343) (tgt := 375) hx hb dL_law_32 (by decide) (by decide) (by decide +kernel) (by decide) ?_
        exact case_peek F hi hN2 hR G hl K2
      · subst ek8
        refine lv_tableIn (off := 366) (tgt := 398) hx hb dL_law_32 (by decide) (by decide) (by decide +kernel) (by decide) ?_
        exact case_hits F hi hN2 hR G hl K2
      · subst ek9
        refine lv_tableIn (off := 389) (tgt := 421) hx hb dL_law_32 (by decide) (by decide) (by decide +kernel) (by decide) ?_
        exact case_skips F hi hN2 hR G hl K2
      · subst ek10
        refine lv_tableIn (off := 412) (tgt := 444) hx hb dL_law_32 (by decide) (by decide) (by decide +kernel) (by decide) ?_
        exact case_stops F hi hN2 hR G hl K2
      · subst ek11
        refine lv_tableIn (off := 425) (tgt := 457) hx hb dL_law_32 (by decide) (by decide) (by decide +kernel) (by decide) ?_
        exact case_accesses F hi hN2 hR G hl K2
      · subst ek12
        refine lv_tableIn (off := 438) (tgt := 470) hx hb dL_law_32 (by decide) (by decide) (by decide +kernel) (by decide) ?_
        exact case_kept F hi hN2 hR G hl K2
      · subst ek13
        refine lv_tableIn (off := 451) (tgt := 483) hx hb dL_law_32 (by decide) (by decide) (by decide +kernel) (by decide) ?_
        exact case_stopMask F hi hN2 hR G hl K2
      · subst ek14
        refine lv_tableIn (off := 474) (tgt := 506) hx hb dL_law_32 (by decide) (by decide) (by decide +kernel) (by decide) ?_
        exact case_stopAddress F hi hN2 hR G hl K2
      · subst ek15
        refine lv_tableIn (off := 497) (tgt := 529) hx hb dL_law_32 (by decide) (by decide) (by decide +kernel) (by decide) ?_
        exact case_stopNumber F hi hN2 hR G hl K2
      · subst ek16
        refine lv_tableIn (off := 520) (tgt := 552) hx hb dL_law_32 (by decide) (by decide) (by decide +kernel) (by decide) ?_
        exact case_before F hi hN2 hR G hl K2
      · subst ek17
        refine lv_tableIn (off := 543) (tgt := 575) hx hb dL_law_32 (by decide) (by decide) (by decide +kernel) (by decide) ?_
        exact case_after F hi hN2 hR G hl K2
      · subst ek18
        refine lv_tableIn (off := 566) (tgt := 598) hx hb dL_law_32 (by decide) (by decide) (by decide +kernel) (by decide) ?_
        exact case_watched F hi hN2 hR G hl K2
      · refine lv_tableOut (tgt := 611) hx hb dL_law_32 (Or.inr (by rw [nI_toInt (by omega)]; omega)) (by decide) ?_
        exact K2 N σ τ H locs (by omega) hR G
end
section
set_option maxRecDepth 100000
/-! THE CLAIM OUT OF ONE WALK OF THE LAW'S BODY. Your part is whole_start (and what it stands on); all else here is the same for every law, but numbers. -/
def R_law : String := "WatchpointUnitLaw"
def lw_P (b : Addr) (xs : List Int32) (args : Array Value) (s : State) : Prop := args = #[.ref b] ∧ s.IntsAt b xs ∧ xs.length ≤ 320 ∧ (Jvm.Cond.and given_1 narrow_1).before args s = true
def lw_Q (_ : Array Value) (s : State) (o : Outcome) (t : State) : Prop := o = .returned (some (.int 1)) ∧ Framed s o t [] 600000 7290000
def lw_Z (below : List Frame) (a : Array Value) (s : State) : State → Prop := fun t => ∃ o, t.status = .running ∧ Ended t below o ∧ lw_Q a s o t
/-- the law's own end, with 1 on the stack, nothing written that was there before, its room as the claim has it -/
theorem lw_ret {p : Program} {l : Launch} {e : Env} {s : State} {m : MethodId} {below : List Frame} {meth : Method} {c : Code} {b : Nat} (hx : p.tables.exec = Jvm.exec) (hb : c.code = code) (hr : meth.sig.returnType = ret) (hlocks : meth.locks = false) {pc : Nat} {H : Heap} {ls : Array Slot} (hdg : decode code pc = .ok (.ireturn, 1)) : W p l e room_1 s m #[Value.ref b] below meth c H [] 600000 7290000 (lw_Z below #[Value.ref b] s) (F0 m pc ls [.int 1]) := by
  intro T hT X
  obtain ⟨fs, hret, hrun, hended, hW, hframe⟩ := X.leave (v := some (.int 1)) (hlocks := hlocks) (fun h => by rw [hr] at h; cases h)
  have hmeth' : T.vm.method? m = some meth := X.method'
  refine ⟨T.setFrames fs, ?_, .returned (some (.int 1)), hrun, hended, rfl, ⟨_, rfl⟩, hW, hframe⟩
  jvm_step X.here [X.here.top, hx, hb, hdg, hmeth', hr, ret, narrow_b1]
  (try refine ⟨rfl, ?_⟩); (try refine ⟨rfl, ?_⟩)
  first | (intro acts; rw [hret _ acts rfl rfl rfl]) | rw [hret _ _ rfl rfl rfl]
  exact Steps.refl _
/-- what holds at the law's entry: the machine, the code, the tables' words (any of lw_tbl by 'hts w (by decide +kernel)'), the script of L ints xs at the cell b, what the Statement gives of the start (any of its parts by flat_of_before) -/
def lw_At (p : Program) (s : State) (m : MethodId) (meth : Method) (c : Code) (b L : Nat) (xs : Nat → Int32) : Prop :=
  p.tables.exec = Jvm.exec ∧ c.code = code ∧ meth.sig.returnType = ret ∧ c.maxLocals = 4 ∧ s.vm.findClass R_law = some m.cls ∧ (∀ w ∈ lw_tbl, w.before #[Value.ref b] s = true) ∧ va_X b L xs s s.heap ∧ b < s.heap.size ∧ meth.locks = false ∧ (Jvm.Cond.and given_1 narrow_1).before #[Value.ref b] s = true
theorem pp_left {D : va_G} {cl : List vw_C} {u v : va_W} {H : Heap} (h : va_P D cl (u ++ v) H) : va_P D cl u H := fun k q hk => h k q (by rw [List.getElem?_append_left (List.getElem?_eq_some_iff.mp hk).1]; exact hk)
theorem pp_right {D : va_G} {cl : List vw_C} {u v : va_W} {H : Heap} (h : va_P D cl (u ++ v) H) : va_P D cl v H := fun k q hk => h (u.length + k) q (by rw [List.getElem?_append_right (by omega), Nat.add_sub_cancel_left]; exact hk)
theorem dd_right {A : Nat → Prop} {u v : va_W} (h : va_D A (u ++ v)) : va_D A v := by
  have key : ∀ (k : Nat) (q : Nat × va_E), v[k]? = some q → (u ++ v)[u.length + k]? = some q := fun k q hk => by
    rw [List.getElem?_append_right (by omega), Nat.add_sub_cancel_left]
    exact hk
  refine ⟨fun i j x y hi hj hxy => ?_, fun k q hk => h.2 _ q (key k q hk)⟩
  have := h.1 _ _ x y (key i x hi) (key j y hj) hxy
  omega
theorem dd_apart {A : Nat → Prop} {u v : va_W} (h : va_D A (u ++ v)) (i j : Nat) (x y : Nat × va_E) (hi : u[i]? = some x) (hj : v[j]? = some y) : x.1 ≠ y.1 := by
  intro hxy
  have hl := (List.getElem?_eq_some_iff.mp hi).1
  have e := h.1 i (u.length + j) x y (by rw [List.getElem?_append_left hl]; exact hi) (by rw [List.getElem?_append_right (by omega), Nat.add_sub_cancel_left]; exact hj) hxy
  omega
set_option maxHeartbeats 4000000 in
theorem whole_start {p : Program} {e : Env} {s : State} {m : MethodId} {below : List Frame} {meth : Method} {c : Code} (l : Launch) {b L : Nat} {xs : Nat → Int32} (hL : L ≤ 320) (C0 : lw_At p s m meth c b L xs) : W p l e room_1 s m #[Value.ref b] below meth c s.heap [] 0 0 (lw_Z below #[Value.ref b] s) (entryFrame m ([Value.ref b] : List Value).toArray 4) := by
  obtain ⟨hx, hb, hr, hml, hown, hts0, hX, hbl, hlocks, hgv⟩ := id C0
  have hts : ∀ w ∈ lw_all, w.before #[Value.ref b] s = true := fun w h => hts0 w (lw_all_tbl h)
  have hown : s.vm.findClass "WatchpointUnitLaw" = some m.cls := hown
  have hA : ∀ q : Nat, s.heap.size ≤ q → (fun q : Nat => s.heap.size ≤ q) q := fun _ h => h
  have hbA : ¬ (fun q : Nat => s.heap.size ≤ q) b := Nat.not_le.mpr hbl
  obtain ⟨c0_, iS0, hKn0⟩ := u_known (C := RX0) (T := TX0) (N := 24) (n := 24) hts0 (fun w h => lw_all_tbl (in_X0 w h)) (hts0 _ (lw_all_tbl q24))
  obtain ⟨c1_, iS1, hKn1⟩ := u_known (C := RX1) (T := TX1) (N := 17) (n := 17) hts0 (fun w h => lw_all_tbl (in_X1 w h)) (hts0 _ (lw_all_tbl q240))
  obtain ⟨dC, dI, hKcl⟩ : ∃ (dC : Nat → ClassId) (dI : Nat → Nat → Nat), ∀ (k : Nat) (q : vw_C), vwCl[k]? = some q → u_Kn s q.1 q.2.1 q.2.2 (dC k) (dI k) := by
    refine ⟨fun k => if k = 0 then c0_ else c1_, fun k => if k = 0 then iS0 else iS1, ?_⟩
    intro k q hq
    match k, hq with
    | 0, hq => cases hq; exact hKn0
    | 1, hq => cases hq; exact hKn1
    | k + 2, hq => simp [vwCl] at hq
  have hS : va_S (fun q : Nat => s.heap.size ≤ q) s.heap s.heap [] := va_S.rf
  have hK : va_K (dC, dI) vwCl [] s := ⟨hKcl, fun k q h => by simp at h⟩
  have hP : va_P (dC, dI) vwCl [] s.heap := fun k q h => by simp at h
  have hD : va_D (fun q : Nat => s.heap.size ≤ q) [] := ⟨fun i j p q h => by simp at h, fun k q h => by simp at h⟩
  have hl := lv_entry ([.ref b]) (n := 4) (Nat.le_of_ble_eq_true rfl)
  rw [lg_entry_eq]
  generalize (lg_sl ([.ref b]) ++ List.replicate (4 - (lg_sl ([.ref b])).length) Slot.unset).toArray = ls at hl ⊢
  have hl : lv_has ls 4 [(0, .ref b)] := hl
  refine va_new (ci := 0) (fs := fs0) (C := RX0) (T := TX0) (N := 24) hx hb hts in_X0 tyX0 tyX0_ok hown (hts _ q23) (hts _ q24) (hts _ q21) hK hP hD hS hA rfl (fun j hj => match j, hj with | 0, _ => rfl | 1, _ => rfl | 2, _ => rfl | 3, _ => rfl | 4, _ => rfl | 5, _ => rfl | 6, _ => rfl | 7, _ => rfl | 8, _ => rfl | 9, _ => rfl | 10, _ => rfl | 11, _ => rfl | 12, _ => rfl | 13, _ => rfl | 14, _ => rfl | 15, _ => rfl | 16, _ => rfl | 17, _ => rfl | 18, _ => rfl | 19, _ => rfl | 20, _ => rfl | 21, _ => rfl | 22, _ => rfl | 23, _ => rfl | n + 24, hj => absurd hj (by omega)) (Nat.le_of_ble_eq_true rfl) (Nat.le_of_ble_eq_true rfl) dL_law_0 (fun ox H hP hD hS => ?_)
  have hPc : va_P (dC, dI) vwCl [(ox, .inr (0, fs0))] H := hP
  have hDc : va_D (fun q : Nat => s.heap.size ≤ q) [(ox, .inr (0, fs0))] := hD
  have hKc := hK
  refine W.widen (k := 1) (n := 24) (Nat.le_of_ble_eq_true rfl) (Nat.le_of_ble_eq_true rfl) ?_
  refine lv_dup hx hb dL_law_3 rfl ?_
  have hFc := va_free (wc := [(ox, .inr (0, fs0))]) hDc hS hA [0] rfl
  refine va_callv (va_runI (As := []) (rest := [.ref ox]) ⟨hx, hb, hml, hown, hts⟩ (c0_init l dC dI ox H.size) (cwI 0 hts (lw_meth q27) rfl rfl rfl (hts _ q21) (hts _ q25) (hts _ q26) rfl (by decide +kernel) ⟨Nat.le_of_ble_eq_true rfl, Nat.le_of_ble_eq_true rfl⟩) ⟨fun a U g mk q => by obtain ⟨q0, q1, qP, qK, qD⟩ := q; exact ⟨q0, q1, qP, va_K.moved (u := U) (U := U.calling g mk a) (Vm.Alike.refl U.vm) qK, qD⟩, fun U hU hW => ⟨rfl, by rw [hU], by rw [hU]; exact hPc, va_K.moved hW.alike hKc, hDc.weaken (fun _ _ _ _ => trivial)⟩⟩ rfl rfl hl.1 rfl (lv_room (Nat.le_of_ble_eq_true rfl)) dL_law_4 ⟨Nat.le_of_ble_eq_true rfl, Nat.le_of_ble_eq_true rfl⟩) hS (fun q _ h => hFc q h) hFc (fun u t H1 locs ht hvm hw hB hz1 hk1 hS => ?_)
  obtain ⟨hx1, cx⟩ := u
  obtain ⟨xP, hK1, hD1⟩ := hB
  rw [ht] at xP
  have xK : va_K (dC, dI) vwCl (t0 cx) s := va_K.moved hvm.symm hK1
  have xP : va_P (dC, dI) vwCl (w0 ox hx1 cx z0) H1 := xP
  have xD : va_D (fun q : Nat => s.heap.size ≤ q) (w0 ox hx1 cx z0) := hD1.weaken (fun _ q _ h => hFc q.1 h)
  clear hP hD hPc hDc hKc hFc hK1 hD1 hk1 hz1
  refine W.widen (k := 19) (n := 180) (Nat.le_of_ble_eq_true rfl) (Nat.le_of_ble_eq_true rfl) ?_
  refine lv_astore_n (lv' := [(1, .ref ox), (0, .ref b)]) hx hb dL_law_7 rfl hl (by decide) rfl (fun ls hl => ?_)
  refine va_new (ci := 1) (fs := fs1) (C := RX1) (T := TX1) (N := 17) hx hb hts in_X1 tyX1 tyX1_ok hown (hts _ q239) (hts _ q240) (hts _ q22) xK xP xD hS hA rfl (fun j hj => match j, hj with | 0, _ => rfl | 1, _ => rfl | 2, _ => rfl | 3, _ => rfl | 4, _ => rfl | 5, _ => rfl | 6, _ => rfl | 7, _ => rfl | 8, _ => rfl | 9, _ => rfl | 10, _ => rfl | 11, _ => rfl | 12, _ => rfl | 13, _ => rfl | 14, _ => rfl | 15, _ => rfl | 16, _ => rfl | n + 17, hj => absurd hj (by omega)) (Nat.le_of_ble_eq_true rfl) (Nat.le_of_ble_eq_true rfl) dL_law_8 (fun oy H2 hP hD hS => ?_)
  have hPc : va_P (dC, dI) vwCl [(oy, .inr (1, fs1))] H2 := pp_right hP
  have hDc : va_D (fun q : Nat => s.heap.size ≤ q) [(oy, .inr (1, fs1))] := dd_right hD
  have xP2 : va_P (dC, dI) vwCl (w0 ox hx1 cx z0) H2 := pp_left hP
  have ap := dd_apart hD
  have hKc := hK
  refine W.widen (k := 20) (n := 197) (Nat.le_of_ble_eq_true rfl) (Nat.le_of_ble_eq_true rfl) ?_
  refine lv_dup hx hb dL_law_11 rfl ?_
  have hFc := va_free (wc := [(oy, .inr (1, fs1))]) hDc hS hA [0] rfl
  refine va_callv (va_runI (As := []) (rest := [.ref oy]) ⟨hx, hb, hml, hown, hts⟩ (c1_init l dC dI oy H2.size) (cwI 0 hts (lw_meth q243) rfl rfl rfl (hts _ q22) (hts _ q241) (hts _ q242) rfl (by decide +kernel) ⟨Nat.le_of_ble_eq_true rfl, Nat.le_of_ble_eq_true rfl⟩) ⟨fun a U g mk q => by obtain ⟨q0, q1, qP, qK, qD⟩ := q; exact ⟨q0, q1, qP, va_K.moved (u := U) (U := U.calling g mk a) (Vm.Alike.refl U.vm) qK, qD⟩, fun U hU hW => ⟨rfl, by rw [hU], by rw [hU]; exact hPc, va_K.moved hW.alike hKc, hDc.weaken (fun _ _ _ _ => trivial)⟩⟩ rfl rfl hl.1 rfl (lv_room (Nat.le_of_ble_eq_true rfl)) dL_law_12 ⟨Nat.le_of_ble_eq_true rfl, Nat.le_of_ble_eq_true rfl⟩) hS (fun q _ h => hFc q h) hFc (fun u t H3 locs ht hvm hw hB hz1 hk1 hS => ?_)
  obtain ⟨hy1, cy⟩ := u
  obtain ⟨yP, hK1, hD1⟩ := hB
  rw [ht] at yP
  have yK : va_K (dC, dI) vwCl (t1 cy) s := va_K.moved hvm.symm hK1
  have yP : va_P (dC, dI) vwCl (w1 oy hy1 cy z0) H3 := yP
  have yD : va_D (fun q : Nat => s.heap.size ≤ q) (w1 oy hy1 cy z0) := hD1.weaken (fun _ q _ h => hFc q.1 h)
  have far : ∀ (j : Nat) (x : Nat × va_E), (w0 ox hx1 cx z0)[j]? = some x → ¬ va_A [(oy, .inr (1, fs1))] H2.size x.1 := fun j x hj h => by
    rcases h with ⟨k, e, h⟩ | h
    · exact ap j k x _ hj h rfl
    · exact absurd (xP2 j x hj).lt (Nat.not_lt.mpr h)
  have xP3 : va_P (dC, dI) vwCl (w0 ox hx1 cx z0) H3 := xP2.kept (fun j x hj => hk1 x.1 (xP2 j x hj).lt (far j x hj))
  have G : WL (dC, dI) s (fun q : Nat => s.heap.size ≤ q) ox hx1 cx z0 oy hy1 cy z0 H3 locs := ⟨⟨xK, xP3, xD⟩, ⟨yK, yP, yD⟩, fun i j x y hi hj hxy => far i x hi (by rw [hxy]; exact hD1.2 j y hj), hS, hA⟩
  refine W.widen (k := 34) (n := 373) (Nat.le_of_ble_eq_true rfl) (Nat.le_of_ble_eq_true rfl) ?_
  refine lv_astore_n (lv' := [(2, .ref oy), (1, .ref ox), (0, .ref b)]) hx hb dL_law_15 rfl hl (by decide) rfl (fun ls hl => ?_)
  refine lv_iconst (v := 0) hx hb dL_law_16 (by decide) ?_
  refine lv_istore_n (lv' := [(3, .int 0), (2, .ref oy), (1, .ref ox), (0, .ref b)]) hx hb dL_law_17 rfl hl (by decide) rfl (fun ls hl => ?_)
  refine law_loop ⟨hx, hb, hml, hown, hts, hX, hbl, hbA, hL, by omega, by omega⟩ (fun σ τ H locs ls G => ?_) 65 0 0 z0 z0 H3 locs ls (by omega) (by omega) (rel_0 (fun _ _ => rfl) (fun _ _ => rfl) (fun _ _ => rfl) (fun _ => rfl)) G (lv_sub hl [0, 3, 2, 1] rfl) (by omega)
  refine lv_iconst (v := 1) hx hb dL_law_617 (by decide) ?_
  refine va_forget (fun q hq => G.2.2.2.1.2.2 q hq) ?_
  refine W.widen (k := 600000) (n := 7290000) (by omega) (by omega) ?_
  exact lw_ret hx hb hr hlocks dL_law_618
set_option maxHeartbeats 4000000 in
theorem lw_walk (l : Launch) (b : Addr) (xs : List Int32) : MetFree l x (headSpec (Jvm.Cond.code x code maxLocals ret :: tables_1) room_1) (lw_P b xs) (fun _ _ _ _ _ => True) lw_Q := by
  refine MetFree.of_bodyS (code := code) (maxLocals := maxLocals) (ret := ret) (by decide) ?_ ?_
  · intro args s m h hn
    obtain ⟨meth, c, h1, h2, h3, h4, h5, h6, -, -⟩ := Cond.code_spec hn (atoms_spec (ws := Jvm.Cond.code x code maxLocals ret :: tables_1) h _ List.mem_cons_self)
    exact ⟨meth, c, h1, h2, h3, h4, h5, h6⟩
  · intro p e s m args below meth c s₁ B hml0 hP _
    obtain ⟨rfl, hx, hbd, hgv⟩ := hP
    obtain ⟨scr, harrAt, hlist, hof, hsmall⟩ := hx
    obtain ⟨hcb, hkn, -, -⟩ := State.arrayAt?_spec harrAt
    have hown : s.vm.findClass R_law = some m.cls := findClass_of_methodNamed B.named
    have hts0 : ∀ c ∈ (Jvm.Cond.code x code maxLocals ret :: tables_1), c.before #[Value.ref b] s = true := atoms_spec (ws := Jvm.Cond.code x code maxLocals ret :: tables_1) B.pre
    have hts : ∀ w ∈ lw_tbl, w.before #[Value.ref b] s = true := k2_hts_sels lw_privs (fun w hw => hts0 w (List.mem_cons_of_mem _ hw)) lw_privs_ok
    have hml : c.maxLocals = 4 := B.maxLocals_eq (hts0 _ List.mem_cons_self)
    have X₀ : Stand p l e room_1 s m #[Value.ref b] below meth c s₁ [] 0 0 := Stand.of_body B
    have hh0 : s₁.heap = s.heap := by rw [B.state]; rfl
    have hsz : scr.slots.size = xs.length := by rw [← Array.length_toList, hlist, List.length_map]
    have hval : ∀ j : Nat, j < xs.length → scr.slots[j]? = some (.int (xs.getD j 0)) := fun j hj => by
      rw [← Array.getElem?_toList, hlist]
      simp [hj]
    have hbl : b < s.heap.size := (Array.getElem?_eq_some_iff.mp hcb).1
    have hX : va_X b xs.length (fun j => xs.getD j 0) s s.heap := ⟨scr, hcb, hof, hkn, hsz, hval⟩
    have K : W p l e room_1 s m #[Value.ref b] below meth c s₁.heap [] 0 0 (lw_Z below #[Value.ref b] s) (entryFrame m ([Value.ref b] : List Value).toArray 4) := by
      rw [hh0]
      exact whole_start l hbd ⟨B.exec, B.bytes, B.returns, hml, hown, hts, hX, hbl, B.notSynchronized, hgv⟩
    obtain ⟨t, a1, o, b1, b2, b3⟩ := K s₁ rfl X₀
    exact ⟨t, o, a1, b1, b2, b3⟩
theorem lw_pre_spec {args : Array Value} {s : State} (h : (Jvm.Cond.and given_1 narrow_1).before args s = true) (hr : rest_1_c.before args s = true) : ∃ (b : Addr) (xs : List Int32), lw_P b xs args s := by
  have hs := flat_of_before _ h
  have hq := flat_of_before _ hr
  have hc : (Cond.count 1).before args s = true := hs _ (by decide +kernel)
  have harr : (Cond.arrayOf (.arg 0) .int).before args s = true := hs _ (by decide +kernel)
  have hle : (Cond.le (.length (.arg 0)) (.int 320)).before args s = true := hs _ (by decide +kernel)
  have hlen : (Cond.isInt (.length (.arg 0))).before args s = true := hq _ (by decide +kernel)
  have hall : (Cond.all (.arg 0) (.isInt (.elem (.arg 0) (.index 0)))).before args s = true := hq _ (by decide +kernel)
  obtain ⟨b, xs, hb, hx⟩ := State.ints_of_pre rfl harr hlen hall
  have hsm : xs.length < 2 ^ 31 := hx.choose_spec.2.2.2
  have hev : (Term.length (.arg 0)).eval args s none [] s = some (.int xs.length.toInt32) := hx.length_eval hb
  have hv := Cond.le_ints hev (show (Term.int 320).eval args s none [] s = some (.int 320) from rfl)
  have hd : xs.length.toInt32 ≤ 320 := by
    simpa [Cond.before, Cond.holds, hv] using hle
  have hN : xs.length ≤ 320 := (Int32.ofNat_le_ofNat hsm (by decide)).mp (show Int32.ofNat xs.length ≤ Int32.ofNat 320 from hd)
  exact ⟨b, xs, Cond.one_arg hc (show args[0]? = some (.ref b) from hb), hx, hN, h⟩
theorem lw_comes (l : Launch) : Comes l x (Jvm.Cond.code x code maxLocals ret :: tables_1) room_1 (fun tb e args s => Calls_1 tb e args s ∧ rest_1 tb e args s ∧ Pre_1 tb e args s)
    (fun _ _ args s o t => lw_Q args s o t) := by
  intro p e ha hc hk s m args below hf hfit hheap happ hpre
  obtain ⟨b, xs, hP⟩ := lw_pre_spec hpre.2.2 hpre.2.1
  obtain ⟨k, o, h1, h2, h3, hQ⟩ := lw_walk l b xs p e ha hc hk s m args below hf ((Spec.applies_iff_loose hf).mp happ).1 hP trivial
  exact ⟨k, o, h1, h2, h3, hQ⟩
theorem lw_frame {s t : State} {o : Outcome} {args : Array Value} (h : Framed s o t [] 600000 7290000) :
    Framed s o t (fieldLocs frame_1_writes args s ++ arrayLocs frame_1_arrays args s ++ staticLocs frame_1_statics s) 600000 7290000 := h
theorem lw_limb (L : Cond) (hL : ∀ (args : Array Value) (s t : State), L.after args s (.returned (some (.int 1))) t = true) :
    ArmFor flags0 classFile x code maxLocals ret World_1 tables_1 room_1 Calls_1 rest_1 Pre_1
      (fun tb e a s o t => postC L tb e a s o t ∧ Framed s o t (fieldLocs frame_1_writes a s ++ arrayLocs frame_1_arrays a s ++ staticLocs frame_1_statics s) 600000 7290000) := by
  intro l _ _ _ p e ha hc hk s m args below hf hfit hheap happ hpre
  obtain ⟨k, o, h1, h2, h3, rfl, hF⟩ := lw_comes l p e ha hc hk s m args below hf hfit hheap happ hpre
  exact ⟨k, _, h1, h2, h3, hL args s _, lw_frame hF⟩
theorem i_vc : Claimed_1_1 ∧ Claimed_1_2 := ⟨lw_limb limb_1_1 (fun args s t => by simp [limb_1_1, Cond.after, Cond.holds, Cond.value]), lw_limb limb_1_2 (fun args s t => Cond.after_iff.mpr (by
  first | (rw [show limb_1_2 = Cond.eq .result (.int 1) from rfl, Cond.eq_ints (x := 1) (y := 1) rfl rfl]; simp; done) | (simp [limb_1_2, Cond.value, Term.eval]; done)))⟩
end
