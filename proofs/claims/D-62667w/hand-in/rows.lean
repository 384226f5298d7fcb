section
-- ===== PART A: goes FIRST, ahead of the names: the tables' words, and 'selects' of the private methods out of them =====
/-- a private method of a class that the tables say can be made, by its rows of tables_1 -/
def lw_okq (q : MethodName × Nat) : Prop := (q.1.cls ≠ "java/lang/invoke/MethodHandle" ∧ q.1.cls ≠ "java/lang/invoke/VarHandle") ∧ Cond.instantiable q.1.cls q.2 ∈ tables_1 ∧ Cond.privateMethod q.1 ∈ tables_1 ∧ Cond.instanceMethod q.1 ∈ tables_1
set_option maxRecDepth 100000
theorem lw_t1 {w : Cond} (h : w ∈ tables_1_1) : w ∈ tables_1 := List.mem_append_left _ h
theorem lw_t2 {w : Cond} (h : w ∈ tables_1_2) : w ∈ tables_1 := List.mem_append_right _ h
theorem lw_p0 : lw_okq (⟨"BeltLanes", "hasRoom", "(I)Z"⟩, 14) := ⟨⟨by decide +kernel, by decide +kernel⟩, lw_t1 (List.mem_of_getElem? (i := 4) rfl), lw_t1 (List.mem_of_getElem? (i := 64) rfl), lw_t1 (List.mem_of_getElem? (i := 65) rfl)⟩
theorem lw_p1 : lw_okq (⟨"BeltLanes", "lastPlace", "(I)I"⟩, 14) := ⟨⟨by decide +kernel, by decide +kernel⟩, lw_t1 (List.mem_of_getElem? (i := 4) rfl), lw_t1 (List.mem_of_getElem? (i := 68) rfl), lw_t1 (List.mem_of_getElem? (i := 69) rfl)⟩
theorem lw_p2 : lw_okq (⟨"BeltLanes", "append", "(II)V"⟩, 14) := ⟨⟨by decide +kernel, by decide +kernel⟩, lw_t1 (List.mem_of_getElem? (i := 4) rfl), lw_t1 (List.mem_of_getElem? (i := 72) rfl), lw_t1 (List.mem_of_getElem? (i := 73) rfl)⟩
theorem lw_p3 : lw_okq (⟨"BeltLanes", "slot", "(II)I"⟩, 14) := ⟨⟨by decide +kernel, by decide +kernel⟩, lw_t1 (List.mem_of_getElem? (i := 4) rfl), lw_t1 (List.mem_of_getElem? (i := 76) rfl), lw_t1 (List.mem_of_getElem? (i := 77) rfl)⟩
theorem lw_p4 : lw_okq (⟨"BeltLanes", "atEnd", "(I)Z"⟩, 14) := ⟨⟨by decide +kernel, by decide +kernel⟩, lw_t1 (List.mem_of_getElem? (i := 4) rfl), lw_t1 (List.mem_of_getElem? (i := 84) rfl), lw_t1 (List.mem_of_getElem? (i := 85) rfl)⟩
theorem lw_p5 : lw_okq (⟨"BeltLanes", "removeItem", "(II)I"⟩, 14) := ⟨⟨by decide +kernel, by decide +kernel⟩, lw_t1 (List.mem_of_getElem? (i := 4) rfl), lw_t1 (List.mem_of_getElem? (i := 88) rfl), lw_t1 (List.mem_of_getElem? (i := 89) rfl)⟩
theorem lw_p6 : lw_okq (⟨"BeltLanes", "closeUp", "(II)V"⟩, 14) := ⟨⟨by decide +kernel, by decide +kernel⟩, lw_t1 (List.mem_of_getElem? (i := 4) rfl), lw_t1 (List.mem_of_getElem? (i := 92) rfl), lw_t1 (List.mem_of_getElem? (i := 93) rfl)⟩
theorem lw_p7 : lw_okq (⟨"BeltLanes", "tickOnce", "()V"⟩, 14) := ⟨⟨by decide +kernel, by decide +kernel⟩, lw_t1 (List.mem_of_getElem? (i := 4) rfl), lw_t1 (List.mem_of_getElem? (i := 108) rfl), lw_t1 (List.mem_of_getElem? (i := 109) rfl)⟩
theorem lw_p8 : lw_okq (⟨"BeltLanes", "passOn", "(I)V"⟩, 14) := ⟨⟨by decide +kernel, by decide +kernel⟩, lw_t1 (List.mem_of_getElem? (i := 4) rfl), lw_t1 (List.mem_of_getElem? (i := 112) rfl), lw_t1 (List.mem_of_getElem? (i := 113) rfl)⟩
theorem lw_p9 : lw_okq (⟨"BeltLanes", "advance", "(I)V"⟩, 14) := ⟨⟨by decide +kernel, by decide +kernel⟩, lw_t1 (List.mem_of_getElem? (i := 4) rfl), lw_t1 (List.mem_of_getElem? (i := 116) rfl), lw_t1 (List.mem_of_getElem? (i := 117) rfl)⟩
theorem lw_p10 : lw_okq (⟨"BeltLanes", "firstOpen", "(I)I"⟩, 14) := ⟨⟨by decide +kernel, by decide +kernel⟩, lw_t1 (List.mem_of_getElem? (i := 4) rfl), lw_t1 (List.mem_of_getElem? (i := 120) rfl), lw_t1 (List.mem_of_getElem? (i := 121) rfl)⟩
theorem lw_p11 : lw_okq (⟨"BeltLanes", "moveArm", "(I)V"⟩, 14) := ⟨⟨by decide +kernel, by decide +kernel⟩, lw_t1 (List.mem_of_getElem? (i := 4) rfl), lw_t1 (List.mem_of_getElem? (i := 124) rfl), lw_t1 (List.mem_of_getElem? (i := 125) rfl)⟩
theorem lw_p12 : lw_okq (⟨"BeltLanes", "withinReach", "(I)I"⟩, 14) := ⟨⟨by decide +kernel, by decide +kernel⟩, lw_t1 (List.mem_of_getElem? (i := 4) rfl), lw_t1 (List.mem_of_getElem? (i := 128) rfl), lw_t1 (List.mem_of_getElem? (i := 129) rfl)⟩
theorem lw_p13 : lw_okq (⟨"BeltLanes", "placeOf", "(II)I"⟩, 14) := ⟨⟨by decide +kernel, by decide +kernel⟩, lw_t1 (List.mem_of_getElem? (i := 4) rfl), lw_t1 (List.mem_of_getElem? (i := 140) rfl), lw_t1 (List.mem_of_getElem? (i := 141) rfl)⟩
theorem lw_p14 : lw_okq (⟨"BeltLanesModel", "bad", "(I)Z"⟩, 12) := ⟨⟨by decide +kernel, by decide +kernel⟩, lw_t1 (List.mem_of_getElem? (i := 167) rfl), lw_t1 (List.mem_of_getElem? (i := 214) rfl), lw_t1 (List.mem_of_getElem? (i := 215) rfl)⟩
theorem lw_p15 : lw_okq (⟨"BeltLanesModel", "start", "(II)V"⟩, 12) := ⟨⟨by decide +kernel, by decide +kernel⟩, lw_t1 (List.mem_of_getElem? (i := 167) rfl), lw_t1 (List.mem_of_getElem? (i := 222) rfl), lw_t1 (List.mem_of_getElem? (i := 223) rfl)⟩
def lw_privs_1 : List (MethodName × Nat) := [(⟨"BeltLanes", "hasRoom", "(I)Z"⟩, 14), (⟨"BeltLanes", "lastPlace", "(I)I"⟩, 14), (⟨"BeltLanes", "append", "(II)V"⟩, 14), (⟨"BeltLanes", "slot", "(II)I"⟩, 14), (⟨"BeltLanes", "atEnd", "(I)Z"⟩, 14), (⟨"BeltLanes", "removeItem", "(II)I"⟩, 14), (⟨"BeltLanes", "closeUp", "(II)V"⟩, 14), (⟨"BeltLanes", "tickOnce", "()V"⟩, 14), (⟨"BeltLanes", "passOn", "(I)V"⟩, 14), (⟨"BeltLanes", "advance", "(I)V"⟩, 14), (⟨"BeltLanes", "firstOpen", "(I)I"⟩, 14), (⟨"BeltLanes", "moveArm", "(I)V"⟩, 14), (⟨"BeltLanes", "withinReach", "(I)I"⟩, 14), (⟨"BeltLanes", "placeOf", "(II)I"⟩, 14), (⟨"BeltLanesModel", "bad", "(I)Z"⟩, 12), (⟨"BeltLanesModel", "start", "(II)V"⟩, 12)]
theorem lw_r1 : ∀ q ∈ lw_privs_1, lw_okq q := List.forall_mem_cons.mpr ⟨lw_p0, List.forall_mem_cons.mpr ⟨lw_p1, List.forall_mem_cons.mpr ⟨lw_p2, List.forall_mem_cons.mpr ⟨lw_p3, List.forall_mem_cons.mpr ⟨lw_p4, List.forall_mem_cons.mpr ⟨lw_p5, List.forall_mem_cons.mpr ⟨lw_p6, List.forall_mem_cons.mpr ⟨lw_p7, List.forall_mem_cons.mpr ⟨lw_p8, List.forall_mem_cons.mpr ⟨lw_p9, List.forall_mem_cons.mpr ⟨lw_p10, List.forall_mem_cons.mpr ⟨lw_p11, List.forall_mem_cons.mpr ⟨lw_p12, List.forall_mem_cons.mpr ⟨lw_p13, List.forall_mem_cons.mpr ⟨lw_p14, List.forall_mem_cons.mpr ⟨lw_p15, fun _ h => absurd h List.not_mem_nil⟩⟩⟩⟩⟩⟩⟩⟩⟩⟩⟩⟩⟩⟩⟩⟩
theorem lw_p16 : lw_okq (⟨"BeltLanesModel", "off", "(II)I"⟩, 12) := ⟨⟨by decide +kernel, by decide +kernel⟩, lw_t1 (List.mem_of_getElem? (i := 167) rfl), lw_t1 (List.mem_of_getElem? (i := 230) rfl), lw_t1 (List.mem_of_getElem? (i := 231) rfl)⟩
theorem lw_p17 : lw_okq (⟨"BeltLanesModel", "end", "(I)V"⟩, 12) := ⟨⟨by decide +kernel, by decide +kernel⟩, lw_t1 (List.mem_of_getElem? (i := 167) rfl), lw_t2 (List.mem_of_getElem? (i := 6) rfl), lw_t2 (List.mem_of_getElem? (i := 7) rfl)⟩
theorem lw_p18 : lw_okq (⟨"BeltLanesModel", "move", "(I)V"⟩, 12) := ⟨⟨by decide +kernel, by decide +kernel⟩, lw_t1 (List.mem_of_getElem? (i := 167) rfl), lw_t2 (List.mem_of_getElem? (i := 10) rfl), lw_t2 (List.mem_of_getElem? (i := 11) rfl)⟩
theorem lw_p19 : lw_okq (⟨"BeltLanesModel", "moves", "(II)Z"⟩, 12) := ⟨⟨by decide +kernel, by decide +kernel⟩, lw_t1 (List.mem_of_getElem? (i := 167) rfl), lw_t2 (List.mem_of_getElem? (i := 14) rfl), lw_t2 (List.mem_of_getElem? (i := 15) rfl)⟩
theorem lw_p20 : lw_okq (⟨"BeltLanesModel", "work", "(I)V"⟩, 12) := ⟨⟨by decide +kernel, by decide +kernel⟩, lw_t1 (List.mem_of_getElem? (i := 167) rfl), lw_t2 (List.mem_of_getElem? (i := 18) rfl), lw_t2 (List.mem_of_getElem? (i := 19) rfl)⟩
def lw_privs_2 : List (MethodName × Nat) := [(⟨"BeltLanesModel", "off", "(II)I"⟩, 12), (⟨"BeltLanesModel", "end", "(I)V"⟩, 12), (⟨"BeltLanesModel", "move", "(I)V"⟩, 12), (⟨"BeltLanesModel", "moves", "(II)Z"⟩, 12), (⟨"BeltLanesModel", "work", "(I)V"⟩, 12)]
theorem lw_r2 : ∀ q ∈ lw_privs_2, lw_okq q := List.forall_mem_cons.mpr ⟨lw_p16, List.forall_mem_cons.mpr ⟨lw_p17, List.forall_mem_cons.mpr ⟨lw_p18, List.forall_mem_cons.mpr ⟨lw_p19, List.forall_mem_cons.mpr ⟨lw_p20, fun _ h => absurd h List.not_mem_nil⟩⟩⟩⟩⟩
def lw_privs : List (MethodName × Nat) := lw_privs_1 ++ (lw_privs_2)
def lw_tbl : List Cond := k2_sels lw_privs ++ tables_1
theorem lw_privs_ok : ∀ q ∈ lw_privs, lw_okq q := by
  show ∀ q ∈ lw_privs_1 ++ (lw_privs_2), lw_okq q
  exact List.forall_mem_append.mpr ⟨lw_r1, lw_r2⟩
-- ===== ONE list of words for every method: the tables' words that hold all through a run =====
def lw_all : List Cond := lw_tbl.filter goodWord
/-- a word of the tables by its place: claim/WORDS.tsv -/
theorem lw_w {w : Cond} (i : Nat) (h : lw_tbl[i]? = some w) (g : goodWord w = true) : w ∈ lw_all := List.mem_filter.mpr ⟨List.mem_of_getElem? h, g⟩
theorem lw_all_tbl {w : Cond} (h : w ∈ lw_all) : w ∈ lw_tbl := (List.mem_filter.mp h).1
theorem lw_self : GoodIn lw_all lw_all := fun w h => ⟨h, good_of_word (List.mem_filter.mp h).2⟩
/-- a class's field words, by their places -/
theorem lw_in (ws : List Cond) (ps : List Nat) (hp : ws = ps.filterMap (fun i => lw_tbl[i]?)) (hg : ws.all goodWord = true) : ∀ w ∈ ws, w ∈ lw_all := by
  intro w h
  have h1 := List.all_eq_true.mp hg w h
  rw [hp] at h
  obtain ⟨i, -, hi⟩ := List.mem_filterMap.mp h
  exact lw_w i hi h1
/-- the words of a contract for the method y with code b, L locals, answer r -/
abbrev ws_ (y : MethodName) (b : ByteArray) (L : Nat) (r : Option FieldType) : List Cond := Cond.code y b L r :: lw_all
theorem lw_meth {y : MethodName} {b : ByteArray} {L : Nat} {r : Option FieldType} (h : Cond.code y b L r ∈ lw_all) : GoodIn lw_all (ws_ y b L r) := by
  intro w hw
  rcases List.mem_cons.mp hw with e | e
  · rw [e]
    exact lw_self _ h
  · exact lw_self _ e
theorem lw_app {a c : List Cond} (ha : ∀ w ∈ a, w ∈ lw_all) (hc : GoodIn lw_all c) : GoodIn lw_all (a ++ c) := by
  intro w hw
  rcases List.mem_append.mp hw with e | e
  · exact lw_self w (ha w e)
  · exact hc w e
/-- what a call through an object asks: cwV n hts (lw_V ..) -/
theorem lw_V {own : String} {idx : Nat} {C : String} {y : MethodName} {b : ByteArray} {L : Nat} {r : Option FieldType} (h1 : Cond.methodLink own idx y ∈ lw_all) (h2 : Cond.instanceMethod y ∈ lw_all) (h3 : Cond.selects C y y ∈ lw_all) (h4 : Cond.initialized C ∈ lw_all) (h5 : Cond.code y b L r ∈ lw_all) : GoodIn lw_all (wsV own idx C y (ws_ y b L r)) := by
  refine lw_app ?_ (lw_meth h5)
  intro w hw
  simp only [List.mem_cons, List.not_mem_nil, or_false] at hw
  rcases hw with e | e | e | e
  · rw [e]; exact h1
  · rw [e]; exact h2
  · rw [e]; exact h3
  · rw [e]; exact h4
/-- what a static call asks: va_cwS n hts (lw_S ..) -/
theorem lw_S {own : String} {idx : Nat} {y : MethodName} {b : ByteArray} {L : Nat} {r : Option FieldType} (h1 : Cond.methodLink own idx y ∈ lw_all) (h2 : Cond.static y ∈ lw_all) (h3 : Cond.initialized y.cls ∈ lw_all) (h4 : Cond.code y b L r ∈ lw_all) : GoodIn lw_all (va_wsS own idx y (ws_ y b L r)) := by
  refine lw_app ?_ (lw_meth h4)
  intro w hw
  simp only [List.mem_cons, List.not_mem_nil, or_false] at hw
  rcases hw with e | e | e
  · rw [e]; exact h1
  · rw [e]; exact h2
  · rw [e]; exact h3
/-- the words of a contract for a method WITH HANDLERS (hh: its table) -/
abbrev wsW_ (y : MethodName) (b : ByteArray) (L : Nat) (r : Option FieldType) (hh : List (Nat × Nat × Nat × Nat)) : List Cond := Cond.codeWith y b L r hh :: lw_all
theorem lw_methW {y : MethodName} {b : ByteArray} {L : Nat} {r : Option FieldType} {hh : List (Nat × Nat × Nat × Nat)} (h : Cond.codeWith y b L r hh ∈ lw_all) : GoodIn lw_all (wsW_ y b L r hh) := by
  intro w hw
  rcases List.mem_cons.mp hw with e | e
  · rw [e]
    exact lw_self _ h
  · exact lw_self _ e
/-- any list of words by their places (lw_in), good -/
theorem lw_good {ws : List Cond} (h : ∀ w ∈ ws, w ∈ lw_all) : GoodIn lw_all ws := fun w hw => lw_self w (h w hw)
/-- what a call of a method with handlers asks: vx_cwVW n hts (lw_VW ..), vx_cwSW n hts (lw_SW ..) -/
theorem lw_VW {own : String} {idx : Nat} {C : String} {y : MethodName} {b : ByteArray} {L : Nat} {r : Option FieldType} {hh : List (Nat × Nat × Nat × Nat)} (h1 : Cond.methodLink own idx y ∈ lw_all) (h2 : Cond.instanceMethod y ∈ lw_all) (h3 : Cond.selects C y y ∈ lw_all) (h4 : Cond.initialized C ∈ lw_all) (h5 : Cond.codeWith y b L r hh ∈ lw_all) : GoodIn lw_all (wsV own idx C y (wsW_ y b L r hh)) := by
  refine lw_app ?_ (lw_methW h5)
  intro w hw
  simp only [List.mem_cons, List.not_mem_nil, or_false] at hw
  rcases hw with e | e | e | e
  · rw [e]; exact h1
  · rw [e]; exact h2
  · rw [e]; exact h3
  · rw [e]; exact h4
theorem lw_SW {own : String} {idx : Nat} {y : MethodName} {b : ByteArray} {L : Nat} {r : Option FieldType} {hh : List (Nat × Nat × Nat × Nat)} (h1 : Cond.methodLink own idx y ∈ lw_all) (h2 : Cond.static y ∈ lw_all) (h3 : Cond.initialized y.cls ∈ lw_all) (h4 : Cond.codeWith y b L r hh ∈ lw_all) : GoodIn lw_all (va_wsS own idx y (wsW_ y b L r hh)) := by
  refine lw_app ?_ (lw_methW h4)
  intro w hw
  simp only [List.mem_cons, List.not_mem_nil, or_false] at hw
  rcases hw with e | e | e
  · rw [e]; exact h1
  · rw [e]; exact h2
  · rw [e]; exact h3
/-- a word by its place in its run of the tables -/
theorem lw_at {r : List Cond} (hr : ∀ w ∈ r, w ∈ lw_tbl) {w : Cond} (i : Nat) (h : r[i]? = some w) : w ∈ lw_tbl := hr w (List.mem_of_getElem? h)
theorem lw_g {w : Cond} (h : w ∈ lw_tbl) (g : goodWord w = true) : w ∈ lw_all := List.mem_filter.mpr ⟨h, g⟩
theorem lw_ms : ∀ w ∈ k2_sels lw_privs, w ∈ lw_tbl := fun w h => show w ∈ k2_sels lw_privs ++ tables_1 from List.mem_append_left _ h
theorem lw_m1 : ∀ w ∈ tables_1_1, w ∈ lw_tbl := fun w h => show w ∈ k2_sels lw_privs ++ tables_1 from List.mem_append_right (k2_sels lw_privs) (show w ∈ tables_1 from List.mem_append_left _ h)
theorem lw_m2 : ∀ w ∈ tables_1_2, w ∈ lw_tbl := fun w h => show w ∈ k2_sels lw_privs ++ tables_1 from List.mem_append_right (k2_sels lw_privs) (show w ∈ tables_1 from List.mem_append_right _ h)
theorem qs0 : (Cond.selects "BeltLanes" ⟨"BeltLanes", "hasRoom", "(I)Z"⟩ ⟨"BeltLanes", "hasRoom", "(I)Z"⟩) ∈ lw_all := lw_g (lw_at lw_ms 0 rfl) rfl
theorem qs1 : (Cond.selects "BeltLanes" ⟨"BeltLanes", "lastPlace", "(I)I"⟩ ⟨"BeltLanes", "lastPlace", "(I)I"⟩) ∈ lw_all := lw_g (lw_at lw_ms 1 rfl) rfl
theorem qs2 : (Cond.selects "BeltLanes" ⟨"BeltLanes", "append", "(II)V"⟩ ⟨"BeltLanes", "append", "(II)V"⟩) ∈ lw_all := lw_g (lw_at lw_ms 2 rfl) rfl
theorem qs3 : (Cond.selects "BeltLanes" ⟨"BeltLanes", "slot", "(II)I"⟩ ⟨"BeltLanes", "slot", "(II)I"⟩) ∈ lw_all := lw_g (lw_at lw_ms 3 rfl) rfl
theorem qs4 : (Cond.selects "BeltLanes" ⟨"BeltLanes", "atEnd", "(I)Z"⟩ ⟨"BeltLanes", "atEnd", "(I)Z"⟩) ∈ lw_all := lw_g (lw_at lw_ms 4 rfl) rfl
theorem qs5 : (Cond.selects "BeltLanes" ⟨"BeltLanes", "removeItem", "(II)I"⟩ ⟨"BeltLanes", "removeItem", "(II)I"⟩) ∈ lw_all := lw_g (lw_at lw_ms 5 rfl) rfl
theorem qs6 : (Cond.selects "BeltLanes" ⟨"BeltLanes", "closeUp", "(II)V"⟩ ⟨"BeltLanes", "closeUp", "(II)V"⟩) ∈ lw_all := lw_g (lw_at lw_ms 6 rfl) rfl
theorem qs7 : (Cond.selects "BeltLanes" ⟨"BeltLanes", "tickOnce", "()V"⟩ ⟨"BeltLanes", "tickOnce", "()V"⟩) ∈ lw_all := lw_g (lw_at lw_ms 7 rfl) rfl
theorem qs8 : (Cond.selects "BeltLanes" ⟨"BeltLanes", "passOn", "(I)V"⟩ ⟨"BeltLanes", "passOn", "(I)V"⟩) ∈ lw_all := lw_g (lw_at lw_ms 8 rfl) rfl
theorem qs9 : (Cond.selects "BeltLanes" ⟨"BeltLanes", "advance", "(I)V"⟩ ⟨"BeltLanes", "advance", "(I)V"⟩) ∈ lw_all := lw_g (lw_at lw_ms 9 rfl) rfl
theorem qs10 : (Cond.selects "BeltLanes" ⟨"BeltLanes", "firstOpen", "(I)I"⟩ ⟨"BeltLanes", "firstOpen", "(I)I"⟩) ∈ lw_all := lw_g (lw_at lw_ms 10 rfl) rfl
theorem qs11 : (Cond.selects "BeltLanes" ⟨"BeltLanes", "moveArm", "(I)V"⟩ ⟨"BeltLanes", "moveArm", "(I)V"⟩) ∈ lw_all := lw_g (lw_at lw_ms 11 rfl) rfl
theorem qs12 : (Cond.selects "BeltLanes" ⟨"BeltLanes", "withinReach", "(I)I"⟩ ⟨"BeltLanes", "withinReach", "(I)I"⟩) ∈ lw_all := lw_g (lw_at lw_ms 12 rfl) rfl
theorem qs13 : (Cond.selects "BeltLanes" ⟨"BeltLanes", "placeOf", "(II)I"⟩ ⟨"BeltLanes", "placeOf", "(II)I"⟩) ∈ lw_all := lw_g (lw_at lw_ms 13 rfl) rfl
theorem qs14 : (Cond.selects "BeltLanesModel" ⟨"BeltLanesModel", "bad", "(I)Z"⟩ ⟨"BeltLanesModel", "bad", "(I)Z"⟩) ∈ lw_all := lw_g (lw_at lw_ms 14 rfl) rfl
theorem qs15 : (Cond.selects "BeltLanesModel" ⟨"BeltLanesModel", "start", "(II)V"⟩ ⟨"BeltLanesModel", "start", "(II)V"⟩) ∈ lw_all := lw_g (lw_at lw_ms 15 rfl) rfl
theorem qs16 : (Cond.selects "BeltLanesModel" ⟨"BeltLanesModel", "off", "(II)I"⟩ ⟨"BeltLanesModel", "off", "(II)I"⟩) ∈ lw_all := lw_g (lw_at lw_ms 16 rfl) rfl
theorem qs17 : (Cond.selects "BeltLanesModel" ⟨"BeltLanesModel", "end", "(I)V"⟩ ⟨"BeltLanesModel", "end", "(I)V"⟩) ∈ lw_all := lw_g (lw_at lw_ms 17 rfl) rfl
theorem qs18 : (Cond.selects "BeltLanesModel" ⟨"BeltLanesModel", "move", "(I)V"⟩ ⟨"BeltLanesModel", "move", "(I)V"⟩) ∈ lw_all := lw_g (lw_at lw_ms 18 rfl) rfl
theorem qs19 : (Cond.selects "BeltLanesModel" ⟨"BeltLanesModel", "moves", "(II)Z"⟩ ⟨"BeltLanesModel", "moves", "(II)Z"⟩) ∈ lw_all := lw_g (lw_at lw_ms 19 rfl) rfl
theorem qs20 : (Cond.selects "BeltLanesModel" ⟨"BeltLanesModel", "work", "(I)V"⟩ ⟨"BeltLanesModel", "work", "(I)V"⟩) ∈ lw_all := lw_g (lw_at lw_ms 20 rfl) rfl
end
section
/-! java/lang/Object -/
set_option maxRecDepth 100000
def RJ0 : String := "java/lang/Object"
abbrev cJ0_init : ByteArray := object_method_1_code
def yJ0_init : MethodName := ⟨RJ0, "<init>", "()V"⟩
theorem dJ0_init_0 : decode cJ0_init 0 = .ok (.return_, 1) := by decide +kernel
theorem q30 : (Jvm.Cond.instanceMethod ({ cls := "java/lang/Object", name := "<init>", desc := "()V" } : Jvm.MethodName)) ∈ lw_all := lw_g (lw_at lw_m1 9 rfl) rfl
theorem q31 : (Jvm.Cond.code ({ cls := "java/lang/Object", name := "<init>", desc := "()V" } : Jvm.MethodName) object_method_1_code (1 : Nat) (Option.none : Option Jvm.ClassFile.FieldType)) ∈ lw_all := lw_g (lw_at lw_m1 10 rfl) rfl
theorem q75 : (Jvm.Cond.arrayClass Jvm.ClassFile.FieldType.int) ∈ lw_all := lw_g (lw_at lw_m1 54 rfl) rfl
set_option maxRecDepth 100000
theorem q76 : (Jvm.Cond.arrayClass Jvm.ClassFile.FieldType.boolean) ∈ lw_all := lw_g (lw_at lw_m1 55 rfl) rfl
/-! BeltLanesLaw -/
set_option maxRecDepth 100000
def RX0 : String := "BeltLanesLaw"
abbrev cX0_cell : ByteArray := method_2_code
def yX0_cell : MethodName := ⟨RX0, "cell", "([II)I"⟩
theorem dX0_cell_0 : decode cX0_cell 0 = .ok (.iload_n 1, 1) := by decide +kernel
theorem dX0_cell_1 : decode cX0_cell 1 = .ok (.aload_n 0, 1) := by decide +kernel
theorem dX0_cell_2 : decode cX0_cell 2 = .ok (.arraylength, 1) := by decide +kernel
theorem dX0_cell_3 : decode cX0_cell 3 = .ok (.if_icmp .ge 9, 3) := by decide +kernel
theorem dX0_cell_6 : decode cX0_cell 6 = .ok (.aload_n 0, 1) := by decide +kernel
theorem dX0_cell_7 : decode cX0_cell 7 = .ok (.iload_n 1, 1) := by decide +kernel
theorem dX0_cell_8 : decode cX0_cell 8 = .ok (.iaload, 1) := by decide +kernel
theorem dX0_cell_9 : decode cX0_cell 9 = .ok (.goto 4, 3) := by decide +kernel
theorem dX0_cell_12 : decode cX0_cell 12 = .ok (.iconst 0, 1) := by decide +kernel
theorem dX0_cell_13 : decode cX0_cell 13 = .ok (.ireturn, 1) := by decide +kernel
theorem q21 : (Jvm.Cond.initialized "BeltLanesLaw") ∈ lw_all := lw_g (lw_at lw_m1 0 rfl) rfl
theorem q24 : (Jvm.Cond.classLink "BeltLanesLaw" (7 : Nat) "BeltLanes") ∈ lw_all := lw_g (lw_at lw_m1 3 rfl) rfl
theorem q26 : (Jvm.Cond.methodLink "BeltLanesLaw" (15 : Nat) ({ cls := "BeltLanes", name := "<init>", desc := "(I)V" } : Jvm.MethodName)) ∈ lw_all := lw_g (lw_at lw_m1 5 rfl) rfl
theorem q77 : (Jvm.Cond.methodLink "BeltLanesLaw" (21 : Nat) ({ cls := "BeltLanes", name := "put", desc := "(II)I" } : Jvm.MethodName)) ∈ lw_all := lw_g (lw_at lw_m1 56 rfl) rfl
theorem q100 : (Jvm.Cond.methodLink "BeltLanesLaw" (26 : Nat) ({ cls := "BeltLanes", name := "take", desc := "(I)I" } : Jvm.MethodName)) ∈ lw_all := lw_g (lw_at lw_m1 79 rfl) rfl
theorem q116 : (Jvm.Cond.methodLink "BeltLanesLaw" (31 : Nat) ({ cls := "BeltLanes", name := "lead", desc := "(II)I" } : Jvm.MethodName)) ∈ lw_all := lw_g (lw_at lw_m1 95 rfl) rfl
theorem q120 : (Jvm.Cond.methodLink "BeltLanesLaw" (35 : Nat) ({ cls := "BeltLanes", name := "arm", desc := "(IIII)I" } : Jvm.MethodName)) ∈ lw_all := lw_g (lw_at lw_m1 99 rfl) rfl
theorem q124 : (Jvm.Cond.methodLink "BeltLanesLaw" (40 : Nat) ({ cls := "BeltLanes", name := "tick", desc := "(I)I" } : Jvm.MethodName)) ∈ lw_all := lw_g (lw_at lw_m1 103 rfl) rfl
theorem q152 : (Jvm.Cond.methodLink "BeltLanesLaw" (44 : Nat) ({ cls := "BeltLanes", name := "items", desc := "(I)I" } : Jvm.MethodName)) ∈ lw_all := lw_g (lw_at lw_m1 131 rfl) rfl
theorem q156 : (Jvm.Cond.methodLink "BeltLanesLaw" (48 : Nat) ({ cls := "BeltLanes", name := "place", desc := "(II)I" } : Jvm.MethodName)) ∈ lw_all := lw_g (lw_at lw_m1 135 rfl) rfl
theorem q164 : (Jvm.Cond.methodLink "BeltLanesLaw" (52 : Nat) ({ cls := "BeltLanes", name := "kind", desc := "(II)I" } : Jvm.MethodName)) ∈ lw_all := lw_g (lw_at lw_m1 143 rfl) rfl
theorem q168 : (Jvm.Cond.methodLink "BeltLanesLaw" (56 : Nat) ({ cls := "BeltLanes", name := "out", desc := "()I" } : Jvm.MethodName)) ∈ lw_all := lw_g (lw_at lw_m1 147 rfl) rfl
theorem q172 : (Jvm.Cond.methodLink "BeltLanesLaw" (61 : Nat) ({ cls := "BeltLanes", name := "held", desc := "(I)I" } : Jvm.MethodName)) ∈ lw_all := lw_g (lw_at lw_m1 151 rfl) rfl
theorem q176 : (Jvm.Cond.methodLink "BeltLanesLaw" (65 : Nat) ({ cls := "BeltLanes", name := "room", desc := "(I)Z" } : Jvm.MethodName)) ∈ lw_all := lw_g (lw_at lw_m1 155 rfl) rfl
theorem q180 : (Jvm.Cond.methodLink "BeltLanesLaw" (70 : Nat) ({ cls := "BeltLanes", name := "moving", desc := "(I)I" } : Jvm.MethodName)) ∈ lw_all := lw_g (lw_at lw_m1 159 rfl) rfl
theorem q184 : (Jvm.Cond.methodLink "BeltLanesLaw" (9 : Nat) ({ cls := "BeltLanesLaw", name := "cell", desc := "([II)I" } : Jvm.MethodName)) ∈ lw_all := lw_g (lw_at lw_m1 163 rfl) rfl
theorem q185 : (Jvm.Cond.static ({ cls := "BeltLanesLaw", name := "cell", desc := "([II)I" } : Jvm.MethodName)) ∈ lw_all := lw_g (lw_at lw_m1 164 rfl) rfl
theorem q186 : (Jvm.Cond.code ({ cls := "BeltLanesLaw", name := "cell", desc := "([II)I" } : Jvm.MethodName) method_2_code (2 : Nat) (Option.some Jvm.ClassFile.FieldType.int)) ∈ lw_all := lw_g (lw_at lw_m1 165 rfl) rfl
theorem q187 : (Jvm.Cond.classLink "BeltLanesLaw" (18 : Nat) "BeltLanesModel") ∈ lw_all := lw_g (lw_at lw_m1 166 rfl) rfl
theorem q189 : (Jvm.Cond.methodLink "BeltLanesLaw" (20 : Nat) ({ cls := "BeltLanesModel", name := "<init>", desc := "(I)V" } : Jvm.MethodName)) ∈ lw_all := lw_g (lw_at lw_m1 168 rfl) rfl
theorem q230 : (Jvm.Cond.methodLink "BeltLanesLaw" (25 : Nat) ({ cls := "BeltLanesModel", name := "put", desc := "(II)I" } : Jvm.MethodName)) ∈ lw_all := lw_g (lw_at lw_m1 209 rfl) rfl
theorem q246 : (Jvm.Cond.methodLink "BeltLanesLaw" (30 : Nat) ({ cls := "BeltLanesModel", name := "take", desc := "(I)I" } : Jvm.MethodName)) ∈ lw_all := lw_g (lw_at lw_m1 225 rfl) rfl
theorem q254 : (Jvm.Cond.methodLink "BeltLanesLaw" (34 : Nat) ({ cls := "BeltLanesModel", name := "lead", desc := "(II)I" } : Jvm.MethodName)) ∈ lw_all := lw_g (lw_at lw_m1 233 rfl) rfl
theorem q258 : (Jvm.Cond.methodLink "BeltLanesLaw" (39 : Nat) ({ cls := "BeltLanesModel", name := "arm", desc := "(IIII)I" } : Jvm.MethodName)) ∈ lw_all := lw_g (lw_at lw_m1 237 rfl) rfl
theorem q262 : (Jvm.Cond.methodLink "BeltLanesLaw" (43 : Nat) ({ cls := "BeltLanesModel", name := "tick", desc := "(I)I" } : Jvm.MethodName)) ∈ lw_all := lw_g (lw_at lw_m2 1 rfl) rfl
theorem q282 : (Jvm.Cond.methodLink "BeltLanesLaw" (47 : Nat) ({ cls := "BeltLanesModel", name := "items", desc := "(I)I" } : Jvm.MethodName)) ∈ lw_all := lw_g (lw_at lw_m2 21 rfl) rfl
theorem q286 : (Jvm.Cond.methodLink "BeltLanesLaw" (51 : Nat) ({ cls := "BeltLanesModel", name := "place", desc := "(II)I" } : Jvm.MethodName)) ∈ lw_all := lw_g (lw_at lw_m2 25 rfl) rfl
theorem q290 : (Jvm.Cond.methodLink "BeltLanesLaw" (55 : Nat) ({ cls := "BeltLanesModel", name := "kind", desc := "(II)I" } : Jvm.MethodName)) ∈ lw_all := lw_g (lw_at lw_m2 29 rfl) rfl
theorem q294 : (Jvm.Cond.methodLink "BeltLanesLaw" (60 : Nat) ({ cls := "BeltLanesModel", name := "out", desc := "()I" } : Jvm.MethodName)) ∈ lw_all := lw_g (lw_at lw_m2 33 rfl) rfl
theorem q298 : (Jvm.Cond.methodLink "BeltLanesLaw" (64 : Nat) ({ cls := "BeltLanesModel", name := "held", desc := "(I)I" } : Jvm.MethodName)) ∈ lw_all := lw_g (lw_at lw_m2 37 rfl) rfl
theorem q302 : (Jvm.Cond.methodLink "BeltLanesLaw" (69 : Nat) ({ cls := "BeltLanesModel", name := "room", desc := "(I)Z" } : Jvm.MethodName)) ∈ lw_all := lw_g (lw_at lw_m2 41 rfl) rfl
theorem q303 : (Jvm.Cond.methodLink "BeltLanesLaw" (73 : Nat) ({ cls := "BeltLanesModel", name := "moving", desc := "(I)I" } : Jvm.MethodName)) ∈ lw_all := lw_g (lw_at lw_m2 42 rfl) rfl
/-! BeltLanes -/
set_option maxRecDepth 100000
def RX1 : String := "BeltLanes"
def TX1 : u_T := fun k => match k with
  | 0 => ("BeltLanes", "length", "I", true)
  | 1 => ("BeltLanes", "head", "[I", true)
  | 2 => ("BeltLanes", "count", "[I", true)
  | 3 => ("BeltLanes", "gap", "[I", true)
  | 4 => ("BeltLanes", "kinds", "[I", true)
  | 5 => ("BeltLanes", "gaps", "[I", true)
  | 6 => ("BeltLanes", "leads", "[I", true)
  | 7 => ("BeltLanes", "set", "[Z", true)
  | 8 => ("BeltLanes", "takesFrom", "[I", true)
  | 9 => ("BeltLanes", "putsOn", "[I", true)
  | 10 => ("BeltLanes", "reach", "[I", true)
  | 11 => ("BeltLanes", "takesKinds", "[I", true)
  | 12 => ("BeltLanes", "holds", "[I", true)
  | _ => ("BeltLanes", "gone", "I", false)
def tyX1 : Nat → FieldType := fun k => match k with
  | 0 => .int
  | 1 => .array .int
  | 2 => .array .int
  | 3 => .array .int
  | 4 => .array .int
  | 5 => .array .int
  | 6 => .array .int
  | 7 => .array .boolean
  | 8 => .array .int
  | 9 => .array .int
  | 10 => .array .int
  | 11 => .array .int
  | 12 => .array .int
  | _ => .int
abbrev wsX10 : List Cond := u_ws RX1 TX1 14
set_option maxRecDepth 100000 in
theorem nmX1 : ∀ a, a < 14 → ∀ b, b < 14 → a ≠ b → (TX1 a).2.1 ≠ (TX1 b).2.1 := by decide +kernel
set_option maxRecDepth 100000 in
theorem tyX1_ok : ∀ k, k < 14 → parseFieldDescriptor (TX1 k).2.2.1 = some (tyX1 k) := by decide +kernel
abbrev cX1_init : ByteArray := prog_1_method_1_code
def yX1_init : MethodName := ⟨RX1, "<init>", "(I)V"⟩
theorem dX1_init_0 : decode cX1_init 0 = .ok (.aload_n 0, 1) := by decide +kernel
theorem dX1_init_1 : decode cX1_init 1 = .ok (.invokespecial 1, 3) := by decide +kernel
theorem dX1_init_4 : decode cX1_init 4 = .ok (.aload_n 0, 1) := by decide +kernel
theorem dX1_init_5 : decode cX1_init 5 = .ok (.iconst 4, 1) := by decide +kernel
theorem dX1_init_6 : decode cX1_init 6 = .ok (.newarray .int, 2) := by decide +kernel
theorem dX1_init_8 : decode cX1_init 8 = .ok (.putfield 7, 3) := by decide +kernel
theorem dX1_init_11 : decode cX1_init 11 = .ok (.aload_n 0, 1) := by decide +kernel
theorem dX1_init_12 : decode cX1_init 12 = .ok (.iconst 4, 1) := by decide +kernel
theorem dX1_init_13 : decode cX1_init 13 = .ok (.newarray .int, 2) := by decide +kernel
theorem dX1_init_15 : decode cX1_init 15 = .ok (.putfield 13, 3) := by decide +kernel
theorem dX1_init_18 : decode cX1_init 18 = .ok (.aload_n 0, 1) := by decide +kernel
theorem dX1_init_19 : decode cX1_init 19 = .ok (.bipush 64, 2) := by decide +kernel
theorem dX1_init_21 : decode cX1_init 21 = .ok (.newarray .int, 2) := by decide +kernel
theorem dX1_init_23 : decode cX1_init 23 = .ok (.putfield 16, 3) := by decide +kernel
theorem dX1_init_26 : decode cX1_init 26 = .ok (.aload_n 0, 1) := by decide +kernel
theorem dX1_init_27 : decode cX1_init 27 = .ok (.bipush 64, 2) := by decide +kernel
theorem dX1_init_29 : decode cX1_init 29 = .ok (.newarray .int, 2) := by decide +kernel
theorem dX1_init_31 : decode cX1_init 31 = .ok (.putfield 19, 3) := by decide +kernel
theorem dX1_init_34 : decode cX1_init 34 = .ok (.aload_n 0, 1) := by decide +kernel
theorem dX1_init_35 : decode cX1_init 35 = .ok (.iconst 4, 1) := by decide +kernel
theorem dX1_init_36 : decode cX1_init 36 = .ok (.newarray .int, 2) := by decide +kernel
theorem dX1_init_38 : decode cX1_init 38 = .ok (.putfield 22, 3) := by decide +kernel
theorem dX1_init_41 : decode cX1_init 41 = .ok (.aload_n 0, 1) := by decide +kernel
theorem dX1_init_42 : decode cX1_init 42 = .ok (.iconst 4, 1) := by decide +kernel
theorem dX1_init_43 : decode cX1_init 43 = .ok (.newarray .int, 2) := by decide +kernel
theorem dX1_init_45 : decode cX1_init 45 = .ok (.putfield 25, 3) := by decide +kernel
theorem dX1_init_48 : decode cX1_init 48 = .ok (.aload_n 0, 1) := by decide +kernel
theorem dX1_init_49 : decode cX1_init 49 = .ok (.iconst 2, 1) := by decide +kernel
theorem dX1_init_50 : decode cX1_init 50 = .ok (.newarray .boolean, 2) := by decide +kernel
theorem dX1_init_52 : decode cX1_init 52 = .ok (.putfield 28, 3) := by decide +kernel
theorem dX1_init_55 : decode cX1_init 55 = .ok (.aload_n 0, 1) := by decide +kernel
theorem dX1_init_56 : decode cX1_init 56 = .ok (.iconst 2, 1) := by decide +kernel
theorem dX1_init_57 : decode cX1_init 57 = .ok (.newarray .int, 2) := by decide +kernel
theorem dX1_init_59 : decode cX1_init 59 = .ok (.putfield 32, 3) := by decide +kernel
theorem dX1_init_62 : decode cX1_init 62 = .ok (.aload_n 0, 1) := by decide +kernel
theorem dX1_init_63 : decode cX1_init 63 = .ok (.iconst 2, 1) := by decide +kernel
theorem dX1_init_64 : decode cX1_init 64 = .ok (.newarray .int, 2) := by decide +kernel
theorem dX1_init_66 : decode cX1_init 66 = .ok (.putfield 35, 3) := by decide +kernel
theorem dX1_init_69 : decode cX1_init 69 = .ok (.aload_n 0, 1) := by decide +kernel
theorem dX1_init_70 : decode cX1_init 70 = .ok (.iconst 2, 1) := by decide +kernel
theorem dX1_init_71 : decode cX1_init 71 = .ok (.newarray .int, 2) := by decide +kernel
theorem dX1_init_73 : decode cX1_init 73 = .ok (.putfield 38, 3) := by decide +kernel
theorem dX1_init_76 : decode cX1_init 76 = .ok (.aload_n 0, 1) := by decide +kernel
theorem dX1_init_77 : decode cX1_init 77 = .ok (.iconst 2, 1) := by decide +kernel
theorem dX1_init_78 : decode cX1_init 78 = .ok (.newarray .int, 2) := by decide +kernel
theorem dX1_init_80 : decode cX1_init 80 = .ok (.putfield 41, 3) := by decide +kernel
theorem dX1_init_83 : decode cX1_init 83 = .ok (.aload_n 0, 1) := by decide +kernel
theorem dX1_init_84 : decode cX1_init 84 = .ok (.iconst 2, 1) := by decide +kernel
theorem dX1_init_85 : decode cX1_init 85 = .ok (.newarray .int, 2) := by decide +kernel
theorem dX1_init_87 : decode cX1_init 87 = .ok (.putfield 44, 3) := by decide +kernel
theorem dX1_init_90 : decode cX1_init 90 = .ok (.iload_n 1, 1) := by decide +kernel
theorem dX1_init_91 : decode cX1_init 91 = .ok (.istore_n 2, 1) := by decide +kernel
theorem dX1_init_92 : decode cX1_init 92 = .ok (.iload_n 2, 1) := by decide +kernel
theorem dX1_init_93 : decode cX1_init 93 = .ok (.bipush 8, 2) := by decide +kernel
theorem dX1_init_95 : decode cX1_init 95 = .ok (.if_icmp .ge 6, 3) := by decide +kernel
theorem dX1_init_98 : decode cX1_init 98 = .ok (.bipush 8, 2) := by decide +kernel
theorem dX1_init_100 : decode cX1_init 100 = .ok (.istore_n 2, 1) := by decide +kernel
theorem dX1_init_101 : decode cX1_init 101 = .ok (.iload_n 2, 1) := by decide +kernel
theorem dX1_init_102 : decode cX1_init 102 = .ok (.bipush 60, 2) := by decide +kernel
theorem dX1_init_104 : decode cX1_init 104 = .ok (.if_icmp .le 6, 3) := by decide +kernel
theorem dX1_init_107 : decode cX1_init 107 = .ok (.bipush 60, 2) := by decide +kernel
theorem dX1_init_109 : decode cX1_init 109 = .ok (.istore_n 2, 1) := by decide +kernel
theorem dX1_init_110 : decode cX1_init 110 = .ok (.aload_n 0, 1) := by decide +kernel
theorem dX1_init_111 : decode cX1_init 111 = .ok (.iload_n 2, 1) := by decide +kernel
theorem dX1_init_112 : decode cX1_init 112 = .ok (.putfield 47, 3) := by decide +kernel
theorem dX1_init_115 : decode cX1_init 115 = .ok (.iconst 0, 1) := by decide +kernel
theorem dX1_init_116 : decode cX1_init 116 = .ok (.istore_n 3, 1) := by decide +kernel
theorem dX1_init_117 : decode cX1_init 117 = .ok (.iload_n 3, 1) := by decide +kernel
theorem dX1_init_118 : decode cX1_init 118 = .ok (.iconst 4, 1) := by decide +kernel
theorem dX1_init_119 : decode cX1_init 119 = .ok (.if_icmp .ge 16, 3) := by decide +kernel
theorem dX1_init_122 : decode cX1_init 122 = .ok (.aload_n 0, 1) := by decide +kernel
theorem dX1_init_123 : decode cX1_init 123 = .ok (.getfield 25, 3) := by decide +kernel
theorem dX1_init_126 : decode cX1_init 126 = .ok (.iload_n 3, 1) := by decide +kernel
theorem dX1_init_127 : decode cX1_init 127 = .ok (.iconst (-1), 1) := by decide +kernel
theorem dX1_init_128 : decode cX1_init 128 = .ok (.iastore, 1) := by decide +kernel
theorem dX1_init_129 : decode cX1_init 129 = .ok (.iinc 3 1, 3) := by decide +kernel
theorem dX1_init_132 : decode cX1_init 132 = .ok (.goto (-15), 3) := by decide +kernel
theorem dX1_init_135 : decode cX1_init 135 = .ok (.iconst 0, 1) := by decide +kernel
theorem dX1_init_136 : decode cX1_init 136 = .ok (.istore_n 3, 1) := by decide +kernel
theorem dX1_init_137 : decode cX1_init 137 = .ok (.iload_n 3, 1) := by decide +kernel
theorem dX1_init_138 : decode cX1_init 138 = .ok (.iconst 2, 1) := by decide +kernel
theorem dX1_init_139 : decode cX1_init 139 = .ok (.if_icmp .ge 17, 3) := by decide +kernel
theorem dX1_init_142 : decode cX1_init 142 = .ok (.aload_n 0, 1) := by decide +kernel
theorem dX1_init_143 : decode cX1_init 143 = .ok (.getfield 44, 3) := by decide +kernel
theorem dX1_init_146 : decode cX1_init 146 = .ok (.iload_n 3, 1) := by decide +kernel
theorem dX1_init_147 : decode cX1_init 147 = .ok (.bipush (-4), 2) := by decide +kernel
theorem dX1_init_149 : decode cX1_init 149 = .ok (.iastore, 1) := by decide +kernel
theorem dX1_init_150 : decode cX1_init 150 = .ok (.iinc 3 1, 3) := by decide +kernel
theorem dX1_init_153 : decode cX1_init 153 = .ok (.goto (-16), 3) := by decide +kernel
theorem dX1_init_156 : decode cX1_init 156 = .ok (.return_, 1) := by decide +kernel
abbrev cX1_put : ByteArray := prog_1_method_11_code
def yX1_put : MethodName := ⟨RX1, "put", "(II)I"⟩
theorem dX1_put_0 : decode cX1_put 0 = .ok (.iload_n 1, 1) := by decide +kernel
theorem dX1_put_1 : decode cX1_put 1 = .ok (.invokestatic 63, 3) := by decide +kernel
theorem dX1_put_4 : decode cX1_put 4 = .ok (.ifCond .eq 5, 3) := by decide +kernel
theorem dX1_put_7 : decode cX1_put 7 = .ok (.iconst (-1), 1) := by decide +kernel
theorem dX1_put_8 : decode cX1_put 8 = .ok (.ireturn, 1) := by decide +kernel
theorem dX1_put_9 : decode cX1_put 9 = .ok (.iload_n 2, 1) := by decide +kernel
theorem dX1_put_10 : decode cX1_put 10 = .ok (.ifCond .lt 9, 3) := by decide +kernel
theorem dX1_put_13 : decode cX1_put 13 = .ok (.iload_n 2, 1) := by decide +kernel
theorem dX1_put_14 : decode cX1_put 14 = .ok (.bipush 7, 2) := by decide +kernel
theorem dX1_put_16 : decode cX1_put 16 = .ok (.if_icmp .le 6, 3) := by decide +kernel
theorem dX1_put_19 : decode cX1_put 19 = .ok (.bipush (-2), 2) := by decide +kernel
theorem dX1_put_21 : decode cX1_put 21 = .ok (.ireturn, 1) := by decide +kernel
theorem dX1_put_22 : decode cX1_put 22 = .ok (.aload_n 0, 1) := by decide +kernel
theorem dX1_put_23 : decode cX1_put 23 = .ok (.iload_n 1, 1) := by decide +kernel
theorem dX1_put_24 : decode cX1_put 24 = .ok (.invokevirtual 67, 3) := by decide +kernel
theorem dX1_put_27 : decode cX1_put 27 = .ok (.ifCond .ne 6, 3) := by decide +kernel
theorem dX1_put_30 : decode cX1_put 30 = .ok (.bipush (-3), 2) := by decide +kernel
theorem dX1_put_32 : decode cX1_put 32 = .ok (.ireturn, 1) := by decide +kernel
theorem dX1_put_33 : decode cX1_put 33 = .ok (.aload_n 0, 1) := by decide +kernel
theorem dX1_put_34 : decode cX1_put 34 = .ok (.iload_n 1, 1) := by decide +kernel
theorem dX1_put_35 : decode cX1_put 35 = .ok (.iload_n 2, 1) := by decide +kernel
theorem dX1_put_36 : decode cX1_put 36 = .ok (.invokevirtual 70, 3) := by decide +kernel
theorem dX1_put_39 : decode cX1_put 39 = .ok (.aload_n 0, 1) := by decide +kernel
theorem dX1_put_40 : decode cX1_put 40 = .ok (.getfield 13, 3) := by decide +kernel
theorem dX1_put_43 : decode cX1_put 43 = .ok (.iload_n 1, 1) := by decide +kernel
theorem dX1_put_44 : decode cX1_put 44 = .ok (.iaload, 1) := by decide +kernel
theorem dX1_put_45 : decode cX1_put 45 = .ok (.ireturn, 1) := by decide +kernel
abbrev cX1_bad : ByteArray := prog_1_method_2_code
def yX1_bad : MethodName := ⟨RX1, "bad", "(I)Z"⟩
theorem dX1_bad_0 : decode cX1_bad 0 = .ok (.iload_n 0, 1) := by decide +kernel
theorem dX1_bad_1 : decode cX1_bad 1 = .ok (.ifCond .lt 8, 3) := by decide +kernel
theorem dX1_bad_4 : decode cX1_bad 4 = .ok (.iload_n 0, 1) := by decide +kernel
theorem dX1_bad_5 : decode cX1_bad 5 = .ok (.iconst 4, 1) := by decide +kernel
theorem dX1_bad_6 : decode cX1_bad 6 = .ok (.if_icmp .lt 7, 3) := by decide +kernel
theorem dX1_bad_9 : decode cX1_bad 9 = .ok (.iconst 1, 1) := by decide +kernel
theorem dX1_bad_10 : decode cX1_bad 10 = .ok (.goto 4, 3) := by decide +kernel
theorem dX1_bad_13 : decode cX1_bad 13 = .ok (.iconst 0, 1) := by decide +kernel
theorem dX1_bad_14 : decode cX1_bad 14 = .ok (.ireturn, 1) := by decide +kernel
abbrev cX1_hasRoom : ByteArray := prog_1_method_5_code
def yX1_hasRoom : MethodName := ⟨RX1, "hasRoom", "(I)Z"⟩
theorem dX1_hasRoom_0 : decode cX1_hasRoom 0 = .ok (.aload_n 0, 1) := by decide +kernel
theorem dX1_hasRoom_1 : decode cX1_hasRoom 1 = .ok (.getfield 13, 3) := by decide +kernel
theorem dX1_hasRoom_4 : decode cX1_hasRoom 4 = .ok (.iload_n 1, 1) := by decide +kernel
theorem dX1_hasRoom_5 : decode cX1_hasRoom 5 = .ok (.iaload, 1) := by decide +kernel
theorem dX1_hasRoom_6 : decode cX1_hasRoom 6 = .ok (.ifCond .ne 5, 3) := by decide +kernel
theorem dX1_hasRoom_9 : decode cX1_hasRoom 9 = .ok (.iconst 1, 1) := by decide +kernel
theorem dX1_hasRoom_10 : decode cX1_hasRoom 10 = .ok (.ireturn, 1) := by decide +kernel
theorem dX1_hasRoom_11 : decode cX1_hasRoom 11 = .ok (.aload_n 0, 1) := by decide +kernel
theorem dX1_hasRoom_12 : decode cX1_hasRoom 12 = .ok (.iload_n 1, 1) := by decide +kernel
theorem dX1_hasRoom_13 : decode cX1_hasRoom 13 = .ok (.invokevirtual 51, 3) := by decide +kernel
theorem dX1_hasRoom_16 : decode cX1_hasRoom 16 = .ok (.istore_n 2, 1) := by decide +kernel
theorem dX1_hasRoom_17 : decode cX1_hasRoom 17 = .ok (.iload_n 2, 1) := by decide +kernel
theorem dX1_hasRoom_18 : decode cX1_hasRoom 18 = .ok (.aload_n 0, 1) := by decide +kernel
theorem dX1_hasRoom_19 : decode cX1_hasRoom 19 = .ok (.getfield 47, 3) := by decide +kernel
theorem dX1_hasRoom_22 : decode cX1_hasRoom 22 = .ok (.iconst 4, 1) := by decide +kernel
theorem dX1_hasRoom_23 : decode cX1_hasRoom 23 = .ok (.isub, 1) := by decide +kernel
theorem dX1_hasRoom_24 : decode cX1_hasRoom 24 = .ok (.if_icmp .gt 7, 3) := by decide +kernel
theorem dX1_hasRoom_27 : decode cX1_hasRoom 27 = .ok (.iconst 1, 1) := by decide +kernel
theorem dX1_hasRoom_28 : decode cX1_hasRoom 28 = .ok (.goto 4, 3) := by decide +kernel
theorem dX1_hasRoom_31 : decode cX1_hasRoom 31 = .ok (.iconst 0, 1) := by decide +kernel
theorem dX1_hasRoom_32 : decode cX1_hasRoom 32 = .ok (.ireturn, 1) := by decide +kernel
abbrev cX1_lastPlace : ByteArray := prog_1_method_4_code
def yX1_lastPlace : MethodName := ⟨RX1, "lastPlace", "(I)I"⟩
theorem dX1_lastPlace_0 : decode cX1_lastPlace 0 = .ok (.aload_n 0, 1) := by decide +kernel
theorem dX1_lastPlace_1 : decode cX1_lastPlace 1 = .ok (.getfield 22, 3) := by decide +kernel
theorem dX1_lastPlace_4 : decode cX1_lastPlace 4 = .ok (.iload_n 1, 1) := by decide +kernel
theorem dX1_lastPlace_5 : decode cX1_lastPlace 5 = .ok (.iaload, 1) := by decide +kernel
theorem dX1_lastPlace_6 : decode cX1_lastPlace 6 = .ok (.iconst 4, 1) := by decide +kernel
theorem dX1_lastPlace_7 : decode cX1_lastPlace 7 = .ok (.aload_n 0, 1) := by decide +kernel
theorem dX1_lastPlace_8 : decode cX1_lastPlace 8 = .ok (.getfield 13, 3) := by decide +kernel
theorem dX1_lastPlace_11 : decode cX1_lastPlace 11 = .ok (.iload_n 1, 1) := by decide +kernel
theorem dX1_lastPlace_12 : decode cX1_lastPlace 12 = .ok (.iaload, 1) := by decide +kernel
theorem dX1_lastPlace_13 : decode cX1_lastPlace 13 = .ok (.iconst 1, 1) := by decide +kernel
theorem dX1_lastPlace_14 : decode cX1_lastPlace 14 = .ok (.isub, 1) := by decide +kernel
theorem dX1_lastPlace_15 : decode cX1_lastPlace 15 = .ok (.imul, 1) := by decide +kernel
theorem dX1_lastPlace_16 : decode cX1_lastPlace 16 = .ok (.iadd, 1) := by decide +kernel
theorem dX1_lastPlace_17 : decode cX1_lastPlace 17 = .ok (.ireturn, 1) := by decide +kernel
abbrev cX1_append : ByteArray := prog_1_method_7_code
def yX1_append : MethodName := ⟨RX1, "append", "(II)V"⟩
theorem dX1_append_0 : decode cX1_append 0 = .ok (.aload_n 0, 1) := by decide +kernel
theorem dX1_append_1 : decode cX1_append 1 = .ok (.getfield 13, 3) := by decide +kernel
theorem dX1_append_4 : decode cX1_append 4 = .ok (.iload_n 1, 1) := by decide +kernel
theorem dX1_append_5 : decode cX1_append 5 = .ok (.iaload, 1) := by decide +kernel
theorem dX1_append_6 : decode cX1_append 6 = .ok (.ifCond .ne 10, 3) := by decide +kernel
theorem dX1_append_9 : decode cX1_append 9 = .ok (.aload_n 0, 1) := by decide +kernel
theorem dX1_append_10 : decode cX1_append 10 = .ok (.getfield 47, 3) := by decide +kernel
theorem dX1_append_13 : decode cX1_append 13 = .ok (.goto 15, 3) := by decide +kernel
theorem dX1_append_16 : decode cX1_append 16 = .ok (.aload_n 0, 1) := by decide +kernel
theorem dX1_append_17 : decode cX1_append 17 = .ok (.getfield 47, 3) := by decide +kernel
theorem dX1_append_20 : decode cX1_append 20 = .ok (.aload_n 0, 1) := by decide +kernel
theorem dX1_append_21 : decode cX1_append 21 = .ok (.iload_n 1, 1) := by decide +kernel
theorem dX1_append_22 : decode cX1_append 22 = .ok (.invokevirtual 51, 3) := by decide +kernel
theorem dX1_append_25 : decode cX1_append 25 = .ok (.isub, 1) := by decide +kernel
theorem dX1_append_26 : decode cX1_append 26 = .ok (.iconst 4, 1) := by decide +kernel
theorem dX1_append_27 : decode cX1_append 27 = .ok (.isub, 1) := by decide +kernel
theorem dX1_append_28 : decode cX1_append 28 = .ok (.istore_n 3, 1) := by decide +kernel
theorem dX1_append_29 : decode cX1_append 29 = .ok (.aload_n 0, 1) := by decide +kernel
theorem dX1_append_30 : decode cX1_append 30 = .ok (.iload_n 1, 1) := by decide +kernel
theorem dX1_append_31 : decode cX1_append 31 = .ok (.aload_n 0, 1) := by decide +kernel
theorem dX1_append_32 : decode cX1_append 32 = .ok (.getfield 13, 3) := by decide +kernel
theorem dX1_append_35 : decode cX1_append 35 = .ok (.iload_n 1, 1) := by decide +kernel
theorem dX1_append_36 : decode cX1_append 36 = .ok (.iaload, 1) := by decide +kernel
theorem dX1_append_37 : decode cX1_append 37 = .ok (.invokevirtual 55, 3) := by decide +kernel
theorem dX1_append_40 : decode cX1_append 40 = .ok (.istore 4, 2) := by decide +kernel
theorem dX1_append_42 : decode cX1_append 42 = .ok (.aload_n 0, 1) := by decide +kernel
theorem dX1_append_43 : decode cX1_append 43 = .ok (.getfield 16, 3) := by decide +kernel
theorem dX1_append_46 : decode cX1_append 46 = .ok (.iload 4, 2) := by decide +kernel
theorem dX1_append_48 : decode cX1_append 48 = .ok (.iload_n 3, 1) := by decide +kernel
theorem dX1_append_49 : decode cX1_append 49 = .ok (.iastore, 1) := by decide +kernel
theorem dX1_append_50 : decode cX1_append 50 = .ok (.aload_n 0, 1) := by decide +kernel
theorem dX1_append_51 : decode cX1_append 51 = .ok (.getfield 19, 3) := by decide +kernel
theorem dX1_append_54 : decode cX1_append 54 = .ok (.iload 4, 2) := by decide +kernel
theorem dX1_append_56 : decode cX1_append 56 = .ok (.iload_n 2, 1) := by decide +kernel
theorem dX1_append_57 : decode cX1_append 57 = .ok (.iastore, 1) := by decide +kernel
theorem dX1_append_58 : decode cX1_append 58 = .ok (.aload_n 0, 1) := by decide +kernel
theorem dX1_append_59 : decode cX1_append 59 = .ok (.getfield 22, 3) := by decide +kernel
theorem dX1_append_62 : decode cX1_append 62 = .ok (.iload_n 1, 1) := by decide +kernel
theorem dX1_append_63 : decode cX1_append 63 = .ok (.dup2, 1) := by decide +kernel
theorem dX1_append_64 : decode cX1_append 64 = .ok (.iaload, 1) := by decide +kernel
theorem dX1_append_65 : decode cX1_append 65 = .ok (.iload_n 3, 1) := by decide +kernel
theorem dX1_append_66 : decode cX1_append 66 = .ok (.iadd, 1) := by decide +kernel
theorem dX1_append_67 : decode cX1_append 67 = .ok (.iastore, 1) := by decide +kernel
theorem dX1_append_68 : decode cX1_append 68 = .ok (.aload_n 0, 1) := by decide +kernel
theorem dX1_append_69 : decode cX1_append 69 = .ok (.getfield 13, 3) := by decide +kernel
theorem dX1_append_72 : decode cX1_append 72 = .ok (.iload_n 1, 1) := by decide +kernel
theorem dX1_append_73 : decode cX1_append 73 = .ok (.dup2, 1) := by decide +kernel
theorem dX1_append_74 : decode cX1_append 74 = .ok (.iaload, 1) := by decide +kernel
theorem dX1_append_75 : decode cX1_append 75 = .ok (.iconst 1, 1) := by decide +kernel
theorem dX1_append_76 : decode cX1_append 76 = .ok (.iadd, 1) := by decide +kernel
theorem dX1_append_77 : decode cX1_append 77 = .ok (.iastore, 1) := by decide +kernel
theorem dX1_append_78 : decode cX1_append 78 = .ok (.return_, 1) := by decide +kernel
abbrev cX1_slot : ByteArray := prog_1_method_3_code
def yX1_slot : MethodName := ⟨RX1, "slot", "(II)I"⟩
theorem dX1_slot_0 : decode cX1_slot 0 = .ok (.iload_n 1, 1) := by decide +kernel
theorem dX1_slot_1 : decode cX1_slot 1 = .ok (.bipush 16, 2) := by decide +kernel
theorem dX1_slot_3 : decode cX1_slot 3 = .ok (.imul, 1) := by decide +kernel
theorem dX1_slot_4 : decode cX1_slot 4 = .ok (.aload_n 0, 1) := by decide +kernel
theorem dX1_slot_5 : decode cX1_slot 5 = .ok (.getfield 7, 3) := by decide +kernel
theorem dX1_slot_8 : decode cX1_slot 8 = .ok (.iload_n 1, 1) := by decide +kernel
theorem dX1_slot_9 : decode cX1_slot 9 = .ok (.iaload, 1) := by decide +kernel
theorem dX1_slot_10 : decode cX1_slot 10 = .ok (.iload_n 2, 1) := by decide +kernel
theorem dX1_slot_11 : decode cX1_slot 11 = .ok (.iadd, 1) := by decide +kernel
theorem dX1_slot_12 : decode cX1_slot 12 = .ok (.bipush 15, 2) := by decide +kernel
theorem dX1_slot_14 : decode cX1_slot 14 = .ok (.iand, 1) := by decide +kernel
theorem dX1_slot_15 : decode cX1_slot 15 = .ok (.iadd, 1) := by decide +kernel
theorem dX1_slot_16 : decode cX1_slot 16 = .ok (.ireturn, 1) := by decide +kernel
abbrev cX1_take : ByteArray := prog_1_method_13_code
def yX1_take : MethodName := ⟨RX1, "take", "(I)I"⟩
theorem dX1_take_0 : decode cX1_take 0 = .ok (.iload_n 1, 1) := by decide +kernel
theorem dX1_take_1 : decode cX1_take 1 = .ok (.invokestatic 63, 3) := by decide +kernel
theorem dX1_take_4 : decode cX1_take 4 = .ok (.ifCond .eq 5, 3) := by decide +kernel
theorem dX1_take_7 : decode cX1_take 7 = .ok (.iconst (-1), 1) := by decide +kernel
theorem dX1_take_8 : decode cX1_take 8 = .ok (.ireturn, 1) := by decide +kernel
theorem dX1_take_9 : decode cX1_take 9 = .ok (.aload_n 0, 1) := by decide +kernel
theorem dX1_take_10 : decode cX1_take 10 = .ok (.iload_n 1, 1) := by decide +kernel
theorem dX1_take_11 : decode cX1_take 11 = .ok (.invokevirtual 73, 3) := by decide +kernel
theorem dX1_take_14 : decode cX1_take 14 = .ok (.ifCond .ne 6, 3) := by decide +kernel
theorem dX1_take_17 : decode cX1_take 17 = .ok (.bipush (-4), 2) := by decide +kernel
theorem dX1_take_19 : decode cX1_take 19 = .ok (.ireturn, 1) := by decide +kernel
theorem dX1_take_20 : decode cX1_take 20 = .ok (.aload_n 0, 1) := by decide +kernel
theorem dX1_take_21 : decode cX1_take 21 = .ok (.iload_n 1, 1) := by decide +kernel
theorem dX1_take_22 : decode cX1_take 22 = .ok (.iconst 0, 1) := by decide +kernel
theorem dX1_take_23 : decode cX1_take 23 = .ok (.invokevirtual 76, 3) := by decide +kernel
theorem dX1_take_26 : decode cX1_take 26 = .ok (.ireturn, 1) := by decide +kernel
abbrev cX1_atEnd : ByteArray := prog_1_method_12_code
def yX1_atEnd : MethodName := ⟨RX1, "atEnd", "(I)Z"⟩
theorem dX1_atEnd_0 : decode cX1_atEnd 0 = .ok (.aload_n 0, 1) := by decide +kernel
theorem dX1_atEnd_1 : decode cX1_atEnd 1 = .ok (.getfield 13, 3) := by decide +kernel
theorem dX1_atEnd_4 : decode cX1_atEnd 4 = .ok (.iload_n 1, 1) := by decide +kernel
theorem dX1_atEnd_5 : decode cX1_atEnd 5 = .ok (.iaload, 1) := by decide +kernel
theorem dX1_atEnd_6 : decode cX1_atEnd 6 = .ok (.ifCond .le 21, 3) := by decide +kernel
theorem dX1_atEnd_9 : decode cX1_atEnd 9 = .ok (.aload_n 0, 1) := by decide +kernel
theorem dX1_atEnd_10 : decode cX1_atEnd 10 = .ok (.getfield 16, 3) := by decide +kernel
theorem dX1_atEnd_13 : decode cX1_atEnd 13 = .ok (.aload_n 0, 1) := by decide +kernel
theorem dX1_atEnd_14 : decode cX1_atEnd 14 = .ok (.iload_n 1, 1) := by decide +kernel
theorem dX1_atEnd_15 : decode cX1_atEnd 15 = .ok (.iconst 0, 1) := by decide +kernel
theorem dX1_atEnd_16 : decode cX1_atEnd 16 = .ok (.invokevirtual 55, 3) := by decide +kernel
theorem dX1_atEnd_19 : decode cX1_atEnd 19 = .ok (.iaload, 1) := by decide +kernel
theorem dX1_atEnd_20 : decode cX1_atEnd 20 = .ok (.ifCond .ne 7, 3) := by decide +kernel
theorem dX1_atEnd_23 : decode cX1_atEnd 23 = .ok (.iconst 1, 1) := by decide +kernel
theorem dX1_atEnd_24 : decode cX1_atEnd 24 = .ok (.goto 4, 3) := by decide +kernel
theorem dX1_atEnd_27 : decode cX1_atEnd 27 = .ok (.iconst 0, 1) := by decide +kernel
theorem dX1_atEnd_28 : decode cX1_atEnd 28 = .ok (.ireturn, 1) := by decide +kernel
abbrev cX1_removeItem : ByteArray := prog_1_method_8_code
def yX1_removeItem : MethodName := ⟨RX1, "removeItem", "(II)I"⟩
theorem dX1_removeItem_0 : decode cX1_removeItem 0 = .ok (.aload_n 0, 1) := by decide +kernel
theorem dX1_removeItem_1 : decode cX1_removeItem 1 = .ok (.iload_n 1, 1) := by decide +kernel
theorem dX1_removeItem_2 : decode cX1_removeItem 2 = .ok (.iload_n 2, 1) := by decide +kernel
theorem dX1_removeItem_3 : decode cX1_removeItem 3 = .ok (.invokevirtual 55, 3) := by decide +kernel
theorem dX1_removeItem_6 : decode cX1_removeItem 6 = .ok (.istore_n 3, 1) := by decide +kernel
theorem dX1_removeItem_7 : decode cX1_removeItem 7 = .ok (.aload_n 0, 1) := by decide +kernel
theorem dX1_removeItem_8 : decode cX1_removeItem 8 = .ok (.getfield 19, 3) := by decide +kernel
theorem dX1_removeItem_11 : decode cX1_removeItem 11 = .ok (.iload_n 3, 1) := by decide +kernel
theorem dX1_removeItem_12 : decode cX1_removeItem 12 = .ok (.iaload, 1) := by decide +kernel
theorem dX1_removeItem_13 : decode cX1_removeItem 13 = .ok (.istore 4, 2) := by decide +kernel
theorem dX1_removeItem_15 : decode cX1_removeItem 15 = .ok (.aload_n 0, 1) := by decide +kernel
theorem dX1_removeItem_16 : decode cX1_removeItem 16 = .ok (.getfield 16, 3) := by decide +kernel
theorem dX1_removeItem_19 : decode cX1_removeItem 19 = .ok (.iload_n 3, 1) := by decide +kernel
theorem dX1_removeItem_20 : decode cX1_removeItem 20 = .ok (.iaload, 1) := by decide +kernel
theorem dX1_removeItem_21 : decode cX1_removeItem 21 = .ok (.istore 5, 2) := by decide +kernel
theorem dX1_removeItem_23 : decode cX1_removeItem 23 = .ok (.iload_n 2, 1) := by decide +kernel
theorem dX1_removeItem_24 : decode cX1_removeItem 24 = .ok (.iconst 1, 1) := by decide +kernel
theorem dX1_removeItem_25 : decode cX1_removeItem 25 = .ok (.iadd, 1) := by decide +kernel
theorem dX1_removeItem_26 : decode cX1_removeItem 26 = .ok (.aload_n 0, 1) := by decide +kernel
theorem dX1_removeItem_27 : decode cX1_removeItem 27 = .ok (.getfield 13, 3) := by decide +kernel
theorem dX1_removeItem_30 : decode cX1_removeItem 30 = .ok (.iload_n 1, 1) := by decide +kernel
theorem dX1_removeItem_31 : decode cX1_removeItem 31 = .ok (.iaload, 1) := by decide +kernel
theorem dX1_removeItem_32 : decode cX1_removeItem 32 = .ok (.if_icmp .ge 36, 3) := by decide +kernel
theorem dX1_removeItem_35 : decode cX1_removeItem 35 = .ok (.aload_n 0, 1) := by decide +kernel
theorem dX1_removeItem_36 : decode cX1_removeItem 36 = .ok (.getfield 16, 3) := by decide +kernel
theorem dX1_removeItem_39 : decode cX1_removeItem 39 = .ok (.aload_n 0, 1) := by decide +kernel
theorem dX1_removeItem_40 : decode cX1_removeItem 40 = .ok (.iload_n 1, 1) := by decide +kernel
theorem dX1_removeItem_41 : decode cX1_removeItem 41 = .ok (.iload_n 2, 1) := by decide +kernel
theorem dX1_removeItem_42 : decode cX1_removeItem 42 = .ok (.iconst 1, 1) := by decide +kernel
theorem dX1_removeItem_43 : decode cX1_removeItem 43 = .ok (.iadd, 1) := by decide +kernel
theorem dX1_removeItem_44 : decode cX1_removeItem 44 = .ok (.invokevirtual 55, 3) := by decide +kernel
theorem dX1_removeItem_47 : decode cX1_removeItem 47 = .ok (.dup2, 1) := by decide +kernel
theorem dX1_removeItem_48 : decode cX1_removeItem 48 = .ok (.iaload, 1) := by decide +kernel
theorem dX1_removeItem_49 : decode cX1_removeItem 49 = .ok (.iload 5, 2) := by decide +kernel
theorem dX1_removeItem_51 : decode cX1_removeItem 51 = .ok (.iconst 4, 1) := by decide +kernel
theorem dX1_removeItem_52 : decode cX1_removeItem 52 = .ok (.iadd, 1) := by decide +kernel
theorem dX1_removeItem_53 : decode cX1_removeItem 53 = .ok (.iadd, 1) := by decide +kernel
theorem dX1_removeItem_54 : decode cX1_removeItem 54 = .ok (.iastore, 1) := by decide +kernel
theorem dX1_removeItem_55 : decode cX1_removeItem 55 = .ok (.aload_n 0, 1) := by decide +kernel
theorem dX1_removeItem_56 : decode cX1_removeItem 56 = .ok (.getfield 22, 3) := by decide +kernel
theorem dX1_removeItem_59 : decode cX1_removeItem 59 = .ok (.iload_n 1, 1) := by decide +kernel
theorem dX1_removeItem_60 : decode cX1_removeItem 60 = .ok (.dup2, 1) := by decide +kernel
theorem dX1_removeItem_61 : decode cX1_removeItem 61 = .ok (.iaload, 1) := by decide +kernel
theorem dX1_removeItem_62 : decode cX1_removeItem 62 = .ok (.iconst 4, 1) := by decide +kernel
theorem dX1_removeItem_63 : decode cX1_removeItem 63 = .ok (.iadd, 1) := by decide +kernel
theorem dX1_removeItem_64 : decode cX1_removeItem 64 = .ok (.iastore, 1) := by decide +kernel
theorem dX1_removeItem_65 : decode cX1_removeItem 65 = .ok (.goto 14, 3) := by decide +kernel
theorem dX1_removeItem_68 : decode cX1_removeItem 68 = .ok (.aload_n 0, 1) := by decide +kernel
theorem dX1_removeItem_69 : decode cX1_removeItem 69 = .ok (.getfield 22, 3) := by decide +kernel
theorem dX1_removeItem_72 : decode cX1_removeItem 72 = .ok (.iload_n 1, 1) := by decide +kernel
theorem dX1_removeItem_73 : decode cX1_removeItem 73 = .ok (.dup2, 1) := by decide +kernel
theorem dX1_removeItem_74 : decode cX1_removeItem 74 = .ok (.iaload, 1) := by decide +kernel
theorem dX1_removeItem_75 : decode cX1_removeItem 75 = .ok (.iload 5, 2) := by decide +kernel
theorem dX1_removeItem_77 : decode cX1_removeItem 77 = .ok (.isub, 1) := by decide +kernel
theorem dX1_removeItem_78 : decode cX1_removeItem 78 = .ok (.iastore, 1) := by decide +kernel
theorem dX1_removeItem_79 : decode cX1_removeItem 79 = .ok (.iload_n 2, 1) := by decide +kernel
theorem dX1_removeItem_80 : decode cX1_removeItem 80 = .ok (.ifCond .ne 23, 3) := by decide +kernel
theorem dX1_removeItem_83 : decode cX1_removeItem 83 = .ok (.aload_n 0, 1) := by decide +kernel
theorem dX1_removeItem_84 : decode cX1_removeItem 84 = .ok (.getfield 7, 3) := by decide +kernel
theorem dX1_removeItem_87 : decode cX1_removeItem 87 = .ok (.iload_n 1, 1) := by decide +kernel
theorem dX1_removeItem_88 : decode cX1_removeItem 88 = .ok (.aload_n 0, 1) := by decide +kernel
theorem dX1_removeItem_89 : decode cX1_removeItem 89 = .ok (.getfield 7, 3) := by decide +kernel
theorem dX1_removeItem_92 : decode cX1_removeItem 92 = .ok (.iload_n 1, 1) := by decide +kernel
theorem dX1_removeItem_93 : decode cX1_removeItem 93 = .ok (.iaload, 1) := by decide +kernel
theorem dX1_removeItem_94 : decode cX1_removeItem 94 = .ok (.iconst 1, 1) := by decide +kernel
theorem dX1_removeItem_95 : decode cX1_removeItem 95 = .ok (.iadd, 1) := by decide +kernel
theorem dX1_removeItem_96 : decode cX1_removeItem 96 = .ok (.bipush 15, 2) := by decide +kernel
theorem dX1_removeItem_98 : decode cX1_removeItem 98 = .ok (.iand, 1) := by decide +kernel
theorem dX1_removeItem_99 : decode cX1_removeItem 99 = .ok (.iastore, 1) := by decide +kernel
theorem dX1_removeItem_100 : decode cX1_removeItem 100 = .ok (.goto 9, 3) := by decide +kernel
theorem dX1_removeItem_103 : decode cX1_removeItem 103 = .ok (.aload_n 0, 1) := by decide +kernel
theorem dX1_removeItem_104 : decode cX1_removeItem 104 = .ok (.iload_n 1, 1) := by decide +kernel
theorem dX1_removeItem_105 : decode cX1_removeItem 105 = .ok (.iload_n 2, 1) := by decide +kernel
theorem dX1_removeItem_106 : decode cX1_removeItem 106 = .ok (.invokevirtual 59, 3) := by decide +kernel
theorem dX1_removeItem_109 : decode cX1_removeItem 109 = .ok (.aload_n 0, 1) := by decide +kernel
theorem dX1_removeItem_110 : decode cX1_removeItem 110 = .ok (.getfield 13, 3) := by decide +kernel
theorem dX1_removeItem_113 : decode cX1_removeItem 113 = .ok (.iload_n 1, 1) := by decide +kernel
theorem dX1_removeItem_114 : decode cX1_removeItem 114 = .ok (.dup2, 1) := by decide +kernel
theorem dX1_removeItem_115 : decode cX1_removeItem 115 = .ok (.iaload, 1) := by decide +kernel
theorem dX1_removeItem_116 : decode cX1_removeItem 116 = .ok (.iconst 1, 1) := by decide +kernel
theorem dX1_removeItem_117 : decode cX1_removeItem 117 = .ok (.isub, 1) := by decide +kernel
theorem dX1_removeItem_118 : decode cX1_removeItem 118 = .ok (.iastore, 1) := by decide +kernel
theorem dX1_removeItem_119 : decode cX1_removeItem 119 = .ok (.iload 4, 2) := by decide +kernel
theorem dX1_removeItem_121 : decode cX1_removeItem 121 = .ok (.ireturn, 1) := by decide +kernel
abbrev cX1_closeUp : ByteArray := prog_1_method_9_code
def yX1_closeUp : MethodName := ⟨RX1, "closeUp", "(II)V"⟩
theorem dX1_closeUp_0 : decode cX1_closeUp 0 = .ok (.iload_n 2, 1) := by decide +kernel
theorem dX1_closeUp_1 : decode cX1_closeUp 1 = .ok (.istore_n 3, 1) := by decide +kernel
theorem dX1_closeUp_2 : decode cX1_closeUp 2 = .ok (.iload_n 3, 1) := by decide +kernel
theorem dX1_closeUp_3 : decode cX1_closeUp 3 = .ok (.iconst 1, 1) := by decide +kernel
theorem dX1_closeUp_4 : decode cX1_closeUp 4 = .ok (.iadd, 1) := by decide +kernel
theorem dX1_closeUp_5 : decode cX1_closeUp 5 = .ok (.aload_n 0, 1) := by decide +kernel
theorem dX1_closeUp_6 : decode cX1_closeUp 6 = .ok (.getfield 13, 3) := by decide +kernel
theorem dX1_closeUp_9 : decode cX1_closeUp 9 = .ok (.iload_n 1, 1) := by decide +kernel
theorem dX1_closeUp_10 : decode cX1_closeUp 10 = .ok (.iaload, 1) := by decide +kernel
theorem dX1_closeUp_11 : decode cX1_closeUp 11 = .ok (.if_icmp .ge 55, 3) := by decide +kernel
theorem dX1_closeUp_14 : decode cX1_closeUp 14 = .ok (.aload_n 0, 1) := by decide +kernel
theorem dX1_closeUp_15 : decode cX1_closeUp 15 = .ok (.iload_n 1, 1) := by decide +kernel
theorem dX1_closeUp_16 : decode cX1_closeUp 16 = .ok (.iload_n 3, 1) := by decide +kernel
theorem dX1_closeUp_17 : decode cX1_closeUp 17 = .ok (.invokevirtual 55, 3) := by decide +kernel
theorem dX1_closeUp_20 : decode cX1_closeUp 20 = .ok (.istore 4, 2) := by decide +kernel
theorem dX1_closeUp_22 : decode cX1_closeUp 22 = .ok (.aload_n 0, 1) := by decide +kernel
theorem dX1_closeUp_23 : decode cX1_closeUp 23 = .ok (.iload_n 1, 1) := by decide +kernel
theorem dX1_closeUp_24 : decode cX1_closeUp 24 = .ok (.iload_n 3, 1) := by decide +kernel
theorem dX1_closeUp_25 : decode cX1_closeUp 25 = .ok (.iconst 1, 1) := by decide +kernel
theorem dX1_closeUp_26 : decode cX1_closeUp 26 = .ok (.iadd, 1) := by decide +kernel
theorem dX1_closeUp_27 : decode cX1_closeUp 27 = .ok (.invokevirtual 55, 3) := by decide +kernel
theorem dX1_closeUp_30 : decode cX1_closeUp 30 = .ok (.istore 5, 2) := by decide +kernel
theorem dX1_closeUp_32 : decode cX1_closeUp 32 = .ok (.aload_n 0, 1) := by decide +kernel
theorem dX1_closeUp_33 : decode cX1_closeUp 33 = .ok (.getfield 16, 3) := by decide +kernel
theorem dX1_closeUp_36 : decode cX1_closeUp 36 = .ok (.iload 4, 2) := by decide +kernel
theorem dX1_closeUp_38 : decode cX1_closeUp 38 = .ok (.aload_n 0, 1) := by decide +kernel
theorem dX1_closeUp_39 : decode cX1_closeUp 39 = .ok (.getfield 16, 3) := by decide +kernel
theorem dX1_closeUp_42 : decode cX1_closeUp 42 = .ok (.iload 5, 2) := by decide +kernel
theorem dX1_closeUp_44 : decode cX1_closeUp 44 = .ok (.iaload, 1) := by decide +kernel
theorem dX1_closeUp_45 : decode cX1_closeUp 45 = .ok (.iastore, 1) := by decide +kernel
theorem dX1_closeUp_46 : decode cX1_closeUp 46 = .ok (.aload_n 0, 1) := by decide +kernel
theorem dX1_closeUp_47 : decode cX1_closeUp 47 = .ok (.getfield 19, 3) := by decide +kernel
theorem dX1_closeUp_50 : decode cX1_closeUp 50 = .ok (.iload 4, 2) := by decide +kernel
theorem dX1_closeUp_52 : decode cX1_closeUp 52 = .ok (.aload_n 0, 1) := by decide +kernel
theorem dX1_closeUp_53 : decode cX1_closeUp 53 = .ok (.getfield 19, 3) := by decide +kernel
theorem dX1_closeUp_56 : decode cX1_closeUp 56 = .ok (.iload 5, 2) := by decide +kernel
theorem dX1_closeUp_58 : decode cX1_closeUp 58 = .ok (.iaload, 1) := by decide +kernel
theorem dX1_closeUp_59 : decode cX1_closeUp 59 = .ok (.iastore, 1) := by decide +kernel
theorem dX1_closeUp_60 : decode cX1_closeUp 60 = .ok (.iinc 3 1, 3) := by decide +kernel
theorem dX1_closeUp_63 : decode cX1_closeUp 63 = .ok (.goto (-61), 3) := by decide +kernel
theorem dX1_closeUp_66 : decode cX1_closeUp 66 = .ok (.return_, 1) := by decide +kernel
abbrev cX1_lead : ByteArray := prog_1_method_14_code
def yX1_lead : MethodName := ⟨RX1, "lead", "(II)I"⟩
theorem dX1_lead_0 : decode cX1_lead 0 = .ok (.iload_n 1, 1) := by decide +kernel
theorem dX1_lead_1 : decode cX1_lead 1 = .ok (.invokestatic 63, 3) := by decide +kernel
theorem dX1_lead_4 : decode cX1_lead 4 = .ok (.ifCond .eq 5, 3) := by decide +kernel
theorem dX1_lead_7 : decode cX1_lead 7 = .ok (.iconst (-1), 1) := by decide +kernel
theorem dX1_lead_8 : decode cX1_lead 8 = .ok (.ireturn, 1) := by decide +kernel
theorem dX1_lead_9 : decode cX1_lead 9 = .ok (.iload_n 2, 1) := by decide +kernel
theorem dX1_lead_10 : decode cX1_lead 10 = .ok (.bipush (-2), 2) := by decide +kernel
theorem dX1_lead_12 : decode cX1_lead 12 = .ok (.if_icmp .lt 13, 3) := by decide +kernel
theorem dX1_lead_15 : decode cX1_lead 15 = .ok (.iload_n 2, 1) := by decide +kernel
theorem dX1_lead_16 : decode cX1_lead 16 = .ok (.iconst 4, 1) := by decide +kernel
theorem dX1_lead_17 : decode cX1_lead 17 = .ok (.if_icmp .ge 8, 3) := by decide +kernel
theorem dX1_lead_20 : decode cX1_lead 20 = .ok (.iload_n 2, 1) := by decide +kernel
theorem dX1_lead_21 : decode cX1_lead 21 = .ok (.iload_n 1, 1) := by decide +kernel
theorem dX1_lead_22 : decode cX1_lead 22 = .ok (.if_icmp .ne 6, 3) := by decide +kernel
theorem dX1_lead_25 : decode cX1_lead 25 = .ok (.bipush (-5), 2) := by decide +kernel
theorem dX1_lead_27 : decode cX1_lead 27 = .ok (.ireturn, 1) := by decide +kernel
theorem dX1_lead_28 : decode cX1_lead 28 = .ok (.aload_n 0, 1) := by decide +kernel
theorem dX1_lead_29 : decode cX1_lead 29 = .ok (.getfield 25, 3) := by decide +kernel
theorem dX1_lead_32 : decode cX1_lead 32 = .ok (.iload_n 1, 1) := by decide +kernel
theorem dX1_lead_33 : decode cX1_lead 33 = .ok (.iaload, 1) := by decide +kernel
theorem dX1_lead_34 : decode cX1_lead 34 = .ok (.istore_n 3, 1) := by decide +kernel
theorem dX1_lead_35 : decode cX1_lead 35 = .ok (.aload_n 0, 1) := by decide +kernel
theorem dX1_lead_36 : decode cX1_lead 36 = .ok (.getfield 25, 3) := by decide +kernel
theorem dX1_lead_39 : decode cX1_lead 39 = .ok (.iload_n 1, 1) := by decide +kernel
theorem dX1_lead_40 : decode cX1_lead 40 = .ok (.iload_n 2, 1) := by decide +kernel
theorem dX1_lead_41 : decode cX1_lead 41 = .ok (.iastore, 1) := by decide +kernel
theorem dX1_lead_42 : decode cX1_lead 42 = .ok (.iload_n 3, 1) := by decide +kernel
theorem dX1_lead_43 : decode cX1_lead 43 = .ok (.ireturn, 1) := by decide +kernel
abbrev cX1_arm : ByteArray := prog_1_method_15_code
def yX1_arm : MethodName := ⟨RX1, "arm", "(IIII)I"⟩
theorem dX1_arm_0 : decode cX1_arm 0 = .ok (.iload_n 1, 1) := by decide +kernel
theorem dX1_arm_1 : decode cX1_arm 1 = .ok (.ifCond .lt 18, 3) := by decide +kernel
theorem dX1_arm_4 : decode cX1_arm 4 = .ok (.iload_n 1, 1) := by decide +kernel
theorem dX1_arm_5 : decode cX1_arm 5 = .ok (.iconst 1, 1) := by decide +kernel
theorem dX1_arm_6 : decode cX1_arm 6 = .ok (.if_icmp .gt 13, 3) := by decide +kernel
theorem dX1_arm_9 : decode cX1_arm 9 = .ok (.iload_n 3, 1) := by decide +kernel
theorem dX1_arm_10 : decode cX1_arm 10 = .ok (.ifCond .lt 9, 3) := by decide +kernel
theorem dX1_arm_13 : decode cX1_arm 13 = .ok (.iload_n 3, 1) := by decide +kernel
theorem dX1_arm_14 : decode cX1_arm 14 = .ok (.bipush 60, 2) := by decide +kernel
theorem dX1_arm_16 : decode cX1_arm 16 = .ok (.if_icmp .le 6, 3) := by decide +kernel
theorem dX1_arm_19 : decode cX1_arm 19 = .ok (.bipush (-5), 2) := by decide +kernel
theorem dX1_arm_21 : decode cX1_arm 21 = .ok (.ireturn, 1) := by decide +kernel
theorem dX1_arm_22 : decode cX1_arm 22 = .ok (.aload_n 0, 1) := by decide +kernel
theorem dX1_arm_23 : decode cX1_arm 23 = .ok (.getfield 28, 3) := by decide +kernel
theorem dX1_arm_26 : decode cX1_arm 26 = .ok (.iload_n 1, 1) := by decide +kernel
theorem dX1_arm_27 : decode cX1_arm 27 = .ok (.iconst 1, 1) := by decide +kernel
theorem dX1_arm_28 : decode cX1_arm 28 = .ok (.bastore, 1) := by decide +kernel
theorem dX1_arm_29 : decode cX1_arm 29 = .ok (.aload_n 0, 1) := by decide +kernel
theorem dX1_arm_30 : decode cX1_arm 30 = .ok (.getfield 32, 3) := by decide +kernel
theorem dX1_arm_33 : decode cX1_arm 33 = .ok (.iload_n 1, 1) := by decide +kernel
theorem dX1_arm_34 : decode cX1_arm 34 = .ok (.iload_n 2, 1) := by decide +kernel
theorem dX1_arm_35 : decode cX1_arm 35 = .ok (.iconst 3, 1) := by decide +kernel
theorem dX1_arm_36 : decode cX1_arm 36 = .ok (.iand, 1) := by decide +kernel
theorem dX1_arm_37 : decode cX1_arm 37 = .ok (.iastore, 1) := by decide +kernel
theorem dX1_arm_38 : decode cX1_arm 38 = .ok (.aload_n 0, 1) := by decide +kernel
theorem dX1_arm_39 : decode cX1_arm 39 = .ok (.getfield 35, 3) := by decide +kernel
theorem dX1_arm_42 : decode cX1_arm 42 = .ok (.iload_n 1, 1) := by decide +kernel
theorem dX1_arm_43 : decode cX1_arm 43 = .ok (.iload_n 2, 1) := by decide +kernel
theorem dX1_arm_44 : decode cX1_arm 44 = .ok (.iconst 2, 1) := by decide +kernel
theorem dX1_arm_45 : decode cX1_arm 45 = .ok (.ishr, 1) := by decide +kernel
theorem dX1_arm_46 : decode cX1_arm 46 = .ok (.iconst 3, 1) := by decide +kernel
theorem dX1_arm_47 : decode cX1_arm 47 = .ok (.iand, 1) := by decide +kernel
theorem dX1_arm_48 : decode cX1_arm 48 = .ok (.iastore, 1) := by decide +kernel
theorem dX1_arm_49 : decode cX1_arm 49 = .ok (.aload_n 0, 1) := by decide +kernel
theorem dX1_arm_50 : decode cX1_arm 50 = .ok (.getfield 38, 3) := by decide +kernel
theorem dX1_arm_53 : decode cX1_arm 53 = .ok (.iload_n 1, 1) := by decide +kernel
theorem dX1_arm_54 : decode cX1_arm 54 = .ok (.iload_n 3, 1) := by decide +kernel
theorem dX1_arm_55 : decode cX1_arm 55 = .ok (.iastore, 1) := by decide +kernel
theorem dX1_arm_56 : decode cX1_arm 56 = .ok (.aload_n 0, 1) := by decide +kernel
theorem dX1_arm_57 : decode cX1_arm 57 = .ok (.getfield 41, 3) := by decide +kernel
theorem dX1_arm_60 : decode cX1_arm 60 = .ok (.iload_n 1, 1) := by decide +kernel
theorem dX1_arm_61 : decode cX1_arm 61 = .ok (.iload 4, 2) := by decide +kernel
theorem dX1_arm_63 : decode cX1_arm 63 = .ok (.sipush 255, 3) := by decide +kernel
theorem dX1_arm_66 : decode cX1_arm 66 = .ok (.iand, 1) := by decide +kernel
theorem dX1_arm_67 : decode cX1_arm 67 = .ok (.iastore, 1) := by decide +kernel
theorem dX1_arm_68 : decode cX1_arm 68 = .ok (.iconst 0, 1) := by decide +kernel
theorem dX1_arm_69 : decode cX1_arm 69 = .ok (.ireturn, 1) := by decide +kernel
abbrev cX1_tick : ByteArray := prog_1_method_21_code
def yX1_tick : MethodName := ⟨RX1, "tick", "(I)I"⟩
theorem dX1_tick_0 : decode cX1_tick 0 = .ok (.iload_n 1, 1) := by decide +kernel
theorem dX1_tick_1 : decode cX1_tick 1 = .ok (.sipush 200, 3) := by decide +kernel
theorem dX1_tick_4 : decode cX1_tick 4 = .ok (.if_icmp .le 9, 3) := by decide +kernel
theorem dX1_tick_7 : decode cX1_tick 7 = .ok (.sipush 200, 3) := by decide +kernel
theorem dX1_tick_10 : decode cX1_tick 10 = .ok (.goto 4, 3) := by decide +kernel
theorem dX1_tick_13 : decode cX1_tick 13 = .ok (.iload_n 1, 1) := by decide +kernel
theorem dX1_tick_14 : decode cX1_tick 14 = .ok (.istore_n 2, 1) := by decide +kernel
theorem dX1_tick_15 : decode cX1_tick 15 = .ok (.aload_n 0, 1) := by decide +kernel
theorem dX1_tick_16 : decode cX1_tick 16 = .ok (.getfield 79, 3) := by decide +kernel
theorem dX1_tick_19 : decode cX1_tick 19 = .ok (.istore_n 3, 1) := by decide +kernel
theorem dX1_tick_20 : decode cX1_tick 20 = .ok (.iconst 0, 1) := by decide +kernel
theorem dX1_tick_21 : decode cX1_tick 21 = .ok (.istore 4, 2) := by decide +kernel
theorem dX1_tick_23 : decode cX1_tick 23 = .ok (.iload 4, 2) := by decide +kernel
theorem dX1_tick_25 : decode cX1_tick 25 = .ok (.iload_n 2, 1) := by decide +kernel
theorem dX1_tick_26 : decode cX1_tick 26 = .ok (.if_icmp .ge 13, 3) := by decide +kernel
theorem dX1_tick_29 : decode cX1_tick 29 = .ok (.aload_n 0, 1) := by decide +kernel
theorem dX1_tick_30 : decode cX1_tick 30 = .ok (.invokevirtual 98, 3) := by decide +kernel
theorem dX1_tick_33 : decode cX1_tick 33 = .ok (.iinc 4 1, 3) := by decide +kernel
theorem dX1_tick_36 : decode cX1_tick 36 = .ok (.goto (-13), 3) := by decide +kernel
theorem dX1_tick_39 : decode cX1_tick 39 = .ok (.aload_n 0, 1) := by decide +kernel
theorem dX1_tick_40 : decode cX1_tick 40 = .ok (.getfield 79, 3) := by decide +kernel
theorem dX1_tick_43 : decode cX1_tick 43 = .ok (.iload_n 3, 1) := by decide +kernel
theorem dX1_tick_44 : decode cX1_tick 44 = .ok (.isub, 1) := by decide +kernel
theorem dX1_tick_45 : decode cX1_tick 45 = .ok (.ireturn, 1) := by decide +kernel
abbrev cX1_tickOnce : ByteArray := prog_1_method_20_code
def yX1_tickOnce : MethodName := ⟨RX1, "tickOnce", "()V"⟩
theorem dX1_tickOnce_0 : decode cX1_tickOnce 0 = .ok (.iconst 0, 1) := by decide +kernel
theorem dX1_tickOnce_1 : decode cX1_tickOnce 1 = .ok (.istore_n 1, 1) := by decide +kernel
theorem dX1_tickOnce_2 : decode cX1_tickOnce 2 = .ok (.iload_n 1, 1) := by decide +kernel
theorem dX1_tickOnce_3 : decode cX1_tickOnce 3 = .ok (.iconst 4, 1) := by decide +kernel
theorem dX1_tickOnce_4 : decode cX1_tickOnce 4 = .ok (.if_icmp .ge 19, 3) := by decide +kernel
theorem dX1_tickOnce_7 : decode cX1_tickOnce 7 = .ok (.aload_n 0, 1) := by decide +kernel
theorem dX1_tickOnce_8 : decode cX1_tickOnce 8 = .ok (.iload_n 1, 1) := by decide +kernel
theorem dX1_tickOnce_9 : decode cX1_tickOnce 9 = .ok (.invokevirtual 88, 3) := by decide +kernel
theorem dX1_tickOnce_12 : decode cX1_tickOnce 12 = .ok (.aload_n 0, 1) := by decide +kernel
theorem dX1_tickOnce_13 : decode cX1_tickOnce 13 = .ok (.iload_n 1, 1) := by decide +kernel
theorem dX1_tickOnce_14 : decode cX1_tickOnce 14 = .ok (.invokevirtual 92, 3) := by decide +kernel
theorem dX1_tickOnce_17 : decode cX1_tickOnce 17 = .ok (.iinc 1 1, 3) := by decide +kernel
theorem dX1_tickOnce_20 : decode cX1_tickOnce 20 = .ok (.goto (-18), 3) := by decide +kernel
theorem dX1_tickOnce_23 : decode cX1_tickOnce 23 = .ok (.iconst 0, 1) := by decide +kernel
theorem dX1_tickOnce_24 : decode cX1_tickOnce 24 = .ok (.istore_n 1, 1) := by decide +kernel
theorem dX1_tickOnce_25 : decode cX1_tickOnce 25 = .ok (.iload_n 1, 1) := by decide +kernel
theorem dX1_tickOnce_26 : decode cX1_tickOnce 26 = .ok (.iconst 2, 1) := by decide +kernel
theorem dX1_tickOnce_27 : decode cX1_tickOnce 27 = .ok (.if_icmp .ge 23, 3) := by decide +kernel
theorem dX1_tickOnce_30 : decode cX1_tickOnce 30 = .ok (.aload_n 0, 1) := by decide +kernel
theorem dX1_tickOnce_31 : decode cX1_tickOnce 31 = .ok (.getfield 28, 3) := by decide +kernel
theorem dX1_tickOnce_34 : decode cX1_tickOnce 34 = .ok (.iload_n 1, 1) := by decide +kernel
theorem dX1_tickOnce_35 : decode cX1_tickOnce 35 = .ok (.baload, 1) := by decide +kernel
theorem dX1_tickOnce_36 : decode cX1_tickOnce 36 = .ok (.ifCond .eq 8, 3) := by decide +kernel
theorem dX1_tickOnce_39 : decode cX1_tickOnce 39 = .ok (.aload_n 0, 1) := by decide +kernel
theorem dX1_tickOnce_40 : decode cX1_tickOnce 40 = .ok (.iload_n 1, 1) := by decide +kernel
theorem dX1_tickOnce_41 : decode cX1_tickOnce 41 = .ok (.invokevirtual 95, 3) := by decide +kernel
theorem dX1_tickOnce_44 : decode cX1_tickOnce 44 = .ok (.iinc 1 1, 3) := by decide +kernel
theorem dX1_tickOnce_47 : decode cX1_tickOnce 47 = .ok (.goto (-22), 3) := by decide +kernel
theorem dX1_tickOnce_50 : decode cX1_tickOnce 50 = .ok (.return_, 1) := by decide +kernel
abbrev cX1_passOn : ByteArray := prog_1_method_16_code
def yX1_passOn : MethodName := ⟨RX1, "passOn", "(I)V"⟩
theorem dX1_passOn_0 : decode cX1_passOn 0 = .ok (.aload_n 0, 1) := by decide +kernel
theorem dX1_passOn_1 : decode cX1_passOn 1 = .ok (.iload_n 1, 1) := by decide +kernel
theorem dX1_passOn_2 : decode cX1_passOn 2 = .ok (.invokevirtual 73, 3) := by decide +kernel
theorem dX1_passOn_5 : decode cX1_passOn 5 = .ok (.istore_n 2, 1) := by decide +kernel
theorem dX1_passOn_6 : decode cX1_passOn 6 = .ok (.iload_n 2, 1) := by decide +kernel
theorem dX1_passOn_7 : decode cX1_passOn 7 = .ok (.ifCond .ne 4, 3) := by decide +kernel
theorem dX1_passOn_10 : decode cX1_passOn 10 = .ok (.return_, 1) := by decide +kernel
theorem dX1_passOn_11 : decode cX1_passOn 11 = .ok (.aload_n 0, 1) := by decide +kernel
theorem dX1_passOn_12 : decode cX1_passOn 12 = .ok (.getfield 25, 3) := by decide +kernel
theorem dX1_passOn_15 : decode cX1_passOn 15 = .ok (.iload_n 1, 1) := by decide +kernel
theorem dX1_passOn_16 : decode cX1_passOn 16 = .ok (.iaload, 1) := by decide +kernel
theorem dX1_passOn_17 : decode cX1_passOn 17 = .ok (.istore_n 3, 1) := by decide +kernel
theorem dX1_passOn_18 : decode cX1_passOn 18 = .ok (.iload_n 3, 1) := by decide +kernel
theorem dX1_passOn_19 : decode cX1_passOn 19 = .ok (.bipush (-2), 2) := by decide +kernel
theorem dX1_passOn_21 : decode cX1_passOn 21 = .ok (.if_icmp .ne 23, 3) := by decide +kernel
theorem dX1_passOn_24 : decode cX1_passOn 24 = .ok (.aload_n 0, 1) := by decide +kernel
theorem dX1_passOn_25 : decode cX1_passOn 25 = .ok (.iload_n 1, 1) := by decide +kernel
theorem dX1_passOn_26 : decode cX1_passOn 26 = .ok (.iconst 0, 1) := by decide +kernel
theorem dX1_passOn_27 : decode cX1_passOn 27 = .ok (.invokevirtual 76, 3) := by decide +kernel
theorem dX1_passOn_30 : decode cX1_passOn 30 = .ok (.pop, 1) := by decide +kernel
theorem dX1_passOn_31 : decode cX1_passOn 31 = .ok (.aload_n 0, 1) := by decide +kernel
theorem dX1_passOn_32 : decode cX1_passOn 32 = .ok (.dup, 1) := by decide +kernel
theorem dX1_passOn_33 : decode cX1_passOn 33 = .ok (.getfield 79, 3) := by decide +kernel
theorem dX1_passOn_36 : decode cX1_passOn 36 = .ok (.iconst 1, 1) := by decide +kernel
theorem dX1_passOn_37 : decode cX1_passOn 37 = .ok (.iadd, 1) := by decide +kernel
theorem dX1_passOn_38 : decode cX1_passOn 38 = .ok (.putfield 79, 3) := by decide +kernel
theorem dX1_passOn_41 : decode cX1_passOn 41 = .ok (.goto 34, 3) := by decide +kernel
theorem dX1_passOn_44 : decode cX1_passOn 44 = .ok (.iload_n 3, 1) := by decide +kernel
theorem dX1_passOn_45 : decode cX1_passOn 45 = .ok (.ifCond .lt 30, 3) := by decide +kernel
theorem dX1_passOn_48 : decode cX1_passOn 48 = .ok (.aload_n 0, 1) := by decide +kernel
theorem dX1_passOn_49 : decode cX1_passOn 49 = .ok (.iload_n 3, 1) := by decide +kernel
theorem dX1_passOn_50 : decode cX1_passOn 50 = .ok (.invokevirtual 67, 3) := by decide +kernel
theorem dX1_passOn_53 : decode cX1_passOn 53 = .ok (.istore 4, 2) := by decide +kernel
theorem dX1_passOn_55 : decode cX1_passOn 55 = .ok (.iload 4, 2) := by decide +kernel
theorem dX1_passOn_57 : decode cX1_passOn 57 = .ok (.ifCond .eq 18, 3) := by decide +kernel
theorem dX1_passOn_60 : decode cX1_passOn 60 = .ok (.aload_n 0, 1) := by decide +kernel
theorem dX1_passOn_61 : decode cX1_passOn 61 = .ok (.iload_n 1, 1) := by decide +kernel
theorem dX1_passOn_62 : decode cX1_passOn 62 = .ok (.iconst 0, 1) := by decide +kernel
theorem dX1_passOn_63 : decode cX1_passOn 63 = .ok (.invokevirtual 76, 3) := by decide +kernel
theorem dX1_passOn_66 : decode cX1_passOn 66 = .ok (.istore 5, 2) := by decide +kernel
theorem dX1_passOn_68 : decode cX1_passOn 68 = .ok (.aload_n 0, 1) := by decide +kernel
theorem dX1_passOn_69 : decode cX1_passOn 69 = .ok (.iload_n 3, 1) := by decide +kernel
theorem dX1_passOn_70 : decode cX1_passOn 70 = .ok (.iload 5, 2) := by decide +kernel
theorem dX1_passOn_72 : decode cX1_passOn 72 = .ok (.invokevirtual 70, 3) := by decide +kernel
theorem dX1_passOn_75 : decode cX1_passOn 75 = .ok (.return_, 1) := by decide +kernel
abbrev cX1_advance : ByteArray := prog_1_method_17_code
def yX1_advance : MethodName := ⟨RX1, "advance", "(I)V"⟩
theorem dX1_advance_0 : decode cX1_advance 0 = .ok (.aload_n 0, 1) := by decide +kernel
theorem dX1_advance_1 : decode cX1_advance 1 = .ok (.iload_n 1, 1) := by decide +kernel
theorem dX1_advance_2 : decode cX1_advance 2 = .ok (.invokevirtual 82, 3) := by decide +kernel
theorem dX1_advance_5 : decode cX1_advance 5 = .ok (.istore_n 2, 1) := by decide +kernel
theorem dX1_advance_6 : decode cX1_advance 6 = .ok (.iload_n 2, 1) := by decide +kernel
theorem dX1_advance_7 : decode cX1_advance 7 = .ok (.aload_n 0, 1) := by decide +kernel
theorem dX1_advance_8 : decode cX1_advance 8 = .ok (.getfield 13, 3) := by decide +kernel
theorem dX1_advance_11 : decode cX1_advance 11 = .ok (.iload_n 1, 1) := by decide +kernel
theorem dX1_advance_12 : decode cX1_advance 12 = .ok (.iaload, 1) := by decide +kernel
theorem dX1_advance_13 : decode cX1_advance 13 = .ok (.if_icmp .ne 4, 3) := by decide +kernel
theorem dX1_advance_16 : decode cX1_advance 16 = .ok (.return_, 1) := by decide +kernel
theorem dX1_advance_17 : decode cX1_advance 17 = .ok (.aload_n 0, 1) := by decide +kernel
theorem dX1_advance_18 : decode cX1_advance 18 = .ok (.getfield 16, 3) := by decide +kernel
theorem dX1_advance_21 : decode cX1_advance 21 = .ok (.aload_n 0, 1) := by decide +kernel
theorem dX1_advance_22 : decode cX1_advance 22 = .ok (.iload_n 1, 1) := by decide +kernel
theorem dX1_advance_23 : decode cX1_advance 23 = .ok (.iload_n 2, 1) := by decide +kernel
theorem dX1_advance_24 : decode cX1_advance 24 = .ok (.invokevirtual 55, 3) := by decide +kernel
theorem dX1_advance_27 : decode cX1_advance 27 = .ok (.dup2, 1) := by decide +kernel
theorem dX1_advance_28 : decode cX1_advance 28 = .ok (.iaload, 1) := by decide +kernel
theorem dX1_advance_29 : decode cX1_advance 29 = .ok (.iconst 1, 1) := by decide +kernel
theorem dX1_advance_30 : decode cX1_advance 30 = .ok (.isub, 1) := by decide +kernel
theorem dX1_advance_31 : decode cX1_advance 31 = .ok (.iastore, 1) := by decide +kernel
theorem dX1_advance_32 : decode cX1_advance 32 = .ok (.aload_n 0, 1) := by decide +kernel
theorem dX1_advance_33 : decode cX1_advance 33 = .ok (.getfield 22, 3) := by decide +kernel
theorem dX1_advance_36 : decode cX1_advance 36 = .ok (.iload_n 1, 1) := by decide +kernel
theorem dX1_advance_37 : decode cX1_advance 37 = .ok (.dup2, 1) := by decide +kernel
theorem dX1_advance_38 : decode cX1_advance 38 = .ok (.iaload, 1) := by decide +kernel
theorem dX1_advance_39 : decode cX1_advance 39 = .ok (.iconst 1, 1) := by decide +kernel
theorem dX1_advance_40 : decode cX1_advance 40 = .ok (.isub, 1) := by decide +kernel
theorem dX1_advance_41 : decode cX1_advance 41 = .ok (.iastore, 1) := by decide +kernel
theorem dX1_advance_42 : decode cX1_advance 42 = .ok (.return_, 1) := by decide +kernel
abbrev cX1_firstOpen : ByteArray := prog_1_method_10_code
def yX1_firstOpen : MethodName := ⟨RX1, "firstOpen", "(I)I"⟩
theorem dX1_firstOpen_0 : decode cX1_firstOpen 0 = .ok (.iconst 0, 1) := by decide +kernel
theorem dX1_firstOpen_1 : decode cX1_firstOpen 1 = .ok (.istore_n 2, 1) := by decide +kernel
theorem dX1_firstOpen_2 : decode cX1_firstOpen 2 = .ok (.iload_n 2, 1) := by decide +kernel
theorem dX1_firstOpen_3 : decode cX1_firstOpen 3 = .ok (.aload_n 0, 1) := by decide +kernel
theorem dX1_firstOpen_4 : decode cX1_firstOpen 4 = .ok (.getfield 13, 3) := by decide +kernel
theorem dX1_firstOpen_7 : decode cX1_firstOpen 7 = .ok (.iload_n 1, 1) := by decide +kernel
theorem dX1_firstOpen_8 : decode cX1_firstOpen 8 = .ok (.iaload, 1) := by decide +kernel
theorem dX1_firstOpen_9 : decode cX1_firstOpen 9 = .ok (.if_icmp .ge 23, 3) := by decide +kernel
theorem dX1_firstOpen_12 : decode cX1_firstOpen 12 = .ok (.aload_n 0, 1) := by decide +kernel
theorem dX1_firstOpen_13 : decode cX1_firstOpen 13 = .ok (.getfield 16, 3) := by decide +kernel
theorem dX1_firstOpen_16 : decode cX1_firstOpen 16 = .ok (.aload_n 0, 1) := by decide +kernel
theorem dX1_firstOpen_17 : decode cX1_firstOpen 17 = .ok (.iload_n 1, 1) := by decide +kernel
theorem dX1_firstOpen_18 : decode cX1_firstOpen 18 = .ok (.iload_n 2, 1) := by decide +kernel
theorem dX1_firstOpen_19 : decode cX1_firstOpen 19 = .ok (.invokevirtual 55, 3) := by decide +kernel
theorem dX1_firstOpen_22 : decode cX1_firstOpen 22 = .ok (.iaload, 1) := by decide +kernel
theorem dX1_firstOpen_23 : decode cX1_firstOpen 23 = .ok (.ifCond .ne 9, 3) := by decide +kernel
theorem dX1_firstOpen_26 : decode cX1_firstOpen 26 = .ok (.iinc 2 1, 3) := by decide +kernel
theorem dX1_firstOpen_29 : decode cX1_firstOpen 29 = .ok (.goto (-27), 3) := by decide +kernel
theorem dX1_firstOpen_32 : decode cX1_firstOpen 32 = .ok (.iload_n 2, 1) := by decide +kernel
theorem dX1_firstOpen_33 : decode cX1_firstOpen 33 = .ok (.ireturn, 1) := by decide +kernel
abbrev cX1_moveArm : ByteArray := prog_1_method_19_code
def yX1_moveArm : MethodName := ⟨RX1, "moveArm", "(I)V"⟩
theorem dX1_moveArm_0 : decode cX1_moveArm 0 = .ok (.aload_n 0, 1) := by decide +kernel
theorem dX1_moveArm_1 : decode cX1_moveArm 1 = .ok (.getfield 44, 3) := by decide +kernel
theorem dX1_moveArm_4 : decode cX1_moveArm 4 = .ok (.iload_n 1, 1) := by decide +kernel
theorem dX1_moveArm_5 : decode cX1_moveArm 5 = .ok (.iaload, 1) := by decide +kernel
theorem dX1_moveArm_6 : decode cX1_moveArm 6 = .ok (.ifCond .lt 43, 3) := by decide +kernel
theorem dX1_moveArm_9 : decode cX1_moveArm 9 = .ok (.aload_n 0, 1) := by decide +kernel
theorem dX1_moveArm_10 : decode cX1_moveArm 10 = .ok (.aload_n 0, 1) := by decide +kernel
theorem dX1_moveArm_11 : decode cX1_moveArm 11 = .ok (.getfield 35, 3) := by decide +kernel
theorem dX1_moveArm_14 : decode cX1_moveArm 14 = .ok (.iload_n 1, 1) := by decide +kernel
theorem dX1_moveArm_15 : decode cX1_moveArm 15 = .ok (.iaload, 1) := by decide +kernel
theorem dX1_moveArm_16 : decode cX1_moveArm 16 = .ok (.invokevirtual 67, 3) := by decide +kernel
theorem dX1_moveArm_19 : decode cX1_moveArm 19 = .ok (.istore_n 2, 1) := by decide +kernel
theorem dX1_moveArm_20 : decode cX1_moveArm 20 = .ok (.iload_n 2, 1) := by decide +kernel
theorem dX1_moveArm_21 : decode cX1_moveArm 21 = .ok (.ifCond .eq 27, 3) := by decide +kernel
theorem dX1_moveArm_24 : decode cX1_moveArm 24 = .ok (.aload_n 0, 1) := by decide +kernel
theorem dX1_moveArm_25 : decode cX1_moveArm 25 = .ok (.aload_n 0, 1) := by decide +kernel
theorem dX1_moveArm_26 : decode cX1_moveArm 26 = .ok (.getfield 35, 3) := by decide +kernel
theorem dX1_moveArm_29 : decode cX1_moveArm 29 = .ok (.iload_n 1, 1) := by decide +kernel
theorem dX1_moveArm_30 : decode cX1_moveArm 30 = .ok (.iaload, 1) := by decide +kernel
theorem dX1_moveArm_31 : decode cX1_moveArm 31 = .ok (.aload_n 0, 1) := by decide +kernel
theorem dX1_moveArm_32 : decode cX1_moveArm 32 = .ok (.getfield 44, 3) := by decide +kernel
theorem dX1_moveArm_35 : decode cX1_moveArm 35 = .ok (.iload_n 1, 1) := by decide +kernel
theorem dX1_moveArm_36 : decode cX1_moveArm 36 = .ok (.iaload, 1) := by decide +kernel
theorem dX1_moveArm_37 : decode cX1_moveArm 37 = .ok (.invokevirtual 70, 3) := by decide +kernel
theorem dX1_moveArm_40 : decode cX1_moveArm 40 = .ok (.aload_n 0, 1) := by decide +kernel
theorem dX1_moveArm_41 : decode cX1_moveArm 41 = .ok (.getfield 44, 3) := by decide +kernel
theorem dX1_moveArm_44 : decode cX1_moveArm 44 = .ok (.iload_n 1, 1) := by decide +kernel
theorem dX1_moveArm_45 : decode cX1_moveArm 45 = .ok (.bipush (-4), 2) := by decide +kernel
theorem dX1_moveArm_47 : decode cX1_moveArm 47 = .ok (.iastore, 1) := by decide +kernel
theorem dX1_moveArm_48 : decode cX1_moveArm 48 = .ok (.return_, 1) := by decide +kernel
theorem dX1_moveArm_49 : decode cX1_moveArm 49 = .ok (.aload_n 0, 1) := by decide +kernel
theorem dX1_moveArm_50 : decode cX1_moveArm 50 = .ok (.iload_n 1, 1) := by decide +kernel
theorem dX1_moveArm_51 : decode cX1_moveArm 51 = .ok (.invokevirtual 85, 3) := by decide +kernel
theorem dX1_moveArm_54 : decode cX1_moveArm 54 = .ok (.istore_n 2, 1) := by decide +kernel
theorem dX1_moveArm_55 : decode cX1_moveArm 55 = .ok (.iload_n 2, 1) := by decide +kernel
theorem dX1_moveArm_56 : decode cX1_moveArm 56 = .ok (.ifCond .lt 20, 3) := by decide +kernel
theorem dX1_moveArm_59 : decode cX1_moveArm 59 = .ok (.aload_n 0, 1) := by decide +kernel
theorem dX1_moveArm_60 : decode cX1_moveArm 60 = .ok (.getfield 44, 3) := by decide +kernel
theorem dX1_moveArm_63 : decode cX1_moveArm 63 = .ok (.iload_n 1, 1) := by decide +kernel
theorem dX1_moveArm_64 : decode cX1_moveArm 64 = .ok (.aload_n 0, 1) := by decide +kernel
theorem dX1_moveArm_65 : decode cX1_moveArm 65 = .ok (.aload_n 0, 1) := by decide +kernel
theorem dX1_moveArm_66 : decode cX1_moveArm 66 = .ok (.getfield 32, 3) := by decide +kernel
theorem dX1_moveArm_69 : decode cX1_moveArm 69 = .ok (.iload_n 1, 1) := by decide +kernel
theorem dX1_moveArm_70 : decode cX1_moveArm 70 = .ok (.iaload, 1) := by decide +kernel
theorem dX1_moveArm_71 : decode cX1_moveArm 71 = .ok (.iload_n 2, 1) := by decide +kernel
theorem dX1_moveArm_72 : decode cX1_moveArm 72 = .ok (.invokevirtual 76, 3) := by decide +kernel
theorem dX1_moveArm_75 : decode cX1_moveArm 75 = .ok (.iastore, 1) := by decide +kernel
theorem dX1_moveArm_76 : decode cX1_moveArm 76 = .ok (.return_, 1) := by decide +kernel
abbrev cX1_withinReach : ByteArray := prog_1_method_18_code
def yX1_withinReach : MethodName := ⟨RX1, "withinReach", "(I)I"⟩
theorem dX1_withinReach_0 : decode cX1_withinReach 0 = .ok (.aload_n 0, 1) := by decide +kernel
theorem dX1_withinReach_1 : decode cX1_withinReach 1 = .ok (.getfield 32, 3) := by decide +kernel
theorem dX1_withinReach_4 : decode cX1_withinReach 4 = .ok (.iload_n 1, 1) := by decide +kernel
theorem dX1_withinReach_5 : decode cX1_withinReach 5 = .ok (.iaload, 1) := by decide +kernel
theorem dX1_withinReach_6 : decode cX1_withinReach 6 = .ok (.istore_n 2, 1) := by decide +kernel
theorem dX1_withinReach_7 : decode cX1_withinReach 7 = .ok (.bipush (-4), 2) := by decide +kernel
theorem dX1_withinReach_9 : decode cX1_withinReach 9 = .ok (.istore_n 3, 1) := by decide +kernel
theorem dX1_withinReach_10 : decode cX1_withinReach 10 = .ok (.iconst 0, 1) := by decide +kernel
theorem dX1_withinReach_11 : decode cX1_withinReach 11 = .ok (.istore 4, 2) := by decide +kernel
theorem dX1_withinReach_13 : decode cX1_withinReach 13 = .ok (.iload 4, 2) := by decide +kernel
theorem dX1_withinReach_15 : decode cX1_withinReach 15 = .ok (.aload_n 0, 1) := by decide +kernel
theorem dX1_withinReach_16 : decode cX1_withinReach 16 = .ok (.getfield 13, 3) := by decide +kernel
theorem dX1_withinReach_19 : decode cX1_withinReach 19 = .ok (.iload_n 2, 1) := by decide +kernel
theorem dX1_withinReach_20 : decode cX1_withinReach 20 = .ok (.iaload, 1) := by decide +kernel
theorem dX1_withinReach_21 : decode cX1_withinReach 21 = .ok (.if_icmp .ge 87, 3) := by decide +kernel
theorem dX1_withinReach_24 : decode cX1_withinReach 24 = .ok (.aload_n 0, 1) := by decide +kernel
theorem dX1_withinReach_25 : decode cX1_withinReach 25 = .ok (.iload_n 2, 1) := by decide +kernel
theorem dX1_withinReach_26 : decode cX1_withinReach 26 = .ok (.iload 4, 2) := by decide +kernel
theorem dX1_withinReach_28 : decode cX1_withinReach 28 = .ok (.invokevirtual 55, 3) := by decide +kernel
theorem dX1_withinReach_31 : decode cX1_withinReach 31 = .ok (.istore 5, 2) := by decide +kernel
theorem dX1_withinReach_33 : decode cX1_withinReach 33 = .ok (.iload_n 3, 1) := by decide +kernel
theorem dX1_withinReach_34 : decode cX1_withinReach 34 = .ok (.aload_n 0, 1) := by decide +kernel
theorem dX1_withinReach_35 : decode cX1_withinReach 35 = .ok (.getfield 16, 3) := by decide +kernel
theorem dX1_withinReach_38 : decode cX1_withinReach 38 = .ok (.iload 5, 2) := by decide +kernel
theorem dX1_withinReach_40 : decode cX1_withinReach 40 = .ok (.iaload, 1) := by decide +kernel
theorem dX1_withinReach_41 : decode cX1_withinReach 41 = .ok (.iconst 4, 1) := by decide +kernel
theorem dX1_withinReach_42 : decode cX1_withinReach 42 = .ok (.iadd, 1) := by decide +kernel
theorem dX1_withinReach_43 : decode cX1_withinReach 43 = .ok (.iadd, 1) := by decide +kernel
theorem dX1_withinReach_44 : decode cX1_withinReach 44 = .ok (.istore_n 3, 1) := by decide +kernel
theorem dX1_withinReach_45 : decode cX1_withinReach 45 = .ok (.aload_n 0, 1) := by decide +kernel
theorem dX1_withinReach_46 : decode cX1_withinReach 46 = .ok (.getfield 41, 3) := by decide +kernel
theorem dX1_withinReach_49 : decode cX1_withinReach 49 = .ok (.iload_n 1, 1) := by decide +kernel
theorem dX1_withinReach_50 : decode cX1_withinReach 50 = .ok (.iaload, 1) := by decide +kernel
theorem dX1_withinReach_51 : decode cX1_withinReach 51 = .ok (.aload_n 0, 1) := by decide +kernel
theorem dX1_withinReach_52 : decode cX1_withinReach 52 = .ok (.getfield 19, 3) := by decide +kernel
theorem dX1_withinReach_55 : decode cX1_withinReach 55 = .ok (.iload 5, 2) := by decide +kernel
theorem dX1_withinReach_57 : decode cX1_withinReach 57 = .ok (.iaload, 1) := by decide +kernel
theorem dX1_withinReach_58 : decode cX1_withinReach 58 = .ok (.ishr, 1) := by decide +kernel
theorem dX1_withinReach_59 : decode cX1_withinReach 59 = .ok (.iconst 1, 1) := by decide +kernel
theorem dX1_withinReach_60 : decode cX1_withinReach 60 = .ok (.iand, 1) := by decide +kernel
theorem dX1_withinReach_61 : decode cX1_withinReach 61 = .ok (.iconst 1, 1) := by decide +kernel
theorem dX1_withinReach_62 : decode cX1_withinReach 62 = .ok (.if_icmp .ne 7, 3) := by decide +kernel
theorem dX1_withinReach_65 : decode cX1_withinReach 65 = .ok (.iconst 1, 1) := by decide +kernel
theorem dX1_withinReach_66 : decode cX1_withinReach 66 = .ok (.goto 4, 3) := by decide +kernel
theorem dX1_withinReach_69 : decode cX1_withinReach 69 = .ok (.iconst 0, 1) := by decide +kernel
theorem dX1_withinReach_70 : decode cX1_withinReach 70 = .ok (.istore 6, 2) := by decide +kernel
theorem dX1_withinReach_72 : decode cX1_withinReach 72 = .ok (.iload 6, 2) := by decide +kernel
theorem dX1_withinReach_74 : decode cX1_withinReach 74 = .ok (.ifCond .eq 28, 3) := by decide +kernel
theorem dX1_withinReach_77 : decode cX1_withinReach 77 = .ok (.iload_n 3, 1) := by decide +kernel
theorem dX1_withinReach_78 : decode cX1_withinReach 78 = .ok (.aload_n 0, 1) := by decide +kernel
theorem dX1_withinReach_79 : decode cX1_withinReach 79 = .ok (.getfield 38, 3) := by decide +kernel
theorem dX1_withinReach_82 : decode cX1_withinReach 82 = .ok (.iload_n 1, 1) := by decide +kernel
theorem dX1_withinReach_83 : decode cX1_withinReach 83 = .ok (.iaload, 1) := by decide +kernel
theorem dX1_withinReach_84 : decode cX1_withinReach 84 = .ok (.if_icmp .lt 18, 3) := by decide +kernel
theorem dX1_withinReach_87 : decode cX1_withinReach 87 = .ok (.iload_n 3, 1) := by decide +kernel
theorem dX1_withinReach_88 : decode cX1_withinReach 88 = .ok (.aload_n 0, 1) := by decide +kernel
theorem dX1_withinReach_89 : decode cX1_withinReach 89 = .ok (.getfield 38, 3) := by decide +kernel
theorem dX1_withinReach_92 : decode cX1_withinReach 92 = .ok (.iload_n 1, 1) := by decide +kernel
theorem dX1_withinReach_93 : decode cX1_withinReach 93 = .ok (.iaload, 1) := by decide +kernel
theorem dX1_withinReach_94 : decode cX1_withinReach 94 = .ok (.iconst 3, 1) := by decide +kernel
theorem dX1_withinReach_95 : decode cX1_withinReach 95 = .ok (.iadd, 1) := by decide +kernel
theorem dX1_withinReach_96 : decode cX1_withinReach 96 = .ok (.if_icmp .gt 6, 3) := by decide +kernel
theorem dX1_withinReach_99 : decode cX1_withinReach 99 = .ok (.iload 4, 2) := by decide +kernel
theorem dX1_withinReach_101 : decode cX1_withinReach 101 = .ok (.ireturn, 1) := by decide +kernel
theorem dX1_withinReach_102 : decode cX1_withinReach 102 = .ok (.iinc 4 1, 3) := by decide +kernel
theorem dX1_withinReach_105 : decode cX1_withinReach 105 = .ok (.goto (-92), 3) := by decide +kernel
theorem dX1_withinReach_108 : decode cX1_withinReach 108 = .ok (.iconst (-1), 1) := by decide +kernel
theorem dX1_withinReach_109 : decode cX1_withinReach 109 = .ok (.ireturn, 1) := by decide +kernel
abbrev cX1_items : ByteArray := prog_1_method_22_code
def yX1_items : MethodName := ⟨RX1, "items", "(I)I"⟩
theorem dX1_items_0 : decode cX1_items 0 = .ok (.iload_n 1, 1) := by decide +kernel
theorem dX1_items_1 : decode cX1_items 1 = .ok (.invokestatic 63, 3) := by decide +kernel
theorem dX1_items_4 : decode cX1_items 4 = .ok (.ifCond .eq 7, 3) := by decide +kernel
theorem dX1_items_7 : decode cX1_items 7 = .ok (.iconst (-1), 1) := by decide +kernel
theorem dX1_items_8 : decode cX1_items 8 = .ok (.goto 9, 3) := by decide +kernel
theorem dX1_items_11 : decode cX1_items 11 = .ok (.aload_n 0, 1) := by decide +kernel
theorem dX1_items_12 : decode cX1_items 12 = .ok (.getfield 13, 3) := by decide +kernel
theorem dX1_items_15 : decode cX1_items 15 = .ok (.iload_n 1, 1) := by decide +kernel
theorem dX1_items_16 : decode cX1_items 16 = .ok (.iaload, 1) := by decide +kernel
theorem dX1_items_17 : decode cX1_items 17 = .ok (.ireturn, 1) := by decide +kernel
abbrev cX1_place : ByteArray := prog_1_method_23_code
def yX1_place : MethodName := ⟨RX1, "place", "(II)I"⟩
theorem dX1_place_0 : decode cX1_place 0 = .ok (.iload_n 1, 1) := by decide +kernel
theorem dX1_place_1 : decode cX1_place 1 = .ok (.invokestatic 63, 3) := by decide +kernel
theorem dX1_place_4 : decode cX1_place 4 = .ok (.ifCond .eq 5, 3) := by decide +kernel
theorem dX1_place_7 : decode cX1_place 7 = .ok (.iconst (-1), 1) := by decide +kernel
theorem dX1_place_8 : decode cX1_place 8 = .ok (.ireturn, 1) := by decide +kernel
theorem dX1_place_9 : decode cX1_place 9 = .ok (.iload_n 2, 1) := by decide +kernel
theorem dX1_place_10 : decode cX1_place 10 = .ok (.ifCond .lt 13, 3) := by decide +kernel
theorem dX1_place_13 : decode cX1_place 13 = .ok (.iload_n 2, 1) := by decide +kernel
theorem dX1_place_14 : decode cX1_place 14 = .ok (.aload_n 0, 1) := by decide +kernel
theorem dX1_place_15 : decode cX1_place 15 = .ok (.getfield 13, 3) := by decide +kernel
theorem dX1_place_18 : decode cX1_place 18 = .ok (.iload_n 1, 1) := by decide +kernel
theorem dX1_place_19 : decode cX1_place 19 = .ok (.iaload, 1) := by decide +kernel
theorem dX1_place_20 : decode cX1_place 20 = .ok (.if_icmp .lt 6, 3) := by decide +kernel
theorem dX1_place_23 : decode cX1_place 23 = .ok (.bipush (-4), 2) := by decide +kernel
theorem dX1_place_25 : decode cX1_place 25 = .ok (.ireturn, 1) := by decide +kernel
theorem dX1_place_26 : decode cX1_place 26 = .ok (.aload_n 0, 1) := by decide +kernel
theorem dX1_place_27 : decode cX1_place 27 = .ok (.iload_n 1, 1) := by decide +kernel
theorem dX1_place_28 : decode cX1_place 28 = .ok (.iload_n 2, 1) := by decide +kernel
theorem dX1_place_29 : decode cX1_place 29 = .ok (.invokevirtual 101, 3) := by decide +kernel
theorem dX1_place_32 : decode cX1_place 32 = .ok (.ireturn, 1) := by decide +kernel
abbrev cX1_placeOf : ByteArray := prog_1_method_6_code
def yX1_placeOf : MethodName := ⟨RX1, "placeOf", "(II)I"⟩
theorem dX1_placeOf_0 : decode cX1_placeOf 0 = .ok (.iconst 4, 1) := by decide +kernel
theorem dX1_placeOf_1 : decode cX1_placeOf 1 = .ok (.iload_n 2, 1) := by decide +kernel
theorem dX1_placeOf_2 : decode cX1_placeOf 2 = .ok (.imul, 1) := by decide +kernel
theorem dX1_placeOf_3 : decode cX1_placeOf 3 = .ok (.istore_n 3, 1) := by decide +kernel
theorem dX1_placeOf_4 : decode cX1_placeOf 4 = .ok (.iconst 0, 1) := by decide +kernel
theorem dX1_placeOf_5 : decode cX1_placeOf 5 = .ok (.istore 4, 2) := by decide +kernel
theorem dX1_placeOf_7 : decode cX1_placeOf 7 = .ok (.iload 4, 2) := by decide +kernel
theorem dX1_placeOf_9 : decode cX1_placeOf 9 = .ok (.iload_n 2, 1) := by decide +kernel
theorem dX1_placeOf_10 : decode cX1_placeOf 10 = .ok (.if_icmp .gt 24, 3) := by decide +kernel
theorem dX1_placeOf_13 : decode cX1_placeOf 13 = .ok (.iload_n 3, 1) := by decide +kernel
theorem dX1_placeOf_14 : decode cX1_placeOf 14 = .ok (.aload_n 0, 1) := by decide +kernel
theorem dX1_placeOf_15 : decode cX1_placeOf 15 = .ok (.getfield 16, 3) := by decide +kernel
theorem dX1_placeOf_18 : decode cX1_placeOf 18 = .ok (.aload_n 0, 1) := by decide +kernel
theorem dX1_placeOf_19 : decode cX1_placeOf 19 = .ok (.iload_n 1, 1) := by decide +kernel
theorem dX1_placeOf_20 : decode cX1_placeOf 20 = .ok (.iload 4, 2) := by decide +kernel
theorem dX1_placeOf_22 : decode cX1_placeOf 22 = .ok (.invokevirtual 55, 3) := by decide +kernel
theorem dX1_placeOf_25 : decode cX1_placeOf 25 = .ok (.iaload, 1) := by decide +kernel
theorem dX1_placeOf_26 : decode cX1_placeOf 26 = .ok (.iadd, 1) := by decide +kernel
theorem dX1_placeOf_27 : decode cX1_placeOf 27 = .ok (.istore_n 3, 1) := by decide +kernel
theorem dX1_placeOf_28 : decode cX1_placeOf 28 = .ok (.iinc 4 1, 3) := by decide +kernel
theorem dX1_placeOf_31 : decode cX1_placeOf 31 = .ok (.goto (-24), 3) := by decide +kernel
theorem dX1_placeOf_34 : decode cX1_placeOf 34 = .ok (.iload_n 3, 1) := by decide +kernel
theorem dX1_placeOf_35 : decode cX1_placeOf 35 = .ok (.ireturn, 1) := by decide +kernel
abbrev cX1_kind : ByteArray := prog_1_method_24_code
def yX1_kind : MethodName := ⟨RX1, "kind", "(II)I"⟩
theorem dX1_kind_0 : decode cX1_kind 0 = .ok (.iload_n 1, 1) := by decide +kernel
theorem dX1_kind_1 : decode cX1_kind 1 = .ok (.invokestatic 63, 3) := by decide +kernel
theorem dX1_kind_4 : decode cX1_kind 4 = .ok (.ifCond .eq 5, 3) := by decide +kernel
theorem dX1_kind_7 : decode cX1_kind 7 = .ok (.iconst (-1), 1) := by decide +kernel
theorem dX1_kind_8 : decode cX1_kind 8 = .ok (.ireturn, 1) := by decide +kernel
theorem dX1_kind_9 : decode cX1_kind 9 = .ok (.iload_n 2, 1) := by decide +kernel
theorem dX1_kind_10 : decode cX1_kind 10 = .ok (.ifCond .lt 13, 3) := by decide +kernel
theorem dX1_kind_13 : decode cX1_kind 13 = .ok (.iload_n 2, 1) := by decide +kernel
theorem dX1_kind_14 : decode cX1_kind 14 = .ok (.aload_n 0, 1) := by decide +kernel
theorem dX1_kind_15 : decode cX1_kind 15 = .ok (.getfield 13, 3) := by decide +kernel
theorem dX1_kind_18 : decode cX1_kind 18 = .ok (.iload_n 1, 1) := by decide +kernel
theorem dX1_kind_19 : decode cX1_kind 19 = .ok (.iaload, 1) := by decide +kernel
theorem dX1_kind_20 : decode cX1_kind 20 = .ok (.if_icmp .lt 8, 3) := by decide +kernel
theorem dX1_kind_23 : decode cX1_kind 23 = .ok (.bipush (-4), 2) := by decide +kernel
theorem dX1_kind_25 : decode cX1_kind 25 = .ok (.goto 14, 3) := by decide +kernel
theorem dX1_kind_28 : decode cX1_kind 28 = .ok (.aload_n 0, 1) := by decide +kernel
theorem dX1_kind_29 : decode cX1_kind 29 = .ok (.getfield 19, 3) := by decide +kernel
theorem dX1_kind_32 : decode cX1_kind 32 = .ok (.aload_n 0, 1) := by decide +kernel
theorem dX1_kind_33 : decode cX1_kind 33 = .ok (.iload_n 1, 1) := by decide +kernel
theorem dX1_kind_34 : decode cX1_kind 34 = .ok (.iload_n 2, 1) := by decide +kernel
theorem dX1_kind_35 : decode cX1_kind 35 = .ok (.invokevirtual 55, 3) := by decide +kernel
theorem dX1_kind_38 : decode cX1_kind 38 = .ok (.iaload, 1) := by decide +kernel
theorem dX1_kind_39 : decode cX1_kind 39 = .ok (.ireturn, 1) := by decide +kernel
abbrev cX1_out : ByteArray := prog_1_method_25_code
def yX1_out : MethodName := ⟨RX1, "out", "()I"⟩
theorem dX1_out_0 : decode cX1_out 0 = .ok (.aload_n 0, 1) := by decide +kernel
theorem dX1_out_1 : decode cX1_out 1 = .ok (.getfield 79, 3) := by decide +kernel
theorem dX1_out_4 : decode cX1_out 4 = .ok (.ireturn, 1) := by decide +kernel
abbrev cX1_held : ByteArray := prog_1_method_26_code
def yX1_held : MethodName := ⟨RX1, "held", "(I)I"⟩
theorem dX1_held_0 : decode cX1_held 0 = .ok (.iload_n 1, 1) := by decide +kernel
theorem dX1_held_1 : decode cX1_held 1 = .ok (.ifCond .lt 8, 3) := by decide +kernel
theorem dX1_held_4 : decode cX1_held 4 = .ok (.iload_n 1, 1) := by decide +kernel
theorem dX1_held_5 : decode cX1_held 5 = .ok (.iconst 1, 1) := by decide +kernel
theorem dX1_held_6 : decode cX1_held 6 = .ok (.if_icmp .le 8, 3) := by decide +kernel
theorem dX1_held_9 : decode cX1_held 9 = .ok (.bipush (-5), 2) := by decide +kernel
theorem dX1_held_11 : decode cX1_held 11 = .ok (.goto 9, 3) := by decide +kernel
theorem dX1_held_14 : decode cX1_held 14 = .ok (.aload_n 0, 1) := by decide +kernel
theorem dX1_held_15 : decode cX1_held 15 = .ok (.getfield 44, 3) := by decide +kernel
theorem dX1_held_18 : decode cX1_held 18 = .ok (.iload_n 1, 1) := by decide +kernel
theorem dX1_held_19 : decode cX1_held 19 = .ok (.iaload, 1) := by decide +kernel
theorem dX1_held_20 : decode cX1_held 20 = .ok (.ireturn, 1) := by decide +kernel
abbrev cX1_room : ByteArray := prog_1_method_27_code
def yX1_room : MethodName := ⟨RX1, "room", "(I)Z"⟩
theorem dX1_room_0 : decode cX1_room 0 = .ok (.iload_n 1, 1) := by decide +kernel
theorem dX1_room_1 : decode cX1_room 1 = .ok (.invokestatic 63, 3) := by decide +kernel
theorem dX1_room_4 : decode cX1_room 4 = .ok (.ifCond .eq 5, 3) := by decide +kernel
theorem dX1_room_7 : decode cX1_room 7 = .ok (.iconst 0, 1) := by decide +kernel
theorem dX1_room_8 : decode cX1_room 8 = .ok (.ireturn, 1) := by decide +kernel
theorem dX1_room_9 : decode cX1_room 9 = .ok (.aload_n 0, 1) := by decide +kernel
theorem dX1_room_10 : decode cX1_room 10 = .ok (.iload_n 1, 1) := by decide +kernel
theorem dX1_room_11 : decode cX1_room 11 = .ok (.invokevirtual 67, 3) := by decide +kernel
theorem dX1_room_14 : decode cX1_room 14 = .ok (.ireturn, 1) := by decide +kernel
abbrev cX1_moving : ByteArray := prog_1_method_28_code
def yX1_moving : MethodName := ⟨RX1, "moving", "(I)I"⟩
theorem dX1_moving_0 : decode cX1_moving 0 = .ok (.iload_n 1, 1) := by decide +kernel
theorem dX1_moving_1 : decode cX1_moving 1 = .ok (.invokestatic 63, 3) := by decide +kernel
theorem dX1_moving_4 : decode cX1_moving 4 = .ok (.ifCond .eq 5, 3) := by decide +kernel
theorem dX1_moving_7 : decode cX1_moving 7 = .ok (.iconst (-1), 1) := by decide +kernel
theorem dX1_moving_8 : decode cX1_moving 8 = .ok (.ireturn, 1) := by decide +kernel
theorem dX1_moving_9 : decode cX1_moving 9 = .ok (.aload_n 0, 1) := by decide +kernel
theorem dX1_moving_10 : decode cX1_moving 10 = .ok (.getfield 13, 3) := by decide +kernel
theorem dX1_moving_13 : decode cX1_moving 13 = .ok (.iload_n 1, 1) := by decide +kernel
theorem dX1_moving_14 : decode cX1_moving 14 = .ok (.iaload, 1) := by decide +kernel
theorem dX1_moving_15 : decode cX1_moving 15 = .ok (.aload_n 0, 1) := by decide +kernel
theorem dX1_moving_16 : decode cX1_moving 16 = .ok (.iload_n 1, 1) := by decide +kernel
theorem dX1_moving_17 : decode cX1_moving 17 = .ok (.invokevirtual 82, 3) := by decide +kernel
theorem dX1_moving_20 : decode cX1_moving 20 = .ok (.isub, 1) := by decide +kernel
theorem dX1_moving_21 : decode cX1_moving 21 = .ok (.ireturn, 1) := by decide +kernel
theorem q22 : (Jvm.Cond.initialized "BeltLanes") ∈ lw_all := lw_g (lw_at lw_m1 1 rfl) rfl
theorem q25 : (Jvm.Cond.instantiable "BeltLanes" (14 : Nat)) ∈ lw_all := lw_g (lw_at lw_m1 4 rfl) rfl
theorem q27 : (Jvm.Cond.instanceMethod ({ cls := "BeltLanes", name := "<init>", desc := "(I)V" } : Jvm.MethodName)) ∈ lw_all := lw_g (lw_at lw_m1 6 rfl) rfl
theorem q28 : (Jvm.Cond.code ({ cls := "BeltLanes", name := "<init>", desc := "(I)V" } : Jvm.MethodName) prog_1_method_1_code (4 : Nat) (Option.none : Option Jvm.ClassFile.FieldType)) ∈ lw_all := lw_g (lw_at lw_m1 7 rfl) rfl
theorem q29 : (Jvm.Cond.methodLink "BeltLanes" (1 : Nat) ({ cls := "java/lang/Object", name := "<init>", desc := "()V" } : Jvm.MethodName)) ∈ lw_all := lw_g (lw_at lw_m1 8 rfl) rfl
theorem q32 : (Jvm.Cond.fieldLink "BeltLanes" (47 : Nat) "BeltLanes" "length" "I") ∈ lw_all := lw_g (lw_at lw_m1 11 rfl) rfl
theorem q33 : (Jvm.Cond.fieldLink "BeltLanes" (7 : Nat) "BeltLanes" "head" "[I") ∈ lw_all := lw_g (lw_at lw_m1 12 rfl) rfl
theorem q34 : (Jvm.Cond.fieldLink "BeltLanes" (13 : Nat) "BeltLanes" "count" "[I") ∈ lw_all := lw_g (lw_at lw_m1 13 rfl) rfl
theorem q35 : (Jvm.Cond.fieldLink "BeltLanes" (16 : Nat) "BeltLanes" "gap" "[I") ∈ lw_all := lw_g (lw_at lw_m1 14 rfl) rfl
theorem q36 : (Jvm.Cond.fieldLink "BeltLanes" (19 : Nat) "BeltLanes" "kinds" "[I") ∈ lw_all := lw_g (lw_at lw_m1 15 rfl) rfl
theorem q37 : (Jvm.Cond.fieldLink "BeltLanes" (22 : Nat) "BeltLanes" "gaps" "[I") ∈ lw_all := lw_g (lw_at lw_m1 16 rfl) rfl
theorem q38 : (Jvm.Cond.fieldLink "BeltLanes" (25 : Nat) "BeltLanes" "leads" "[I") ∈ lw_all := lw_g (lw_at lw_m1 17 rfl) rfl
theorem q39 : (Jvm.Cond.fieldLink "BeltLanes" (28 : Nat) "BeltLanes" "set" "[Z") ∈ lw_all := lw_g (lw_at lw_m1 18 rfl) rfl
theorem q40 : (Jvm.Cond.fieldLink "BeltLanes" (32 : Nat) "BeltLanes" "takesFrom" "[I") ∈ lw_all := lw_g (lw_at lw_m1 19 rfl) rfl
theorem q41 : (Jvm.Cond.fieldLink "BeltLanes" (35 : Nat) "BeltLanes" "putsOn" "[I") ∈ lw_all := lw_g (lw_at lw_m1 20 rfl) rfl
theorem q42 : (Jvm.Cond.fieldLink "BeltLanes" (38 : Nat) "BeltLanes" "reach" "[I") ∈ lw_all := lw_g (lw_at lw_m1 21 rfl) rfl
theorem q43 : (Jvm.Cond.fieldLink "BeltLanes" (41 : Nat) "BeltLanes" "takesKinds" "[I") ∈ lw_all := lw_g (lw_at lw_m1 22 rfl) rfl
theorem q44 : (Jvm.Cond.fieldLink "BeltLanes" (44 : Nat) "BeltLanes" "holds" "[I") ∈ lw_all := lw_g (lw_at lw_m1 23 rfl) rfl
theorem q45 : (Jvm.Cond.fieldLink "BeltLanes" (79 : Nat) "BeltLanes" "gone" "I") ∈ lw_all := lw_g (lw_at lw_m1 24 rfl) rfl
theorem q46 : (Jvm.Cond.laysFinal "BeltLanes" "BeltLanes" "length" "I") ∈ lw_all := lw_g (lw_at lw_m1 25 rfl) rfl
theorem q47 : (Jvm.Cond.soleField "BeltLanes" "length") ∈ lw_all := lw_g (lw_at lw_m1 26 rfl) rfl
theorem q48 : (Jvm.Cond.laysFinal "BeltLanes" "BeltLanes" "head" "[I") ∈ lw_all := lw_g (lw_at lw_m1 27 rfl) rfl
theorem q49 : (Jvm.Cond.soleField "BeltLanes" "head") ∈ lw_all := lw_g (lw_at lw_m1 28 rfl) rfl
theorem q50 : (Jvm.Cond.laysFinal "BeltLanes" "BeltLanes" "count" "[I") ∈ lw_all := lw_g (lw_at lw_m1 29 rfl) rfl
theorem q51 : (Jvm.Cond.soleField "BeltLanes" "count") ∈ lw_all := lw_g (lw_at lw_m1 30 rfl) rfl
theorem q52 : (Jvm.Cond.laysFinal "BeltLanes" "BeltLanes" "gap" "[I") ∈ lw_all := lw_g (lw_at lw_m1 31 rfl) rfl
theorem q53 : (Jvm.Cond.soleField "BeltLanes" "gap") ∈ lw_all := lw_g (lw_at lw_m1 32 rfl) rfl
theorem q54 : (Jvm.Cond.laysFinal "BeltLanes" "BeltLanes" "kinds" "[I") ∈ lw_all := lw_g (lw_at lw_m1 33 rfl) rfl
theorem q55 : (Jvm.Cond.soleField "BeltLanes" "kinds") ∈ lw_all := lw_g (lw_at lw_m1 34 rfl) rfl
theorem q56 : (Jvm.Cond.laysFinal "BeltLanes" "BeltLanes" "gaps" "[I") ∈ lw_all := lw_g (lw_at lw_m1 35 rfl) rfl
theorem q57 : (Jvm.Cond.soleField "BeltLanes" "gaps") ∈ lw_all := lw_g (lw_at lw_m1 36 rfl) rfl
theorem q58 : (Jvm.Cond.laysFinal "BeltLanes" "BeltLanes" "leads" "[I") ∈ lw_all := lw_g (lw_at lw_m1 37 rfl) rfl
theorem q59 : (Jvm.Cond.soleField "BeltLanes" "leads") ∈ lw_all := lw_g (lw_at lw_m1 38 rfl) rfl
theorem q60 : (Jvm.Cond.laysFinal "BeltLanes" "BeltLanes" "set" "[Z") ∈ lw_all := lw_g (lw_at lw_m1 39 rfl) rfl
theorem q61 : (Jvm.Cond.soleField "BeltLanes" "set") ∈ lw_all := lw_g (lw_at lw_m1 40 rfl) rfl
theorem q62 : (Jvm.Cond.laysFinal "BeltLanes" "BeltLanes" "takesFrom" "[I") ∈ lw_all := lw_g (lw_at lw_m1 41 rfl) rfl
theorem q63 : (Jvm.Cond.soleField "BeltLanes" "takesFrom") ∈ lw_all := lw_g (lw_at lw_m1 42 rfl) rfl
theorem q64 : (Jvm.Cond.laysFinal "BeltLanes" "BeltLanes" "putsOn" "[I") ∈ lw_all := lw_g (lw_at lw_m1 43 rfl) rfl
theorem q65 : (Jvm.Cond.soleField "BeltLanes" "putsOn") ∈ lw_all := lw_g (lw_at lw_m1 44 rfl) rfl
theorem q66 : (Jvm.Cond.laysFinal "BeltLanes" "BeltLanes" "reach" "[I") ∈ lw_all := lw_g (lw_at lw_m1 45 rfl) rfl
theorem q67 : (Jvm.Cond.soleField "BeltLanes" "reach") ∈ lw_all := lw_g (lw_at lw_m1 46 rfl) rfl
theorem q68 : (Jvm.Cond.laysFinal "BeltLanes" "BeltLanes" "takesKinds" "[I") ∈ lw_all := lw_g (lw_at lw_m1 47 rfl) rfl
theorem q69 : (Jvm.Cond.soleField "BeltLanes" "takesKinds") ∈ lw_all := lw_g (lw_at lw_m1 48 rfl) rfl
theorem q70 : (Jvm.Cond.laysFinal "BeltLanes" "BeltLanes" "holds" "[I") ∈ lw_all := lw_g (lw_at lw_m1 49 rfl) rfl
theorem q71 : (Jvm.Cond.soleField "BeltLanes" "holds") ∈ lw_all := lw_g (lw_at lw_m1 50 rfl) rfl
theorem q72 : (Jvm.Cond.lays "BeltLanes" "BeltLanes" "gone" "I") ∈ lw_all := lw_g (lw_at lw_m1 51 rfl) rfl
theorem q73 : (Jvm.Cond.soleField "BeltLanes" "gone") ∈ lw_all := lw_g (lw_at lw_m1 52 rfl) rfl
theorem q74 : (Jvm.Cond.superclass "BeltLanes" "java/lang/Object") ∈ lw_all := lw_g (lw_at lw_m1 53 rfl) rfl
theorem q78 : (Jvm.Cond.instanceMethod ({ cls := "BeltLanes", name := "put", desc := "(II)I" } : Jvm.MethodName)) ∈ lw_all := lw_g (lw_at lw_m1 57 rfl) rfl
theorem q79 : (Jvm.Cond.selects "BeltLanes" ({ cls := "BeltLanes", name := "put", desc := "(II)I" } : Jvm.MethodName) ({ cls := "BeltLanes", name := "put", desc := "(II)I" } : Jvm.MethodName)) ∈ lw_all := lw_g (lw_at lw_m1 58 rfl) rfl
theorem q80 : (Jvm.Cond.code ({ cls := "BeltLanes", name := "put", desc := "(II)I" } : Jvm.MethodName) prog_1_method_11_code (3 : Nat) (Option.some Jvm.ClassFile.FieldType.int)) ∈ lw_all := lw_g (lw_at lw_m1 59 rfl) rfl
theorem q81 : (Jvm.Cond.methodLink "BeltLanes" (63 : Nat) ({ cls := "BeltLanes", name := "bad", desc := "(I)Z" } : Jvm.MethodName)) ∈ lw_all := lw_g (lw_at lw_m1 60 rfl) rfl
theorem q82 : (Jvm.Cond.static ({ cls := "BeltLanes", name := "bad", desc := "(I)Z" } : Jvm.MethodName)) ∈ lw_all := lw_g (lw_at lw_m1 61 rfl) rfl
theorem q83 : (Jvm.Cond.code ({ cls := "BeltLanes", name := "bad", desc := "(I)Z" } : Jvm.MethodName) prog_1_method_2_code (1 : Nat) (Option.some Jvm.ClassFile.FieldType.boolean)) ∈ lw_all := lw_g (lw_at lw_m1 62 rfl) rfl
theorem q84 : (Jvm.Cond.methodLink "BeltLanes" (67 : Nat) ({ cls := "BeltLanes", name := "hasRoom", desc := "(I)Z" } : Jvm.MethodName)) ∈ lw_all := lw_g (lw_at lw_m1 63 rfl) rfl
theorem q85 : (Jvm.Cond.privateMethod ({ cls := "BeltLanes", name := "hasRoom", desc := "(I)Z" } : Jvm.MethodName)) ∈ lw_tbl := lw_at lw_m1 64 rfl
theorem q86 : (Jvm.Cond.instanceMethod ({ cls := "BeltLanes", name := "hasRoom", desc := "(I)Z" } : Jvm.MethodName)) ∈ lw_all := lw_g (lw_at lw_m1 65 rfl) rfl
theorem q87 : (Jvm.Cond.code ({ cls := "BeltLanes", name := "hasRoom", desc := "(I)Z" } : Jvm.MethodName) prog_1_method_5_code (3 : Nat) (Option.some Jvm.ClassFile.FieldType.boolean)) ∈ lw_all := lw_g (lw_at lw_m1 66 rfl) rfl
theorem q88 : (Jvm.Cond.methodLink "BeltLanes" (51 : Nat) ({ cls := "BeltLanes", name := "lastPlace", desc := "(I)I" } : Jvm.MethodName)) ∈ lw_all := lw_g (lw_at lw_m1 67 rfl) rfl
theorem q89 : (Jvm.Cond.privateMethod ({ cls := "BeltLanes", name := "lastPlace", desc := "(I)I" } : Jvm.MethodName)) ∈ lw_tbl := lw_at lw_m1 68 rfl
theorem q90 : (Jvm.Cond.instanceMethod ({ cls := "BeltLanes", name := "lastPlace", desc := "(I)I" } : Jvm.MethodName)) ∈ lw_all := lw_g (lw_at lw_m1 69 rfl) rfl
theorem q91 : (Jvm.Cond.code ({ cls := "BeltLanes", name := "lastPlace", desc := "(I)I" } : Jvm.MethodName) prog_1_method_4_code (2 : Nat) (Option.some Jvm.ClassFile.FieldType.int)) ∈ lw_all := lw_g (lw_at lw_m1 70 rfl) rfl
theorem q92 : (Jvm.Cond.methodLink "BeltLanes" (70 : Nat) ({ cls := "BeltLanes", name := "append", desc := "(II)V" } : Jvm.MethodName)) ∈ lw_all := lw_g (lw_at lw_m1 71 rfl) rfl
theorem q93 : (Jvm.Cond.privateMethod ({ cls := "BeltLanes", name := "append", desc := "(II)V" } : Jvm.MethodName)) ∈ lw_tbl := lw_at lw_m1 72 rfl
theorem q94 : (Jvm.Cond.instanceMethod ({ cls := "BeltLanes", name := "append", desc := "(II)V" } : Jvm.MethodName)) ∈ lw_all := lw_g (lw_at lw_m1 73 rfl) rfl
theorem q95 : (Jvm.Cond.code ({ cls := "BeltLanes", name := "append", desc := "(II)V" } : Jvm.MethodName) prog_1_method_7_code (5 : Nat) (Option.none : Option Jvm.ClassFile.FieldType)) ∈ lw_all := lw_g (lw_at lw_m1 74 rfl) rfl
theorem q96 : (Jvm.Cond.methodLink "BeltLanes" (55 : Nat) ({ cls := "BeltLanes", name := "slot", desc := "(II)I" } : Jvm.MethodName)) ∈ lw_all := lw_g (lw_at lw_m1 75 rfl) rfl
theorem q97 : (Jvm.Cond.privateMethod ({ cls := "BeltLanes", name := "slot", desc := "(II)I" } : Jvm.MethodName)) ∈ lw_tbl := lw_at lw_m1 76 rfl
theorem q98 : (Jvm.Cond.instanceMethod ({ cls := "BeltLanes", name := "slot", desc := "(II)I" } : Jvm.MethodName)) ∈ lw_all := lw_g (lw_at lw_m1 77 rfl) rfl
theorem q99 : (Jvm.Cond.code ({ cls := "BeltLanes", name := "slot", desc := "(II)I" } : Jvm.MethodName) prog_1_method_3_code (3 : Nat) (Option.some Jvm.ClassFile.FieldType.int)) ∈ lw_all := lw_g (lw_at lw_m1 78 rfl) rfl
theorem q101 : (Jvm.Cond.instanceMethod ({ cls := "BeltLanes", name := "take", desc := "(I)I" } : Jvm.MethodName)) ∈ lw_all := lw_g (lw_at lw_m1 80 rfl) rfl
theorem q102 : (Jvm.Cond.selects "BeltLanes" ({ cls := "BeltLanes", name := "take", desc := "(I)I" } : Jvm.MethodName) ({ cls := "BeltLanes", name := "take", desc := "(I)I" } : Jvm.MethodName)) ∈ lw_all := lw_g (lw_at lw_m1 81 rfl) rfl
theorem q103 : (Jvm.Cond.code ({ cls := "BeltLanes", name := "take", desc := "(I)I" } : Jvm.MethodName) prog_1_method_13_code (2 : Nat) (Option.some Jvm.ClassFile.FieldType.int)) ∈ lw_all := lw_g (lw_at lw_m1 82 rfl) rfl
theorem q104 : (Jvm.Cond.methodLink "BeltLanes" (73 : Nat) ({ cls := "BeltLanes", name := "atEnd", desc := "(I)Z" } : Jvm.MethodName)) ∈ lw_all := lw_g (lw_at lw_m1 83 rfl) rfl
theorem q105 : (Jvm.Cond.privateMethod ({ cls := "BeltLanes", name := "atEnd", desc := "(I)Z" } : Jvm.MethodName)) ∈ lw_tbl := lw_at lw_m1 84 rfl
theorem q106 : (Jvm.Cond.instanceMethod ({ cls := "BeltLanes", name := "atEnd", desc := "(I)Z" } : Jvm.MethodName)) ∈ lw_all := lw_g (lw_at lw_m1 85 rfl) rfl
theorem q107 : (Jvm.Cond.code ({ cls := "BeltLanes", name := "atEnd", desc := "(I)Z" } : Jvm.MethodName) prog_1_method_12_code (2 : Nat) (Option.some Jvm.ClassFile.FieldType.boolean)) ∈ lw_all := lw_g (lw_at lw_m1 86 rfl) rfl
theorem q108 : (Jvm.Cond.methodLink "BeltLanes" (76 : Nat) ({ cls := "BeltLanes", name := "removeItem", desc := "(II)I" } : Jvm.MethodName)) ∈ lw_all := lw_g (lw_at lw_m1 87 rfl) rfl
theorem q109 : (Jvm.Cond.privateMethod ({ cls := "BeltLanes", name := "removeItem", desc := "(II)I" } : Jvm.MethodName)) ∈ lw_tbl := lw_at lw_m1 88 rfl
theorem q110 : (Jvm.Cond.instanceMethod ({ cls := "BeltLanes", name := "removeItem", desc := "(II)I" } : Jvm.MethodName)) ∈ lw_all := lw_g (lw_at lw_m1 89 rfl) rfl
theorem q111 : (Jvm.Cond.code ({ cls := "BeltLanes", name := "removeItem", desc := "(II)I" } : Jvm.MethodName) prog_1_method_8_code (6 : Nat) (Option.some Jvm.ClassFile.FieldType.int)) ∈ lw_all := lw_g (lw_at lw_m1 90 rfl) rfl
theorem q112 : (Jvm.Cond.methodLink "BeltLanes" (59 : Nat) ({ cls := "BeltLanes", name := "closeUp", desc := "(II)V" } : Jvm.MethodName)) ∈ lw_all := lw_g (lw_at lw_m1 91 rfl) rfl
theorem q113 : (Jvm.Cond.privateMethod ({ cls := "BeltLanes", name := "closeUp", desc := "(II)V" } : Jvm.MethodName)) ∈ lw_tbl := lw_at lw_m1 92 rfl
theorem q114 : (Jvm.Cond.instanceMethod ({ cls := "BeltLanes", name := "closeUp", desc := "(II)V" } : Jvm.MethodName)) ∈ lw_all := lw_g (lw_at lw_m1 93 rfl) rfl
theorem q115 : (Jvm.Cond.code ({ cls := "BeltLanes", name := "closeUp", desc := "(II)V" } : Jvm.MethodName) prog_1_method_9_code (6 : Nat) (Option.none : Option Jvm.ClassFile.FieldType)) ∈ lw_all := lw_g (lw_at lw_m1 94 rfl) rfl
theorem q117 : (Jvm.Cond.instanceMethod ({ cls := "BeltLanes", name := "lead", desc := "(II)I" } : Jvm.MethodName)) ∈ lw_all := lw_g (lw_at lw_m1 96 rfl) rfl
theorem q118 : (Jvm.Cond.selects "BeltLanes" ({ cls := "BeltLanes", name := "lead", desc := "(II)I" } : Jvm.MethodName) ({ cls := "BeltLanes", name := "lead", desc := "(II)I" } : Jvm.MethodName)) ∈ lw_all := lw_g (lw_at lw_m1 97 rfl) rfl
theorem q119 : (Jvm.Cond.code ({ cls := "BeltLanes", name := "lead", desc := "(II)I" } : Jvm.MethodName) prog_1_method_14_code (4 : Nat) (Option.some Jvm.ClassFile.FieldType.int)) ∈ lw_all := lw_g (lw_at lw_m1 98 rfl) rfl
theorem q121 : (Jvm.Cond.instanceMethod ({ cls := "BeltLanes", name := "arm", desc := "(IIII)I" } : Jvm.MethodName)) ∈ lw_all := lw_g (lw_at lw_m1 100 rfl) rfl
theorem q122 : (Jvm.Cond.selects "BeltLanes" ({ cls := "BeltLanes", name := "arm", desc := "(IIII)I" } : Jvm.MethodName) ({ cls := "BeltLanes", name := "arm", desc := "(IIII)I" } : Jvm.MethodName)) ∈ lw_all := lw_g (lw_at lw_m1 101 rfl) rfl
theorem q123 : (Jvm.Cond.code ({ cls := "BeltLanes", name := "arm", desc := "(IIII)I" } : Jvm.MethodName) prog_1_method_15_code (5 : Nat) (Option.some Jvm.ClassFile.FieldType.int)) ∈ lw_all := lw_g (lw_at lw_m1 102 rfl) rfl
theorem q125 : (Jvm.Cond.instanceMethod ({ cls := "BeltLanes", name := "tick", desc := "(I)I" } : Jvm.MethodName)) ∈ lw_all := lw_g (lw_at lw_m1 104 rfl) rfl
theorem q126 : (Jvm.Cond.selects "BeltLanes" ({ cls := "BeltLanes", name := "tick", desc := "(I)I" } : Jvm.MethodName) ({ cls := "BeltLanes", name := "tick", desc := "(I)I" } : Jvm.MethodName)) ∈ lw_all := lw_g (lw_at lw_m1 105 rfl) rfl
theorem q127 : (Jvm.Cond.code ({ cls := "BeltLanes", name := "tick", desc := "(I)I" } : Jvm.MethodName) prog_1_method_21_code (5 : Nat) (Option.some Jvm.ClassFile.FieldType.int)) ∈ lw_all := lw_g (lw_at lw_m1 106 rfl) rfl
theorem q128 : (Jvm.Cond.methodLink "BeltLanes" (98 : Nat) ({ cls := "BeltLanes", name := "tickOnce", desc := "()V" } : Jvm.MethodName)) ∈ lw_all := lw_g (lw_at lw_m1 107 rfl) rfl
theorem q129 : (Jvm.Cond.privateMethod ({ cls := "BeltLanes", name := "tickOnce", desc := "()V" } : Jvm.MethodName)) ∈ lw_tbl := lw_at lw_m1 108 rfl
theorem q130 : (Jvm.Cond.instanceMethod ({ cls := "BeltLanes", name := "tickOnce", desc := "()V" } : Jvm.MethodName)) ∈ lw_all := lw_g (lw_at lw_m1 109 rfl) rfl
theorem q131 : (Jvm.Cond.code ({ cls := "BeltLanes", name := "tickOnce", desc := "()V" } : Jvm.MethodName) prog_1_method_20_code (2 : Nat) (Option.none : Option Jvm.ClassFile.FieldType)) ∈ lw_all := lw_g (lw_at lw_m1 110 rfl) rfl
theorem q132 : (Jvm.Cond.methodLink "BeltLanes" (88 : Nat) ({ cls := "BeltLanes", name := "passOn", desc := "(I)V" } : Jvm.MethodName)) ∈ lw_all := lw_g (lw_at lw_m1 111 rfl) rfl
theorem q133 : (Jvm.Cond.privateMethod ({ cls := "BeltLanes", name := "passOn", desc := "(I)V" } : Jvm.MethodName)) ∈ lw_tbl := lw_at lw_m1 112 rfl
theorem q134 : (Jvm.Cond.instanceMethod ({ cls := "BeltLanes", name := "passOn", desc := "(I)V" } : Jvm.MethodName)) ∈ lw_all := lw_g (lw_at lw_m1 113 rfl) rfl
theorem q135 : (Jvm.Cond.code ({ cls := "BeltLanes", name := "passOn", desc := "(I)V" } : Jvm.MethodName) prog_1_method_16_code (6 : Nat) (Option.none : Option Jvm.ClassFile.FieldType)) ∈ lw_all := lw_g (lw_at lw_m1 114 rfl) rfl
theorem q136 : (Jvm.Cond.methodLink "BeltLanes" (92 : Nat) ({ cls := "BeltLanes", name := "advance", desc := "(I)V" } : Jvm.MethodName)) ∈ lw_all := lw_g (lw_at lw_m1 115 rfl) rfl
theorem q137 : (Jvm.Cond.privateMethod ({ cls := "BeltLanes", name := "advance", desc := "(I)V" } : Jvm.MethodName)) ∈ lw_tbl := lw_at lw_m1 116 rfl
theorem q138 : (Jvm.Cond.instanceMethod ({ cls := "BeltLanes", name := "advance", desc := "(I)V" } : Jvm.MethodName)) ∈ lw_all := lw_g (lw_at lw_m1 117 rfl) rfl
theorem q139 : (Jvm.Cond.code ({ cls := "BeltLanes", name := "advance", desc := "(I)V" } : Jvm.MethodName) prog_1_method_17_code (3 : Nat) (Option.none : Option Jvm.ClassFile.FieldType)) ∈ lw_all := lw_g (lw_at lw_m1 118 rfl) rfl
theorem q140 : (Jvm.Cond.methodLink "BeltLanes" (82 : Nat) ({ cls := "BeltLanes", name := "firstOpen", desc := "(I)I" } : Jvm.MethodName)) ∈ lw_all := lw_g (lw_at lw_m1 119 rfl) rfl
theorem q141 : (Jvm.Cond.privateMethod ({ cls := "BeltLanes", name := "firstOpen", desc := "(I)I" } : Jvm.MethodName)) ∈ lw_tbl := lw_at lw_m1 120 rfl
theorem q142 : (Jvm.Cond.instanceMethod ({ cls := "BeltLanes", name := "firstOpen", desc := "(I)I" } : Jvm.MethodName)) ∈ lw_all := lw_g (lw_at lw_m1 121 rfl) rfl
theorem q143 : (Jvm.Cond.code ({ cls := "BeltLanes", name := "firstOpen", desc := "(I)I" } : Jvm.MethodName) prog_1_method_10_code (3 : Nat) (Option.some Jvm.ClassFile.FieldType.int)) ∈ lw_all := lw_g (lw_at lw_m1 122 rfl) rfl
theorem q144 : (Jvm.Cond.methodLink "BeltLanes" (95 : Nat) ({ cls := "BeltLanes", name := "moveArm", desc := "(I)V" } : Jvm.MethodName)) ∈ lw_all := lw_g (lw_at lw_m1 123 rfl) rfl
theorem q145 : (Jvm.Cond.privateMethod ({ cls := "BeltLanes", name := "moveArm", desc := "(I)V" } : Jvm.MethodName)) ∈ lw_tbl := lw_at lw_m1 124 rfl
theorem q146 : (Jvm.Cond.instanceMethod ({ cls := "BeltLanes", name := "moveArm", desc := "(I)V" } : Jvm.MethodName)) ∈ lw_all := lw_g (lw_at lw_m1 125 rfl) rfl
theorem q147 : (Jvm.Cond.code ({ cls := "BeltLanes", name := "moveArm", desc := "(I)V" } : Jvm.MethodName) prog_1_method_19_code (3 : Nat) (Option.none : Option Jvm.ClassFile.FieldType)) ∈ lw_all := lw_g (lw_at lw_m1 126 rfl) rfl
theorem q148 : (Jvm.Cond.methodLink "BeltLanes" (85 : Nat) ({ cls := "BeltLanes", name := "withinReach", desc := "(I)I" } : Jvm.MethodName)) ∈ lw_all := lw_g (lw_at lw_m1 127 rfl) rfl
theorem q149 : (Jvm.Cond.privateMethod ({ cls := "BeltLanes", name := "withinReach", desc := "(I)I" } : Jvm.MethodName)) ∈ lw_tbl := lw_at lw_m1 128 rfl
theorem q150 : (Jvm.Cond.instanceMethod ({ cls := "BeltLanes", name := "withinReach", desc := "(I)I" } : Jvm.MethodName)) ∈ lw_all := lw_g (lw_at lw_m1 129 rfl) rfl
theorem q151 : (Jvm.Cond.code ({ cls := "BeltLanes", name := "withinReach", desc := "(I)I" } : Jvm.MethodName) prog_1_method_18_code (7 : Nat) (Option.some Jvm.ClassFile.FieldType.int)) ∈ lw_all := lw_g (lw_at lw_m1 130 rfl) rfl
theorem q153 : (Jvm.Cond.instanceMethod ({ cls := "BeltLanes", name := "items", desc := "(I)I" } : Jvm.MethodName)) ∈ lw_all := lw_g (lw_at lw_m1 132 rfl) rfl
theorem q154 : (Jvm.Cond.selects "BeltLanes" ({ cls := "BeltLanes", name := "items", desc := "(I)I" } : Jvm.MethodName) ({ cls := "BeltLanes", name := "items", desc := "(I)I" } : Jvm.MethodName)) ∈ lw_all := lw_g (lw_at lw_m1 133 rfl) rfl
theorem q155 : (Jvm.Cond.code ({ cls := "BeltLanes", name := "items", desc := "(I)I" } : Jvm.MethodName) prog_1_method_22_code (2 : Nat) (Option.some Jvm.ClassFile.FieldType.int)) ∈ lw_all := lw_g (lw_at lw_m1 134 rfl) rfl
theorem q157 : (Jvm.Cond.instanceMethod ({ cls := "BeltLanes", name := "place", desc := "(II)I" } : Jvm.MethodName)) ∈ lw_all := lw_g (lw_at lw_m1 136 rfl) rfl
theorem q158 : (Jvm.Cond.selects "BeltLanes" ({ cls := "BeltLanes", name := "place", desc := "(II)I" } : Jvm.MethodName) ({ cls := "BeltLanes", name := "place", desc := "(II)I" } : Jvm.MethodName)) ∈ lw_all := lw_g (lw_at lw_m1 137 rfl) rfl
theorem q159 : (Jvm.Cond.code ({ cls := "BeltLanes", name := "place", desc := "(II)I" } : Jvm.MethodName) prog_1_method_23_code (3 : Nat) (Option.some Jvm.ClassFile.FieldType.int)) ∈ lw_all := lw_g (lw_at lw_m1 138 rfl) rfl
theorem q160 : (Jvm.Cond.methodLink "BeltLanes" (101 : Nat) ({ cls := "BeltLanes", name := "placeOf", desc := "(II)I" } : Jvm.MethodName)) ∈ lw_all := lw_g (lw_at lw_m1 139 rfl) rfl
theorem q161 : (Jvm.Cond.privateMethod ({ cls := "BeltLanes", name := "placeOf", desc := "(II)I" } : Jvm.MethodName)) ∈ lw_tbl := lw_at lw_m1 140 rfl
theorem q162 : (Jvm.Cond.instanceMethod ({ cls := "BeltLanes", name := "placeOf", desc := "(II)I" } : Jvm.MethodName)) ∈ lw_all := lw_g (lw_at lw_m1 141 rfl) rfl
theorem q163 : (Jvm.Cond.code ({ cls := "BeltLanes", name := "placeOf", desc := "(II)I" } : Jvm.MethodName) prog_1_method_6_code (5 : Nat) (Option.some Jvm.ClassFile.FieldType.int)) ∈ lw_all := lw_g (lw_at lw_m1 142 rfl) rfl
theorem q165 : (Jvm.Cond.instanceMethod ({ cls := "BeltLanes", name := "kind", desc := "(II)I" } : Jvm.MethodName)) ∈ lw_all := lw_g (lw_at lw_m1 144 rfl) rfl
theorem q166 : (Jvm.Cond.selects "BeltLanes" ({ cls := "BeltLanes", name := "kind", desc := "(II)I" } : Jvm.MethodName) ({ cls := "BeltLanes", name := "kind", desc := "(II)I" } : Jvm.MethodName)) ∈ lw_all := lw_g (lw_at lw_m1 145 rfl) rfl
theorem q167 : (Jvm.Cond.code ({ cls := "BeltLanes", name := "kind", desc := "(II)I" } : Jvm.MethodName) prog_1_method_24_code (3 : Nat) (Option.some Jvm.ClassFile.FieldType.int)) ∈ lw_all := lw_g (lw_at lw_m1 146 rfl) rfl
theorem q169 : (Jvm.Cond.instanceMethod ({ cls := "BeltLanes", name := "out", desc := "()I" } : Jvm.MethodName)) ∈ lw_all := lw_g (lw_at lw_m1 148 rfl) rfl
theorem q170 : (Jvm.Cond.selects "BeltLanes" ({ cls := "BeltLanes", name := "out", desc := "()I" } : Jvm.MethodName) ({ cls := "BeltLanes", name := "out", desc := "()I" } : Jvm.MethodName)) ∈ lw_all := lw_g (lw_at lw_m1 149 rfl) rfl
theorem q171 : (Jvm.Cond.code ({ cls := "BeltLanes", name := "out", desc := "()I" } : Jvm.MethodName) prog_1_method_25_code (1 : Nat) (Option.some Jvm.ClassFile.FieldType.int)) ∈ lw_all := lw_g (lw_at lw_m1 150 rfl) rfl
theorem q173 : (Jvm.Cond.instanceMethod ({ cls := "BeltLanes", name := "held", desc := "(I)I" } : Jvm.MethodName)) ∈ lw_all := lw_g (lw_at lw_m1 152 rfl) rfl
theorem q174 : (Jvm.Cond.selects "BeltLanes" ({ cls := "BeltLanes", name := "held", desc := "(I)I" } : Jvm.MethodName) ({ cls := "BeltLanes", name := "held", desc := "(I)I" } : Jvm.MethodName)) ∈ lw_all := lw_g (lw_at lw_m1 153 rfl) rfl
theorem q175 : (Jvm.Cond.code ({ cls := "BeltLanes", name := "held", desc := "(I)I" } : Jvm.MethodName) prog_1_method_26_code (2 : Nat) (Option.some Jvm.ClassFile.FieldType.int)) ∈ lw_all := lw_g (lw_at lw_m1 154 rfl) rfl
theorem q177 : (Jvm.Cond.instanceMethod ({ cls := "BeltLanes", name := "room", desc := "(I)Z" } : Jvm.MethodName)) ∈ lw_all := lw_g (lw_at lw_m1 156 rfl) rfl
theorem q178 : (Jvm.Cond.selects "BeltLanes" ({ cls := "BeltLanes", name := "room", desc := "(I)Z" } : Jvm.MethodName) ({ cls := "BeltLanes", name := "room", desc := "(I)Z" } : Jvm.MethodName)) ∈ lw_all := lw_g (lw_at lw_m1 157 rfl) rfl
theorem q179 : (Jvm.Cond.code ({ cls := "BeltLanes", name := "room", desc := "(I)Z" } : Jvm.MethodName) prog_1_method_27_code (2 : Nat) (Option.some Jvm.ClassFile.FieldType.boolean)) ∈ lw_all := lw_g (lw_at lw_m1 158 rfl) rfl
theorem q181 : (Jvm.Cond.instanceMethod ({ cls := "BeltLanes", name := "moving", desc := "(I)I" } : Jvm.MethodName)) ∈ lw_all := lw_g (lw_at lw_m1 160 rfl) rfl
theorem q182 : (Jvm.Cond.selects "BeltLanes" ({ cls := "BeltLanes", name := "moving", desc := "(I)I" } : Jvm.MethodName) ({ cls := "BeltLanes", name := "moving", desc := "(I)I" } : Jvm.MethodName)) ∈ lw_all := lw_g (lw_at lw_m1 161 rfl) rfl
theorem q183 : (Jvm.Cond.code ({ cls := "BeltLanes", name := "moving", desc := "(I)I" } : Jvm.MethodName) prog_1_method_28_code (2 : Nat) (Option.some Jvm.ClassFile.FieldType.int)) ∈ lw_all := lw_g (lw_at lw_m1 162 rfl) rfl
theorem in_X1 : ∀ w ∈ wsX10, w ∈ lw_all := lw_in wsX10 [46, 48, 50, 52, 54, 56, 58, 60, 62, 64, 66, 68, 70, 72] (by decide +kernel) (by decide +kernel)
end
section
/-! BeltLanesModel -/
set_option maxRecDepth 100000
def RX2 : String := "BeltLanesModel"
def TX2 : u_T := fun k => match k with
  | 0 => ("BeltLanesModel", "length", "I", true)
  | 1 => ("BeltLanesModel", "counts", "[I", true)
  | 2 => ("BeltLanesModel", "places", "[I", true)
  | 3 => ("BeltLanesModel", "kinds", "[I", true)
  | 4 => ("BeltLanesModel", "leads", "[I", true)
  | 5 => ("BeltLanesModel", "isSet", "[Z", true)
  | 6 => ("BeltLanesModel", "from", "[I", true)
  | 7 => ("BeltLanesModel", "onto", "[I", true)
  | 8 => ("BeltLanesModel", "reaches", "[I", true)
  | 9 => ("BeltLanesModel", "takes", "[I", true)
  | 10 => ("BeltLanesModel", "holds", "[I", true)
  | _ => ("BeltLanesModel", "gone", "I", false)
def tyX2 : Nat → FieldType := fun k => match k with
  | 0 => .int
  | 1 => .array .int
  | 2 => .array .int
  | 3 => .array .int
  | 4 => .array .int
  | 5 => .array .boolean
  | 6 => .array .int
  | 7 => .array .int
  | 8 => .array .int
  | 9 => .array .int
  | 10 => .array .int
  | _ => .int
abbrev wsX20 : List Cond := u_ws RX2 TX2 12
theorem nmX2 : ∀ a, a < 12 → ∀ b, b < 12 → a ≠ b → (TX2 a).2.1 ≠ (TX2 b).2.1 := by decide +kernel
theorem tyX2_ok : ∀ k, k < 12 → parseFieldDescriptor (TX2 k).2.2.1 = some (tyX2 k) := by decide +kernel
abbrev cX2_init : ByteArray := prog_3_method_1_code
def yX2_init : MethodName := ⟨RX2, "<init>", "(I)V"⟩
theorem dX2_init_0 : decode cX2_init 0 = .ok (.aload_n 0, 1) := by decide +kernel
theorem dX2_init_1 : decode cX2_init 1 = .ok (.invokespecial 1, 3) := by decide +kernel
theorem dX2_init_4 : decode cX2_init 4 = .ok (.aload_n 0, 1) := by decide +kernel
theorem dX2_init_5 : decode cX2_init 5 = .ok (.iconst 4, 1) := by decide +kernel
theorem dX2_init_6 : decode cX2_init 6 = .ok (.newarray .int, 2) := by decide +kernel
theorem dX2_init_8 : decode cX2_init 8 = .ok (.putfield 7, 3) := by decide +kernel
theorem dX2_init_11 : decode cX2_init 11 = .ok (.aload_n 0, 1) := by decide +kernel
theorem dX2_init_12 : decode cX2_init 12 = .ok (.bipush 64, 2) := by decide +kernel
theorem dX2_init_14 : decode cX2_init 14 = .ok (.newarray .int, 2) := by decide +kernel
theorem dX2_init_16 : decode cX2_init 16 = .ok (.putfield 13, 3) := by decide +kernel
theorem dX2_init_19 : decode cX2_init 19 = .ok (.aload_n 0, 1) := by decide +kernel
theorem dX2_init_20 : decode cX2_init 20 = .ok (.bipush 64, 2) := by decide +kernel
theorem dX2_init_22 : decode cX2_init 22 = .ok (.newarray .int, 2) := by decide +kernel
theorem dX2_init_24 : decode cX2_init 24 = .ok (.putfield 16, 3) := by decide +kernel
theorem dX2_init_27 : decode cX2_init 27 = .ok (.aload_n 0, 1) := by decide +kernel
theorem dX2_init_28 : decode cX2_init 28 = .ok (.iconst 4, 1) := by decide +kernel
theorem dX2_init_29 : decode cX2_init 29 = .ok (.newarray .int, 2) := by decide +kernel
theorem dX2_init_31 : decode cX2_init 31 = .ok (.putfield 19, 3) := by decide +kernel
theorem dX2_init_34 : decode cX2_init 34 = .ok (.aload_n 0, 1) := by decide +kernel
theorem dX2_init_35 : decode cX2_init 35 = .ok (.iconst 2, 1) := by decide +kernel
theorem dX2_init_36 : decode cX2_init 36 = .ok (.newarray .boolean, 2) := by decide +kernel
theorem dX2_init_38 : decode cX2_init 38 = .ok (.putfield 22, 3) := by decide +kernel
theorem dX2_init_41 : decode cX2_init 41 = .ok (.aload_n 0, 1) := by decide +kernel
theorem dX2_init_42 : decode cX2_init 42 = .ok (.iconst 2, 1) := by decide +kernel
theorem dX2_init_43 : decode cX2_init 43 = .ok (.newarray .int, 2) := by decide +kernel
theorem dX2_init_45 : decode cX2_init 45 = .ok (.putfield 26, 3) := by decide +kernel
theorem dX2_init_48 : decode cX2_init 48 = .ok (.aload_n 0, 1) := by decide +kernel
theorem dX2_init_49 : decode cX2_init 49 = .ok (.iconst 2, 1) := by decide +kernel
theorem dX2_init_50 : decode cX2_init 50 = .ok (.newarray .int, 2) := by decide +kernel
theorem dX2_init_52 : decode cX2_init 52 = .ok (.putfield 29, 3) := by decide +kernel
theorem dX2_init_55 : decode cX2_init 55 = .ok (.aload_n 0, 1) := by decide +kernel
theorem dX2_init_56 : decode cX2_init 56 = .ok (.iconst 2, 1) := by decide +kernel
theorem dX2_init_57 : decode cX2_init 57 = .ok (.newarray .int, 2) := by decide +kernel
theorem dX2_init_59 : decode cX2_init 59 = .ok (.putfield 32, 3) := by decide +kernel
theorem dX2_init_62 : decode cX2_init 62 = .ok (.aload_n 0, 1) := by decide +kernel
theorem dX2_init_63 : decode cX2_init 63 = .ok (.iconst 2, 1) := by decide +kernel
theorem dX2_init_64 : decode cX2_init 64 = .ok (.newarray .int, 2) := by decide +kernel
theorem dX2_init_66 : decode cX2_init 66 = .ok (.putfield 35, 3) := by decide +kernel
theorem dX2_init_69 : decode cX2_init 69 = .ok (.aload_n 0, 1) := by decide +kernel
theorem dX2_init_70 : decode cX2_init 70 = .ok (.iconst 2, 1) := by decide +kernel
theorem dX2_init_71 : decode cX2_init 71 = .ok (.newarray .int, 2) := by decide +kernel
theorem dX2_init_73 : decode cX2_init 73 = .ok (.putfield 38, 3) := by decide +kernel
theorem dX2_init_76 : decode cX2_init 76 = .ok (.iload_n 1, 1) := by decide +kernel
theorem dX2_init_77 : decode cX2_init 77 = .ok (.istore_n 2, 1) := by decide +kernel
theorem dX2_init_78 : decode cX2_init 78 = .ok (.iload_n 2, 1) := by decide +kernel
theorem dX2_init_79 : decode cX2_init 79 = .ok (.bipush 8, 2) := by decide +kernel
theorem dX2_init_81 : decode cX2_init 81 = .ok (.if_icmp .ge 6, 3) := by decide +kernel
theorem dX2_init_84 : decode cX2_init 84 = .ok (.bipush 8, 2) := by decide +kernel
theorem dX2_init_86 : decode cX2_init 86 = .ok (.istore_n 2, 1) := by decide +kernel
theorem dX2_init_87 : decode cX2_init 87 = .ok (.iload_n 2, 1) := by decide +kernel
theorem dX2_init_88 : decode cX2_init 88 = .ok (.bipush 60, 2) := by decide +kernel
theorem dX2_init_90 : decode cX2_init 90 = .ok (.if_icmp .le 6, 3) := by decide +kernel
theorem dX2_init_93 : decode cX2_init 93 = .ok (.bipush 60, 2) := by decide +kernel
theorem dX2_init_95 : decode cX2_init 95 = .ok (.istore_n 2, 1) := by decide +kernel
theorem dX2_init_96 : decode cX2_init 96 = .ok (.aload_n 0, 1) := by decide +kernel
theorem dX2_init_97 : decode cX2_init 97 = .ok (.iload_n 2, 1) := by decide +kernel
theorem dX2_init_98 : decode cX2_init 98 = .ok (.putfield 41, 3) := by decide +kernel
theorem dX2_init_101 : decode cX2_init 101 = .ok (.iconst 0, 1) := by decide +kernel
theorem dX2_init_102 : decode cX2_init 102 = .ok (.istore_n 3, 1) := by decide +kernel
theorem dX2_init_103 : decode cX2_init 103 = .ok (.iload_n 3, 1) := by decide +kernel
theorem dX2_init_104 : decode cX2_init 104 = .ok (.iconst 4, 1) := by decide +kernel
theorem dX2_init_105 : decode cX2_init 105 = .ok (.if_icmp .ge 16, 3) := by decide +kernel
theorem dX2_init_108 : decode cX2_init 108 = .ok (.aload_n 0, 1) := by decide +kernel
theorem dX2_init_109 : decode cX2_init 109 = .ok (.getfield 19, 3) := by decide +kernel
theorem dX2_init_112 : decode cX2_init 112 = .ok (.iload_n 3, 1) := by decide +kernel
theorem dX2_init_113 : decode cX2_init 113 = .ok (.iconst (-1), 1) := by decide +kernel
theorem dX2_init_114 : decode cX2_init 114 = .ok (.iastore, 1) := by decide +kernel
theorem dX2_init_115 : decode cX2_init 115 = .ok (.iinc 3 1, 3) := by decide +kernel
theorem dX2_init_118 : decode cX2_init 118 = .ok (.goto (-15), 3) := by decide +kernel
theorem dX2_init_121 : decode cX2_init 121 = .ok (.aload_n 0, 1) := by decide +kernel
theorem dX2_init_122 : decode cX2_init 122 = .ok (.getfield 38, 3) := by decide +kernel
theorem dX2_init_125 : decode cX2_init 125 = .ok (.iconst 0, 1) := by decide +kernel
theorem dX2_init_126 : decode cX2_init 126 = .ok (.bipush (-4), 2) := by decide +kernel
theorem dX2_init_128 : decode cX2_init 128 = .ok (.iastore, 1) := by decide +kernel
theorem dX2_init_129 : decode cX2_init 129 = .ok (.aload_n 0, 1) := by decide +kernel
theorem dX2_init_130 : decode cX2_init 130 = .ok (.getfield 38, 3) := by decide +kernel
theorem dX2_init_133 : decode cX2_init 133 = .ok (.iconst 1, 1) := by decide +kernel
theorem dX2_init_134 : decode cX2_init 134 = .ok (.bipush (-4), 2) := by decide +kernel
theorem dX2_init_136 : decode cX2_init 136 = .ok (.iastore, 1) := by decide +kernel
theorem dX2_init_137 : decode cX2_init 137 = .ok (.return_, 1) := by decide +kernel
abbrev cX2_put : ByteArray := prog_3_method_5_code
def yX2_put : MethodName := ⟨RX2, "put", "(II)I"⟩
theorem dX2_put_0 : decode cX2_put 0 = .ok (.aload_n 0, 1) := by decide +kernel
theorem dX2_put_1 : decode cX2_put 1 = .ok (.iload_n 1, 1) := by decide +kernel
theorem dX2_put_2 : decode cX2_put 2 = .ok (.invokevirtual 45, 3) := by decide +kernel
theorem dX2_put_5 : decode cX2_put 5 = .ok (.ifCond .eq 5, 3) := by decide +kernel
theorem dX2_put_8 : decode cX2_put 8 = .ok (.iconst (-1), 1) := by decide +kernel
theorem dX2_put_9 : decode cX2_put 9 = .ok (.ireturn, 1) := by decide +kernel
theorem dX2_put_10 : decode cX2_put 10 = .ok (.iload_n 2, 1) := by decide +kernel
theorem dX2_put_11 : decode cX2_put 11 = .ok (.ifCond .lt 9, 3) := by decide +kernel
theorem dX2_put_14 : decode cX2_put 14 = .ok (.iload_n 2, 1) := by decide +kernel
theorem dX2_put_15 : decode cX2_put 15 = .ok (.bipush 7, 2) := by decide +kernel
theorem dX2_put_17 : decode cX2_put 17 = .ok (.if_icmp .le 6, 3) := by decide +kernel
theorem dX2_put_20 : decode cX2_put 20 = .ok (.bipush (-2), 2) := by decide +kernel
theorem dX2_put_22 : decode cX2_put 22 = .ok (.ireturn, 1) := by decide +kernel
theorem dX2_put_23 : decode cX2_put 23 = .ok (.aload_n 0, 1) := by decide +kernel
theorem dX2_put_24 : decode cX2_put 24 = .ok (.iload_n 1, 1) := by decide +kernel
theorem dX2_put_25 : decode cX2_put 25 = .ok (.invokevirtual 49, 3) := by decide +kernel
theorem dX2_put_28 : decode cX2_put 28 = .ok (.ifCond .ne 6, 3) := by decide +kernel
theorem dX2_put_31 : decode cX2_put 31 = .ok (.bipush (-3), 2) := by decide +kernel
theorem dX2_put_33 : decode cX2_put 33 = .ok (.ireturn, 1) := by decide +kernel
theorem dX2_put_34 : decode cX2_put 34 = .ok (.aload_n 0, 1) := by decide +kernel
theorem dX2_put_35 : decode cX2_put 35 = .ok (.iload_n 1, 1) := by decide +kernel
theorem dX2_put_36 : decode cX2_put 36 = .ok (.iload_n 2, 1) := by decide +kernel
theorem dX2_put_37 : decode cX2_put 37 = .ok (.invokevirtual 52, 3) := by decide +kernel
theorem dX2_put_40 : decode cX2_put 40 = .ok (.aload_n 0, 1) := by decide +kernel
theorem dX2_put_41 : decode cX2_put 41 = .ok (.getfield 7, 3) := by decide +kernel
theorem dX2_put_44 : decode cX2_put 44 = .ok (.iload_n 1, 1) := by decide +kernel
theorem dX2_put_45 : decode cX2_put 45 = .ok (.iaload, 1) := by decide +kernel
theorem dX2_put_46 : decode cX2_put 46 = .ok (.ireturn, 1) := by decide +kernel
abbrev cX2_bad : ByteArray := prog_3_method_2_code
def yX2_bad : MethodName := ⟨RX2, "bad", "(I)Z"⟩
theorem dX2_bad_0 : decode cX2_bad 0 = .ok (.iload_n 1, 1) := by decide +kernel
theorem dX2_bad_1 : decode cX2_bad 1 = .ok (.ifCond .lt 8, 3) := by decide +kernel
theorem dX2_bad_4 : decode cX2_bad 4 = .ok (.iload_n 1, 1) := by decide +kernel
theorem dX2_bad_5 : decode cX2_bad 5 = .ok (.iconst 3, 1) := by decide +kernel
theorem dX2_bad_6 : decode cX2_bad 6 = .ok (.if_icmp .le 7, 3) := by decide +kernel
theorem dX2_bad_9 : decode cX2_bad 9 = .ok (.iconst 1, 1) := by decide +kernel
theorem dX2_bad_10 : decode cX2_bad 10 = .ok (.goto 4, 3) := by decide +kernel
theorem dX2_bad_13 : decode cX2_bad 13 = .ok (.iconst 0, 1) := by decide +kernel
theorem dX2_bad_14 : decode cX2_bad 14 = .ok (.ireturn, 1) := by decide +kernel
abbrev cX2_room : ByteArray := prog_3_method_19_code
def yX2_room : MethodName := ⟨RX2, "room", "(I)Z"⟩
theorem dX2_room_0 : decode cX2_room 0 = .ok (.aload_n 0, 1) := by decide +kernel
theorem dX2_room_1 : decode cX2_room 1 = .ok (.iload_n 1, 1) := by decide +kernel
theorem dX2_room_2 : decode cX2_room 2 = .ok (.invokevirtual 45, 3) := by decide +kernel
theorem dX2_room_5 : decode cX2_room 5 = .ok (.ifCond .eq 5, 3) := by decide +kernel
theorem dX2_room_8 : decode cX2_room 8 = .ok (.iconst 0, 1) := by decide +kernel
theorem dX2_room_9 : decode cX2_room 9 = .ok (.ireturn, 1) := by decide +kernel
theorem dX2_room_10 : decode cX2_room 10 = .ok (.aload_n 0, 1) := by decide +kernel
theorem dX2_room_11 : decode cX2_room 11 = .ok (.getfield 7, 3) := by decide +kernel
theorem dX2_room_14 : decode cX2_room 14 = .ok (.iload_n 1, 1) := by decide +kernel
theorem dX2_room_15 : decode cX2_room 15 = .ok (.iaload, 1) := by decide +kernel
theorem dX2_room_16 : decode cX2_room 16 = .ok (.ifCond .eq 30, 3) := by decide +kernel
theorem dX2_room_19 : decode cX2_room 19 = .ok (.aload_n 0, 1) := by decide +kernel
theorem dX2_room_20 : decode cX2_room 20 = .ok (.getfield 13, 3) := by decide +kernel
theorem dX2_room_23 : decode cX2_room 23 = .ok (.iload_n 1, 1) := by decide +kernel
theorem dX2_room_24 : decode cX2_room 24 = .ok (.bipush 16, 2) := by decide +kernel
theorem dX2_room_26 : decode cX2_room 26 = .ok (.imul, 1) := by decide +kernel
theorem dX2_room_27 : decode cX2_room 27 = .ok (.aload_n 0, 1) := by decide +kernel
theorem dX2_room_28 : decode cX2_room 28 = .ok (.getfield 7, 3) := by decide +kernel
theorem dX2_room_31 : decode cX2_room 31 = .ok (.iload_n 1, 1) := by decide +kernel
theorem dX2_room_32 : decode cX2_room 32 = .ok (.iaload, 1) := by decide +kernel
theorem dX2_room_33 : decode cX2_room 33 = .ok (.iadd, 1) := by decide +kernel
theorem dX2_room_34 : decode cX2_room 34 = .ok (.iconst 1, 1) := by decide +kernel
theorem dX2_room_35 : decode cX2_room 35 = .ok (.isub, 1) := by decide +kernel
theorem dX2_room_36 : decode cX2_room 36 = .ok (.iaload, 1) := by decide +kernel
theorem dX2_room_37 : decode cX2_room 37 = .ok (.aload_n 0, 1) := by decide +kernel
theorem dX2_room_38 : decode cX2_room 38 = .ok (.getfield 41, 3) := by decide +kernel
theorem dX2_room_41 : decode cX2_room 41 = .ok (.iconst 4, 1) := by decide +kernel
theorem dX2_room_42 : decode cX2_room 42 = .ok (.isub, 1) := by decide +kernel
theorem dX2_room_43 : decode cX2_room 43 = .ok (.if_icmp .gt 7, 3) := by decide +kernel
theorem dX2_room_46 : decode cX2_room 46 = .ok (.iconst 1, 1) := by decide +kernel
theorem dX2_room_47 : decode cX2_room 47 = .ok (.goto 4, 3) := by decide +kernel
theorem dX2_room_50 : decode cX2_room 50 = .ok (.iconst 0, 1) := by decide +kernel
theorem dX2_room_51 : decode cX2_room 51 = .ok (.ireturn, 1) := by decide +kernel
abbrev cX2_start : ByteArray := prog_3_method_3_code
def yX2_start : MethodName := ⟨RX2, "start", "(II)V"⟩
theorem dX2_start_0 : decode cX2_start 0 = .ok (.iload_n 1, 1) := by decide +kernel
theorem dX2_start_1 : decode cX2_start 1 = .ok (.bipush 16, 2) := by decide +kernel
theorem dX2_start_3 : decode cX2_start 3 = .ok (.imul, 1) := by decide +kernel
theorem dX2_start_4 : decode cX2_start 4 = .ok (.aload_n 0, 1) := by decide +kernel
theorem dX2_start_5 : decode cX2_start 5 = .ok (.getfield 7, 3) := by decide +kernel
theorem dX2_start_8 : decode cX2_start 8 = .ok (.iload_n 1, 1) := by decide +kernel
theorem dX2_start_9 : decode cX2_start 9 = .ok (.iaload, 1) := by decide +kernel
theorem dX2_start_10 : decode cX2_start 10 = .ok (.iadd, 1) := by decide +kernel
theorem dX2_start_11 : decode cX2_start 11 = .ok (.istore_n 3, 1) := by decide +kernel
theorem dX2_start_12 : decode cX2_start 12 = .ok (.aload_n 0, 1) := by decide +kernel
theorem dX2_start_13 : decode cX2_start 13 = .ok (.getfield 13, 3) := by decide +kernel
theorem dX2_start_16 : decode cX2_start 16 = .ok (.iload_n 3, 1) := by decide +kernel
theorem dX2_start_17 : decode cX2_start 17 = .ok (.aload_n 0, 1) := by decide +kernel
theorem dX2_start_18 : decode cX2_start 18 = .ok (.getfield 41, 3) := by decide +kernel
theorem dX2_start_21 : decode cX2_start 21 = .ok (.iastore, 1) := by decide +kernel
theorem dX2_start_22 : decode cX2_start 22 = .ok (.aload_n 0, 1) := by decide +kernel
theorem dX2_start_23 : decode cX2_start 23 = .ok (.getfield 16, 3) := by decide +kernel
theorem dX2_start_26 : decode cX2_start 26 = .ok (.iload_n 3, 1) := by decide +kernel
theorem dX2_start_27 : decode cX2_start 27 = .ok (.iload_n 2, 1) := by decide +kernel
theorem dX2_start_28 : decode cX2_start 28 = .ok (.iastore, 1) := by decide +kernel
theorem dX2_start_29 : decode cX2_start 29 = .ok (.aload_n 0, 1) := by decide +kernel
theorem dX2_start_30 : decode cX2_start 30 = .ok (.getfield 7, 3) := by decide +kernel
theorem dX2_start_33 : decode cX2_start 33 = .ok (.iload_n 1, 1) := by decide +kernel
theorem dX2_start_34 : decode cX2_start 34 = .ok (.aload_n 0, 1) := by decide +kernel
theorem dX2_start_35 : decode cX2_start 35 = .ok (.getfield 7, 3) := by decide +kernel
theorem dX2_start_38 : decode cX2_start 38 = .ok (.iload_n 1, 1) := by decide +kernel
theorem dX2_start_39 : decode cX2_start 39 = .ok (.iaload, 1) := by decide +kernel
theorem dX2_start_40 : decode cX2_start 40 = .ok (.iconst 1, 1) := by decide +kernel
theorem dX2_start_41 : decode cX2_start 41 = .ok (.iadd, 1) := by decide +kernel
theorem dX2_start_42 : decode cX2_start 42 = .ok (.iastore, 1) := by decide +kernel
theorem dX2_start_43 : decode cX2_start 43 = .ok (.return_, 1) := by decide +kernel
abbrev cX2_take : ByteArray := prog_3_method_6_code
def yX2_take : MethodName := ⟨RX2, "take", "(I)I"⟩
theorem dX2_take_0 : decode cX2_take 0 = .ok (.aload_n 0, 1) := by decide +kernel
theorem dX2_take_1 : decode cX2_take 1 = .ok (.iload_n 1, 1) := by decide +kernel
theorem dX2_take_2 : decode cX2_take 2 = .ok (.invokevirtual 45, 3) := by decide +kernel
theorem dX2_take_5 : decode cX2_take 5 = .ok (.ifCond .eq 5, 3) := by decide +kernel
theorem dX2_take_8 : decode cX2_take 8 = .ok (.iconst (-1), 1) := by decide +kernel
theorem dX2_take_9 : decode cX2_take 9 = .ok (.ireturn, 1) := by decide +kernel
theorem dX2_take_10 : decode cX2_take 10 = .ok (.aload_n 0, 1) := by decide +kernel
theorem dX2_take_11 : decode cX2_take 11 = .ok (.getfield 7, 3) := by decide +kernel
theorem dX2_take_14 : decode cX2_take 14 = .ok (.iload_n 1, 1) := by decide +kernel
theorem dX2_take_15 : decode cX2_take 15 = .ok (.iaload, 1) := by decide +kernel
theorem dX2_take_16 : decode cX2_take 16 = .ok (.ifCond .eq 15, 3) := by decide +kernel
theorem dX2_take_19 : decode cX2_take 19 = .ok (.aload_n 0, 1) := by decide +kernel
theorem dX2_take_20 : decode cX2_take 20 = .ok (.getfield 13, 3) := by decide +kernel
theorem dX2_take_23 : decode cX2_take 23 = .ok (.iload_n 1, 1) := by decide +kernel
theorem dX2_take_24 : decode cX2_take 24 = .ok (.bipush 16, 2) := by decide +kernel
theorem dX2_take_26 : decode cX2_take 26 = .ok (.imul, 1) := by decide +kernel
theorem dX2_take_27 : decode cX2_take 27 = .ok (.iaload, 1) := by decide +kernel
theorem dX2_take_28 : decode cX2_take 28 = .ok (.ifCond .le 6, 3) := by decide +kernel
theorem dX2_take_31 : decode cX2_take 31 = .ok (.bipush (-4), 2) := by decide +kernel
theorem dX2_take_33 : decode cX2_take 33 = .ok (.ireturn, 1) := by decide +kernel
theorem dX2_take_34 : decode cX2_take 34 = .ok (.aload_n 0, 1) := by decide +kernel
theorem dX2_take_35 : decode cX2_take 35 = .ok (.iload_n 1, 1) := by decide +kernel
theorem dX2_take_36 : decode cX2_take 36 = .ok (.iconst 0, 1) := by decide +kernel
theorem dX2_take_37 : decode cX2_take 37 = .ok (.invokevirtual 56, 3) := by decide +kernel
theorem dX2_take_40 : decode cX2_take 40 = .ok (.ireturn, 1) := by decide +kernel
abbrev cX2_off : ByteArray := prog_3_method_4_code
def yX2_off : MethodName := ⟨RX2, "off", "(II)I"⟩
theorem dX2_off_0 : decode cX2_off 0 = .ok (.aload_n 0, 1) := by decide +kernel
theorem dX2_off_1 : decode cX2_off 1 = .ok (.getfield 16, 3) := by decide +kernel
theorem dX2_off_4 : decode cX2_off 4 = .ok (.iload_n 1, 1) := by decide +kernel
theorem dX2_off_5 : decode cX2_off 5 = .ok (.bipush 16, 2) := by decide +kernel
theorem dX2_off_7 : decode cX2_off 7 = .ok (.imul, 1) := by decide +kernel
theorem dX2_off_8 : decode cX2_off 8 = .ok (.iload_n 2, 1) := by decide +kernel
theorem dX2_off_9 : decode cX2_off 9 = .ok (.iadd, 1) := by decide +kernel
theorem dX2_off_10 : decode cX2_off 10 = .ok (.iaload, 1) := by decide +kernel
theorem dX2_off_11 : decode cX2_off 11 = .ok (.istore_n 3, 1) := by decide +kernel
theorem dX2_off_12 : decode cX2_off 12 = .ok (.iload_n 2, 1) := by decide +kernel
theorem dX2_off_13 : decode cX2_off 13 = .ok (.istore 4, 2) := by decide +kernel
theorem dX2_off_15 : decode cX2_off 15 = .ok (.iload 4, 2) := by decide +kernel
theorem dX2_off_17 : decode cX2_off 17 = .ok (.aload_n 0, 1) := by decide +kernel
theorem dX2_off_18 : decode cX2_off 18 = .ok (.getfield 7, 3) := by decide +kernel
theorem dX2_off_21 : decode cX2_off 21 = .ok (.iload_n 1, 1) := by decide +kernel
theorem dX2_off_22 : decode cX2_off 22 = .ok (.iaload, 1) := by decide +kernel
theorem dX2_off_23 : decode cX2_off 23 = .ok (.iconst 1, 1) := by decide +kernel
theorem dX2_off_24 : decode cX2_off 24 = .ok (.isub, 1) := by decide +kernel
theorem dX2_off_25 : decode cX2_off 25 = .ok (.if_icmp .ge 61, 3) := by decide +kernel
theorem dX2_off_28 : decode cX2_off 28 = .ok (.aload_n 0, 1) := by decide +kernel
theorem dX2_off_29 : decode cX2_off 29 = .ok (.getfield 13, 3) := by decide +kernel
theorem dX2_off_32 : decode cX2_off 32 = .ok (.iload_n 1, 1) := by decide +kernel
theorem dX2_off_33 : decode cX2_off 33 = .ok (.bipush 16, 2) := by decide +kernel
theorem dX2_off_35 : decode cX2_off 35 = .ok (.imul, 1) := by decide +kernel
theorem dX2_off_36 : decode cX2_off 36 = .ok (.iload 4, 2) := by decide +kernel
theorem dX2_off_38 : decode cX2_off 38 = .ok (.iadd, 1) := by decide +kernel
theorem dX2_off_39 : decode cX2_off 39 = .ok (.aload_n 0, 1) := by decide +kernel
theorem dX2_off_40 : decode cX2_off 40 = .ok (.getfield 13, 3) := by decide +kernel
theorem dX2_off_43 : decode cX2_off 43 = .ok (.iload_n 1, 1) := by decide +kernel
theorem dX2_off_44 : decode cX2_off 44 = .ok (.bipush 16, 2) := by decide +kernel
theorem dX2_off_46 : decode cX2_off 46 = .ok (.imul, 1) := by decide +kernel
theorem dX2_off_47 : decode cX2_off 47 = .ok (.iload 4, 2) := by decide +kernel
theorem dX2_off_49 : decode cX2_off 49 = .ok (.iadd, 1) := by decide +kernel
theorem dX2_off_50 : decode cX2_off 50 = .ok (.iconst 1, 1) := by decide +kernel
theorem dX2_off_51 : decode cX2_off 51 = .ok (.iadd, 1) := by decide +kernel
theorem dX2_off_52 : decode cX2_off 52 = .ok (.iaload, 1) := by decide +kernel
theorem dX2_off_53 : decode cX2_off 53 = .ok (.iastore, 1) := by decide +kernel
theorem dX2_off_54 : decode cX2_off 54 = .ok (.aload_n 0, 1) := by decide +kernel
theorem dX2_off_55 : decode cX2_off 55 = .ok (.getfield 16, 3) := by decide +kernel
theorem dX2_off_58 : decode cX2_off 58 = .ok (.iload_n 1, 1) := by decide +kernel
theorem dX2_off_59 : decode cX2_off 59 = .ok (.bipush 16, 2) := by decide +kernel
theorem dX2_off_61 : decode cX2_off 61 = .ok (.imul, 1) := by decide +kernel
theorem dX2_off_62 : decode cX2_off 62 = .ok (.iload 4, 2) := by decide +kernel
theorem dX2_off_64 : decode cX2_off 64 = .ok (.iadd, 1) := by decide +kernel
theorem dX2_off_65 : decode cX2_off 65 = .ok (.aload_n 0, 1) := by decide +kernel
theorem dX2_off_66 : decode cX2_off 66 = .ok (.getfield 16, 3) := by decide +kernel
theorem dX2_off_69 : decode cX2_off 69 = .ok (.iload_n 1, 1) := by decide +kernel
theorem dX2_off_70 : decode cX2_off 70 = .ok (.bipush 16, 2) := by decide +kernel
theorem dX2_off_72 : decode cX2_off 72 = .ok (.imul, 1) := by decide +kernel
theorem dX2_off_73 : decode cX2_off 73 = .ok (.iload 4, 2) := by decide +kernel
theorem dX2_off_75 : decode cX2_off 75 = .ok (.iadd, 1) := by decide +kernel
theorem dX2_off_76 : decode cX2_off 76 = .ok (.iconst 1, 1) := by decide +kernel
theorem dX2_off_77 : decode cX2_off 77 = .ok (.iadd, 1) := by decide +kernel
theorem dX2_off_78 : decode cX2_off 78 = .ok (.iaload, 1) := by decide +kernel
theorem dX2_off_79 : decode cX2_off 79 = .ok (.iastore, 1) := by decide +kernel
theorem dX2_off_80 : decode cX2_off 80 = .ok (.iinc 4 1, 3) := by decide +kernel
theorem dX2_off_83 : decode cX2_off 83 = .ok (.goto (-68), 3) := by decide +kernel
theorem dX2_off_86 : decode cX2_off 86 = .ok (.aload_n 0, 1) := by decide +kernel
theorem dX2_off_87 : decode cX2_off 87 = .ok (.getfield 7, 3) := by decide +kernel
theorem dX2_off_90 : decode cX2_off 90 = .ok (.iload_n 1, 1) := by decide +kernel
theorem dX2_off_91 : decode cX2_off 91 = .ok (.aload_n 0, 1) := by decide +kernel
theorem dX2_off_92 : decode cX2_off 92 = .ok (.getfield 7, 3) := by decide +kernel
theorem dX2_off_95 : decode cX2_off 95 = .ok (.iload_n 1, 1) := by decide +kernel
theorem dX2_off_96 : decode cX2_off 96 = .ok (.iaload, 1) := by decide +kernel
theorem dX2_off_97 : decode cX2_off 97 = .ok (.iconst 1, 1) := by decide +kernel
theorem dX2_off_98 : decode cX2_off 98 = .ok (.isub, 1) := by decide +kernel
theorem dX2_off_99 : decode cX2_off 99 = .ok (.iastore, 1) := by decide +kernel
theorem dX2_off_100 : decode cX2_off 100 = .ok (.iload_n 3, 1) := by decide +kernel
theorem dX2_off_101 : decode cX2_off 101 = .ok (.ireturn, 1) := by decide +kernel
abbrev cX2_lead : ByteArray := prog_3_method_7_code
def yX2_lead : MethodName := ⟨RX2, "lead", "(II)I"⟩
theorem dX2_lead_0 : decode cX2_lead 0 = .ok (.aload_n 0, 1) := by decide +kernel
theorem dX2_lead_1 : decode cX2_lead 1 = .ok (.iload_n 1, 1) := by decide +kernel
theorem dX2_lead_2 : decode cX2_lead 2 = .ok (.invokevirtual 45, 3) := by decide +kernel
theorem dX2_lead_5 : decode cX2_lead 5 = .ok (.ifCond .eq 5, 3) := by decide +kernel
theorem dX2_lead_8 : decode cX2_lead 8 = .ok (.iconst (-1), 1) := by decide +kernel
theorem dX2_lead_9 : decode cX2_lead 9 = .ok (.ireturn, 1) := by decide +kernel
theorem dX2_lead_10 : decode cX2_lead 10 = .ok (.iload_n 2, 1) := by decide +kernel
theorem dX2_lead_11 : decode cX2_lead 11 = .ok (.bipush (-2), 2) := by decide +kernel
theorem dX2_lead_13 : decode cX2_lead 13 = .ok (.if_icmp .lt 13, 3) := by decide +kernel
theorem dX2_lead_16 : decode cX2_lead 16 = .ok (.iload_n 2, 1) := by decide +kernel
theorem dX2_lead_17 : decode cX2_lead 17 = .ok (.iconst 3, 1) := by decide +kernel
theorem dX2_lead_18 : decode cX2_lead 18 = .ok (.if_icmp .gt 8, 3) := by decide +kernel
theorem dX2_lead_21 : decode cX2_lead 21 = .ok (.iload_n 2, 1) := by decide +kernel
theorem dX2_lead_22 : decode cX2_lead 22 = .ok (.iload_n 1, 1) := by decide +kernel
theorem dX2_lead_23 : decode cX2_lead 23 = .ok (.if_icmp .ne 6, 3) := by decide +kernel
theorem dX2_lead_26 : decode cX2_lead 26 = .ok (.bipush (-5), 2) := by decide +kernel
theorem dX2_lead_28 : decode cX2_lead 28 = .ok (.ireturn, 1) := by decide +kernel
theorem dX2_lead_29 : decode cX2_lead 29 = .ok (.aload_n 0, 1) := by decide +kernel
theorem dX2_lead_30 : decode cX2_lead 30 = .ok (.getfield 19, 3) := by decide +kernel
theorem dX2_lead_33 : decode cX2_lead 33 = .ok (.iload_n 1, 1) := by decide +kernel
theorem dX2_lead_34 : decode cX2_lead 34 = .ok (.iaload, 1) := by decide +kernel
theorem dX2_lead_35 : decode cX2_lead 35 = .ok (.istore_n 3, 1) := by decide +kernel
theorem dX2_lead_36 : decode cX2_lead 36 = .ok (.aload_n 0, 1) := by decide +kernel
theorem dX2_lead_37 : decode cX2_lead 37 = .ok (.getfield 19, 3) := by decide +kernel
theorem dX2_lead_40 : decode cX2_lead 40 = .ok (.iload_n 1, 1) := by decide +kernel
theorem dX2_lead_41 : decode cX2_lead 41 = .ok (.iload_n 2, 1) := by decide +kernel
theorem dX2_lead_42 : decode cX2_lead 42 = .ok (.iastore, 1) := by decide +kernel
theorem dX2_lead_43 : decode cX2_lead 43 = .ok (.iload_n 3, 1) := by decide +kernel
theorem dX2_lead_44 : decode cX2_lead 44 = .ok (.ireturn, 1) := by decide +kernel
abbrev cX2_arm : ByteArray := prog_3_method_8_code
def yX2_arm : MethodName := ⟨RX2, "arm", "(IIII)I"⟩
theorem dX2_arm_0 : decode cX2_arm 0 = .ok (.iload_n 1, 1) := by decide +kernel
theorem dX2_arm_1 : decode cX2_arm 1 = .ok (.ifCond .lt 18, 3) := by decide +kernel
theorem dX2_arm_4 : decode cX2_arm 4 = .ok (.iload_n 1, 1) := by decide +kernel
theorem dX2_arm_5 : decode cX2_arm 5 = .ok (.iconst 1, 1) := by decide +kernel
theorem dX2_arm_6 : decode cX2_arm 6 = .ok (.if_icmp .gt 13, 3) := by decide +kernel
theorem dX2_arm_9 : decode cX2_arm 9 = .ok (.iload_n 3, 1) := by decide +kernel
theorem dX2_arm_10 : decode cX2_arm 10 = .ok (.ifCond .lt 9, 3) := by decide +kernel
theorem dX2_arm_13 : decode cX2_arm 13 = .ok (.iload_n 3, 1) := by decide +kernel
theorem dX2_arm_14 : decode cX2_arm 14 = .ok (.bipush 60, 2) := by decide +kernel
theorem dX2_arm_16 : decode cX2_arm 16 = .ok (.if_icmp .le 6, 3) := by decide +kernel
theorem dX2_arm_19 : decode cX2_arm 19 = .ok (.bipush (-5), 2) := by decide +kernel
theorem dX2_arm_21 : decode cX2_arm 21 = .ok (.ireturn, 1) := by decide +kernel
theorem dX2_arm_22 : decode cX2_arm 22 = .ok (.aload_n 0, 1) := by decide +kernel
theorem dX2_arm_23 : decode cX2_arm 23 = .ok (.getfield 22, 3) := by decide +kernel
theorem dX2_arm_26 : decode cX2_arm 26 = .ok (.iload_n 1, 1) := by decide +kernel
theorem dX2_arm_27 : decode cX2_arm 27 = .ok (.iconst 1, 1) := by decide +kernel
theorem dX2_arm_28 : decode cX2_arm 28 = .ok (.bastore, 1) := by decide +kernel
theorem dX2_arm_29 : decode cX2_arm 29 = .ok (.aload_n 0, 1) := by decide +kernel
theorem dX2_arm_30 : decode cX2_arm 30 = .ok (.getfield 26, 3) := by decide +kernel
theorem dX2_arm_33 : decode cX2_arm 33 = .ok (.iload_n 1, 1) := by decide +kernel
theorem dX2_arm_34 : decode cX2_arm 34 = .ok (.iload_n 2, 1) := by decide +kernel
theorem dX2_arm_35 : decode cX2_arm 35 = .ok (.iconst 3, 1) := by decide +kernel
theorem dX2_arm_36 : decode cX2_arm 36 = .ok (.iand, 1) := by decide +kernel
theorem dX2_arm_37 : decode cX2_arm 37 = .ok (.iastore, 1) := by decide +kernel
theorem dX2_arm_38 : decode cX2_arm 38 = .ok (.aload_n 0, 1) := by decide +kernel
theorem dX2_arm_39 : decode cX2_arm 39 = .ok (.getfield 29, 3) := by decide +kernel
theorem dX2_arm_42 : decode cX2_arm 42 = .ok (.iload_n 1, 1) := by decide +kernel
theorem dX2_arm_43 : decode cX2_arm 43 = .ok (.iload_n 2, 1) := by decide +kernel
theorem dX2_arm_44 : decode cX2_arm 44 = .ok (.iconst 2, 1) := by decide +kernel
theorem dX2_arm_45 : decode cX2_arm 45 = .ok (.ishr, 1) := by decide +kernel
theorem dX2_arm_46 : decode cX2_arm 46 = .ok (.iconst 3, 1) := by decide +kernel
theorem dX2_arm_47 : decode cX2_arm 47 = .ok (.iand, 1) := by decide +kernel
theorem dX2_arm_48 : decode cX2_arm 48 = .ok (.iastore, 1) := by decide +kernel
theorem dX2_arm_49 : decode cX2_arm 49 = .ok (.aload_n 0, 1) := by decide +kernel
theorem dX2_arm_50 : decode cX2_arm 50 = .ok (.getfield 32, 3) := by decide +kernel
theorem dX2_arm_53 : decode cX2_arm 53 = .ok (.iload_n 1, 1) := by decide +kernel
theorem dX2_arm_54 : decode cX2_arm 54 = .ok (.iload_n 3, 1) := by decide +kernel
theorem dX2_arm_55 : decode cX2_arm 55 = .ok (.iastore, 1) := by decide +kernel
theorem dX2_arm_56 : decode cX2_arm 56 = .ok (.aload_n 0, 1) := by decide +kernel
theorem dX2_arm_57 : decode cX2_arm 57 = .ok (.getfield 35, 3) := by decide +kernel
theorem dX2_arm_60 : decode cX2_arm 60 = .ok (.iload_n 1, 1) := by decide +kernel
theorem dX2_arm_61 : decode cX2_arm 61 = .ok (.iload 4, 2) := by decide +kernel
theorem dX2_arm_63 : decode cX2_arm 63 = .ok (.sipush 255, 3) := by decide +kernel
theorem dX2_arm_66 : decode cX2_arm 66 = .ok (.iand, 1) := by decide +kernel
theorem dX2_arm_67 : decode cX2_arm 67 = .ok (.iastore, 1) := by decide +kernel
theorem dX2_arm_68 : decode cX2_arm 68 = .ok (.iconst 0, 1) := by decide +kernel
theorem dX2_arm_69 : decode cX2_arm 69 = .ok (.ireturn, 1) := by decide +kernel
abbrev cX2_tick : ByteArray := prog_3_method_13_code
def yX2_tick : MethodName := ⟨RX2, "tick", "(I)I"⟩
theorem dX2_tick_0 : decode cX2_tick 0 = .ok (.aload_n 0, 1) := by decide +kernel
theorem dX2_tick_1 : decode cX2_tick 1 = .ok (.getfield 60, 3) := by decide +kernel
theorem dX2_tick_4 : decode cX2_tick 4 = .ok (.istore_n 2, 1) := by decide +kernel
theorem dX2_tick_5 : decode cX2_tick 5 = .ok (.iconst 0, 1) := by decide +kernel
theorem dX2_tick_6 : decode cX2_tick 6 = .ok (.istore_n 3, 1) := by decide +kernel
theorem dX2_tick_7 : decode cX2_tick 7 = .ok (.iload_n 3, 1) := by decide +kernel
theorem dX2_tick_8 : decode cX2_tick 8 = .ok (.sipush 200, 3) := by decide +kernel
theorem dX2_tick_11 : decode cX2_tick 11 = .ok (.if_icmp .ge 72, 3) := by decide +kernel
theorem dX2_tick_14 : decode cX2_tick 14 = .ok (.iload_n 3, 1) := by decide +kernel
theorem dX2_tick_15 : decode cX2_tick 15 = .ok (.iload_n 1, 1) := by decide +kernel
theorem dX2_tick_16 : decode cX2_tick 16 = .ok (.if_icmp .ge 61, 3) := by decide +kernel
theorem dX2_tick_19 : decode cX2_tick 19 = .ok (.iconst 0, 1) := by decide +kernel
theorem dX2_tick_20 : decode cX2_tick 20 = .ok (.istore 4, 2) := by decide +kernel
theorem dX2_tick_22 : decode cX2_tick 22 = .ok (.iload 4, 2) := by decide +kernel
theorem dX2_tick_24 : decode cX2_tick 24 = .ok (.iconst 4, 1) := by decide +kernel
theorem dX2_tick_25 : decode cX2_tick 25 = .ok (.if_icmp .ge 21, 3) := by decide +kernel
theorem dX2_tick_28 : decode cX2_tick 28 = .ok (.aload_n 0, 1) := by decide +kernel
theorem dX2_tick_29 : decode cX2_tick 29 = .ok (.iload 4, 2) := by decide +kernel
theorem dX2_tick_31 : decode cX2_tick 31 = .ok (.invokevirtual 67, 3) := by decide +kernel
theorem dX2_tick_34 : decode cX2_tick 34 = .ok (.aload_n 0, 1) := by decide +kernel
theorem dX2_tick_35 : decode cX2_tick 35 = .ok (.iload 4, 2) := by decide +kernel
theorem dX2_tick_37 : decode cX2_tick 37 = .ok (.invokevirtual 71, 3) := by decide +kernel
theorem dX2_tick_40 : decode cX2_tick 40 = .ok (.iinc 4 1, 3) := by decide +kernel
theorem dX2_tick_43 : decode cX2_tick 43 = .ok (.goto (-21), 3) := by decide +kernel
theorem dX2_tick_46 : decode cX2_tick 46 = .ok (.iconst 0, 1) := by decide +kernel
theorem dX2_tick_47 : decode cX2_tick 47 = .ok (.istore 4, 2) := by decide +kernel
theorem dX2_tick_49 : decode cX2_tick 49 = .ok (.iload 4, 2) := by decide +kernel
theorem dX2_tick_51 : decode cX2_tick 51 = .ok (.iconst 2, 1) := by decide +kernel
theorem dX2_tick_52 : decode cX2_tick 52 = .ok (.if_icmp .ge 25, 3) := by decide +kernel
theorem dX2_tick_55 : decode cX2_tick 55 = .ok (.aload_n 0, 1) := by decide +kernel
theorem dX2_tick_56 : decode cX2_tick 56 = .ok (.getfield 22, 3) := by decide +kernel
theorem dX2_tick_59 : decode cX2_tick 59 = .ok (.iload 4, 2) := by decide +kernel
theorem dX2_tick_61 : decode cX2_tick 61 = .ok (.baload, 1) := by decide +kernel
theorem dX2_tick_62 : decode cX2_tick 62 = .ok (.ifCond .eq 9, 3) := by decide +kernel
theorem dX2_tick_65 : decode cX2_tick 65 = .ok (.aload_n 0, 1) := by decide +kernel
theorem dX2_tick_66 : decode cX2_tick 66 = .ok (.iload 4, 2) := by decide +kernel
theorem dX2_tick_68 : decode cX2_tick 68 = .ok (.invokevirtual 74, 3) := by decide +kernel
theorem dX2_tick_71 : decode cX2_tick 71 = .ok (.iinc 4 1, 3) := by decide +kernel
theorem dX2_tick_74 : decode cX2_tick 74 = .ok (.goto (-25), 3) := by decide +kernel
theorem dX2_tick_77 : decode cX2_tick 77 = .ok (.iinc 3 1, 3) := by decide +kernel
theorem dX2_tick_80 : decode cX2_tick 80 = .ok (.goto (-73), 3) := by decide +kernel
theorem dX2_tick_83 : decode cX2_tick 83 = .ok (.aload_n 0, 1) := by decide +kernel
theorem dX2_tick_84 : decode cX2_tick 84 = .ok (.getfield 60, 3) := by decide +kernel
theorem dX2_tick_87 : decode cX2_tick 87 = .ok (.iload_n 2, 1) := by decide +kernel
theorem dX2_tick_88 : decode cX2_tick 88 = .ok (.isub, 1) := by decide +kernel
theorem dX2_tick_89 : decode cX2_tick 89 = .ok (.ireturn, 1) := by decide +kernel
abbrev cX2_end : ByteArray := prog_3_method_9_code
def yX2_end : MethodName := ⟨RX2, "end", "(I)V"⟩
theorem dX2_end_0 : decode cX2_end 0 = .ok (.aload_n 0, 1) := by decide +kernel
theorem dX2_end_1 : decode cX2_end 1 = .ok (.getfield 7, 3) := by decide +kernel
theorem dX2_end_4 : decode cX2_end 4 = .ok (.iload_n 1, 1) := by decide +kernel
theorem dX2_end_5 : decode cX2_end 5 = .ok (.iaload, 1) := by decide +kernel
theorem dX2_end_6 : decode cX2_end 6 = .ok (.ifCond .le 73, 3) := by decide +kernel
theorem dX2_end_9 : decode cX2_end 9 = .ok (.aload_n 0, 1) := by decide +kernel
theorem dX2_end_10 : decode cX2_end 10 = .ok (.getfield 13, 3) := by decide +kernel
theorem dX2_end_13 : decode cX2_end 13 = .ok (.iload_n 1, 1) := by decide +kernel
theorem dX2_end_14 : decode cX2_end 14 = .ok (.bipush 16, 2) := by decide +kernel
theorem dX2_end_16 : decode cX2_end 16 = .ok (.imul, 1) := by decide +kernel
theorem dX2_end_17 : decode cX2_end 17 = .ok (.iaload, 1) := by decide +kernel
theorem dX2_end_18 : decode cX2_end 18 = .ok (.ifCond .ne 61, 3) := by decide +kernel
theorem dX2_end_21 : decode cX2_end 21 = .ok (.aload_n 0, 1) := by decide +kernel
theorem dX2_end_22 : decode cX2_end 22 = .ok (.getfield 19, 3) := by decide +kernel
theorem dX2_end_25 : decode cX2_end 25 = .ok (.iload_n 1, 1) := by decide +kernel
theorem dX2_end_26 : decode cX2_end 26 = .ok (.iaload, 1) := by decide +kernel
theorem dX2_end_27 : decode cX2_end 27 = .ok (.istore_n 2, 1) := by decide +kernel
theorem dX2_end_28 : decode cX2_end 28 = .ok (.iload_n 2, 1) := by decide +kernel
theorem dX2_end_29 : decode cX2_end 29 = .ok (.bipush (-2), 2) := by decide +kernel
theorem dX2_end_31 : decode cX2_end 31 = .ok (.if_icmp .ne 23, 3) := by decide +kernel
theorem dX2_end_34 : decode cX2_end 34 = .ok (.aload_n 0, 1) := by decide +kernel
theorem dX2_end_35 : decode cX2_end 35 = .ok (.iload_n 1, 1) := by decide +kernel
theorem dX2_end_36 : decode cX2_end 36 = .ok (.iconst 0, 1) := by decide +kernel
theorem dX2_end_37 : decode cX2_end 37 = .ok (.invokevirtual 56, 3) := by decide +kernel
theorem dX2_end_40 : decode cX2_end 40 = .ok (.pop, 1) := by decide +kernel
theorem dX2_end_41 : decode cX2_end 41 = .ok (.aload_n 0, 1) := by decide +kernel
theorem dX2_end_42 : decode cX2_end 42 = .ok (.aload_n 0, 1) := by decide +kernel
theorem dX2_end_43 : decode cX2_end 43 = .ok (.getfield 60, 3) := by decide +kernel
theorem dX2_end_46 : decode cX2_end 46 = .ok (.iconst 1, 1) := by decide +kernel
theorem dX2_end_47 : decode cX2_end 47 = .ok (.iadd, 1) := by decide +kernel
theorem dX2_end_48 : decode cX2_end 48 = .ok (.putfield 60, 3) := by decide +kernel
theorem dX2_end_51 : decode cX2_end 51 = .ok (.goto 28, 3) := by decide +kernel
theorem dX2_end_54 : decode cX2_end 54 = .ok (.iload_n 2, 1) := by decide +kernel
theorem dX2_end_55 : decode cX2_end 55 = .ok (.ifCond .lt 24, 3) := by decide +kernel
theorem dX2_end_58 : decode cX2_end 58 = .ok (.aload_n 0, 1) := by decide +kernel
theorem dX2_end_59 : decode cX2_end 59 = .ok (.iload_n 2, 1) := by decide +kernel
theorem dX2_end_60 : decode cX2_end 60 = .ok (.invokevirtual 49, 3) := by decide +kernel
theorem dX2_end_63 : decode cX2_end 63 = .ok (.ifCond .eq 16, 3) := by decide +kernel
theorem dX2_end_66 : decode cX2_end 66 = .ok (.aload_n 0, 1) := by decide +kernel
theorem dX2_end_67 : decode cX2_end 67 = .ok (.iload_n 1, 1) := by decide +kernel
theorem dX2_end_68 : decode cX2_end 68 = .ok (.iconst 0, 1) := by decide +kernel
theorem dX2_end_69 : decode cX2_end 69 = .ok (.invokevirtual 56, 3) := by decide +kernel
theorem dX2_end_72 : decode cX2_end 72 = .ok (.istore_n 3, 1) := by decide +kernel
theorem dX2_end_73 : decode cX2_end 73 = .ok (.aload_n 0, 1) := by decide +kernel
theorem dX2_end_74 : decode cX2_end 74 = .ok (.iload_n 2, 1) := by decide +kernel
theorem dX2_end_75 : decode cX2_end 75 = .ok (.iload_n 3, 1) := by decide +kernel
theorem dX2_end_76 : decode cX2_end 76 = .ok (.invokevirtual 52, 3) := by decide +kernel
theorem dX2_end_79 : decode cX2_end 79 = .ok (.return_, 1) := by decide +kernel
abbrev cX2_move : ByteArray := prog_3_method_11_code
def yX2_move : MethodName := ⟨RX2, "move", "(I)V"⟩
theorem dX2_move_0 : decode cX2_move 0 = .ok (.iconst 0, 1) := by decide +kernel
theorem dX2_move_1 : decode cX2_move 1 = .ok (.istore_n 2, 1) := by decide +kernel
theorem dX2_move_2 : decode cX2_move 2 = .ok (.iload_n 2, 1) := by decide +kernel
theorem dX2_move_3 : decode cX2_move 3 = .ok (.aload_n 0, 1) := by decide +kernel
theorem dX2_move_4 : decode cX2_move 4 = .ok (.getfield 7, 3) := by decide +kernel
theorem dX2_move_7 : decode cX2_move 7 = .ok (.iload_n 1, 1) := by decide +kernel
theorem dX2_move_8 : decode cX2_move 8 = .ok (.iaload, 1) := by decide +kernel
theorem dX2_move_9 : decode cX2_move 9 = .ok (.if_icmp .ge 42, 3) := by decide +kernel
theorem dX2_move_12 : decode cX2_move 12 = .ok (.aload_n 0, 1) := by decide +kernel
theorem dX2_move_13 : decode cX2_move 13 = .ok (.iload_n 1, 1) := by decide +kernel
theorem dX2_move_14 : decode cX2_move 14 = .ok (.iload_n 2, 1) := by decide +kernel
theorem dX2_move_15 : decode cX2_move 15 = .ok (.invokevirtual 63, 3) := by decide +kernel
theorem dX2_move_18 : decode cX2_move 18 = .ok (.ifCond .eq 27, 3) := by decide +kernel
theorem dX2_move_21 : decode cX2_move 21 = .ok (.aload_n 0, 1) := by decide +kernel
theorem dX2_move_22 : decode cX2_move 22 = .ok (.getfield 13, 3) := by decide +kernel
theorem dX2_move_25 : decode cX2_move 25 = .ok (.iload_n 1, 1) := by decide +kernel
theorem dX2_move_26 : decode cX2_move 26 = .ok (.bipush 16, 2) := by decide +kernel
theorem dX2_move_28 : decode cX2_move 28 = .ok (.imul, 1) := by decide +kernel
theorem dX2_move_29 : decode cX2_move 29 = .ok (.iload_n 2, 1) := by decide +kernel
theorem dX2_move_30 : decode cX2_move 30 = .ok (.iadd, 1) := by decide +kernel
theorem dX2_move_31 : decode cX2_move 31 = .ok (.aload_n 0, 1) := by decide +kernel
theorem dX2_move_32 : decode cX2_move 32 = .ok (.getfield 13, 3) := by decide +kernel
theorem dX2_move_35 : decode cX2_move 35 = .ok (.iload_n 1, 1) := by decide +kernel
theorem dX2_move_36 : decode cX2_move 36 = .ok (.bipush 16, 2) := by decide +kernel
theorem dX2_move_38 : decode cX2_move 38 = .ok (.imul, 1) := by decide +kernel
theorem dX2_move_39 : decode cX2_move 39 = .ok (.iload_n 2, 1) := by decide +kernel
theorem dX2_move_40 : decode cX2_move 40 = .ok (.iadd, 1) := by decide +kernel
theorem dX2_move_41 : decode cX2_move 41 = .ok (.iaload, 1) := by decide +kernel
theorem dX2_move_42 : decode cX2_move 42 = .ok (.iconst 1, 1) := by decide +kernel
theorem dX2_move_43 : decode cX2_move 43 = .ok (.isub, 1) := by decide +kernel
theorem dX2_move_44 : decode cX2_move 44 = .ok (.iastore, 1) := by decide +kernel
theorem dX2_move_45 : decode cX2_move 45 = .ok (.iinc 2 1, 3) := by decide +kernel
theorem dX2_move_48 : decode cX2_move 48 = .ok (.goto (-46), 3) := by decide +kernel
theorem dX2_move_51 : decode cX2_move 51 = .ok (.return_, 1) := by decide +kernel
abbrev cX2_moves : ByteArray := prog_3_method_10_code
def yX2_moves : MethodName := ⟨RX2, "moves", "(II)Z"⟩
theorem dX2_moves_0 : decode cX2_moves 0 = .ok (.iload_n 1, 1) := by decide +kernel
theorem dX2_moves_1 : decode cX2_moves 1 = .ok (.bipush 16, 2) := by decide +kernel
theorem dX2_moves_3 : decode cX2_moves 3 = .ok (.imul, 1) := by decide +kernel
theorem dX2_moves_4 : decode cX2_moves 4 = .ok (.iload_n 2, 1) := by decide +kernel
theorem dX2_moves_5 : decode cX2_moves 5 = .ok (.iadd, 1) := by decide +kernel
theorem dX2_moves_6 : decode cX2_moves 6 = .ok (.istore_n 3, 1) := by decide +kernel
theorem dX2_moves_7 : decode cX2_moves 7 = .ok (.aload_n 0, 1) := by decide +kernel
theorem dX2_moves_8 : decode cX2_moves 8 = .ok (.getfield 13, 3) := by decide +kernel
theorem dX2_moves_11 : decode cX2_moves 11 = .ok (.iload_n 3, 1) := by decide +kernel
theorem dX2_moves_12 : decode cX2_moves 12 = .ok (.iaload, 1) := by decide +kernel
theorem dX2_moves_13 : decode cX2_moves 13 = .ok (.ifCond .ne 5, 3) := by decide +kernel
theorem dX2_moves_16 : decode cX2_moves 16 = .ok (.iconst 0, 1) := by decide +kernel
theorem dX2_moves_17 : decode cX2_moves 17 = .ok (.ireturn, 1) := by decide +kernel
theorem dX2_moves_18 : decode cX2_moves 18 = .ok (.iload_n 2, 1) := by decide +kernel
theorem dX2_moves_19 : decode cX2_moves 19 = .ok (.ifCond .eq 22, 3) := by decide +kernel
theorem dX2_moves_22 : decode cX2_moves 22 = .ok (.aload_n 0, 1) := by decide +kernel
theorem dX2_moves_23 : decode cX2_moves 23 = .ok (.getfield 13, 3) := by decide +kernel
theorem dX2_moves_26 : decode cX2_moves 26 = .ok (.iload_n 3, 1) := by decide +kernel
theorem dX2_moves_27 : decode cX2_moves 27 = .ok (.iaload, 1) := by decide +kernel
theorem dX2_moves_28 : decode cX2_moves 28 = .ok (.aload_n 0, 1) := by decide +kernel
theorem dX2_moves_29 : decode cX2_moves 29 = .ok (.getfield 13, 3) := by decide +kernel
theorem dX2_moves_32 : decode cX2_moves 32 = .ok (.iload_n 3, 1) := by decide +kernel
theorem dX2_moves_33 : decode cX2_moves 33 = .ok (.iconst 1, 1) := by decide +kernel
theorem dX2_moves_34 : decode cX2_moves 34 = .ok (.isub, 1) := by decide +kernel
theorem dX2_moves_35 : decode cX2_moves 35 = .ok (.iaload, 1) := by decide +kernel
theorem dX2_moves_36 : decode cX2_moves 36 = .ok (.isub, 1) := by decide +kernel
theorem dX2_moves_37 : decode cX2_moves 37 = .ok (.iconst 4, 1) := by decide +kernel
theorem dX2_moves_38 : decode cX2_moves 38 = .ok (.if_icmp .le 7, 3) := by decide +kernel
theorem dX2_moves_41 : decode cX2_moves 41 = .ok (.iconst 1, 1) := by decide +kernel
theorem dX2_moves_42 : decode cX2_moves 42 = .ok (.goto 4, 3) := by decide +kernel
theorem dX2_moves_45 : decode cX2_moves 45 = .ok (.iconst 0, 1) := by decide +kernel
theorem dX2_moves_46 : decode cX2_moves 46 = .ok (.ireturn, 1) := by decide +kernel
abbrev cX2_work : ByteArray := prog_3_method_12_code
def yX2_work : MethodName := ⟨RX2, "work", "(I)V"⟩
theorem dX2_work_0 : decode cX2_work 0 = .ok (.aload_n 0, 1) := by decide +kernel
theorem dX2_work_1 : decode cX2_work 1 = .ok (.getfield 38, 3) := by decide +kernel
theorem dX2_work_4 : decode cX2_work 4 = .ok (.iload_n 1, 1) := by decide +kernel
theorem dX2_work_5 : decode cX2_work 5 = .ok (.iaload, 1) := by decide +kernel
theorem dX2_work_6 : decode cX2_work 6 = .ok (.bipush (-4), 2) := by decide +kernel
theorem dX2_work_8 : decode cX2_work 8 = .ok (.if_icmp .eq 41, 3) := by decide +kernel
theorem dX2_work_11 : decode cX2_work 11 = .ok (.aload_n 0, 1) := by decide +kernel
theorem dX2_work_12 : decode cX2_work 12 = .ok (.aload_n 0, 1) := by decide +kernel
theorem dX2_work_13 : decode cX2_work 13 = .ok (.getfield 29, 3) := by decide +kernel
theorem dX2_work_16 : decode cX2_work 16 = .ok (.iload_n 1, 1) := by decide +kernel
theorem dX2_work_17 : decode cX2_work 17 = .ok (.iaload, 1) := by decide +kernel
theorem dX2_work_18 : decode cX2_work 18 = .ok (.invokevirtual 49, 3) := by decide +kernel
theorem dX2_work_21 : decode cX2_work 21 = .ok (.ifCond .eq 27, 3) := by decide +kernel
theorem dX2_work_24 : decode cX2_work 24 = .ok (.aload_n 0, 1) := by decide +kernel
theorem dX2_work_25 : decode cX2_work 25 = .ok (.aload_n 0, 1) := by decide +kernel
theorem dX2_work_26 : decode cX2_work 26 = .ok (.getfield 29, 3) := by decide +kernel
theorem dX2_work_29 : decode cX2_work 29 = .ok (.iload_n 1, 1) := by decide +kernel
theorem dX2_work_30 : decode cX2_work 30 = .ok (.iaload, 1) := by decide +kernel
theorem dX2_work_31 : decode cX2_work 31 = .ok (.aload_n 0, 1) := by decide +kernel
theorem dX2_work_32 : decode cX2_work 32 = .ok (.getfield 38, 3) := by decide +kernel
theorem dX2_work_35 : decode cX2_work 35 = .ok (.iload_n 1, 1) := by decide +kernel
theorem dX2_work_36 : decode cX2_work 36 = .ok (.iaload, 1) := by decide +kernel
theorem dX2_work_37 : decode cX2_work 37 = .ok (.invokevirtual 52, 3) := by decide +kernel
theorem dX2_work_40 : decode cX2_work 40 = .ok (.aload_n 0, 1) := by decide +kernel
theorem dX2_work_41 : decode cX2_work 41 = .ok (.getfield 38, 3) := by decide +kernel
theorem dX2_work_44 : decode cX2_work 44 = .ok (.iload_n 1, 1) := by decide +kernel
theorem dX2_work_45 : decode cX2_work 45 = .ok (.bipush (-4), 2) := by decide +kernel
theorem dX2_work_47 : decode cX2_work 47 = .ok (.iastore, 1) := by decide +kernel
theorem dX2_work_48 : decode cX2_work 48 = .ok (.return_, 1) := by decide +kernel
theorem dX2_work_49 : decode cX2_work 49 = .ok (.aload_n 0, 1) := by decide +kernel
theorem dX2_work_50 : decode cX2_work 50 = .ok (.getfield 26, 3) := by decide +kernel
theorem dX2_work_53 : decode cX2_work 53 = .ok (.iload_n 1, 1) := by decide +kernel
theorem dX2_work_54 : decode cX2_work 54 = .ok (.iaload, 1) := by decide +kernel
theorem dX2_work_55 : decode cX2_work 55 = .ok (.istore_n 2, 1) := by decide +kernel
theorem dX2_work_56 : decode cX2_work 56 = .ok (.iconst 0, 1) := by decide +kernel
theorem dX2_work_57 : decode cX2_work 57 = .ok (.istore_n 3, 1) := by decide +kernel
theorem dX2_work_58 : decode cX2_work 58 = .ok (.iload_n 3, 1) := by decide +kernel
theorem dX2_work_59 : decode cX2_work 59 = .ok (.aload_n 0, 1) := by decide +kernel
theorem dX2_work_60 : decode cX2_work 60 = .ok (.getfield 7, 3) := by decide +kernel
theorem dX2_work_63 : decode cX2_work 63 = .ok (.iload_n 2, 1) := by decide +kernel
theorem dX2_work_64 : decode cX2_work 64 = .ok (.iaload, 1) := by decide +kernel
theorem dX2_work_65 : decode cX2_work 65 = .ok (.if_icmp .ge 99, 3) := by decide +kernel
theorem dX2_work_68 : decode cX2_work 68 = .ok (.aload_n 0, 1) := by decide +kernel
theorem dX2_work_69 : decode cX2_work 69 = .ok (.getfield 13, 3) := by decide +kernel
theorem dX2_work_72 : decode cX2_work 72 = .ok (.iload_n 2, 1) := by decide +kernel
theorem dX2_work_73 : decode cX2_work 73 = .ok (.bipush 16, 2) := by decide +kernel
theorem dX2_work_75 : decode cX2_work 75 = .ok (.imul, 1) := by decide +kernel
theorem dX2_work_76 : decode cX2_work 76 = .ok (.iload_n 3, 1) := by decide +kernel
theorem dX2_work_77 : decode cX2_work 77 = .ok (.iadd, 1) := by decide +kernel
theorem dX2_work_78 : decode cX2_work 78 = .ok (.iaload, 1) := by decide +kernel
theorem dX2_work_79 : decode cX2_work 79 = .ok (.aload_n 0, 1) := by decide +kernel
theorem dX2_work_80 : decode cX2_work 80 = .ok (.getfield 32, 3) := by decide +kernel
theorem dX2_work_83 : decode cX2_work 83 = .ok (.iload_n 1, 1) := by decide +kernel
theorem dX2_work_84 : decode cX2_work 84 = .ok (.iaload, 1) := by decide +kernel
theorem dX2_work_85 : decode cX2_work 85 = .ok (.isub, 1) := by decide +kernel
theorem dX2_work_86 : decode cX2_work 86 = .ok (.istore 4, 2) := by decide +kernel
theorem dX2_work_88 : decode cX2_work 88 = .ok (.aload_n 0, 1) := by decide +kernel
theorem dX2_work_89 : decode cX2_work 89 = .ok (.getfield 35, 3) := by decide +kernel
theorem dX2_work_92 : decode cX2_work 92 = .ok (.iload_n 1, 1) := by decide +kernel
theorem dX2_work_93 : decode cX2_work 93 = .ok (.iaload, 1) := by decide +kernel
theorem dX2_work_94 : decode cX2_work 94 = .ok (.aload_n 0, 1) := by decide +kernel
theorem dX2_work_95 : decode cX2_work 95 = .ok (.getfield 16, 3) := by decide +kernel
theorem dX2_work_98 : decode cX2_work 98 = .ok (.iload_n 2, 1) := by decide +kernel
theorem dX2_work_99 : decode cX2_work 99 = .ok (.bipush 16, 2) := by decide +kernel
theorem dX2_work_101 : decode cX2_work 101 = .ok (.imul, 1) := by decide +kernel
theorem dX2_work_102 : decode cX2_work 102 = .ok (.iload_n 3, 1) := by decide +kernel
theorem dX2_work_103 : decode cX2_work 103 = .ok (.iadd, 1) := by decide +kernel
theorem dX2_work_104 : decode cX2_work 104 = .ok (.iaload, 1) := by decide +kernel
theorem dX2_work_105 : decode cX2_work 105 = .ok (.ishr, 1) := by decide +kernel
theorem dX2_work_106 : decode cX2_work 106 = .ok (.iconst 1, 1) := by decide +kernel
theorem dX2_work_107 : decode cX2_work 107 = .ok (.iand, 1) := by decide +kernel
theorem dX2_work_108 : decode cX2_work 108 = .ok (.iconst 1, 1) := by decide +kernel
theorem dX2_work_109 : decode cX2_work 109 = .ok (.if_icmp .ne 7, 3) := by decide +kernel
theorem dX2_work_112 : decode cX2_work 112 = .ok (.iconst 1, 1) := by decide +kernel
theorem dX2_work_113 : decode cX2_work 113 = .ok (.goto 4, 3) := by decide +kernel
theorem dX2_work_116 : decode cX2_work 116 = .ok (.iconst 0, 1) := by decide +kernel
theorem dX2_work_117 : decode cX2_work 117 = .ok (.istore 5, 2) := by decide +kernel
theorem dX2_work_119 : decode cX2_work 119 = .ok (.aload_n 0, 1) := by decide +kernel
theorem dX2_work_120 : decode cX2_work 120 = .ok (.getfield 38, 3) := by decide +kernel
theorem dX2_work_123 : decode cX2_work 123 = .ok (.iload_n 1, 1) := by decide +kernel
theorem dX2_work_124 : decode cX2_work 124 = .ok (.iaload, 1) := by decide +kernel
theorem dX2_work_125 : decode cX2_work 125 = .ok (.bipush (-4), 2) := by decide +kernel
theorem dX2_work_127 : decode cX2_work 127 = .ok (.if_icmp .ne 31, 3) := by decide +kernel
theorem dX2_work_130 : decode cX2_work 130 = .ok (.iload 4, 2) := by decide +kernel
theorem dX2_work_132 : decode cX2_work 132 = .ok (.ifCond .lt 26, 3) := by decide +kernel
theorem dX2_work_135 : decode cX2_work 135 = .ok (.iload 4, 2) := by decide +kernel
theorem dX2_work_137 : decode cX2_work 137 = .ok (.iconst 3, 1) := by decide +kernel
theorem dX2_work_138 : decode cX2_work 138 = .ok (.if_icmp .gt 20, 3) := by decide +kernel
theorem dX2_work_141 : decode cX2_work 141 = .ok (.iload 5, 2) := by decide +kernel
theorem dX2_work_143 : decode cX2_work 143 = .ok (.ifCond .eq 15, 3) := by decide +kernel
theorem dX2_work_146 : decode cX2_work 146 = .ok (.aload_n 0, 1) := by decide +kernel
theorem dX2_work_147 : decode cX2_work 147 = .ok (.getfield 38, 3) := by decide +kernel
theorem dX2_work_150 : decode cX2_work 150 = .ok (.iload_n 1, 1) := by decide +kernel
theorem dX2_work_151 : decode cX2_work 151 = .ok (.aload_n 0, 1) := by decide +kernel
theorem dX2_work_152 : decode cX2_work 152 = .ok (.iload_n 2, 1) := by decide +kernel
theorem dX2_work_153 : decode cX2_work 153 = .ok (.iload_n 3, 1) := by decide +kernel
theorem dX2_work_154 : decode cX2_work 154 = .ok (.invokevirtual 56, 3) := by decide +kernel
theorem dX2_work_157 : decode cX2_work 157 = .ok (.iastore, 1) := by decide +kernel
theorem dX2_work_158 : decode cX2_work 158 = .ok (.iinc 3 1, 3) := by decide +kernel
theorem dX2_work_161 : decode cX2_work 161 = .ok (.goto (-103), 3) := by decide +kernel
theorem dX2_work_164 : decode cX2_work 164 = .ok (.return_, 1) := by decide +kernel
abbrev cX2_items : ByteArray := prog_3_method_14_code
def yX2_items : MethodName := ⟨RX2, "items", "(I)I"⟩
theorem dX2_items_0 : decode cX2_items 0 = .ok (.aload_n 0, 1) := by decide +kernel
theorem dX2_items_1 : decode cX2_items 1 = .ok (.iload_n 1, 1) := by decide +kernel
theorem dX2_items_2 : decode cX2_items 2 = .ok (.invokevirtual 45, 3) := by decide +kernel
theorem dX2_items_5 : decode cX2_items 5 = .ok (.ifCond .eq 7, 3) := by decide +kernel
theorem dX2_items_8 : decode cX2_items 8 = .ok (.iconst (-1), 1) := by decide +kernel
theorem dX2_items_9 : decode cX2_items 9 = .ok (.goto 9, 3) := by decide +kernel
theorem dX2_items_12 : decode cX2_items 12 = .ok (.aload_n 0, 1) := by decide +kernel
theorem dX2_items_13 : decode cX2_items 13 = .ok (.getfield 7, 3) := by decide +kernel
theorem dX2_items_16 : decode cX2_items 16 = .ok (.iload_n 1, 1) := by decide +kernel
theorem dX2_items_17 : decode cX2_items 17 = .ok (.iaload, 1) := by decide +kernel
theorem dX2_items_18 : decode cX2_items 18 = .ok (.ireturn, 1) := by decide +kernel
abbrev cX2_place : ByteArray := prog_3_method_15_code
def yX2_place : MethodName := ⟨RX2, "place", "(II)I"⟩
theorem dX2_place_0 : decode cX2_place 0 = .ok (.aload_n 0, 1) := by decide +kernel
theorem dX2_place_1 : decode cX2_place 1 = .ok (.iload_n 1, 1) := by decide +kernel
theorem dX2_place_2 : decode cX2_place 2 = .ok (.invokevirtual 45, 3) := by decide +kernel
theorem dX2_place_5 : decode cX2_place 5 = .ok (.ifCond .eq 5, 3) := by decide +kernel
theorem dX2_place_8 : decode cX2_place 8 = .ok (.iconst (-1), 1) := by decide +kernel
theorem dX2_place_9 : decode cX2_place 9 = .ok (.ireturn, 1) := by decide +kernel
theorem dX2_place_10 : decode cX2_place 10 = .ok (.iload_n 2, 1) := by decide +kernel
theorem dX2_place_11 : decode cX2_place 11 = .ok (.ifCond .lt 13, 3) := by decide +kernel
theorem dX2_place_14 : decode cX2_place 14 = .ok (.iload_n 2, 1) := by decide +kernel
theorem dX2_place_15 : decode cX2_place 15 = .ok (.aload_n 0, 1) := by decide +kernel
theorem dX2_place_16 : decode cX2_place 16 = .ok (.getfield 7, 3) := by decide +kernel
theorem dX2_place_19 : decode cX2_place 19 = .ok (.iload_n 1, 1) := by decide +kernel
theorem dX2_place_20 : decode cX2_place 20 = .ok (.iaload, 1) := by decide +kernel
theorem dX2_place_21 : decode cX2_place 21 = .ok (.if_icmp .lt 8, 3) := by decide +kernel
theorem dX2_place_24 : decode cX2_place 24 = .ok (.bipush (-4), 2) := by decide +kernel
theorem dX2_place_26 : decode cX2_place 26 = .ok (.goto 14, 3) := by decide +kernel
theorem dX2_place_29 : decode cX2_place 29 = .ok (.aload_n 0, 1) := by decide +kernel
theorem dX2_place_30 : decode cX2_place 30 = .ok (.getfield 13, 3) := by decide +kernel
theorem dX2_place_33 : decode cX2_place 33 = .ok (.iload_n 1, 1) := by decide +kernel
theorem dX2_place_34 : decode cX2_place 34 = .ok (.bipush 16, 2) := by decide +kernel
theorem dX2_place_36 : decode cX2_place 36 = .ok (.imul, 1) := by decide +kernel
theorem dX2_place_37 : decode cX2_place 37 = .ok (.iload_n 2, 1) := by decide +kernel
theorem dX2_place_38 : decode cX2_place 38 = .ok (.iadd, 1) := by decide +kernel
theorem dX2_place_39 : decode cX2_place 39 = .ok (.iaload, 1) := by decide +kernel
theorem dX2_place_40 : decode cX2_place 40 = .ok (.ireturn, 1) := by decide +kernel
abbrev cX2_kind : ByteArray := prog_3_method_16_code
def yX2_kind : MethodName := ⟨RX2, "kind", "(II)I"⟩
theorem dX2_kind_0 : decode cX2_kind 0 = .ok (.aload_n 0, 1) := by decide +kernel
theorem dX2_kind_1 : decode cX2_kind 1 = .ok (.iload_n 1, 1) := by decide +kernel
theorem dX2_kind_2 : decode cX2_kind 2 = .ok (.invokevirtual 45, 3) := by decide +kernel
theorem dX2_kind_5 : decode cX2_kind 5 = .ok (.ifCond .eq 5, 3) := by decide +kernel
theorem dX2_kind_8 : decode cX2_kind 8 = .ok (.iconst (-1), 1) := by decide +kernel
theorem dX2_kind_9 : decode cX2_kind 9 = .ok (.ireturn, 1) := by decide +kernel
theorem dX2_kind_10 : decode cX2_kind 10 = .ok (.iload_n 2, 1) := by decide +kernel
theorem dX2_kind_11 : decode cX2_kind 11 = .ok (.ifCond .lt 13, 3) := by decide +kernel
theorem dX2_kind_14 : decode cX2_kind 14 = .ok (.iload_n 2, 1) := by decide +kernel
theorem dX2_kind_15 : decode cX2_kind 15 = .ok (.aload_n 0, 1) := by decide +kernel
theorem dX2_kind_16 : decode cX2_kind 16 = .ok (.getfield 7, 3) := by decide +kernel
theorem dX2_kind_19 : decode cX2_kind 19 = .ok (.iload_n 1, 1) := by decide +kernel
theorem dX2_kind_20 : decode cX2_kind 20 = .ok (.iaload, 1) := by decide +kernel
theorem dX2_kind_21 : decode cX2_kind 21 = .ok (.if_icmp .lt 8, 3) := by decide +kernel
theorem dX2_kind_24 : decode cX2_kind 24 = .ok (.bipush (-4), 2) := by decide +kernel
theorem dX2_kind_26 : decode cX2_kind 26 = .ok (.goto 14, 3) := by decide +kernel
theorem dX2_kind_29 : decode cX2_kind 29 = .ok (.aload_n 0, 1) := by decide +kernel
theorem dX2_kind_30 : decode cX2_kind 30 = .ok (.getfield 16, 3) := by decide +kernel
theorem dX2_kind_33 : decode cX2_kind 33 = .ok (.iload_n 1, 1) := by decide +kernel
theorem dX2_kind_34 : decode cX2_kind 34 = .ok (.bipush 16, 2) := by decide +kernel
theorem dX2_kind_36 : decode cX2_kind 36 = .ok (.imul, 1) := by decide +kernel
theorem dX2_kind_37 : decode cX2_kind 37 = .ok (.iload_n 2, 1) := by decide +kernel
theorem dX2_kind_38 : decode cX2_kind 38 = .ok (.iadd, 1) := by decide +kernel
theorem dX2_kind_39 : decode cX2_kind 39 = .ok (.iaload, 1) := by decide +kernel
theorem dX2_kind_40 : decode cX2_kind 40 = .ok (.ireturn, 1) := by decide +kernel
abbrev cX2_out : ByteArray := prog_3_method_17_code
def yX2_out : MethodName := ⟨RX2, "out", "()I"⟩
theorem dX2_out_0 : decode cX2_out 0 = .ok (.aload_n 0, 1) := by decide +kernel
theorem dX2_out_1 : decode cX2_out 1 = .ok (.getfield 60, 3) := by decide +kernel
theorem dX2_out_4 : decode cX2_out 4 = .ok (.ireturn, 1) := by decide +kernel
abbrev cX2_held : ByteArray := prog_3_method_18_code
def yX2_held : MethodName := ⟨RX2, "held", "(I)I"⟩
theorem dX2_held_0 : decode cX2_held 0 = .ok (.iload_n 1, 1) := by decide +kernel
theorem dX2_held_1 : decode cX2_held 1 = .ok (.ifCond .lt 8, 3) := by decide +kernel
theorem dX2_held_4 : decode cX2_held 4 = .ok (.iload_n 1, 1) := by decide +kernel
theorem dX2_held_5 : decode cX2_held 5 = .ok (.iconst 1, 1) := by decide +kernel
theorem dX2_held_6 : decode cX2_held 6 = .ok (.if_icmp .le 8, 3) := by decide +kernel
theorem dX2_held_9 : decode cX2_held 9 = .ok (.bipush (-5), 2) := by decide +kernel
theorem dX2_held_11 : decode cX2_held 11 = .ok (.goto 9, 3) := by decide +kernel
theorem dX2_held_14 : decode cX2_held 14 = .ok (.aload_n 0, 1) := by decide +kernel
theorem dX2_held_15 : decode cX2_held 15 = .ok (.getfield 38, 3) := by decide +kernel
theorem dX2_held_18 : decode cX2_held 18 = .ok (.iload_n 1, 1) := by decide +kernel
theorem dX2_held_19 : decode cX2_held 19 = .ok (.iaload, 1) := by decide +kernel
theorem dX2_held_20 : decode cX2_held 20 = .ok (.ireturn, 1) := by decide +kernel
abbrev cX2_moving : ByteArray := prog_3_method_20_code
def yX2_moving : MethodName := ⟨RX2, "moving", "(I)I"⟩
theorem dX2_moving_0 : decode cX2_moving 0 = .ok (.aload_n 0, 1) := by decide +kernel
theorem dX2_moving_1 : decode cX2_moving 1 = .ok (.iload_n 1, 1) := by decide +kernel
theorem dX2_moving_2 : decode cX2_moving 2 = .ok (.invokevirtual 45, 3) := by decide +kernel
theorem dX2_moving_5 : decode cX2_moving 5 = .ok (.ifCond .eq 5, 3) := by decide +kernel
theorem dX2_moving_8 : decode cX2_moving 8 = .ok (.iconst (-1), 1) := by decide +kernel
theorem dX2_moving_9 : decode cX2_moving 9 = .ok (.ireturn, 1) := by decide +kernel
theorem dX2_moving_10 : decode cX2_moving 10 = .ok (.iconst 0, 1) := by decide +kernel
theorem dX2_moving_11 : decode cX2_moving 11 = .ok (.istore_n 2, 1) := by decide +kernel
theorem dX2_moving_12 : decode cX2_moving 12 = .ok (.bipush (-4), 2) := by decide +kernel
theorem dX2_moving_14 : decode cX2_moving 14 = .ok (.istore_n 3, 1) := by decide +kernel
theorem dX2_moving_15 : decode cX2_moving 15 = .ok (.iconst 0, 1) := by decide +kernel
theorem dX2_moving_16 : decode cX2_moving 16 = .ok (.istore 4, 2) := by decide +kernel
theorem dX2_moving_18 : decode cX2_moving 18 = .ok (.iload 4, 2) := by decide +kernel
theorem dX2_moving_20 : decode cX2_moving 20 = .ok (.aload_n 0, 1) := by decide +kernel
theorem dX2_moving_21 : decode cX2_moving 21 = .ok (.getfield 7, 3) := by decide +kernel
theorem dX2_moving_24 : decode cX2_moving 24 = .ok (.iload_n 1, 1) := by decide +kernel
theorem dX2_moving_25 : decode cX2_moving 25 = .ok (.iaload, 1) := by decide +kernel
theorem dX2_moving_26 : decode cX2_moving 26 = .ok (.if_icmp .ge 48, 3) := by decide +kernel
theorem dX2_moving_29 : decode cX2_moving 29 = .ok (.aload_n 0, 1) := by decide +kernel
theorem dX2_moving_30 : decode cX2_moving 30 = .ok (.getfield 13, 3) := by decide +kernel
theorem dX2_moving_33 : decode cX2_moving 33 = .ok (.iload_n 1, 1) := by decide +kernel
theorem dX2_moving_34 : decode cX2_moving 34 = .ok (.bipush 16, 2) := by decide +kernel
theorem dX2_moving_36 : decode cX2_moving 36 = .ok (.imul, 1) := by decide +kernel
theorem dX2_moving_37 : decode cX2_moving 37 = .ok (.iload 4, 2) := by decide +kernel
theorem dX2_moving_39 : decode cX2_moving 39 = .ok (.iadd, 1) := by decide +kernel
theorem dX2_moving_40 : decode cX2_moving 40 = .ok (.iaload, 1) := by decide +kernel
theorem dX2_moving_41 : decode cX2_moving 41 = .ok (.istore 5, 2) := by decide +kernel
theorem dX2_moving_43 : decode cX2_moving 43 = .ok (.iload 5, 2) := by decide +kernel
theorem dX2_moving_45 : decode cX2_moving 45 = .ok (.ifCond .le 20, 3) := by decide +kernel
theorem dX2_moving_48 : decode cX2_moving 48 = .ok (.iload 5, 2) := by decide +kernel
theorem dX2_moving_50 : decode cX2_moving 50 = .ok (.iload_n 3, 1) := by decide +kernel
theorem dX2_moving_51 : decode cX2_moving 51 = .ok (.isub, 1) := by decide +kernel
theorem dX2_moving_52 : decode cX2_moving 52 = .ok (.iconst 4, 1) := by decide +kernel
theorem dX2_moving_53 : decode cX2_moving 53 = .ok (.if_icmp .le 12, 3) := by decide +kernel
theorem dX2_moving_56 : decode cX2_moving 56 = .ok (.iload 5, 2) := by decide +kernel
theorem dX2_moving_58 : decode cX2_moving 58 = .ok (.iconst 1, 1) := by decide +kernel
theorem dX2_moving_59 : decode cX2_moving 59 = .ok (.isub, 1) := by decide +kernel
theorem dX2_moving_60 : decode cX2_moving 60 = .ok (.istore 5, 2) := by decide +kernel
theorem dX2_moving_62 : decode cX2_moving 62 = .ok (.iinc 2 1, 3) := by decide +kernel
theorem dX2_moving_65 : decode cX2_moving 65 = .ok (.iload 5, 2) := by decide +kernel
theorem dX2_moving_67 : decode cX2_moving 67 = .ok (.istore_n 3, 1) := by decide +kernel
theorem dX2_moving_68 : decode cX2_moving 68 = .ok (.iinc 4 1, 3) := by decide +kernel
theorem dX2_moving_71 : decode cX2_moving 71 = .ok (.goto (-53), 3) := by decide +kernel
theorem dX2_moving_74 : decode cX2_moving 74 = .ok (.iload_n 2, 1) := by decide +kernel
theorem dX2_moving_75 : decode cX2_moving 75 = .ok (.ireturn, 1) := by decide +kernel
theorem q23 : (Jvm.Cond.initialized "BeltLanesModel") ∈ lw_all := lw_g (lw_at lw_m1 2 rfl) rfl
theorem q188 : (Jvm.Cond.instantiable "BeltLanesModel" (12 : Nat)) ∈ lw_all := lw_g (lw_at lw_m1 167 rfl) rfl
theorem q190 : (Jvm.Cond.instanceMethod ({ cls := "BeltLanesModel", name := "<init>", desc := "(I)V" } : Jvm.MethodName)) ∈ lw_all := lw_g (lw_at lw_m1 169 rfl) rfl
theorem q191 : (Jvm.Cond.code ({ cls := "BeltLanesModel", name := "<init>", desc := "(I)V" } : Jvm.MethodName) prog_3_method_1_code (4 : Nat) (Option.none : Option Jvm.ClassFile.FieldType)) ∈ lw_all := lw_g (lw_at lw_m1 170 rfl) rfl
theorem q192 : (Jvm.Cond.methodLink "BeltLanesModel" (1 : Nat) ({ cls := "java/lang/Object", name := "<init>", desc := "()V" } : Jvm.MethodName)) ∈ lw_all := lw_g (lw_at lw_m1 171 rfl) rfl
theorem q193 : (Jvm.Cond.fieldLink "BeltLanesModel" (41 : Nat) "BeltLanesModel" "length" "I") ∈ lw_all := lw_g (lw_at lw_m1 172 rfl) rfl
theorem q194 : (Jvm.Cond.fieldLink "BeltLanesModel" (7 : Nat) "BeltLanesModel" "counts" "[I") ∈ lw_all := lw_g (lw_at lw_m1 173 rfl) rfl
theorem q195 : (Jvm.Cond.fieldLink "BeltLanesModel" (13 : Nat) "BeltLanesModel" "places" "[I") ∈ lw_all := lw_g (lw_at lw_m1 174 rfl) rfl
theorem q196 : (Jvm.Cond.fieldLink "BeltLanesModel" (16 : Nat) "BeltLanesModel" "kinds" "[I") ∈ lw_all := lw_g (lw_at lw_m1 175 rfl) rfl
theorem q197 : (Jvm.Cond.fieldLink "BeltLanesModel" (19 : Nat) "BeltLanesModel" "leads" "[I") ∈ lw_all := lw_g (lw_at lw_m1 176 rfl) rfl
theorem q198 : (Jvm.Cond.fieldLink "BeltLanesModel" (22 : Nat) "BeltLanesModel" "isSet" "[Z") ∈ lw_all := lw_g (lw_at lw_m1 177 rfl) rfl
theorem q199 : (Jvm.Cond.fieldLink "BeltLanesModel" (26 : Nat) "BeltLanesModel" "from" "[I") ∈ lw_all := lw_g (lw_at lw_m1 178 rfl) rfl
theorem q200 : (Jvm.Cond.fieldLink "BeltLanesModel" (29 : Nat) "BeltLanesModel" "onto" "[I") ∈ lw_all := lw_g (lw_at lw_m1 179 rfl) rfl
theorem q201 : (Jvm.Cond.fieldLink "BeltLanesModel" (32 : Nat) "BeltLanesModel" "reaches" "[I") ∈ lw_all := lw_g (lw_at lw_m1 180 rfl) rfl
theorem q202 : (Jvm.Cond.fieldLink "BeltLanesModel" (35 : Nat) "BeltLanesModel" "takes" "[I") ∈ lw_all := lw_g (lw_at lw_m1 181 rfl) rfl
theorem q203 : (Jvm.Cond.fieldLink "BeltLanesModel" (38 : Nat) "BeltLanesModel" "holds" "[I") ∈ lw_all := lw_g (lw_at lw_m1 182 rfl) rfl
theorem q204 : (Jvm.Cond.fieldLink "BeltLanesModel" (60 : Nat) "BeltLanesModel" "gone" "I") ∈ lw_all := lw_g (lw_at lw_m1 183 rfl) rfl
theorem q205 : (Jvm.Cond.laysFinal "BeltLanesModel" "BeltLanesModel" "length" "I") ∈ lw_all := lw_g (lw_at lw_m1 184 rfl) rfl
theorem q206 : (Jvm.Cond.soleField "BeltLanesModel" "length") ∈ lw_all := lw_g (lw_at lw_m1 185 rfl) rfl
theorem q207 : (Jvm.Cond.laysFinal "BeltLanesModel" "BeltLanesModel" "counts" "[I") ∈ lw_all := lw_g (lw_at lw_m1 186 rfl) rfl
theorem q208 : (Jvm.Cond.soleField "BeltLanesModel" "counts") ∈ lw_all := lw_g (lw_at lw_m1 187 rfl) rfl
theorem q209 : (Jvm.Cond.laysFinal "BeltLanesModel" "BeltLanesModel" "places" "[I") ∈ lw_all := lw_g (lw_at lw_m1 188 rfl) rfl
theorem q210 : (Jvm.Cond.soleField "BeltLanesModel" "places") ∈ lw_all := lw_g (lw_at lw_m1 189 rfl) rfl
theorem q211 : (Jvm.Cond.laysFinal "BeltLanesModel" "BeltLanesModel" "kinds" "[I") ∈ lw_all := lw_g (lw_at lw_m1 190 rfl) rfl
theorem q212 : (Jvm.Cond.soleField "BeltLanesModel" "kinds") ∈ lw_all := lw_g (lw_at lw_m1 191 rfl) rfl
theorem q213 : (Jvm.Cond.laysFinal "BeltLanesModel" "BeltLanesModel" "leads" "[I") ∈ lw_all := lw_g (lw_at lw_m1 192 rfl) rfl
theorem q214 : (Jvm.Cond.soleField "BeltLanesModel" "leads") ∈ lw_all := lw_g (lw_at lw_m1 193 rfl) rfl
theorem q215 : (Jvm.Cond.laysFinal "BeltLanesModel" "BeltLanesModel" "isSet" "[Z") ∈ lw_all := lw_g (lw_at lw_m1 194 rfl) rfl
theorem q216 : (Jvm.Cond.soleField "BeltLanesModel" "isSet") ∈ lw_all := lw_g (lw_at lw_m1 195 rfl) rfl
theorem q217 : (Jvm.Cond.laysFinal "BeltLanesModel" "BeltLanesModel" "from" "[I") ∈ lw_all := lw_g (lw_at lw_m1 196 rfl) rfl
theorem q218 : (Jvm.Cond.soleField "BeltLanesModel" "from") ∈ lw_all := lw_g (lw_at lw_m1 197 rfl) rfl
theorem q219 : (Jvm.Cond.laysFinal "BeltLanesModel" "BeltLanesModel" "onto" "[I") ∈ lw_all := lw_g (lw_at lw_m1 198 rfl) rfl
theorem q220 : (Jvm.Cond.soleField "BeltLanesModel" "onto") ∈ lw_all := lw_g (lw_at lw_m1 199 rfl) rfl
theorem q221 : (Jvm.Cond.laysFinal "BeltLanesModel" "BeltLanesModel" "reaches" "[I") ∈ lw_all := lw_g (lw_at lw_m1 200 rfl) rfl
theorem q222 : (Jvm.Cond.soleField "BeltLanesModel" "reaches") ∈ lw_all := lw_g (lw_at lw_m1 201 rfl) rfl
theorem q223 : (Jvm.Cond.laysFinal "BeltLanesModel" "BeltLanesModel" "takes" "[I") ∈ lw_all := lw_g (lw_at lw_m1 202 rfl) rfl
theorem q224 : (Jvm.Cond.soleField "BeltLanesModel" "takes") ∈ lw_all := lw_g (lw_at lw_m1 203 rfl) rfl
theorem q225 : (Jvm.Cond.laysFinal "BeltLanesModel" "BeltLanesModel" "holds" "[I") ∈ lw_all := lw_g (lw_at lw_m1 204 rfl) rfl
theorem q226 : (Jvm.Cond.soleField "BeltLanesModel" "holds") ∈ lw_all := lw_g (lw_at lw_m1 205 rfl) rfl
theorem q227 : (Jvm.Cond.lays "BeltLanesModel" "BeltLanesModel" "gone" "I") ∈ lw_all := lw_g (lw_at lw_m1 206 rfl) rfl
theorem q228 : (Jvm.Cond.soleField "BeltLanesModel" "gone") ∈ lw_all := lw_g (lw_at lw_m1 207 rfl) rfl
theorem q229 : (Jvm.Cond.superclass "BeltLanesModel" "java/lang/Object") ∈ lw_all := lw_g (lw_at lw_m1 208 rfl) rfl
theorem q231 : (Jvm.Cond.instanceMethod ({ cls := "BeltLanesModel", name := "put", desc := "(II)I" } : Jvm.MethodName)) ∈ lw_all := lw_g (lw_at lw_m1 210 rfl) rfl
theorem q232 : (Jvm.Cond.selects "BeltLanesModel" ({ cls := "BeltLanesModel", name := "put", desc := "(II)I" } : Jvm.MethodName) ({ cls := "BeltLanesModel", name := "put", desc := "(II)I" } : Jvm.MethodName)) ∈ lw_all := lw_g (lw_at lw_m1 211 rfl) rfl
theorem q233 : (Jvm.Cond.code ({ cls := "BeltLanesModel", name := "put", desc := "(II)I" } : Jvm.MethodName) prog_3_method_5_code (3 : Nat) (Option.some Jvm.ClassFile.FieldType.int)) ∈ lw_all := lw_g (lw_at lw_m1 212 rfl) rfl
theorem q234 : (Jvm.Cond.methodLink "BeltLanesModel" (45 : Nat) ({ cls := "BeltLanesModel", name := "bad", desc := "(I)Z" } : Jvm.MethodName)) ∈ lw_all := lw_g (lw_at lw_m1 213 rfl) rfl
theorem q235 : (Jvm.Cond.privateMethod ({ cls := "BeltLanesModel", name := "bad", desc := "(I)Z" } : Jvm.MethodName)) ∈ lw_tbl := lw_at lw_m1 214 rfl
theorem q236 : (Jvm.Cond.instanceMethod ({ cls := "BeltLanesModel", name := "bad", desc := "(I)Z" } : Jvm.MethodName)) ∈ lw_all := lw_g (lw_at lw_m1 215 rfl) rfl
theorem q237 : (Jvm.Cond.code ({ cls := "BeltLanesModel", name := "bad", desc := "(I)Z" } : Jvm.MethodName) prog_3_method_2_code (2 : Nat) (Option.some Jvm.ClassFile.FieldType.boolean)) ∈ lw_all := lw_g (lw_at lw_m1 216 rfl) rfl
theorem q238 : (Jvm.Cond.methodLink "BeltLanesModel" (49 : Nat) ({ cls := "BeltLanesModel", name := "room", desc := "(I)Z" } : Jvm.MethodName)) ∈ lw_all := lw_g (lw_at lw_m1 217 rfl) rfl
theorem q239 : (Jvm.Cond.instanceMethod ({ cls := "BeltLanesModel", name := "room", desc := "(I)Z" } : Jvm.MethodName)) ∈ lw_all := lw_g (lw_at lw_m1 218 rfl) rfl
theorem q240 : (Jvm.Cond.selects "BeltLanesModel" ({ cls := "BeltLanesModel", name := "room", desc := "(I)Z" } : Jvm.MethodName) ({ cls := "BeltLanesModel", name := "room", desc := "(I)Z" } : Jvm.MethodName)) ∈ lw_all := lw_g (lw_at lw_m1 219 rfl) rfl
theorem q241 : (Jvm.Cond.code ({ cls := "BeltLanesModel", name := "room", desc := "(I)Z" } : Jvm.MethodName) prog_3_method_19_code (2 : Nat) (Option.some Jvm.ClassFile.FieldType.boolean)) ∈ lw_all := lw_g (lw_at lw_m1 220 rfl) rfl
theorem q242 : (Jvm.Cond.methodLink "BeltLanesModel" (52 : Nat) ({ cls := "BeltLanesModel", name := "start", desc := "(II)V" } : Jvm.MethodName)) ∈ lw_all := lw_g (lw_at lw_m1 221 rfl) rfl
theorem q243 : (Jvm.Cond.privateMethod ({ cls := "BeltLanesModel", name := "start", desc := "(II)V" } : Jvm.MethodName)) ∈ lw_tbl := lw_at lw_m1 222 rfl
theorem q244 : (Jvm.Cond.instanceMethod ({ cls := "BeltLanesModel", name := "start", desc := "(II)V" } : Jvm.MethodName)) ∈ lw_all := lw_g (lw_at lw_m1 223 rfl) rfl
theorem q245 : (Jvm.Cond.code ({ cls := "BeltLanesModel", name := "start", desc := "(II)V" } : Jvm.MethodName) prog_3_method_3_code (4 : Nat) (Option.none : Option Jvm.ClassFile.FieldType)) ∈ lw_all := lw_g (lw_at lw_m1 224 rfl) rfl
theorem q247 : (Jvm.Cond.instanceMethod ({ cls := "BeltLanesModel", name := "take", desc := "(I)I" } : Jvm.MethodName)) ∈ lw_all := lw_g (lw_at lw_m1 226 rfl) rfl
theorem q248 : (Jvm.Cond.selects "BeltLanesModel" ({ cls := "BeltLanesModel", name := "take", desc := "(I)I" } : Jvm.MethodName) ({ cls := "BeltLanesModel", name := "take", desc := "(I)I" } : Jvm.MethodName)) ∈ lw_all := lw_g (lw_at lw_m1 227 rfl) rfl
theorem q249 : (Jvm.Cond.code ({ cls := "BeltLanesModel", name := "take", desc := "(I)I" } : Jvm.MethodName) prog_3_method_6_code (2 : Nat) (Option.some Jvm.ClassFile.FieldType.int)) ∈ lw_all := lw_g (lw_at lw_m1 228 rfl) rfl
theorem q250 : (Jvm.Cond.methodLink "BeltLanesModel" (56 : Nat) ({ cls := "BeltLanesModel", name := "off", desc := "(II)I" } : Jvm.MethodName)) ∈ lw_all := lw_g (lw_at lw_m1 229 rfl) rfl
theorem q251 : (Jvm.Cond.privateMethod ({ cls := "BeltLanesModel", name := "off", desc := "(II)I" } : Jvm.MethodName)) ∈ lw_tbl := lw_at lw_m1 230 rfl
theorem q252 : (Jvm.Cond.instanceMethod ({ cls := "BeltLanesModel", name := "off", desc := "(II)I" } : Jvm.MethodName)) ∈ lw_all := lw_g (lw_at lw_m1 231 rfl) rfl
theorem q253 : (Jvm.Cond.code ({ cls := "BeltLanesModel", name := "off", desc := "(II)I" } : Jvm.MethodName) prog_3_method_4_code (5 : Nat) (Option.some Jvm.ClassFile.FieldType.int)) ∈ lw_all := lw_g (lw_at lw_m1 232 rfl) rfl
theorem q255 : (Jvm.Cond.instanceMethod ({ cls := "BeltLanesModel", name := "lead", desc := "(II)I" } : Jvm.MethodName)) ∈ lw_all := lw_g (lw_at lw_m1 234 rfl) rfl
theorem q256 : (Jvm.Cond.selects "BeltLanesModel" ({ cls := "BeltLanesModel", name := "lead", desc := "(II)I" } : Jvm.MethodName) ({ cls := "BeltLanesModel", name := "lead", desc := "(II)I" } : Jvm.MethodName)) ∈ lw_all := lw_g (lw_at lw_m1 235 rfl) rfl
theorem q257 : (Jvm.Cond.code ({ cls := "BeltLanesModel", name := "lead", desc := "(II)I" } : Jvm.MethodName) prog_3_method_7_code (4 : Nat) (Option.some Jvm.ClassFile.FieldType.int)) ∈ lw_all := lw_g (lw_at lw_m1 236 rfl) rfl
theorem q259 : (Jvm.Cond.instanceMethod ({ cls := "BeltLanesModel", name := "arm", desc := "(IIII)I" } : Jvm.MethodName)) ∈ lw_all := lw_g (lw_at lw_m1 238 rfl) rfl
theorem q260 : (Jvm.Cond.selects "BeltLanesModel" ({ cls := "BeltLanesModel", name := "arm", desc := "(IIII)I" } : Jvm.MethodName) ({ cls := "BeltLanesModel", name := "arm", desc := "(IIII)I" } : Jvm.MethodName)) ∈ lw_all := lw_g (lw_at lw_m1 239 rfl) rfl
theorem q261 : (Jvm.Cond.code ({ cls := "BeltLanesModel", name := "arm", desc := "(IIII)I" } : Jvm.MethodName) prog_3_method_8_code (5 : Nat) (Option.some Jvm.ClassFile.FieldType.int)) ∈ lw_all := lw_g (lw_at lw_m2 0 rfl) rfl
theorem q263 : (Jvm.Cond.instanceMethod ({ cls := "BeltLanesModel", name := "tick", desc := "(I)I" } : Jvm.MethodName)) ∈ lw_all := lw_g (lw_at lw_m2 2 rfl) rfl
theorem q264 : (Jvm.Cond.selects "BeltLanesModel" ({ cls := "BeltLanesModel", name := "tick", desc := "(I)I" } : Jvm.MethodName) ({ cls := "BeltLanesModel", name := "tick", desc := "(I)I" } : Jvm.MethodName)) ∈ lw_all := lw_g (lw_at lw_m2 3 rfl) rfl
theorem q265 : (Jvm.Cond.code ({ cls := "BeltLanesModel", name := "tick", desc := "(I)I" } : Jvm.MethodName) prog_3_method_13_code (5 : Nat) (Option.some Jvm.ClassFile.FieldType.int)) ∈ lw_all := lw_g (lw_at lw_m2 4 rfl) rfl
theorem q266 : (Jvm.Cond.methodLink "BeltLanesModel" (67 : Nat) ({ cls := "BeltLanesModel", name := "end", desc := "(I)V" } : Jvm.MethodName)) ∈ lw_all := lw_g (lw_at lw_m2 5 rfl) rfl
theorem q267 : (Jvm.Cond.privateMethod ({ cls := "BeltLanesModel", name := "end", desc := "(I)V" } : Jvm.MethodName)) ∈ lw_tbl := lw_at lw_m2 6 rfl
theorem q268 : (Jvm.Cond.instanceMethod ({ cls := "BeltLanesModel", name := "end", desc := "(I)V" } : Jvm.MethodName)) ∈ lw_all := lw_g (lw_at lw_m2 7 rfl) rfl
theorem q269 : (Jvm.Cond.code ({ cls := "BeltLanesModel", name := "end", desc := "(I)V" } : Jvm.MethodName) prog_3_method_9_code (4 : Nat) (Option.none : Option Jvm.ClassFile.FieldType)) ∈ lw_all := lw_g (lw_at lw_m2 8 rfl) rfl
theorem q270 : (Jvm.Cond.methodLink "BeltLanesModel" (71 : Nat) ({ cls := "BeltLanesModel", name := "move", desc := "(I)V" } : Jvm.MethodName)) ∈ lw_all := lw_g (lw_at lw_m2 9 rfl) rfl
theorem q271 : (Jvm.Cond.privateMethod ({ cls := "BeltLanesModel", name := "move", desc := "(I)V" } : Jvm.MethodName)) ∈ lw_tbl := lw_at lw_m2 10 rfl
theorem q272 : (Jvm.Cond.instanceMethod ({ cls := "BeltLanesModel", name := "move", desc := "(I)V" } : Jvm.MethodName)) ∈ lw_all := lw_g (lw_at lw_m2 11 rfl) rfl
theorem q273 : (Jvm.Cond.code ({ cls := "BeltLanesModel", name := "move", desc := "(I)V" } : Jvm.MethodName) prog_3_method_11_code (3 : Nat) (Option.none : Option Jvm.ClassFile.FieldType)) ∈ lw_all := lw_g (lw_at lw_m2 12 rfl) rfl
theorem q274 : (Jvm.Cond.methodLink "BeltLanesModel" (63 : Nat) ({ cls := "BeltLanesModel", name := "moves", desc := "(II)Z" } : Jvm.MethodName)) ∈ lw_all := lw_g (lw_at lw_m2 13 rfl) rfl
theorem q275 : (Jvm.Cond.privateMethod ({ cls := "BeltLanesModel", name := "moves", desc := "(II)Z" } : Jvm.MethodName)) ∈ lw_tbl := lw_at lw_m2 14 rfl
theorem q276 : (Jvm.Cond.instanceMethod ({ cls := "BeltLanesModel", name := "moves", desc := "(II)Z" } : Jvm.MethodName)) ∈ lw_all := lw_g (lw_at lw_m2 15 rfl) rfl
theorem q277 : (Jvm.Cond.code ({ cls := "BeltLanesModel", name := "moves", desc := "(II)Z" } : Jvm.MethodName) prog_3_method_10_code (4 : Nat) (Option.some Jvm.ClassFile.FieldType.boolean)) ∈ lw_all := lw_g (lw_at lw_m2 16 rfl) rfl
theorem q278 : (Jvm.Cond.methodLink "BeltLanesModel" (74 : Nat) ({ cls := "BeltLanesModel", name := "work", desc := "(I)V" } : Jvm.MethodName)) ∈ lw_all := lw_g (lw_at lw_m2 17 rfl) rfl
theorem q279 : (Jvm.Cond.privateMethod ({ cls := "BeltLanesModel", name := "work", desc := "(I)V" } : Jvm.MethodName)) ∈ lw_tbl := lw_at lw_m2 18 rfl
theorem q280 : (Jvm.Cond.instanceMethod ({ cls := "BeltLanesModel", name := "work", desc := "(I)V" } : Jvm.MethodName)) ∈ lw_all := lw_g (lw_at lw_m2 19 rfl) rfl
theorem q281 : (Jvm.Cond.code ({ cls := "BeltLanesModel", name := "work", desc := "(I)V" } : Jvm.MethodName) prog_3_method_12_code (6 : Nat) (Option.none : Option Jvm.ClassFile.FieldType)) ∈ lw_all := lw_g (lw_at lw_m2 20 rfl) rfl
theorem q283 : (Jvm.Cond.instanceMethod ({ cls := "BeltLanesModel", name := "items", desc := "(I)I" } : Jvm.MethodName)) ∈ lw_all := lw_g (lw_at lw_m2 22 rfl) rfl
theorem q284 : (Jvm.Cond.selects "BeltLanesModel" ({ cls := "BeltLanesModel", name := "items", desc := "(I)I" } : Jvm.MethodName) ({ cls := "BeltLanesModel", name := "items", desc := "(I)I" } : Jvm.MethodName)) ∈ lw_all := lw_g (lw_at lw_m2 23 rfl) rfl
theorem q285 : (Jvm.Cond.code ({ cls := "BeltLanesModel", name := "items", desc := "(I)I" } : Jvm.MethodName) prog_3_method_14_code (2 : Nat) (Option.some Jvm.ClassFile.FieldType.int)) ∈ lw_all := lw_g (lw_at lw_m2 24 rfl) rfl
theorem q287 : (Jvm.Cond.instanceMethod ({ cls := "BeltLanesModel", name := "place", desc := "(II)I" } : Jvm.MethodName)) ∈ lw_all := lw_g (lw_at lw_m2 26 rfl) rfl
theorem q288 : (Jvm.Cond.selects "BeltLanesModel" ({ cls := "BeltLanesModel", name := "place", desc := "(II)I" } : Jvm.MethodName) ({ cls := "BeltLanesModel", name := "place", desc := "(II)I" } : Jvm.MethodName)) ∈ lw_all := lw_g (lw_at lw_m2 27 rfl) rfl
theorem q289 : (Jvm.Cond.code ({ cls := "BeltLanesModel", name := "place", desc := "(II)I" } : Jvm.MethodName) prog_3_method_15_code (3 : Nat) (Option.some Jvm.ClassFile.FieldType.int)) ∈ lw_all := lw_g (lw_at lw_m2 28 rfl) rfl
theorem q291 : (Jvm.Cond.instanceMethod ({ cls := "BeltLanesModel", name := "kind", desc := "(II)I" } : Jvm.MethodName)) ∈ lw_all := lw_g (lw_at lw_m2 30 rfl) rfl
theorem q292 : (Jvm.Cond.selects "BeltLanesModel" ({ cls := "BeltLanesModel", name := "kind", desc := "(II)I" } : Jvm.MethodName) ({ cls := "BeltLanesModel", name := "kind", desc := "(II)I" } : Jvm.MethodName)) ∈ lw_all := lw_g (lw_at lw_m2 31 rfl) rfl
theorem q293 : (Jvm.Cond.code ({ cls := "BeltLanesModel", name := "kind", desc := "(II)I" } : Jvm.MethodName) prog_3_method_16_code (3 : Nat) (Option.some Jvm.ClassFile.FieldType.int)) ∈ lw_all := lw_g (lw_at lw_m2 32 rfl) rfl
theorem q295 : (Jvm.Cond.instanceMethod ({ cls := "BeltLanesModel", name := "out", desc := "()I" } : Jvm.MethodName)) ∈ lw_all := lw_g (lw_at lw_m2 34 rfl) rfl
theorem q296 : (Jvm.Cond.selects "BeltLanesModel" ({ cls := "BeltLanesModel", name := "out", desc := "()I" } : Jvm.MethodName) ({ cls := "BeltLanesModel", name := "out", desc := "()I" } : Jvm.MethodName)) ∈ lw_all := lw_g (lw_at lw_m2 35 rfl) rfl
theorem q297 : (Jvm.Cond.code ({ cls := "BeltLanesModel", name := "out", desc := "()I" } : Jvm.MethodName) prog_3_method_17_code (1 : Nat) (Option.some Jvm.ClassFile.FieldType.int)) ∈ lw_all := lw_g (lw_at lw_m2 36 rfl) rfl
theorem q299 : (Jvm.Cond.instanceMethod ({ cls := "BeltLanesModel", name := "held", desc := "(I)I" } : Jvm.MethodName)) ∈ lw_all := lw_g (lw_at lw_m2 38 rfl) rfl
theorem q300 : (Jvm.Cond.selects "BeltLanesModel" ({ cls := "BeltLanesModel", name := "held", desc := "(I)I" } : Jvm.MethodName) ({ cls := "BeltLanesModel", name := "held", desc := "(I)I" } : Jvm.MethodName)) ∈ lw_all := lw_g (lw_at lw_m2 39 rfl) rfl
theorem q301 : (Jvm.Cond.code ({ cls := "BeltLanesModel", name := "held", desc := "(I)I" } : Jvm.MethodName) prog_3_method_18_code (2 : Nat) (Option.some Jvm.ClassFile.FieldType.int)) ∈ lw_all := lw_g (lw_at lw_m2 40 rfl) rfl
theorem q304 : (Jvm.Cond.instanceMethod ({ cls := "BeltLanesModel", name := "moving", desc := "(I)I" } : Jvm.MethodName)) ∈ lw_all := lw_g (lw_at lw_m2 43 rfl) rfl
theorem q305 : (Jvm.Cond.selects "BeltLanesModel" ({ cls := "BeltLanesModel", name := "moving", desc := "(I)I" } : Jvm.MethodName) ({ cls := "BeltLanesModel", name := "moving", desc := "(I)I" } : Jvm.MethodName)) ∈ lw_all := lw_g (lw_at lw_m2 44 rfl) rfl
theorem q306 : (Jvm.Cond.code ({ cls := "BeltLanesModel", name := "moving", desc := "(I)I" } : Jvm.MethodName) prog_3_method_20_code (6 : Nat) (Option.some Jvm.ClassFile.FieldType.int)) ∈ lw_all := lw_g (lw_at lw_m2 45 rfl) rfl
theorem in_X2 : ∀ w ∈ wsX20, w ∈ lw_all := lw_in wsX20 [205, 207, 209, 211, 213, 215, 217, 219, 221, 223, 225, 227] (by decide +kernel) (by decide +kernel)
end
section
/-! the law's own entry -/
set_option maxRecDepth 100000
abbrev cL_law : ByteArray := code
theorem dL_law_0 : decode cL_law 0 = .ok (.new 7, 3) := by decide +kernel
theorem dL_law_3 : decode cL_law 3 = .ok (.dup, 1) := by decide +kernel
theorem dL_law_4 : decode cL_law 4 = .ok (.aload_n 0, 1) := by decide +kernel
theorem dL_law_5 : decode cL_law 5 = .ok (.iconst 0, 1) := by decide +kernel
theorem dL_law_6 : decode cL_law 6 = .ok (.invokestatic 9, 3) := by decide +kernel
theorem dL_law_9 : decode cL_law 9 = .ok (.invokespecial 15, 3) := by decide +kernel
theorem dL_law_12 : decode cL_law 12 = .ok (.astore_n 1, 1) := by decide +kernel
theorem dL_law_13 : decode cL_law 13 = .ok (.new 18, 3) := by decide +kernel
theorem dL_law_16 : decode cL_law 16 = .ok (.dup, 1) := by decide +kernel
theorem dL_law_17 : decode cL_law 17 = .ok (.aload_n 0, 1) := by decide +kernel
theorem dL_law_18 : decode cL_law 18 = .ok (.iconst 0, 1) := by decide +kernel
theorem dL_law_19 : decode cL_law 19 = .ok (.invokestatic 9, 3) := by decide +kernel
theorem dL_law_22 : decode cL_law 22 = .ok (.invokespecial 20, 3) := by decide +kernel
theorem dL_law_25 : decode cL_law 25 = .ok (.astore_n 2, 1) := by decide +kernel
theorem dL_law_26 : decode cL_law 26 = .ok (.iconst 1, 1) := by decide +kernel
theorem dL_law_27 : decode cL_law 27 = .ok (.istore_n 3, 1) := by decide +kernel
theorem dL_law_28 : decode cL_law 28 = .ok (.iload_n 3, 1) := by decide +kernel
theorem dL_law_29 : decode cL_law 29 = .ok (.aload_n 0, 1) := by decide +kernel
theorem dL_law_30 : decode cL_law 30 = .ok (.arraylength, 1) := by decide +kernel
theorem dL_law_31 : decode cL_law 31 = .ok (.iconst 5, 1) := by decide +kernel
theorem dL_law_32 : decode cL_law 32 = .ok (.isub, 1) := by decide +kernel
theorem dL_law_33 : decode cL_law 33 = .ok (.if_icmp .gt 413, 3) := by decide +kernel
theorem dL_law_36 : decode cL_law 36 = .ok (.aload_n 0, 1) := by decide +kernel
theorem dL_law_37 : decode cL_law 37 = .ok (.iload_n 3, 1) := by decide +kernel
theorem dL_law_38 : decode cL_law 38 = .ok (.iaload, 1) := by decide +kernel
theorem dL_law_39 : decode cL_law 39 = .ok (.bipush 15, 2) := by decide +kernel
theorem dL_law_41 : decode cL_law 41 = .ok (.iand, 1) := by decide +kernel
theorem dL_law_42 : decode cL_law 42 = .ok (.tableswitch 398 0 11 #[62, 95, 118, 151, 204, 227, 250, 283, 316, 329, 352, 375], 62) := by decide +kernel
theorem dL_law_104 : decode cL_law 104 = .ok (.aload_n 1, 1) := by decide +kernel
theorem dL_law_105 : decode cL_law 105 = .ok (.aload_n 0, 1) := by decide +kernel
theorem dL_law_106 : decode cL_law 106 = .ok (.iload_n 3, 1) := by decide +kernel
theorem dL_law_107 : decode cL_law 107 = .ok (.iconst 1, 1) := by decide +kernel
theorem dL_law_108 : decode cL_law 108 = .ok (.iadd, 1) := by decide +kernel
theorem dL_law_109 : decode cL_law 109 = .ok (.iaload, 1) := by decide +kernel
theorem dL_law_110 : decode cL_law 110 = .ok (.aload_n 0, 1) := by decide +kernel
theorem dL_law_111 : decode cL_law 111 = .ok (.iload_n 3, 1) := by decide +kernel
theorem dL_law_112 : decode cL_law 112 = .ok (.iconst 2, 1) := by decide +kernel
theorem dL_law_113 : decode cL_law 113 = .ok (.iadd, 1) := by decide +kernel
theorem dL_law_114 : decode cL_law 114 = .ok (.iaload, 1) := by decide +kernel
theorem dL_law_115 : decode cL_law 115 = .ok (.invokevirtual 21, 3) := by decide +kernel
theorem dL_law_118 : decode cL_law 118 = .ok (.aload_n 2, 1) := by decide +kernel
theorem dL_law_119 : decode cL_law 119 = .ok (.aload_n 0, 1) := by decide +kernel
theorem dL_law_120 : decode cL_law 120 = .ok (.iload_n 3, 1) := by decide +kernel
theorem dL_law_121 : decode cL_law 121 = .ok (.iconst 1, 1) := by decide +kernel
theorem dL_law_122 : decode cL_law 122 = .ok (.iadd, 1) := by decide +kernel
theorem dL_law_123 : decode cL_law 123 = .ok (.iaload, 1) := by decide +kernel
theorem dL_law_124 : decode cL_law 124 = .ok (.aload_n 0, 1) := by decide +kernel
theorem dL_law_125 : decode cL_law 125 = .ok (.iload_n 3, 1) := by decide +kernel
theorem dL_law_126 : decode cL_law 126 = .ok (.iconst 2, 1) := by decide +kernel
theorem dL_law_127 : decode cL_law 127 = .ok (.iadd, 1) := by decide +kernel
theorem dL_law_128 : decode cL_law 128 = .ok (.iaload, 1) := by decide +kernel
theorem dL_law_129 : decode cL_law 129 = .ok (.invokevirtual 25, 3) := by decide +kernel
theorem dL_law_132 : decode cL_law 132 = .ok (.if_icmp .eq 308, 3) := by decide +kernel
theorem dL_law_135 : decode cL_law 135 = .ok (.iconst 0, 1) := by decide +kernel
theorem dL_law_136 : decode cL_law 136 = .ok (.ireturn, 1) := by decide +kernel
theorem dL_law_137 : decode cL_law 137 = .ok (.aload_n 1, 1) := by decide +kernel
theorem dL_law_138 : decode cL_law 138 = .ok (.aload_n 0, 1) := by decide +kernel
theorem dL_law_139 : decode cL_law 139 = .ok (.iload_n 3, 1) := by decide +kernel
theorem dL_law_140 : decode cL_law 140 = .ok (.iconst 1, 1) := by decide +kernel
theorem dL_law_141 : decode cL_law 141 = .ok (.iadd, 1) := by decide +kernel
theorem dL_law_142 : decode cL_law 142 = .ok (.iaload, 1) := by decide +kernel
theorem dL_law_143 : decode cL_law 143 = .ok (.invokevirtual 26, 3) := by decide +kernel
theorem dL_law_146 : decode cL_law 146 = .ok (.aload_n 2, 1) := by decide +kernel
theorem dL_law_147 : decode cL_law 147 = .ok (.aload_n 0, 1) := by decide +kernel
theorem dL_law_148 : decode cL_law 148 = .ok (.iload_n 3, 1) := by decide +kernel
theorem dL_law_149 : decode cL_law 149 = .ok (.iconst 1, 1) := by decide +kernel
theorem dL_law_150 : decode cL_law 150 = .ok (.iadd, 1) := by decide +kernel
theorem dL_law_151 : decode cL_law 151 = .ok (.iaload, 1) := by decide +kernel
theorem dL_law_152 : decode cL_law 152 = .ok (.invokevirtual 30, 3) := by decide +kernel
theorem dL_law_155 : decode cL_law 155 = .ok (.if_icmp .eq 285, 3) := by decide +kernel
theorem dL_law_158 : decode cL_law 158 = .ok (.iconst 0, 1) := by decide +kernel
theorem dL_law_159 : decode cL_law 159 = .ok (.ireturn, 1) := by decide +kernel
theorem dL_law_160 : decode cL_law 160 = .ok (.aload_n 1, 1) := by decide +kernel
theorem dL_law_161 : decode cL_law 161 = .ok (.aload_n 0, 1) := by decide +kernel
theorem dL_law_162 : decode cL_law 162 = .ok (.iload_n 3, 1) := by decide +kernel
theorem dL_law_163 : decode cL_law 163 = .ok (.iconst 1, 1) := by decide +kernel
theorem dL_law_164 : decode cL_law 164 = .ok (.iadd, 1) := by decide +kernel
theorem dL_law_165 : decode cL_law 165 = .ok (.iaload, 1) := by decide +kernel
theorem dL_law_166 : decode cL_law 166 = .ok (.aload_n 0, 1) := by decide +kernel
theorem dL_law_167 : decode cL_law 167 = .ok (.iload_n 3, 1) := by decide +kernel
theorem dL_law_168 : decode cL_law 168 = .ok (.iconst 2, 1) := by decide +kernel
theorem dL_law_169 : decode cL_law 169 = .ok (.iadd, 1) := by decide +kernel
theorem dL_law_170 : decode cL_law 170 = .ok (.iaload, 1) := by decide +kernel
theorem dL_law_171 : decode cL_law 171 = .ok (.invokevirtual 31, 3) := by decide +kernel
theorem dL_law_174 : decode cL_law 174 = .ok (.aload_n 2, 1) := by decide +kernel
theorem dL_law_175 : decode cL_law 175 = .ok (.aload_n 0, 1) := by decide +kernel
theorem dL_law_176 : decode cL_law 176 = .ok (.iload_n 3, 1) := by decide +kernel
theorem dL_law_177 : decode cL_law 177 = .ok (.iconst 1, 1) := by decide +kernel
theorem dL_law_178 : decode cL_law 178 = .ok (.iadd, 1) := by decide +kernel
theorem dL_law_179 : decode cL_law 179 = .ok (.iaload, 1) := by decide +kernel
theorem dL_law_180 : decode cL_law 180 = .ok (.aload_n 0, 1) := by decide +kernel
theorem dL_law_181 : decode cL_law 181 = .ok (.iload_n 3, 1) := by decide +kernel
theorem dL_law_182 : decode cL_law 182 = .ok (.iconst 2, 1) := by decide +kernel
theorem dL_law_183 : decode cL_law 183 = .ok (.iadd, 1) := by decide +kernel
theorem dL_law_184 : decode cL_law 184 = .ok (.iaload, 1) := by decide +kernel
theorem dL_law_185 : decode cL_law 185 = .ok (.invokevirtual 34, 3) := by decide +kernel
theorem dL_law_188 : decode cL_law 188 = .ok (.if_icmp .eq 252, 3) := by decide +kernel
theorem dL_law_191 : decode cL_law 191 = .ok (.iconst 0, 1) := by decide +kernel
theorem dL_law_192 : decode cL_law 192 = .ok (.ireturn, 1) := by decide +kernel
theorem dL_law_193 : decode cL_law 193 = .ok (.aload_n 1, 1) := by decide +kernel
theorem dL_law_194 : decode cL_law 194 = .ok (.aload_n 0, 1) := by decide +kernel
theorem dL_law_195 : decode cL_law 195 = .ok (.iload_n 3, 1) := by decide +kernel
theorem dL_law_196 : decode cL_law 196 = .ok (.iconst 1, 1) := by decide +kernel
theorem dL_law_197 : decode cL_law 197 = .ok (.iadd, 1) := by decide +kernel
theorem dL_law_198 : decode cL_law 198 = .ok (.iaload, 1) := by decide +kernel
theorem dL_law_199 : decode cL_law 199 = .ok (.aload_n 0, 1) := by decide +kernel
theorem dL_law_200 : decode cL_law 200 = .ok (.iload_n 3, 1) := by decide +kernel
theorem dL_law_201 : decode cL_law 201 = .ok (.iconst 2, 1) := by decide +kernel
theorem dL_law_202 : decode cL_law 202 = .ok (.iadd, 1) := by decide +kernel
theorem dL_law_203 : decode cL_law 203 = .ok (.iaload, 1) := by decide +kernel
theorem dL_law_204 : decode cL_law 204 = .ok (.aload_n 0, 1) := by decide +kernel
theorem dL_law_205 : decode cL_law 205 = .ok (.iload_n 3, 1) := by decide +kernel
theorem dL_law_206 : decode cL_law 206 = .ok (.iconst 3, 1) := by decide +kernel
theorem dL_law_207 : decode cL_law 207 = .ok (.iadd, 1) := by decide +kernel
theorem dL_law_208 : decode cL_law 208 = .ok (.iaload, 1) := by decide +kernel
theorem dL_law_209 : decode cL_law 209 = .ok (.aload_n 0, 1) := by decide +kernel
theorem dL_law_210 : decode cL_law 210 = .ok (.iload_n 3, 1) := by decide +kernel
theorem dL_law_211 : decode cL_law 211 = .ok (.iconst 4, 1) := by decide +kernel
theorem dL_law_212 : decode cL_law 212 = .ok (.iadd, 1) := by decide +kernel
theorem dL_law_213 : decode cL_law 213 = .ok (.iaload, 1) := by decide +kernel
theorem dL_law_214 : decode cL_law 214 = .ok (.invokevirtual 35, 3) := by decide +kernel
theorem dL_law_217 : decode cL_law 217 = .ok (.aload_n 2, 1) := by decide +kernel
theorem dL_law_218 : decode cL_law 218 = .ok (.aload_n 0, 1) := by decide +kernel
theorem dL_law_219 : decode cL_law 219 = .ok (.iload_n 3, 1) := by decide +kernel
theorem dL_law_220 : decode cL_law 220 = .ok (.iconst 1, 1) := by decide +kernel
theorem dL_law_221 : decode cL_law 221 = .ok (.iadd, 1) := by decide +kernel
theorem dL_law_222 : decode cL_law 222 = .ok (.iaload, 1) := by decide +kernel
theorem dL_law_223 : decode cL_law 223 = .ok (.aload_n 0, 1) := by decide +kernel
theorem dL_law_224 : decode cL_law 224 = .ok (.iload_n 3, 1) := by decide +kernel
theorem dL_law_225 : decode cL_law 225 = .ok (.iconst 2, 1) := by decide +kernel
theorem dL_law_226 : decode cL_law 226 = .ok (.iadd, 1) := by decide +kernel
theorem dL_law_227 : decode cL_law 227 = .ok (.iaload, 1) := by decide +kernel
theorem dL_law_228 : decode cL_law 228 = .ok (.aload_n 0, 1) := by decide +kernel
theorem dL_law_229 : decode cL_law 229 = .ok (.iload_n 3, 1) := by decide +kernel
theorem dL_law_230 : decode cL_law 230 = .ok (.iconst 3, 1) := by decide +kernel
theorem dL_law_231 : decode cL_law 231 = .ok (.iadd, 1) := by decide +kernel
theorem dL_law_232 : decode cL_law 232 = .ok (.iaload, 1) := by decide +kernel
theorem dL_law_233 : decode cL_law 233 = .ok (.aload_n 0, 1) := by decide +kernel
theorem dL_law_234 : decode cL_law 234 = .ok (.iload_n 3, 1) := by decide +kernel
theorem dL_law_235 : decode cL_law 235 = .ok (.iconst 4, 1) := by decide +kernel
theorem dL_law_236 : decode cL_law 236 = .ok (.iadd, 1) := by decide +kernel
theorem dL_law_237 : decode cL_law 237 = .ok (.iaload, 1) := by decide +kernel
theorem dL_law_238 : decode cL_law 238 = .ok (.invokevirtual 39, 3) := by decide +kernel
theorem dL_law_241 : decode cL_law 241 = .ok (.if_icmp .eq 199, 3) := by decide +kernel
theorem dL_law_244 : decode cL_law 244 = .ok (.iconst 0, 1) := by decide +kernel
theorem dL_law_245 : decode cL_law 245 = .ok (.ireturn, 1) := by decide +kernel
theorem dL_law_246 : decode cL_law 246 = .ok (.aload_n 1, 1) := by decide +kernel
theorem dL_law_247 : decode cL_law 247 = .ok (.aload_n 0, 1) := by decide +kernel
theorem dL_law_248 : decode cL_law 248 = .ok (.iload_n 3, 1) := by decide +kernel
theorem dL_law_249 : decode cL_law 249 = .ok (.iconst 1, 1) := by decide +kernel
theorem dL_law_250 : decode cL_law 250 = .ok (.iadd, 1) := by decide +kernel
theorem dL_law_251 : decode cL_law 251 = .ok (.iaload, 1) := by decide +kernel
theorem dL_law_252 : decode cL_law 252 = .ok (.invokevirtual 40, 3) := by decide +kernel
theorem dL_law_255 : decode cL_law 255 = .ok (.aload_n 2, 1) := by decide +kernel
theorem dL_law_256 : decode cL_law 256 = .ok (.aload_n 0, 1) := by decide +kernel
theorem dL_law_257 : decode cL_law 257 = .ok (.iload_n 3, 1) := by decide +kernel
theorem dL_law_258 : decode cL_law 258 = .ok (.iconst 1, 1) := by decide +kernel
theorem dL_law_259 : decode cL_law 259 = .ok (.iadd, 1) := by decide +kernel
theorem dL_law_260 : decode cL_law 260 = .ok (.iaload, 1) := by decide +kernel
theorem dL_law_261 : decode cL_law 261 = .ok (.invokevirtual 43, 3) := by decide +kernel
theorem dL_law_264 : decode cL_law 264 = .ok (.if_icmp .eq 176, 3) := by decide +kernel
theorem dL_law_267 : decode cL_law 267 = .ok (.iconst 0, 1) := by decide +kernel
theorem dL_law_268 : decode cL_law 268 = .ok (.ireturn, 1) := by decide +kernel
theorem dL_law_269 : decode cL_law 269 = .ok (.aload_n 1, 1) := by decide +kernel
theorem dL_law_270 : decode cL_law 270 = .ok (.aload_n 0, 1) := by decide +kernel
theorem dL_law_271 : decode cL_law 271 = .ok (.iload_n 3, 1) := by decide +kernel
theorem dL_law_272 : decode cL_law 272 = .ok (.iconst 1, 1) := by decide +kernel
theorem dL_law_273 : decode cL_law 273 = .ok (.iadd, 1) := by decide +kernel
theorem dL_law_274 : decode cL_law 274 = .ok (.iaload, 1) := by decide +kernel
theorem dL_law_275 : decode cL_law 275 = .ok (.invokevirtual 44, 3) := by decide +kernel
theorem dL_law_278 : decode cL_law 278 = .ok (.aload_n 2, 1) := by decide +kernel
theorem dL_law_279 : decode cL_law 279 = .ok (.aload_n 0, 1) := by decide +kernel
theorem dL_law_280 : decode cL_law 280 = .ok (.iload_n 3, 1) := by decide +kernel
theorem dL_law_281 : decode cL_law 281 = .ok (.iconst 1, 1) := by decide +kernel
theorem dL_law_282 : decode cL_law 282 = .ok (.iadd, 1) := by decide +kernel
theorem dL_law_283 : decode cL_law 283 = .ok (.iaload, 1) := by decide +kernel
theorem dL_law_284 : decode cL_law 284 = .ok (.invokevirtual 47, 3) := by decide +kernel
theorem dL_law_287 : decode cL_law 287 = .ok (.if_icmp .eq 153, 3) := by decide +kernel
theorem dL_law_290 : decode cL_law 290 = .ok (.iconst 0, 1) := by decide +kernel
theorem dL_law_291 : decode cL_law 291 = .ok (.ireturn, 1) := by decide +kernel
theorem dL_law_292 : decode cL_law 292 = .ok (.aload_n 1, 1) := by decide +kernel
theorem dL_law_293 : decode cL_law 293 = .ok (.aload_n 0, 1) := by decide +kernel
theorem dL_law_294 : decode cL_law 294 = .ok (.iload_n 3, 1) := by decide +kernel
theorem dL_law_295 : decode cL_law 295 = .ok (.iconst 1, 1) := by decide +kernel
theorem dL_law_296 : decode cL_law 296 = .ok (.iadd, 1) := by decide +kernel
theorem dL_law_297 : decode cL_law 297 = .ok (.iaload, 1) := by decide +kernel
theorem dL_law_298 : decode cL_law 298 = .ok (.aload_n 0, 1) := by decide +kernel
theorem dL_law_299 : decode cL_law 299 = .ok (.iload_n 3, 1) := by decide +kernel
theorem dL_law_300 : decode cL_law 300 = .ok (.iconst 2, 1) := by decide +kernel
theorem dL_law_301 : decode cL_law 301 = .ok (.iadd, 1) := by decide +kernel
theorem dL_law_302 : decode cL_law 302 = .ok (.iaload, 1) := by decide +kernel
theorem dL_law_303 : decode cL_law 303 = .ok (.invokevirtual 48, 3) := by decide +kernel
theorem dL_law_306 : decode cL_law 306 = .ok (.aload_n 2, 1) := by decide +kernel
theorem dL_law_307 : decode cL_law 307 = .ok (.aload_n 0, 1) := by decide +kernel
theorem dL_law_308 : decode cL_law 308 = .ok (.iload_n 3, 1) := by decide +kernel
theorem dL_law_309 : decode cL_law 309 = .ok (.iconst 1, 1) := by decide +kernel
theorem dL_law_310 : decode cL_law 310 = .ok (.iadd, 1) := by decide +kernel
theorem dL_law_311 : decode cL_law 311 = .ok (.iaload, 1) := by decide +kernel
theorem dL_law_312 : decode cL_law 312 = .ok (.aload_n 0, 1) := by decide +kernel
theorem dL_law_313 : decode cL_law 313 = .ok (.iload_n 3, 1) := by decide +kernel
theorem dL_law_314 : decode cL_law 314 = .ok (.iconst 2, 1) := by decide +kernel
theorem dL_law_315 : decode cL_law 315 = .ok (.iadd, 1) := by decide +kernel
theorem dL_law_316 : decode cL_law 316 = .ok (.iaload, 1) := by decide +kernel
theorem dL_law_317 : decode cL_law 317 = .ok (.invokevirtual 51, 3) := by decide +kernel
theorem dL_law_320 : decode cL_law 320 = .ok (.if_icmp .eq 120, 3) := by decide +kernel
theorem dL_law_323 : decode cL_law 323 = .ok (.iconst 0, 1) := by decide +kernel
theorem dL_law_324 : decode cL_law 324 = .ok (.ireturn, 1) := by decide +kernel
theorem dL_law_325 : decode cL_law 325 = .ok (.aload_n 1, 1) := by decide +kernel
theorem dL_law_326 : decode cL_law 326 = .ok (.aload_n 0, 1) := by decide +kernel
theorem dL_law_327 : decode cL_law 327 = .ok (.iload_n 3, 1) := by decide +kernel
theorem dL_law_328 : decode cL_law 328 = .ok (.iconst 1, 1) := by decide +kernel
theorem dL_law_329 : decode cL_law 329 = .ok (.iadd, 1) := by decide +kernel
theorem dL_law_330 : decode cL_law 330 = .ok (.iaload, 1) := by decide +kernel
theorem dL_law_331 : decode cL_law 331 = .ok (.aload_n 0, 1) := by decide +kernel
theorem dL_law_332 : decode cL_law 332 = .ok (.iload_n 3, 1) := by decide +kernel
theorem dL_law_333 : decode cL_law 333 = .ok (.iconst 2, 1) := by decide +kernel
theorem dL_law_334 : decode cL_law 334 = .ok (.iadd, 1) := by decide +kernel
theorem dL_law_335 : decode cL_law 335 = .ok (.iaload, 1) := by decide +kernel
theorem dL_law_336 : decode cL_law 336 = .ok (.invokevirtual 52, 3) := by decide +kernel
theorem dL_law_339 : decode cL_law 339 = .ok (.aload_n 2, 1) := by decide +kernel
theorem dL_law_340 : decode cL_law 340 = .ok (.aload_n 0, 1) := by decide +kernel
theorem dL_law_341 : decode cL_law 341 = .ok (.iload_n 3, 1) := by decide +kernel
theorem dL_law_342 : decode cL_law 342 = .ok (.iconst 1, 1) := by decide +kernel
theorem dL_law_343 : decode cL_law 343 = .ok (.iadd, 1) := by decide +kernel
theorem dL_law_344 : decode cL_law 344 = .ok (.iaload, 1) := by decide +kernel
theorem dL_law_345 : decode cL_law 345 = .ok (.aload_n 0, 1) := by decide +kernel
theorem dL_law_346 : decode cL_law 346 = .ok (.iload_n 3, 1) := by decide +kernel
theorem dL_law_347 : decode cL_law 347 = .ok (.iconst 2, 1) := by decide +kernel
theorem dL_law_348 : decode cL_law 348 = .ok (.iadd, 1) := by decide +kernel
theorem dL_law_349 : decode cL_law 349 = .ok (.iaload, 1) := by decide +kernel
theorem dL_law_350 : decode cL_law 350 = .ok (.invokevirtual 55, 3) := by decide +kernel
theorem dL_law_353 : decode cL_law 353 = .ok (.if_icmp .eq 87, 3) := by decide +kernel
theorem dL_law_356 : decode cL_law 356 = .ok (.iconst 0, 1) := by decide +kernel
theorem dL_law_357 : decode cL_law 357 = .ok (.ireturn, 1) := by decide +kernel
theorem dL_law_358 : decode cL_law 358 = .ok (.aload_n 1, 1) := by decide +kernel
theorem dL_law_359 : decode cL_law 359 = .ok (.invokevirtual 56, 3) := by decide +kernel
theorem dL_law_362 : decode cL_law 362 = .ok (.aload_n 2, 1) := by decide +kernel
theorem dL_law_363 : decode cL_law 363 = .ok (.invokevirtual 60, 3) := by decide +kernel
theorem dL_law_366 : decode cL_law 366 = .ok (.if_icmp .eq 74, 3) := by decide +kernel
theorem dL_law_369 : decode cL_law 369 = .ok (.iconst 0, 1) := by decide +kernel
theorem dL_law_370 : decode cL_law 370 = .ok (.ireturn, 1) := by decide +kernel
theorem dL_law_371 : decode cL_law 371 = .ok (.aload_n 1, 1) := by decide +kernel
theorem dL_law_372 : decode cL_law 372 = .ok (.aload_n 0, 1) := by decide +kernel
theorem dL_law_373 : decode cL_law 373 = .ok (.iload_n 3, 1) := by decide +kernel
theorem dL_law_374 : decode cL_law 374 = .ok (.iconst 1, 1) := by decide +kernel
theorem dL_law_375 : decode cL_law 375 = .ok (.iadd, 1) := by decide +kernel
theorem dL_law_376 : decode cL_law 376 = .ok (.iaload, 1) := by decide +kernel
theorem dL_law_377 : decode cL_law 377 = .ok (.invokevirtual 61, 3) := by decide +kernel
theorem dL_law_380 : decode cL_law 380 = .ok (.aload_n 2, 1) := by decide +kernel
theorem dL_law_381 : decode cL_law 381 = .ok (.aload_n 0, 1) := by decide +kernel
theorem dL_law_382 : decode cL_law 382 = .ok (.iload_n 3, 1) := by decide +kernel
theorem dL_law_383 : decode cL_law 383 = .ok (.iconst 1, 1) := by decide +kernel
theorem dL_law_384 : decode cL_law 384 = .ok (.iadd, 1) := by decide +kernel
theorem dL_law_385 : decode cL_law 385 = .ok (.iaload, 1) := by decide +kernel
theorem dL_law_386 : decode cL_law 386 = .ok (.invokevirtual 64, 3) := by decide +kernel
theorem dL_law_389 : decode cL_law 389 = .ok (.if_icmp .eq 51, 3) := by decide +kernel
theorem dL_law_392 : decode cL_law 392 = .ok (.iconst 0, 1) := by decide +kernel
theorem dL_law_393 : decode cL_law 393 = .ok (.ireturn, 1) := by decide +kernel
theorem dL_law_394 : decode cL_law 394 = .ok (.aload_n 1, 1) := by decide +kernel
theorem dL_law_395 : decode cL_law 395 = .ok (.aload_n 0, 1) := by decide +kernel
theorem dL_law_396 : decode cL_law 396 = .ok (.iload_n 3, 1) := by decide +kernel
theorem dL_law_397 : decode cL_law 397 = .ok (.iconst 1, 1) := by decide +kernel
theorem dL_law_398 : decode cL_law 398 = .ok (.iadd, 1) := by decide +kernel
theorem dL_law_399 : decode cL_law 399 = .ok (.iaload, 1) := by decide +kernel
theorem dL_law_400 : decode cL_law 400 = .ok (.invokevirtual 65, 3) := by decide +kernel
theorem dL_law_403 : decode cL_law 403 = .ok (.aload_n 2, 1) := by decide +kernel
theorem dL_law_404 : decode cL_law 404 = .ok (.aload_n 0, 1) := by decide +kernel
theorem dL_law_405 : decode cL_law 405 = .ok (.iload_n 3, 1) := by decide +kernel
theorem dL_law_406 : decode cL_law 406 = .ok (.iconst 1, 1) := by decide +kernel
theorem dL_law_407 : decode cL_law 407 = .ok (.iadd, 1) := by decide +kernel
theorem dL_law_408 : decode cL_law 408 = .ok (.iaload, 1) := by decide +kernel
theorem dL_law_409 : decode cL_law 409 = .ok (.invokevirtual 69, 3) := by decide +kernel
theorem dL_law_412 : decode cL_law 412 = .ok (.if_icmp .eq 28, 3) := by decide +kernel
theorem dL_law_415 : decode cL_law 415 = .ok (.iconst 0, 1) := by decide +kernel
theorem dL_law_416 : decode cL_law 416 = .ok (.ireturn, 1) := by decide +kernel
theorem dL_law_417 : decode cL_law 417 = .ok (.aload_n 1, 1) := by decide +kernel
theorem dL_law_418 : decode cL_law 418 = .ok (.aload_n 0, 1) := by decide +kernel
theorem dL_law_419 : decode cL_law 419 = .ok (.iload_n 3, 1) := by decide +kernel
theorem dL_law_420 : decode cL_law 420 = .ok (.iconst 1, 1) := by decide +kernel
theorem dL_law_421 : decode cL_law 421 = .ok (.iadd, 1) := by decide +kernel
theorem dL_law_422 : decode cL_law 422 = .ok (.iaload, 1) := by decide +kernel
theorem dL_law_423 : decode cL_law 423 = .ok (.invokevirtual 70, 3) := by decide +kernel
theorem dL_law_426 : decode cL_law 426 = .ok (.aload_n 2, 1) := by decide +kernel
theorem dL_law_427 : decode cL_law 427 = .ok (.aload_n 0, 1) := by decide +kernel
theorem dL_law_428 : decode cL_law 428 = .ok (.iload_n 3, 1) := by decide +kernel
theorem dL_law_429 : decode cL_law 429 = .ok (.iconst 1, 1) := by decide +kernel
theorem dL_law_430 : decode cL_law 430 = .ok (.iadd, 1) := by decide +kernel
theorem dL_law_431 : decode cL_law 431 = .ok (.iaload, 1) := by decide +kernel
theorem dL_law_432 : decode cL_law 432 = .ok (.invokevirtual 73, 3) := by decide +kernel
theorem dL_law_435 : decode cL_law 435 = .ok (.if_icmp .eq 5, 3) := by decide +kernel
theorem dL_law_438 : decode cL_law 438 = .ok (.iconst 0, 1) := by decide +kernel
theorem dL_law_439 : decode cL_law 439 = .ok (.ireturn, 1) := by decide +kernel
theorem dL_law_440 : decode cL_law 440 = .ok (.iinc 3 5, 3) := by decide +kernel
theorem dL_law_443 : decode cL_law 443 = .ok (.goto (-415), 3) := by decide +kernel
theorem dL_law_446 : decode cL_law 446 = .ok (.iconst 1, 1) := by decide +kernel
theorem dL_law_447 : decode cL_law 447 = .ok (.ireturn, 1) := by decide +kernel
end
section
/-! THE ABSTRACT BELTS: pure, no machine. A belt: (count, places, kinds). An arm: (set, from, onto, reach, takes). The whole: (belts, leads, arms, holds, gone) -/
abbrev bl_B : Type := Nat × (Nat → Nat) × (Nat → Nat)
abbrev bl_Arm : Type := Int32 × Nat × Nat × Nat × Int32
abbrev bl_M : Type := (Nat → bl_B) × (Nat → Int32) × (Nat → bl_Arm) × (Nat → Option Nat) × Int32
def bl_hv : Option Nat → Int32
  | none => -4
  | some k => nI k
def bl_sB (M : bl_M) (b : Nat) (B : bl_B) : bl_M := (va_up M.1 b B, M.2)
def bl_sL (M : bl_M) (b : Nat) (x : Int32) : bl_M := (M.1, va_up M.2.1 b x, M.2.2)
def bl_sA (M : bl_M) (a : Nat) (r : bl_Arm) : bl_M := (M.1, M.2.1, va_up M.2.2.1 a r, M.2.2.2)
def bl_sH (M : bl_M) (a : Nat) (o : Option Nat) : bl_M := (M.1, M.2.1, M.2.2.1, va_up M.2.2.2.1 a o, M.2.2.2.2)
def bl_sG (M : bl_M) (g : Int32) : bl_M := (M.1, M.2.1, M.2.2.1, M.2.2.2.1, g)
/-- room at the start of a belt of length L -/
abbrev bl_room (L : Nat) (B : bl_B) : Prop := B.1 = 0 ∨ B.2.1 (B.1 - 1) + 4 ≤ L
abbrev bl_end (B : bl_B) : Prop := 0 < B.1 ∧ B.2.1 0 = 0
def bl_start (L : Nat) (B : bl_B) (k : Nat) : bl_B := (B.1 + 1, va_up B.2.1 B.1 L, va_up B.2.2 B.1 k)
def bl_off (B : bl_B) (i : Nat) : bl_B := (B.1 - 1, fun j => if j < i then B.2.1 j else B.2.1 (j + 1), fun j => if j < i then B.2.2 j else B.2.2 (j + 1))
/-- item j moves: a gap is open somewhere up to it -/
def bl_opn (p : Nat → Nat) : Nat → Bool
  | 0 => decide (0 < p 0)
  | j + 1 => bl_opn p j || decide (p j + 4 < p (j + 1))
def bl_adv (B : bl_B) : bl_B := (B.1, fun j => if bl_opn B.2.1 j = true then B.2.1 j - 1 else B.2.1 j, B.2.2)
def bl_gap (p : Nat → Nat) : Nat → Nat
  | 0 => p 0
  | j + 1 => p (j + 1) - (p j + 4)
/-- the first k gaps together -/
def bl_ps (p : Nat → Nat) : Nat → Nat
  | 0 => 0
  | k + 1 => p k - 4 * k
/-- the place before item i, as an int -/
def bl_pl (p : Nat → Nat) : Nat → Int32
  | 0 => -4
  | i + 1 => nI (p i)
/-- the first place below n where f holds; n if there is none -/
def bl_find (f : Nat → Bool) : Nat → Nat
  | 0 => 0
  | n + 1 => if bl_find f n < n then bl_find f n else if f n = true then n else n + 1
def bl_gf (p : Nat → Nat) (i : Nat) : Bool := decide (bl_gap p i ≠ 0)
abbrev bl_fit (r : bl_Arm) (B : bl_B) (i : Nat) : Prop := (r.2.2.2.2 >>> (nI (B.2.2 i) &&& 31)) &&& 1 = 1 ∧ r.2.2.2.1 ≤ B.2.1 i ∧ B.2.1 i ≤ r.2.2.2.1 + 3
def bl_fb (r : bl_Arm) (B : bl_B) (i : Nat) : Bool := decide (bl_fit r B i)
def bl_pass (L : Nat) (M : bl_M) (b : Nat) : bl_M :=
  if bl_end (M.1 b) then
    if M.2.1 b = -2 then bl_sG (bl_sB M b (bl_off (M.1 b) 0)) (M.2.2.2.2 + 1)
    else if M.2.1 b < 0 then M
    else if bl_room L (M.1 (M.2.1 b).toNatClampNeg) then bl_sB (bl_sB M b (bl_off (M.1 b) 0)) (M.2.1 b).toNatClampNeg (bl_start L (M.1 (M.2.1 b).toNatClampNeg) ((M.1 b).2.2 0))
    else M
  else M
def bl_adv1 (M : bl_M) (b : Nat) : bl_M := bl_sB M b (bl_adv (M.1 b))
def bl_hit (M : bl_M) (a : Nat) : Nat := bl_find (bl_fb (M.2.2.1 a) (M.1 (M.2.2.1 a).2.1)) (M.1 (M.2.2.1 a).2.1).1
def bl_work (L : Nat) (M : bl_M) (a : Nat) : bl_M := match M.2.2.2.1 a with
  | some k => if bl_room L (M.1 (M.2.2.1 a).2.2.1) then bl_sH (bl_sB M (M.2.2.1 a).2.2.1 (bl_start L (M.1 (M.2.2.1 a).2.2.1) k)) a none else M
  | none => if bl_hit M a < (M.1 (M.2.2.1 a).2.1).1 then bl_sH (bl_sB M (M.2.2.1 a).2.1 (bl_off (M.1 (M.2.2.1 a).2.1) (bl_hit M a))) a (some ((M.1 (M.2.2.1 a).2.1).2.2 (bl_hit M a))) else M
def bl_belts (L : Nat) (M : bl_M) : Nat → bl_M
  | 0 => M
  | b + 1 => bl_adv1 (bl_pass L (bl_belts L M b) b) b
def bl_arms (L : Nat) (M : bl_M) : Nat → bl_M
  | 0 => M
  | a + 1 => if ((bl_arms L M a).2.2.1 a).1 = 0 then bl_arms L M a else bl_work L (bl_arms L M a) a
def bl_tick1 (L : Nat) (M : bl_M) : bl_M := bl_arms L (bl_belts L M 4) 2
def bl_ticks (L : Nat) (M : bl_M) : Nat → bl_M
  | 0 => M
  | k + 1 => bl_tick1 L (bl_ticks L M k)
def bl_num (x : Int32) : Nat := if 200 < x then 200 else x.toNatClampNeg
abbrev bl_bad (x : Int32) : Prop := x < 0 ∨ 4 ≤ x
def bl_put (L : Nat) (M : bl_M) (x y : Int32) : Int32 × bl_M :=
  if bl_bad x then (-1, M) else if y < 0 ∨ 7 < y then (-2, M) else if bl_room L (M.1 x.toNatClampNeg) then (nI ((M.1 x.toNatClampNeg).1 + 1), bl_sB M x.toNatClampNeg (bl_start L (M.1 x.toNatClampNeg) y.toNatClampNeg)) else (-3, M)
def bl_take (M : bl_M) (x : Int32) : Int32 × bl_M :=
  if bl_bad x then (-1, M) else if bl_end (M.1 x.toNatClampNeg) then (nI ((M.1 x.toNatClampNeg).2.2 0), bl_sB M x.toNatClampNeg (bl_off (M.1 x.toNatClampNeg) 0)) else (-4, M)
def bl_lead (M : bl_M) (x y : Int32) : Int32 × bl_M :=
  if bl_bad x then (-1, M) else if y < -2 ∨ 4 ≤ y ∨ y = x then (-5, M) else (M.2.1 x.toNatClampNeg, bl_sL M x.toNatClampNeg y)
def bl_arm (M : bl_M) (x y z t : Int32) : Int32 × bl_M :=
  if x < 0 ∨ 1 < x ∨ z < 0 ∨ 60 < z then (-5, M) else (0, bl_sA M x.toNatClampNeg (1, (y &&& 3).toNatClampNeg, ((y >>> (2 &&& 31)) &&& 3).toNatClampNeg, z.toNatClampNeg, t &&& 255))
def bl_tick (L : Nat) (M : bl_M) (x : Int32) : Int32 × bl_M := ((bl_ticks L M (bl_num x)).2.2.2.2 - M.2.2.2.2, bl_ticks L M (bl_num x))
def bl_items (M : bl_M) (x : Int32) : Int32 := if bl_bad x then -1 else nI (M.1 x.toNatClampNeg).1
def bl_place (M : bl_M) (x i : Int32) : Int32 := if bl_bad x then -1 else if i < 0 ∨ nI (M.1 x.toNatClampNeg).1 ≤ i then -4 else nI ((M.1 x.toNatClampNeg).2.1 i.toNatClampNeg)
def bl_kind (M : bl_M) (x i : Int32) : Int32 := if bl_bad x then -1 else if i < 0 ∨ nI (M.1 x.toNatClampNeg).1 ≤ i then -4 else nI ((M.1 x.toNatClampNeg).2.2 i.toNatClampNeg)
def bl_held (M : bl_M) (x : Int32) : Int32 := if x < 0 ∨ 1 < x then -5 else bl_hv (M.2.2.2.1 x.toNatClampNeg)
def bl_rq (L : Nat) (M : bl_M) (x : Int32) : Int32 := if bl_bad x then 0 else if bl_room L (M.1 x.toNatClampNeg) then 1 else 0
def bl_moving (M : bl_M) (x : Int32) : Int32 := if bl_bad x then -1 else nI ((M.1 x.toNatClampNeg).1 - bl_find (bl_gf (M.1 x.toNatClampNeg).2.1) (M.1 x.toNatClampNeg).1)
/-! the invariant -/
def bl_ok (L : Nat) (B : bl_B) : Prop := (∀ i, i < B.1 → B.2.1 i ≤ L ∧ B.2.2 i ≤ 7) ∧ ∀ i, i + 1 < B.1 → B.2.1 i + 4 ≤ B.2.1 (i + 1)
def bl_ldok (b : Nat) (x : Int32) : Prop := x = -1 ∨ x = -2 ∨ ∃ t, t < 4 ∧ t ≠ b ∧ x = nI t
def bl_aok (r : bl_Arm) : Prop := (r.1 = 0 ∨ r.1 = 1) ∧ r.2.1 < 4 ∧ r.2.2.1 < 4 ∧ r.2.2.2.1 ≤ 60
def bl_I (L : Nat) (M : bl_M) : Prop :=
  (8 ≤ L ∧ L ≤ 60) ∧ (∀ b, b < 4 → bl_ok L (M.1 b)) ∧ (∀ b, b < 4 → bl_ldok b (M.2.1 b)) ∧ (∀ a, a < 2 → bl_aok (M.2.2.1 a)) ∧ (∀ a, a < 2 → ∀ k, M.2.2.2.1 a = some k → k ≤ 7)
theorem bl_upP {α : Type} {f : Nat → α} {P : Nat → α → Prop} {n k : Nat} {x : α} (h : ∀ j, j < n → P j (f j)) (hx : P k x) : ∀ j, j < n → P j (va_up f k x j) := by
  intro j hj
  by_cases e : j = k
  · subst e
    rw [va_up_self]
    exact hx
  · rw [va_up_ne _ _ e]
    exact h j hj
theorem bl_low {L : Nat} {B : bl_B} (h : bl_ok L B) : ∀ i, i < B.1 → 4 * i ≤ B.2.1 i := by
  intro i
  induction i with
  | zero => intro _; omega
  | succ i ih =>
    intro hi
    have h1 := ih (by omega)
    have h2 := h.2 i hi
    omega
theorem bl_cnt {L : Nat} {B : bl_B} (hL : L ≤ 60) (h : bl_ok L B) : B.1 ≤ 16 := by
  by_cases h0 : B.1 = 0
  · omega
  · have h1 := bl_low h (B.1 - 1) (by omega)
    have h2 := (h.1 (B.1 - 1) (by omega)).1
    omega
theorem bl_cnt_room {L : Nat} {B : bl_B} (hL : L ≤ 60) (h : bl_ok L B) (hr : bl_room L B) : B.1 ≤ 15 := by
  rcases hr with hr | hr
  · omega
  · by_cases h0 : B.1 = 0
    · omega
    · have h1 := bl_low h (B.1 - 1) (by omega)
      omega
theorem bl_ok_start {L k : Nat} {B : bl_B} (h : bl_ok L B) (hr : bl_room L B) (hk : k ≤ 7) : bl_ok L (bl_start L B k) := by
  obtain ⟨n, p, q⟩ := B
  refine ⟨fun i hi => ?_, fun i hi => ?_⟩
  · show va_up p n L i ≤ L ∧ va_up q n k i ≤ 7
    have hi : i < n + 1 := hi
    by_cases e : i = n
    · rw [e, va_up_self, va_up_self]
      exact ⟨Nat.le_refl _, hk⟩
    · rw [va_up_ne _ _ e, va_up_ne _ _ e]
      exact h.1 i (show i < n by omega)
  · show va_up p n L i + 4 ≤ va_up p n L (i + 1)
    have hi : i + 1 < n + 1 := hi
    rw [va_up_ne _ _ (show i ≠ n by omega)]
    by_cases e : i + 1 = n
    · rw [e, va_up_self]
      rcases hr with hr | hr
      · have hr : n = 0 := hr
        omega
      · have hr : p (n - 1) + 4 ≤ L := hr
        rw [show n - 1 = i by omega] at hr
        exact hr
    · rw [va_up_ne _ _ e]
      exact h.2 i (show i + 1 < n by omega)
theorem bl_ok_off {L i : Nat} {B : bl_B} (h : bl_ok L B) (hi : i < B.1) : bl_ok L (bl_off B i) := by
  obtain ⟨n, p, q⟩ := B
  refine ⟨fun j hj => ?_, fun j hj => ?_⟩
  · show (if j < i then p j else p (j + 1)) ≤ L ∧ (if j < i then q j else q (j + 1)) ≤ 7
    have hj : j < n - 1 := hj
    by_cases e : j < i
    · rw [if_pos e, if_pos e]
      exact h.1 j (show j < n by omega)
    · rw [if_neg e, if_neg e]
      exact h.1 (j + 1) (show j + 1 < n by omega)
  · show (if j < i then p j else p (j + 1)) + 4 ≤ (if j + 1 < i then p (j + 1) else p (j + 1 + 1))
    have hj : j + 1 < n - 1 := hj
    have h1 : p j + 4 ≤ p (j + 1) := h.2 j (show j + 1 < n by omega)
    have h2 : p (j + 1) + 4 ≤ p (j + 1 + 1) := h.2 (j + 1) (show j + 1 + 1 < n by omega)
    by_cases e : j < i
    · rw [if_pos e]
      by_cases e2 : j + 1 < i
      · rw [if_pos e2]; omega
      · rw [if_neg e2]; omega
    · rw [if_neg e, if_neg (by omega)]
      exact h2
theorem bl_opn_pos {L : Nat} {B : bl_B} (h : bl_ok L B) : ∀ j, j < B.1 → bl_opn B.2.1 j = true → 1 ≤ B.2.1 j := by
  intro j hj ho
  cases j with
  | zero =>
    have ho : decide (0 < B.2.1 0) = true := ho
    have := of_decide_eq_true ho
    omega
  | succ j =>
    have := h.2 j hj
    omega
theorem bl_opn_s (p : Nat → Nat) (j : Nat) : bl_opn p (j + 1) = true ↔ bl_opn p j = true ∨ p j + 4 < p (j + 1) := by
  show (bl_opn p j || decide (p j + 4 < p (j + 1))) = true ↔ _
  rw [Bool.or_eq_true, decide_eq_true_iff]
theorem bl_ok_adv {L : Nat} {B : bl_B} (h : bl_ok L B) : bl_ok L (bl_adv B) := by
  refine ⟨fun j hj => ?_, fun j hj => ?_⟩
  · show (if bl_opn B.2.1 j = true then B.2.1 j - 1 else B.2.1 j) ≤ L ∧ B.2.2 j ≤ 7
    have h1 := h.1 j hj
    refine ⟨?_, h1.2⟩
    split <;> omega
  · show (if bl_opn B.2.1 j = true then B.2.1 j - 1 else B.2.1 j) + 4 ≤ (if bl_opn B.2.1 (j + 1) = true then B.2.1 (j + 1) - 1 else B.2.1 (j + 1))
    have hj : j + 1 < B.1 := hj
    have h1 := h.2 j hj
    by_cases e : bl_opn B.2.1 j = true
    · have h2 := bl_opn_pos h j (by omega) e
      rw [if_pos e, if_pos ((bl_opn_s _ _).mpr (Or.inl e))]
      omega
    · rw [if_neg e]
      by_cases e2 : bl_opn B.2.1 (j + 1) = true
      · rw [if_pos e2]
        rcases (bl_opn_s _ _).mp e2 with e3 | e3
        · exact absurd e3 e
        · omega
      · rw [if_neg e2]
        exact h1
/-! the first place where -/
theorem bl_find_le (f : Nat → Bool) : ∀ n, bl_find f n ≤ n := by
  intro n
  induction n with
  | zero => exact Nat.le_refl _
  | succ n ih =>
    show (if bl_find f n < n then bl_find f n else if f n = true then n else n + 1) ≤ n + 1
    split
    · omega
    · split <;> omega
theorem bl_find_lt (f : Nat → Bool) : ∀ n i, i < bl_find f n → f i = false := by
  intro n
  induction n with
  | zero => intro i hi; exact absurd hi (Nat.not_lt_zero _)
  | succ n ih =>
    intro i hi
    have hi : i < (if bl_find f n < n then bl_find f n else if f n = true then n else n + 1) := hi
    have hle := bl_find_le f n
    by_cases e : bl_find f n < n
    · rw [if_pos e] at hi
      exact ih i hi
    · rw [if_neg e] at hi
      by_cases e2 : f n = true
      · rw [if_pos e2] at hi
        exact ih i (by omega)
      · rw [if_neg e2] at hi
        by_cases e3 : i = n
        · rw [e3]
          exact Bool.eq_false_iff.mpr e2
        · exact ih i (by omega)
theorem bl_find_at (f : Nat → Bool) : ∀ n, bl_find f n < n → f (bl_find f n) = true := by
  intro n
  induction n with
  | zero => intro hi; exact absurd hi (Nat.not_lt_zero _)
  | succ n ih =>
    have hd : bl_find f (n + 1) = (if bl_find f n < n then bl_find f n else if f n = true then n else n + 1) := rfl
    intro hi
    by_cases e : bl_find f n < n
    · rw [if_pos e] at hd
      rw [hd]
      exact ih e
    · rw [if_neg e] at hd
      by_cases e2 : f n = true
      · rw [if_pos e2] at hd
        rw [hd]
        exact e2
      · rw [if_neg e2] at hd
        omega
theorem bl_find_eq {f : Nat → Bool} {n r : Nat} (hr : r ≤ n) (h1 : ∀ i, i < r → f i = false) (h2 : r < n → f r = true) : bl_find f n = r := by
  rcases Nat.lt_trichotomy (bl_find f n) r with h | h | h
  · have h3 := bl_find_at f n (by omega)
    rw [h1 _ h] at h3
    cases h3
  · exact h
  · have h3 := bl_find_lt f n r h
    have h4 := h2 (by have := bl_find_le f n; omega)
    rw [h4] at h3
    cases h3
theorem bl_gap0 (p : Nat → Nat) : bl_gap p 0 = p 0 := rfl
theorem bl_gapS (p : Nat → Nat) (j : Nat) : bl_gap p (j + 1) = p (j + 1) - (p j + 4) := rfl
theorem bl_gap_congr {p q : Nat → Nat} {i : Nat} (h : ∀ j, j ≤ i → p j = q j) : bl_gap p i = bl_gap q i := by
  cases i with
  | zero => rw [bl_gap0, bl_gap0]; exact h 0 (Nat.le_refl _)
  | succ i => rw [bl_gapS, bl_gapS, h (i + 1) (Nat.le_refl _), h i (by omega)]
theorem bl_ps_step {L : Nat} {B : bl_B} (h : bl_ok L B) {k : Nat} (hk : k < B.1) : bl_ps B.2.1 k + bl_gap B.2.1 k = bl_ps B.2.1 (k + 1) := by
  cases k with
  | zero =>
    show 0 + B.2.1 0 = B.2.1 0 - 4 * 0
    omega
  | succ k =>
    show (B.2.1 k - 4 * k) + (B.2.1 (k + 1) - (B.2.1 k + 4)) = B.2.1 (k + 1) - 4 * (k + 1)
    have h1 := bl_low h k (by omega)
    have h2 := h.2 k hk
    omega
theorem bl_ps_last {L : Nat} {B : bl_B} (h : bl_ok L B) (h0 : 0 < B.1) : bl_ps B.2.1 B.1 + 4 * (B.1 - 1) = B.2.1 (B.1 - 1) := by
  obtain ⟨m, hm⟩ : ∃ m, B.1 = m + 1 := ⟨B.1 - 1, by omega⟩
  have h1 := bl_low h m (by omega)
  rw [hm]
  show (B.2.1 m - 4 * m) + 4 * (m + 1 - 1) = B.2.1 (m + 1 - 1)
  rw [show m + 1 - 1 = m by omega]
  omega
theorem bl_opn_iff (p : Nat → Nat) : ∀ j, bl_opn p j = true ↔ ∃ i, i ≤ j ∧ bl_gap p i ≠ 0 := by
  intro j
  induction j with
  | zero =>
    show decide (0 < p 0) = true ↔ _
    rw [decide_eq_true_iff]
    constructor
    · intro h
      exact ⟨0, Nat.le_refl _, by rw [bl_gap0]; omega⟩
    · rintro ⟨i, hi, hg⟩
      rw [show i = 0 by omega, bl_gap0] at hg
      omega
  | succ j ih =>
    rw [bl_opn_s, ih]
    constructor
    · rintro (⟨i, hi, hg⟩ | h)
      · exact ⟨i, by omega, hg⟩
      · exact ⟨j + 1, Nat.le_refl _, by rw [bl_gapS]; omega⟩
    · rintro ⟨i, hi, hg⟩
      by_cases e : i = j + 1
      · rw [e, bl_gapS] at hg
        exact Or.inr (by omega)
      · exact Or.inl ⟨i, by omega, hg⟩
theorem bl_gf_t {p : Nat → Nat} {i : Nat} (h : bl_gap p i ≠ 0) : bl_gf p i = true := decide_eq_true h
theorem bl_gf_f {p : Nat → Nat} {i : Nat} (h : bl_gap p i = 0) : bl_gf p i = false := decide_eq_false (fun q => q h)
theorem bl_gf_ne {p : Nat → Nat} {i : Nat} (h : bl_gf p i = true) : bl_gap p i ≠ 0 := of_decide_eq_true h
theorem bl_gf_z {p : Nat → Nat} {i : Nat} (h : bl_gf p i = false) : bl_gap p i = 0 := Decidable.of_not_not (of_decide_eq_false h)
theorem bl_opn_fo {p : Nat → Nat} {n j : Nat} (hj : j < n) : bl_opn p j = true ↔ bl_find (bl_gf p) n ≤ j := by
  rw [bl_opn_iff]
  constructor
  · rintro ⟨i, hi, hg⟩
    refine Nat.le_of_not_lt fun h => ?_
    exact hg (bl_gf_z (bl_find_lt _ n i (by omega)))
  · intro h
    exact ⟨_, h, bl_gf_ne (bl_find_at _ n (by omega))⟩
theorem bl_pl_step {L : Nat} {B : bl_B} (h : bl_ok L B) {i : Nat} (hi : i < B.1) : bl_pl B.2.1 i + nI (bl_gap B.2.1 i + 4) = nI (B.2.1 i) := by
  cases i with
  | zero =>
    show (-4 : Int32) + nI (B.2.1 0 + 4) = nI (B.2.1 0)
    rw [← nI_add, show nI 4 = 4 from rfl]
    grind
  | succ i =>
    show nI (B.2.1 i) + nI (B.2.1 (i + 1) - (B.2.1 i + 4) + 4) = nI (B.2.1 (i + 1))
    have h1 := h.2 i hi
    rw [nI_add, show B.2.1 i + (B.2.1 (i + 1) - (B.2.1 i + 4) + 4) = B.2.1 (i + 1) by omega]
/-! the invariant is kept -/
theorem bl_I_sB {L b : Nat} {M : bl_M} {B : bl_B} (h : bl_I L M) (hB : bl_ok L B) : bl_I L (bl_sB M b B) := ⟨h.1, bl_upP (P := fun _ B => bl_ok L B) h.2.1 hB, h.2.2⟩
theorem bl_I_sL {L b : Nat} {M : bl_M} {x : Int32} (h : bl_I L M) (hx : bl_ldok b x) : bl_I L (bl_sL M b x) := ⟨h.1, h.2.1, bl_upP (P := bl_ldok) h.2.2.1 hx, h.2.2.2⟩
theorem bl_I_sA {L a : Nat} {M : bl_M} {r : bl_Arm} (h : bl_I L M) (hr : bl_aok r) : bl_I L (bl_sA M a r) := ⟨h.1, h.2.1, h.2.2.1, bl_upP (P := fun _ r => bl_aok r) h.2.2.2.1 hr, h.2.2.2.2⟩
theorem bl_I_sH {L a : Nat} {M : bl_M} {o : Option Nat} (h : bl_I L M) (ho : ∀ k, o = some k → k ≤ 7) : bl_I L (bl_sH M a o) := ⟨h.1, h.2.1, h.2.2.1, h.2.2.2.1, bl_upP (P := fun _ o => ∀ k, o = some k → k ≤ 7) h.2.2.2.2 ho⟩
theorem bl_I_sG {L : Nat} {M : bl_M} {g : Int32} (h : bl_I L M) : bl_I L (bl_sG M g) := h
theorem bl_I_adv1 {L b : Nat} {M : bl_M} (h : bl_I L M) (hb : b < 4) : bl_I L (bl_adv1 M b) := bl_I_sB h (bl_ok_adv (h.2.1 b hb))
theorem bl_ld {b : Nat} {x : Int32} (h : bl_ldok b x) (h0 : ¬ x < 0) : ∃ t, t < 4 ∧ t ≠ b ∧ x = nI t := by
  rcases h with h | h | h
  · exact absurd (by rw [h]; decide) h0
  · exact absurd (by rw [h]; decide) h0
  · exact h
theorem bl_I_pass {L b : Nat} {M : bl_M} (h : bl_I L M) (hb : b < 4) : bl_I L (bl_pass L M b) := by
  unfold bl_pass
  by_cases e1 : bl_end (M.1 b)
  · rw [if_pos e1]
    by_cases e2 : M.2.1 b = -2
    · rw [if_pos e2]
      exact bl_I_sG (bl_I_sB h (bl_ok_off (h.2.1 b hb) e1.1))
    · rw [if_neg e2]
      by_cases e3 : M.2.1 b < 0
      · rw [if_pos e3]
        exact h
      · rw [if_neg e3]
        obtain ⟨t, ht, hne, et⟩ := bl_ld (h.2.2.1 b hb) e3
        rw [et, nI_clamp (by omega)]
        by_cases e4 : bl_room L (M.1 t)
        · rw [if_pos e4]
          exact bl_I_sB (bl_I_sB h (bl_ok_off (h.2.1 b hb) e1.1)) (bl_ok_start (h.2.1 t ht) e4 ((h.2.1 b hb).1 0 e1.1).2)
        · rw [if_neg e4]
          exact h
  · rw [if_neg e1]
    exact h
theorem bl_I_work {L a : Nat} {M : bl_M} (h : bl_I L M) (ha : a < 2) : bl_I L (bl_work L M a) := by
  unfold bl_work
  have hr := h.2.2.2.1 a ha
  cases e : M.2.2.2.1 a with
  | some k =>
    show bl_I L (if bl_room L (M.1 (M.2.2.1 a).2.2.1) then _ else M)
    have hk := h.2.2.2.2 a ha k e
    split
    · rename_i e4
      exact bl_I_sH (bl_I_sB h (bl_ok_start (h.2.1 _ hr.2.2.1) e4 hk)) (fun _ q => by cases q)
    · exact h
  | none =>
    show bl_I L (if bl_hit M a < (M.1 (M.2.2.1 a).2.1).1 then _ else M)
    split
    · rename_i e4
      refine bl_I_sH (bl_I_sB h (bl_ok_off (h.2.1 _ hr.2.1) e4)) (fun k q => ?_)
      cases q
      exact ((h.2.1 _ hr.2.1).1 _ e4).2
    · exact h
theorem bl_I_belts {L : Nat} {M : bl_M} (h : bl_I L M) : ∀ b, b ≤ 4 → bl_I L (bl_belts L M b) := by
  intro b
  induction b with
  | zero => intro _; exact h
  | succ b ih => intro hb; exact bl_I_adv1 (bl_I_pass (ih (by omega)) (by omega)) (by omega)
theorem bl_I_arms {L : Nat} {M : bl_M} (h : bl_I L M) : ∀ a, a ≤ 2 → bl_I L (bl_arms L M a) := by
  intro a
  induction a with
  | zero => intro _; exact h
  | succ a ih =>
    intro ha
    show bl_I L (if ((bl_arms L M a).2.2.1 a).1 = 0 then bl_arms L M a else bl_work L (bl_arms L M a) a)
    split
    · exact ih (by omega)
    · exact bl_I_work (ih (by omega)) (by omega)
theorem bl_I_ticks {L : Nat} {M : bl_M} (h : bl_I L M) : ∀ k, bl_I L (bl_ticks L M k) := by
  intro k
  induction k with
  | zero => exact h
  | succ k ih => exact bl_I_arms (bl_I_belts ih 4 (Nat.le_refl _)) 2 (Nat.le_refl _)
end
section
/-! HOW THE ARRAYS HOLD THE BELTS. A state of a class: (its arrays by the field's place, length, gone) -/
abbrev bl_S : Type := (Nat → Nat → Int32) × Int32 × Int32
/-- place j of array k gets v -/
def bl_st (u : bl_S) (k j : Nat) (v : Int32) : bl_S := (fun i => if i = k then upd (u.1 k) j v else u.1 i, u.2)
theorem bl_st_eq (u : bl_S) (k j : Nat) (v : Int32) : (bl_st u k j v).1 k j = v := by
  show (if k = k then upd (u.1 k) j v else u.1 k) j = v
  rw [if_pos rfl]
  exact pk_us
theorem bl_st_ne (u : bl_S) (k : Nat) {j q : Nat} (v : Int32) (h : q ≠ j) : (bl_st u k j v).1 k q = u.1 k q := by
  show (if k = k then upd (u.1 k) j v else u.1 k) q = _
  rw [if_pos rfl]
  exact pk_un h
theorem bl_st_k (u : bl_S) {k i : Nat} (j : Nat) (v : Int32) (h : i ≠ k) : (bl_st u k j v).1 i = u.1 i := if_neg h
/-- a belt in the component's arrays: 1 head, 2 count, 3 gap, 4 kinds, 5 gaps -/
def bl_XB (u : bl_S) (h b : Nat) (B : bl_B) : Prop := h < 16 ∧ u.1 1 b = nI h ∧ u.1 2 b = nI B.1 ∧ u.1 5 b = nI (bl_ps B.2.1 B.1) ∧ ∀ i, i < B.1 → u.1 3 (b * 16 + (h + i) % 16) = nI (bl_gap B.2.1 i) ∧ u.1 4 (b * 16 + (h + i) % 16) = nI (B.2.2 i)
/-- the rest in the component's arrays: 6 leads, 7 set, 8 takesFrom, 9 putsOn, 10 reach, 11 takesKinds, 12 holds -/
def bl_XR (u : bl_S) (M : bl_M) : Prop := (∀ b, b < 4 → u.1 6 b = M.2.1 b) ∧ (∀ a, a < 2 → u.1 7 a = (M.2.2.1 a).1 ∧ u.1 8 a = nI (M.2.2.1 a).2.1 ∧ u.1 9 a = nI (M.2.2.1 a).2.2.1 ∧ u.1 10 a = nI (M.2.2.1 a).2.2.2.1 ∧ u.1 11 a = (M.2.2.1 a).2.2.2.2) ∧ (∀ a, a < 2 → u.1 12 a = bl_hv (M.2.2.2.1 a)) ∧ u.2.2 = M.2.2.2.2
def bl_RX (L : Nat) (M : bl_M) (u : bl_S) : Prop := u.2.1 = nI L ∧ (∀ b, b < 4 → ∃ h, bl_XB u h b (M.1 b)) ∧ bl_XR u M
/-- a belt in the reference's arrays: 1 counts, 2 places, 3 kinds -/
def bl_YB (u : bl_S) (b : Nat) (B : bl_B) : Prop := u.1 1 b = nI B.1 ∧ ∀ i, i < B.1 → u.1 2 (b * 16 + i) = nI (B.2.1 i) ∧ u.1 3 (b * 16 + i) = nI (B.2.2 i)
/-- the rest in the reference's arrays: 4 leads, 5 isSet, 6 from, 7 onto, 8 reaches, 9 takes, 10 holds -/
def bl_YR (u : bl_S) (M : bl_M) : Prop := (∀ b, b < 4 → u.1 4 b = M.2.1 b) ∧ (∀ a, a < 2 → u.1 5 a = (M.2.2.1 a).1 ∧ u.1 6 a = nI (M.2.2.1 a).2.1 ∧ u.1 7 a = nI (M.2.2.1 a).2.2.1 ∧ u.1 8 a = nI (M.2.2.1 a).2.2.2.1 ∧ u.1 9 a = (M.2.2.1 a).2.2.2.2) ∧ (∀ a, a < 2 → u.1 10 a = bl_hv (M.2.2.2.1 a)) ∧ u.2.2 = M.2.2.2.2
def bl_RY (L : Nat) (M : bl_M) (u : bl_S) : Prop := u.2.1 = nI L ∧ (∀ b, b < 4 → bl_YB u b (M.1 b)) ∧ bl_YR u M
/-! what a step on belt b leaves alone -/
def bl_Xf (b : Nat) (u v : bl_S) : Prop := v.2 = u.2 ∧ (∀ k, 6 ≤ k → v.1 k = u.1 k) ∧ (∀ k j, (k = 1 ∨ k = 2 ∨ k = 5) → j ≠ b → v.1 k j = u.1 k j) ∧ (∀ k j, (k = 3 ∨ k = 4) → (j < b * 16 ∨ b * 16 + 16 ≤ j) → v.1 k j = u.1 k j)
theorem bl_Xf.rf {b : Nat} {u : bl_S} : bl_Xf b u u := ⟨rfl, fun _ _ => rfl, fun _ _ _ _ => rfl, fun _ _ _ _ => rfl⟩
theorem bl_Xf.tr {b : Nat} {u v w : bl_S} (h : bl_Xf b u v) (g : bl_Xf b v w) : bl_Xf b u w := ⟨g.1.trans h.1, fun k hk => (g.2.1 k hk).trans (h.2.1 k hk), fun k j hk hj => (g.2.2.1 k j hk hj).trans (h.2.2.1 k j hk hj), fun k j hk hj => (g.2.2.2 k j hk hj).trans (h.2.2.2 k j hk hj)⟩
theorem bl_Xf.s1 {b : Nat} {u v : bl_S} (h : bl_Xf b u v) (k : Nat) (x : Int32) (hk : k = 1 ∨ k = 2 ∨ k = 5) : bl_Xf b u (bl_st v k b x) := by
  refine h.tr ⟨rfl, fun i hi => bl_st_k _ _ _ (by omega), fun i j hi hj => ?_, fun i j hi hj => ?_⟩
  · by_cases e : i = k
    · subst e
      exact bl_st_ne _ _ _ hj
    · rw [bl_st_k _ _ _ e]
  · rw [bl_st_k _ _ _ (by omega)]
theorem bl_Xf.s3 {b : Nat} {u v : bl_S} (h : bl_Xf b u v) (k q : Nat) (x : Int32) (hk : k = 3 ∨ k = 4) (hq : q < 16) : bl_Xf b u (bl_st v k (b * 16 + q) x) := by
  refine h.tr ⟨rfl, fun i hi => bl_st_k _ _ _ (by omega), fun i j hi hj => ?_, fun i j hi hj => ?_⟩
  · rw [bl_st_k _ _ _ (by omega)]
  · by_cases e : i = k
    · subst e
      exact bl_st_ne _ _ _ (by omega)
    · rw [bl_st_k _ _ _ e]
theorem bl_RX_sB {L b h : Nat} {M : bl_M} {u v : bl_S} {B : bl_B} (hR : bl_RX L M u) (hf : bl_Xf b u v) (hB : bl_XB v h b B) : bl_RX L (bl_sB M b B) v := by
  obtain ⟨f1, f2, f3, f4⟩ := hf
  obtain ⟨r1, r2, r3, r4, r5, r6⟩ := hR
  refine ⟨by rw [f1]; exact r1, fun c hc => ?_, ?_, ?_, ?_, ?_⟩
  · show ∃ h, bl_XB v h c (va_up M.1 b B c)
    by_cases e : c = b
    · subst e
      rw [va_up_self]
      exact ⟨h, hB⟩
    · rw [va_up_ne _ _ e]
      obtain ⟨g, x1, x2, x3, x4, x5⟩ := r2 c hc
      refine ⟨g, x1, ?_, ?_, ?_, fun i hi => ?_⟩
      · rw [f3 1 c (by omega) e]; exact x2
      · rw [f3 2 c (by omega) e]; exact x3
      · rw [f3 5 c (by omega) e]; exact x4
      · rw [f4 3 _ (by omega) (by omega), f4 4 _ (by omega) (by omega)]
        exact x5 i hi
  · rw [f2 6 (by omega)]; exact r3
  · rw [f2 7 (by omega), f2 8 (by omega), f2 9 (by omega), f2 10 (by omega), f2 11 (by omega)]; exact r4
  · rw [f2 12 (by omega)]; exact r5
  · rw [f1]; exact r6
def bl_Yf (b : Nat) (u v : bl_S) : Prop := v.2 = u.2 ∧ (∀ k, 4 ≤ k → v.1 k = u.1 k) ∧ (∀ j, j ≠ b → v.1 1 j = u.1 1 j) ∧ (∀ k j, (k = 2 ∨ k = 3) → (j < b * 16 ∨ b * 16 + 16 ≤ j) → v.1 k j = u.1 k j)
theorem bl_Yf.rf {b : Nat} {u : bl_S} : bl_Yf b u u := ⟨rfl, fun _ _ => rfl, fun _ _ => rfl, fun _ _ _ _ => rfl⟩
theorem bl_Yf.tr {b : Nat} {u v w : bl_S} (h : bl_Yf b u v) (g : bl_Yf b v w) : bl_Yf b u w := ⟨g.1.trans h.1, fun k hk => (g.2.1 k hk).trans (h.2.1 k hk), fun j hj => (g.2.2.1 j hj).trans (h.2.2.1 j hj), fun k j hk hj => (g.2.2.2 k j hk hj).trans (h.2.2.2 k j hk hj)⟩
theorem bl_Yf.s1 {b : Nat} {u v : bl_S} (h : bl_Yf b u v) (x : Int32) : bl_Yf b u (bl_st v 1 b x) := by
  refine h.tr ⟨rfl, fun i hi => bl_st_k _ _ _ (by omega), fun j hj => bl_st_ne _ _ _ hj, fun i j hi hj => ?_⟩
  rw [bl_st_k _ _ _ (by omega)]
theorem bl_Yf.s2 {b : Nat} {u v : bl_S} (h : bl_Yf b u v) (k q : Nat) (x : Int32) (hk : k = 2 ∨ k = 3) (hq : q < 16) : bl_Yf b u (bl_st v k (b * 16 + q) x) := by
  refine h.tr ⟨rfl, fun i hi => bl_st_k _ _ _ (by omega), fun j hj => ?_, fun i j hi hj => ?_⟩
  · rw [bl_st_k _ _ _ (by omega)]
  · by_cases e : i = k
    · subst e
      exact bl_st_ne _ _ _ (by omega)
    · rw [bl_st_k _ _ _ e]
theorem bl_RY_sB {L b : Nat} {M : bl_M} {u v : bl_S} {B : bl_B} (hI : bl_I L M) (hR : bl_RY L M u) (hf : bl_Yf b u v) (hB : bl_YB v b B) : bl_RY L (bl_sB M b B) v := by
  obtain ⟨f1, f2, f3, f4⟩ := hf
  obtain ⟨r1, r2, r3, r4, r5, r6⟩ := hR
  refine ⟨by rw [f1]; exact r1, fun c hc => ?_, ?_, ?_, ?_, ?_⟩
  · show bl_YB v c (va_up M.1 b B c)
    by_cases e : c = b
    · subst e
      rw [va_up_self]
      exact hB
    · rw [va_up_ne _ _ e]
      obtain ⟨x1, x2⟩ := r2 c hc
      have hn := bl_cnt hI.1.2 (hI.2.1 c hc)
      refine ⟨?_, fun i hi => ?_⟩
      · rw [f3 c e]; exact x1
      · rw [f4 2 _ (by omega) (by omega), f4 3 _ (by omega) (by omega)]
        exact x2 i hi
  · rw [f2 4 (by omega)]; exact r3
  · rw [f2 5 (by omega), f2 6 (by omega), f2 7 (by omega), f2 8 (by omega), f2 9 (by omega)]; exact r4
  · rw [f2 10 (by omega)]; exact r5
  · rw [f1]; exact r6
/-! the component: an item comes to the start -/
def bl_open (L : Nat) (B : bl_B) : Nat := if B.1 = 0 then L else L - B.2.1 (B.1 - 1) - 4
theorem bl_X_append {L h b k : Nat} {u : bl_S} {B : bl_B} (hL : L ≤ 60) (hX : bl_XB u h b B) (hok : bl_ok L B) (hr : bl_room L B) :
    bl_XB (bl_st (bl_st (bl_st (bl_st u 3 (b * 16 + (h + B.1) % 16) (nI (bl_open L B))) 4 (b * 16 + (h + B.1) % 16) (nI k)) 5 b (nI (bl_ps B.2.1 B.1 + bl_open L B))) 2 b (nI (B.1 + 1))) h b (bl_start L B k) := by
  have hn := bl_cnt_room hL hok hr
  obtain ⟨x1, x2, x3, x4, x5⟩ := hX
  have ho : bl_ps B.2.1 B.1 + bl_open L B = bl_ps (bl_start L B k).2.1 (B.1 + 1) := by
    show _ = va_up B.2.1 B.1 L B.1 - 4 * B.1
    rw [va_up_self]
    unfold bl_open
    by_cases h0 : B.1 = 0
    · rw [if_pos h0, h0]
      show 0 + L = L - 4 * 0
      omega
    · rw [if_neg h0]
      have h1 := bl_ps_last hok (by omega)
      have h2 := bl_low hok (B.1 - 1) (by omega)
      rcases hr with hr | hr
      · exact absurd hr h0
      · omega
  have hg : bl_open L B = bl_gap (bl_start L B k).2.1 B.1 := by
    unfold bl_open
    by_cases h0 : B.1 = 0
    · rw [if_pos h0, h0]
      show L = va_up B.2.1 B.1 L 0
      rw [h0, va_up_self]
    · rw [if_neg h0]
      obtain ⟨m, hm⟩ : ∃ m, B.1 = m + 1 := ⟨B.1 - 1, by omega⟩
      show _ = bl_gap (va_up B.2.1 B.1 L) B.1
      rw [hm, bl_gapS, va_up_self, va_up_ne _ _ (by omega), show m + 1 - 1 = m by omega]
      omega
  refine ⟨x1, x2, ?_, ?_, fun i hi => ?_⟩
  · exact bl_st_eq _ 2 b _
  · exact (bl_st_eq _ 5 b _).trans (by rw [ho]; rfl)
  · have hi : i < B.1 + 1 := hi
    show (bl_st u 3 (b * 16 + (h + B.1) % 16) (nI (bl_open L B))).1 3 (b * 16 + (h + i) % 16) = nI (bl_gap (bl_start L B k).2.1 i) ∧ (bl_st (bl_st u 3 (b * 16 + (h + B.1) % 16) (nI (bl_open L B))) 4 (b * 16 + (h + B.1) % 16) (nI k)).1 4 (b * 16 + (h + i) % 16) = nI (va_up B.2.2 B.1 k i)
    by_cases e : i = B.1
    · rw [e, bl_st_eq, bl_st_eq, va_up_self, ← hg]
      exact ⟨rfl, rfl⟩
    · have hc : bl_gap (bl_start L B k).2.1 i = bl_gap B.2.1 i := bl_gap_congr (p := va_up B.2.1 B.1 L) (fun j hj => va_up_ne _ _ (show j ≠ B.1 by omega))
      rw [bl_st_ne _ _ _ (by omega), bl_st_ne _ _ _ (by omega), bl_st_k _ _ _ (by decide), va_up_ne _ _ e, hc]
      exact x5 i (by omega)
theorem bl_X_append_f {b q : Nat} {u : bl_S} {x1 x2 x3 x4 : Int32} (hq : q < 16) : bl_Xf b u (bl_st (bl_st (bl_st (bl_st u 3 (b * 16 + q) x1) 4 (b * 16 + q) x2) 5 b x3) 2 b x4) :=
  (((bl_Xf.rf.s3 3 q x1 (by omega) hq).s3 4 q x2 (by omega) hq).s1 5 x3 (by omega)).s1 2 x4 (by omega)
/-! the component: an item is taken off -/
theorem bl_gap_off1 {B : bl_B} {i j : Nat} (hj : j < i) : bl_gap (bl_off B i).2.1 j = bl_gap B.2.1 j := bl_gap_congr (fun q hq => if_pos (by omega))
theorem bl_gap_off2 {L : Nat} {B : bl_B} {i : Nat} (h : bl_ok L B) (hi : i + 1 < B.1) : bl_gap (bl_off B i).2.1 i = bl_gap B.2.1 (i + 1) + (bl_gap B.2.1 i + 4) := by
  have h1 := h.2 i hi
  cases i with
  | zero =>
    show (if 0 < 0 then B.2.1 0 else B.2.1 (0 + 1)) = (B.2.1 (0 + 1) - (B.2.1 0 + 4)) + (B.2.1 0 + 4)
    rw [if_neg (by omega)]
    omega
  | succ i =>
    have h2 := h.2 i (by omega)
    show (if i + 1 < i + 1 then B.2.1 (i + 1) else B.2.1 (i + 1 + 1)) - ((if i < i + 1 then B.2.1 i else B.2.1 (i + 1)) + 4) = (B.2.1 (i + 1 + 1) - (B.2.1 (i + 1) + 4)) + (B.2.1 (i + 1) - (B.2.1 i + 4) + 4)
    rw [if_neg (by omega), if_pos (by omega)]
    omega
theorem bl_gap_off3 {B : bl_B} {i j : Nat} (hj : i < j) : bl_gap (bl_off B i).2.1 j = bl_gap B.2.1 (j + 1) := by
  obtain ⟨m, rfl⟩ : ∃ m, j = m + 1 := ⟨j - 1, by omega⟩
  show (if m + 1 < i then B.2.1 (m + 1) else B.2.1 (m + 1 + 1)) - ((if m < i then B.2.1 m else B.2.1 (m + 1)) + 4) = B.2.1 (m + 1 + 1) - (B.2.1 (m + 1) + 4)
  rw [if_neg (by omega), if_neg (by omega)]
theorem bl_ps_off1 {L : Nat} {B : bl_B} {i : Nat} (h : bl_ok L B) (hi : i + 1 < B.1) : bl_ps B.2.1 B.1 + 4 = bl_ps (bl_off B i).2.1 (B.1 - 1) := by
  obtain ⟨m, hm⟩ : ∃ m, B.1 = m + 2 := ⟨B.1 - 2, by omega⟩
  have h1 := bl_low h (m + 1) (by omega)
  rw [hm]
  show B.2.1 (m + 1) - 4 * (m + 1) + 4 = (if m < i then B.2.1 m else B.2.1 (m + 1)) - 4 * m
  rw [if_neg (by omega)]
  omega
theorem bl_ps_off2 {L : Nat} {B : bl_B} {i : Nat} (h : bl_ok L B) (hi : i + 1 = B.1) : bl_gap B.2.1 i ≤ bl_ps B.2.1 B.1 ∧ bl_ps B.2.1 B.1 - bl_gap B.2.1 i = bl_ps (bl_off B i).2.1 (B.1 - 1) := by
  have h0 := bl_ps_step h (k := i) (by omega)
  rw [← hi, ← h0]
  refine ⟨by omega, ?_⟩
  rw [show i + 1 - 1 = i by omega]
  cases i with
  | zero => show 0 + _ - _ = 0; omega
  | succ i =>
    show (B.2.1 i - 4 * i) + bl_gap B.2.1 (i + 1) - bl_gap B.2.1 (i + 1) = (if i < i + 1 then B.2.1 i else B.2.1 (i + 1)) - 4 * i
    rw [if_pos (by omega)]
    omega
/-- behind the first half of removeItem: the items but i hold what they'll hold -/
def bl_R1 (u : bl_S) (h b i : Nat) (B : bl_B) : Prop := h < 16 ∧ u.1 1 b = nI h ∧ u.1 2 b = nI B.1 ∧ u.1 5 b = nI (bl_ps (bl_off B i).2.1 (B.1 - 1)) ∧ ∀ j, j < B.1 → j ≠ i → u.1 3 (b * 16 + (h + j) % 16) = nI (bl_gap (bl_off B i).2.1 (if j < i then j else j - 1)) ∧ u.1 4 (b * 16 + (h + j) % 16) = nI ((bl_off B i).2.2 (if j < i then j else j - 1))
theorem bl_k_off {B : bl_B} {i j : Nat} (hj : j ≠ i) : (bl_off B i).2.2 (if j < i then j else j - 1) = B.2.2 j := by
  by_cases e : j < i
  · rw [if_pos e]
    exact if_pos e
  · rw [if_neg e]
    show (if j - 1 < i then B.2.2 (j - 1) else B.2.2 (j - 1 + 1)) = _
    rw [if_neg (by omega), show j - 1 + 1 = j by omega]
theorem bl_X_rem1 {L h b i : Nat} {u : bl_S} {B : bl_B} (hL : L ≤ 60) (hX : bl_XB u h b B) (hok : bl_ok L B) (hi : i + 1 < B.1) :
    bl_R1 (bl_st (bl_st u 3 (b * 16 + (h + (i + 1)) % 16) (nI (bl_gap B.2.1 (i + 1) + (bl_gap B.2.1 i + 4)))) 5 b (nI (bl_ps B.2.1 B.1 + 4))) h b i B := by
  have hn := bl_cnt hL hok
  obtain ⟨x1, x2, x3, x4, x5⟩ := hX
  refine ⟨x1, x2, x3, ?_, fun j hj hne => ?_⟩
  · rw [← bl_ps_off1 hok hi]
    exact bl_st_eq _ 5 b _
  · show (bl_st u 3 (b * 16 + (h + (i + 1)) % 16) (nI (bl_gap B.2.1 (i + 1) + (bl_gap B.2.1 i + 4)))).1 3 (b * 16 + (h + j) % 16) = _ ∧ u.1 4 (b * 16 + (h + j) % 16) = _
    rw [bl_k_off hne]
    refine ⟨?_, (x5 j hj).2⟩
    by_cases e : j = i + 1
    · subst e
      rw [bl_st_eq, if_neg (by omega), show i + 1 - 1 = i by omega, bl_gap_off2 hok hi]
    · rw [bl_st_ne _ _ _ (by omega), (x5 j hj).1]
      by_cases e2 : j < i
      · rw [if_pos e2, bl_gap_off1 e2]
      · rw [if_neg e2, bl_gap_off3 (by omega), show j - 1 + 1 = j by omega]
theorem bl_X_rem2 {L h b i : Nat} {u : bl_S} {B : bl_B} (hX : bl_XB u h b B) (hok : bl_ok L B) (hi : i + 1 = B.1) :
    bl_R1 (bl_st u 5 b (nI (bl_ps B.2.1 B.1 - bl_gap B.2.1 i))) h b i B := by
  obtain ⟨x1, x2, x3, x4, x5⟩ := hX
  refine ⟨x1, x2, x3, ?_, fun j hj hne => ?_⟩
  · rw [(bl_ps_off2 hok hi).2]
    exact bl_st_eq _ 5 b _
  · show u.1 3 (b * 16 + (h + j) % 16) = _ ∧ u.1 4 (b * 16 + (h + j) % 16) = _
    rw [bl_k_off hne, if_pos (by omega), bl_gap_off1 (by omega)]
    exact x5 j hj
theorem bl_X_rem0 {h b : Nat} {u : bl_S} {B : bl_B} (hR : bl_R1 u h b 0 B) (h0 : 0 < B.1) : bl_XB (bl_st (bl_st u 1 b (nI ((h + 1) % 16))) 2 b (nI (B.1 - 1))) ((h + 1) % 16) b (bl_off B 0) := by
  obtain ⟨x1, x2, x3, x4, x5⟩ := hR
  refine ⟨by omega, ?_, ?_, x4, fun j hj => ?_⟩
  · exact bl_st_eq _ 1 b _
  · exact bl_st_eq _ 2 b _
  · have hj : j < B.1 - 1 := hj
    have h1 := x5 (j + 1) (by omega) (by omega)
    rw [if_neg (by omega), show j + 1 - 1 = j by omega] at h1
    rw [show ((h + 1) % 16 + j) % 16 = (h + (j + 1)) % 16 by omega]
    exact h1
/-- closing up: the items from i to before k have taken what their next ones had -/
def bl_cl (u v : bl_S) (b h i k : Nat) : Prop := v.2 = u.2 ∧ (∀ a, a ≠ 3 → a ≠ 4 → v.1 a = u.1 a) ∧ ∀ a, (a = 3 ∨ a = 4) → (∀ j, i ≤ j → j < k → v.1 a (b * 16 + (h + j) % 16) = u.1 a (b * 16 + (h + (j + 1)) % 16)) ∧ ∀ q, (∀ j, i ≤ j → j < k → q ≠ b * 16 + (h + j) % 16) → v.1 a q = u.1 a q
theorem bl_cl_0 {u : bl_S} {b h i : Nat} : bl_cl u u b h i i := ⟨rfl, fun _ _ _ => rfl, fun _ _ => ⟨fun j h1 h2 => by omega, fun _ _ => rfl⟩⟩
theorem bl_cl_s {u v : bl_S} {b h i k : Nat} (hc : bl_cl u v b h i k) (hik : i ≤ k) (hk : k + 1 < 16) :
    bl_cl u (bl_st (bl_st v 3 (b * 16 + (h + k) % 16) (v.1 3 (b * 16 + (h + (k + 1)) % 16))) 4 (b * 16 + (h + k) % 16) (v.1 4 (b * 16 + (h + (k + 1)) % 16))) b h i (k + 1) := by
  obtain ⟨c1, c2, c3⟩ := hc
  refine ⟨c1, fun a h3 h4 => ?_, fun a ha => ?_⟩
  · rw [bl_st_k _ _ _ h4, bl_st_k _ _ _ h3]
    exact c2 a h3 h4
  · obtain ⟨d1, d2⟩ := c3 a ha
    have key : ∀ q, (bl_st (bl_st v 3 (b * 16 + (h + k) % 16) (v.1 3 (b * 16 + (h + (k + 1)) % 16))) 4 (b * 16 + (h + k) % 16) (v.1 4 (b * 16 + (h + (k + 1)) % 16))).1 a q = if q = b * 16 + (h + k) % 16 then v.1 a (b * 16 + (h + (k + 1)) % 16) else v.1 a q := by
      intro q
      rcases ha with rfl | rfl
      · rw [bl_st_k _ _ _ (by decide)]
        by_cases e : q = b * 16 + (h + k) % 16
        · rw [if_pos e, e, bl_st_eq]
        · rw [if_neg e, bl_st_ne _ _ _ e]
      · by_cases e : q = b * 16 + (h + k) % 16
        · rw [if_pos e, e, bl_st_eq]
        · rw [if_neg e, bl_st_ne _ _ _ e, bl_st_k _ _ _ (by decide)]
    refine ⟨fun j h1 h2 => ?_, fun q hq => ?_⟩
    · rw [key]
      by_cases e : j = k
      · subst e
        rw [if_pos rfl]
        exact d2 _ (fun j h1 h2 => by omega)
      · rw [if_neg (by omega)]
        exact d1 j h1 (by omega)
    · rw [key, if_neg (hq k hik (by omega))]
      exact d2 q (fun j h1 h2 => hq j h1 (by omega))
theorem bl_cl_f {u v : bl_S} {b h i k : Nat} (hc : bl_cl u v b h i k) : bl_Xf b u v := by
  obtain ⟨c1, c2, c3⟩ := hc
  refine ⟨c1, fun a ha => c2 a (by omega) (by omega), fun a j ha hj => ?_, fun a j ha hj => (c3 a ha).2 j (fun q h1 h2 => by omega)⟩
  rw [c2 a (by omega) (by omega)]
theorem bl_X_remc {h b i : Nat} {u v : bl_S} {B : bl_B} (hn : B.1 ≤ 16) (hR : bl_R1 u h b i B) (hi : i < B.1) (hc : bl_cl u v b h i (B.1 - 1)) : bl_XB (bl_st v 2 b (nI (B.1 - 1))) h b (bl_off B i) := by
  obtain ⟨x1, x2, x3, x4, x5⟩ := hR
  obtain ⟨c1, c2, c3⟩ := hc
  refine ⟨x1, ?_, ?_, ?_, fun j hj => ?_⟩
  · show v.1 1 b = _
    rw [c2 1 (by decide) (by decide)]; exact x2
  · exact bl_st_eq _ 2 b _
  · show v.1 5 b = _
    rw [c2 5 (by decide) (by decide)]; exact x4
  · have hj : j < B.1 - 1 := hj
    show v.1 3 (b * 16 + (h + j) % 16) = _ ∧ v.1 4 (b * 16 + (h + j) % 16) = _
    by_cases e : j < i
    · have h1 := x5 j (by omega) (by omega)
      rw [if_pos e] at h1
      rw [(c3 3 (by omega)).2 _ (fun q h1 h2 => by omega), (c3 4 (by omega)).2 _ (fun q h1 h2 => by omega)]
      exact h1
    · have h1 := x5 (j + 1) (by omega) (by omega)
      rw [if_neg (by omega), show j + 1 - 1 = j by omega] at h1
      rw [(c3 3 (by omega)).1 j (by omega) (by omega), (c3 4 (by omega)).1 j (by omega) (by omega)]
      exact h1
/-! the component: the first open gap closes by one -/
theorem bl_adv_p {B : bl_B} {j : Nat} (hj : j < B.1) : (bl_adv B).2.1 j = if bl_find (bl_gf B.2.1) B.1 ≤ j then B.2.1 j - 1 else B.2.1 j := by
  show (if bl_opn B.2.1 j = true then B.2.1 j - 1 else B.2.1 j) = _
  by_cases e : bl_opn B.2.1 j = true
  · rw [if_pos e, if_pos ((bl_opn_fo hj).mp e)]
  · rw [if_neg e, if_neg (fun q => e ((bl_opn_fo hj).mpr q))]
theorem bl_X_adv0 {h b : Nat} {u : bl_S} {B : bl_B} (hX : bl_XB u h b B) (hf : bl_find (bl_gf B.2.1) B.1 = B.1) : bl_XB u h b (bl_adv B) := by
  have hp : ∀ j, j < B.1 → (bl_adv B).2.1 j = B.2.1 j := fun j hj => by rw [bl_adv_p hj, hf, if_neg (by omega)]
  obtain ⟨x1, x2, x3, x4, x5⟩ := hX
  refine ⟨x1, x2, x3, ?_, fun j hj => ?_⟩
  · rw [x4]
    show _ = nI (bl_ps (bl_adv B).2.1 B.1)
    by_cases h0 : B.1 = 0
    · rw [h0]; rfl
    · obtain ⟨m, hm⟩ : ∃ m, B.1 = m + 1 := ⟨B.1 - 1, by omega⟩
      rw [hm]
      show nI (B.2.1 m - 4 * m) = nI ((bl_adv B).2.1 m - 4 * m)
      rw [hp m (by omega)]
  · have hj : j < B.1 := hj
    rw [bl_gap_congr (q := B.2.1) (fun q hq => hp q (by omega))]
    exact x5 j hj
theorem bl_X_adv1 {L h b : Nat} {u : bl_S} {B : bl_B} (hL : L ≤ 60) (hX : bl_XB u h b B) (hok : bl_ok L B) (hf : bl_find (bl_gf B.2.1) B.1 < B.1) :
    bl_XB (bl_st (bl_st u 3 (b * 16 + (h + bl_find (bl_gf B.2.1) B.1) % 16) (nI (bl_gap B.2.1 (bl_find (bl_gf B.2.1) B.1) - 1))) 5 b (nI (bl_ps B.2.1 B.1 - 1))) h b (bl_adv B) := by
  have hn := bl_cnt hL hok
  have hp : ∀ j, j < B.1 → (bl_adv B).2.1 j = if bl_find (bl_gf B.2.1) B.1 ≤ j then B.2.1 j - 1 else B.2.1 j := fun j hj => bl_adv_p hj
  have hg := bl_gf_ne (bl_find_at _ B.1 hf)
  generalize bl_find (bl_gf B.2.1) B.1 = r at hf hp hg ⊢
  obtain ⟨x1, x2, x3, x4, x5⟩ := hX
  have hpos : ∀ j, r ≤ j → j < B.1 → 1 ≤ B.2.1 j := by
    intro j h1 h2
    cases j with
    | zero =>
      rw [show r = 0 by omega, bl_gap0] at hg
      omega
    | succ j =>
      have := hok.2 j h2
      omega
  refine ⟨x1, x2, x3, ?_, fun j hj => ?_⟩
  · have e : bl_ps B.2.1 B.1 - 1 = bl_ps (bl_adv B).2.1 B.1 := by
      obtain ⟨m, hm⟩ : ∃ m, B.1 = m + 1 := ⟨B.1 - 1, by omega⟩
      rw [hm]
      show B.2.1 m - 4 * m - 1 = (bl_adv B).2.1 m - 4 * m
      rw [hp m (by omega), if_pos (by omega)]
      omega
    show _ = nI (bl_ps (bl_adv B).2.1 B.1)
    rw [← e]
    exact bl_st_eq _ 5 b _
  · have hj : j < B.1 := hj
    show (bl_st u 3 (b * 16 + (h + r) % 16) (nI (bl_gap B.2.1 r - 1))).1 3 (b * 16 + (h + j) % 16) = nI (bl_gap (bl_adv B).2.1 j) ∧ u.1 4 (b * 16 + (h + j) % 16) = nI (B.2.2 j)
    refine ⟨?_, (x5 j hj).2⟩
    by_cases e : j = r
    · subst e
      rw [bl_st_eq]
      cases j with
      | zero => rw [bl_gap0, bl_gap0, hp 0 hj, if_pos (Nat.le_refl _)]
      | succ j =>
        rw [bl_gapS, bl_gapS, hp _ hj, hp j (by omega), if_pos (Nat.le_refl _), if_neg (by omega)]
        rw [show B.2.1 (j + 1) - (B.2.1 j + 4) - 1 = B.2.1 (j + 1) - 1 - (B.2.1 j + 4) by omega]
    · rw [bl_st_ne _ _ _ (by omega), (x5 j hj).1]
      cases j with
      | zero => rw [bl_gap0, bl_gap0, hp 0 hj, if_neg (by omega)]
      | succ j =>
        rw [bl_gapS, bl_gapS, hp _ hj, hp j (by omega)]
        by_cases e2 : r ≤ j
        · have := hpos j e2 (by omega)
          rw [if_pos (by omega), if_pos e2]
          rw [show B.2.1 (j + 1) - 1 - (B.2.1 j - 1 + 4) = B.2.1 (j + 1) - (B.2.1 j + 4) by omega]
        · rw [if_neg (by omega), if_neg e2]
end
section
/-! the reference: start, off, move -/
theorem bl_Y_start {L b k : Nat} {u : bl_S} {B : bl_B} (hY : bl_YB u b B) : bl_YB (bl_st (bl_st (bl_st u 2 (b * 16 + B.1) (nI L)) 3 (b * 16 + B.1) (nI k)) 1 b (nI (B.1 + 1))) b (bl_start L B k) := by
  obtain ⟨y1, y2⟩ := hY
  refine ⟨bl_st_eq _ 1 b _, fun i hi => ?_⟩
  have hi : i < B.1 + 1 := hi
  show (bl_st u 2 (b * 16 + B.1) (nI L)).1 2 (b * 16 + i) = nI (va_up B.2.1 B.1 L i) ∧ (bl_st (bl_st u 2 (b * 16 + B.1) (nI L)) 3 (b * 16 + B.1) (nI k)).1 3 (b * 16 + i) = nI (va_up B.2.2 B.1 k i)
  by_cases e : i = B.1
  · rw [e, bl_st_eq, bl_st_eq, va_up_self, va_up_self]
    exact ⟨rfl, rfl⟩
  · rw [bl_st_ne _ _ _ (by omega), bl_st_ne _ _ _ (by omega), bl_st_k _ _ _ (by decide), va_up_ne _ _ e, va_up_ne _ _ e]
    exact y2 i (by omega)
theorem bl_Y_start_f {b q : Nat} {u : bl_S} {x1 x2 x3 : Int32} (hq : q < 16) : bl_Yf b u (bl_st (bl_st (bl_st u 2 (b * 16 + q) x1) 3 (b * 16 + q) x2) 1 b x3) := ((bl_Yf.rf.s2 2 q x1 (by omega) hq).s2 3 q x2 (by omega) hq).s1 x3
def bl_cy (u v : bl_S) (b i k : Nat) : Prop := v.2 = u.2 ∧ (∀ a, a ≠ 2 → a ≠ 3 → v.1 a = u.1 a) ∧ ∀ a, (a = 2 ∨ a = 3) → (∀ j, i ≤ j → j < k → v.1 a (b * 16 + j) = u.1 a (b * 16 + (j + 1))) ∧ ∀ q, (∀ j, i ≤ j → j < k → q ≠ b * 16 + j) → v.1 a q = u.1 a q
theorem bl_cy_0 {u : bl_S} {b i : Nat} : bl_cy u u b i i := ⟨rfl, fun _ _ _ => rfl, fun _ _ => ⟨fun j h1 h2 => by omega, fun _ _ => rfl⟩⟩
theorem bl_cy_s {u v : bl_S} {b i k : Nat} (hc : bl_cy u v b i k) (hik : i ≤ k) :
    bl_cy u (bl_st (bl_st v 2 (b * 16 + k) (v.1 2 (b * 16 + (k + 1)))) 3 (b * 16 + k) (v.1 3 (b * 16 + (k + 1)))) b i (k + 1) := by
  obtain ⟨c1, c2, c3⟩ := hc
  refine ⟨c1, fun a h3 h4 => ?_, fun a ha => ?_⟩
  · rw [bl_st_k _ _ _ h4, bl_st_k _ _ _ h3]
    exact c2 a h3 h4
  · obtain ⟨d1, d2⟩ := c3 a ha
    have key : ∀ q, (bl_st (bl_st v 2 (b * 16 + k) (v.1 2 (b * 16 + (k + 1)))) 3 (b * 16 + k) (v.1 3 (b * 16 + (k + 1)))).1 a q = if q = b * 16 + k then v.1 a (b * 16 + (k + 1)) else v.1 a q := by
      intro q
      rcases ha with rfl | rfl
      · rw [bl_st_k _ _ _ (by decide)]
        by_cases e : q = b * 16 + k
        · rw [if_pos e, e, bl_st_eq]
        · rw [if_neg e, bl_st_ne _ _ _ e]
      · by_cases e : q = b * 16 + k
        · rw [if_pos e, e, bl_st_eq]
        · rw [if_neg e, bl_st_ne _ _ _ e, bl_st_k _ _ _ (by decide)]
    refine ⟨fun j h1 h2 => ?_, fun q hq => ?_⟩
    · rw [key]
      by_cases e : j = k
      · subst e
        rw [if_pos rfl]
        exact d2 _ (fun j h1 h2 => by omega)
      · rw [if_neg (by omega)]
        exact d1 j h1 (by omega)
    · rw [key, if_neg (hq k hik (by omega))]
      exact d2 q (fun j h1 h2 => hq j h1 (by omega))
theorem bl_cy_f {u v : bl_S} {b i k : Nat} (hk : k ≤ 16) (hc : bl_cy u v b i k) : bl_Yf b u v := by
  obtain ⟨c1, c2, c3⟩ := hc
  refine ⟨c1, fun a ha => c2 a (by omega) (by omega), fun j hj => ?_, fun a j ha hj => (c3 a ha).2 j (fun q h1 h2 => by omega)⟩
  rw [c2 1 (by omega) (by omega)]
theorem bl_Y_off {b i : Nat} {u v : bl_S} {B : bl_B} (hY : bl_YB u b B) (hi : i < B.1) (hc : bl_cy u v b i (B.1 - 1)) : bl_YB (bl_st v 1 b (nI (B.1 - 1))) b (bl_off B i) := by
  obtain ⟨y1, y2⟩ := hY
  obtain ⟨c1, c2, c3⟩ := hc
  refine ⟨bl_st_eq _ 1 b _, fun j hj => ?_⟩
  have hj : j < B.1 - 1 := hj
  show v.1 2 (b * 16 + j) = nI (if j < i then B.2.1 j else B.2.1 (j + 1)) ∧ v.1 3 (b * 16 + j) = nI (if j < i then B.2.2 j else B.2.2 (j + 1))
  by_cases e : j < i
  · rw [if_pos e, if_pos e, (c3 2 (by omega)).2 _ (fun q h1 h2 => by omega), (c3 3 (by omega)).2 _ (fun q h1 h2 => by omega)]
    exact y2 j (by omega)
  · rw [if_neg e, if_neg e, (c3 2 (by omega)).1 j (by omega) (by omega), (c3 3 (by omega)).1 j (by omega) (by omega)]
    exact y2 (j + 1) (by omega)
/-- moving: the items before i have moved -/
def bl_mv (u v : bl_S) (b i : Nat) (B : bl_B) : Prop := v.2 = u.2 ∧ (∀ a, a ≠ 2 → v.1 a = u.1 a) ∧ (∀ q, (∀ j, j < i → q ≠ b * 16 + j) → v.1 2 q = u.1 2 q) ∧ ∀ j, j < i → v.1 2 (b * 16 + j) = nI ((bl_adv B).2.1 j)
theorem bl_mv_0 {u : bl_S} {b : Nat} {B : bl_B} : bl_mv u u b 0 B := ⟨rfl, fun _ _ => rfl, fun _ _ => rfl, fun j h => by omega⟩
theorem bl_mv_y {u v : bl_S} {b i : Nat} {B : bl_B} (h : bl_mv u v b i B) (ho : bl_opn B.2.1 i = true) : bl_mv u (bl_st v 2 (b * 16 + i) (nI (B.2.1 i - 1))) b (i + 1) B := by
  obtain ⟨c1, c2, c3, c4⟩ := h
  refine ⟨c1, fun a ha => ?_, fun q hq => ?_, fun j hj => ?_⟩
  · rw [bl_st_k _ _ _ ha]
    exact c2 a ha
  · rw [bl_st_ne _ _ _ (hq i (by omega))]
    exact c3 q (fun j hj => hq j (by omega))
  · by_cases e : j = i
    · subst e
      rw [bl_st_eq]
      show _ = nI (if bl_opn B.2.1 j = true then B.2.1 j - 1 else B.2.1 j)
      rw [if_pos ho]
    · rw [bl_st_ne _ _ _ (by omega)]
      exact c4 j (by omega)
theorem bl_mv_n {u v : bl_S} {b i : Nat} {B : bl_B} (hY : bl_YB u b B) (hi : i < B.1) (h : bl_mv u v b i B) (ho : ¬ bl_opn B.2.1 i = true) : bl_mv u v b (i + 1) B := by
  obtain ⟨c1, c2, c3, c4⟩ := h
  refine ⟨c1, c2, fun q hq => c3 q (fun j hj => hq j (by omega)), fun j hj => ?_⟩
  by_cases e : j = i
  · subst e
    rw [c3 _ (fun q hq => by omega), (hY.2 j hi).1]
    show _ = nI (if bl_opn B.2.1 j = true then B.2.1 j - 1 else B.2.1 j)
    rw [if_neg ho]
  · exact c4 j (by omega)
theorem bl_mv_f {u v : bl_S} {b i : Nat} {B : bl_B} (hi : i ≤ 16) (h : bl_mv u v b i B) : bl_Yf b u v := by
  obtain ⟨c1, c2, c3, c4⟩ := h
  refine ⟨c1, fun a ha => c2 a (by omega), fun j hj => ?_, fun a j ha hj => ?_⟩
  · rw [c2 1 (by omega)]
  · rcases ha with rfl | rfl
    · exact c3 j (fun q hq => by omega)
    · rw [c2 3 (by omega)]
theorem bl_Y_adv {u v : bl_S} {b : Nat} {B : bl_B} (hY : bl_YB u b B) (h : bl_mv u v b B.1 B) : bl_YB v b (bl_adv B) := by
  obtain ⟨c1, c2, c3, c4⟩ := h
  refine ⟨?_, fun i hi => ⟨c4 i hi, ?_⟩⟩
  · rw [c2 1 (by omega)]; exact hY.1
  · rw [c2 3 (by omega)]; exact (hY.2 i hi).2
/-- the test of 'moves' and of 'moving' -/
theorem bl_mv_t {L : Nat} {B : bl_B} (h : bl_ok L B) (hL : L ≤ 60) {i : Nat} (hi : i < B.1) : ∃ d, d < 2 ^ 30 ∧ nI (B.2.1 i) - bl_pl (bl_adv B).2.1 i = nI d ∧ (bl_opn B.2.1 i = true ↔ 0 < B.2.1 i ∧ 4 < d) := by
  have h0 := (h.1 i hi).1
  cases i with
  | zero =>
    refine ⟨B.2.1 0 + 4, by omega, ?_, ?_⟩
    · show nI (B.2.1 0) - (-4) = nI (B.2.1 0 + 4)
      rw [← nI_add, show nI 4 = 4 from rfl]
      grind
    · show decide (0 < B.2.1 0) = true ↔ _
      rw [decide_eq_true_iff]
      omega
  | succ i =>
    have h1 := h.2 i hi
    have h2 : (bl_adv B).2.1 i ≤ B.2.1 i := by
      show (if bl_opn B.2.1 i = true then B.2.1 i - 1 else B.2.1 i) ≤ _
      split <;> omega
    refine ⟨B.2.1 (i + 1) - (bl_adv B).2.1 i, by omega, ?_, ?_⟩
    · show nI (B.2.1 (i + 1)) - nI ((bl_adv B).2.1 i) = _
      exact pk_sub (by omega)
    · rw [bl_opn_s]
      by_cases e : bl_opn B.2.1 i = true
      · have h3 := bl_opn_pos h i (by omega) e
        have h4 : (bl_adv B).2.1 i = B.2.1 i - 1 := if_pos e
        rw [h4]
        exact ⟨fun _ => ⟨by omega, by omega⟩, fun _ => Or.inl e⟩
      · have h4 : (bl_adv B).2.1 i = B.2.1 i := if_neg e
        rw [h4]
        refine ⟨fun q => ?_, fun q => Or.inr (by omega)⟩
        rcases q with q | q
        · exact absurd q e
        · exact ⟨by omega, by omega⟩
/-! leads, arms, what is held, what is gone -/
theorem bl_RX_sL {L b : Nat} {M : bl_M} {u : bl_S} {x : Int32} (h : bl_RX L M u) : bl_RX L (bl_sL M b x) (bl_st u 6 b x) := by
  obtain ⟨r1, r2, r3, r4, r5, r6⟩ := h
  refine ⟨r1, r2, fun c hc => ?_, r4, r5, r6⟩
  show _ = va_up M.2.1 b x c
  by_cases e : c = b
  · rw [e, bl_st_eq, va_up_self]
  · rw [bl_st_ne _ _ _ e, va_up_ne _ _ e]
    exact r3 c hc
theorem bl_RX_sH {L a : Nat} {M : bl_M} {u : bl_S} {o : Option Nat} (h : bl_RX L M u) : bl_RX L (bl_sH M a o) (bl_st u 12 a (bl_hv o)) := by
  obtain ⟨r1, r2, r3, r4, r5, r6⟩ := h
  refine ⟨r1, r2, r3, r4, fun c hc => ?_, r6⟩
  show _ = bl_hv (va_up M.2.2.2.1 a o c)
  by_cases e : c = a
  · rw [e, bl_st_eq, va_up_self]
  · rw [bl_st_ne _ _ _ e, va_up_ne _ _ e]
    exact r5 c hc
theorem bl_RX_sG {L : Nat} {M : bl_M} {u : bl_S} {g : Int32} (h : bl_RX L M u) : bl_RX L (bl_sG M g) (u.1, u.2.1, g) := by
  obtain ⟨r1, r2, r3, r4, r5, r6⟩ := h
  exact ⟨r1, r2, r3, r4, r5, rfl⟩
theorem bl_RX_sA {L a f o r : Nat} {M : bl_M} {u : bl_S} {x t : Int32} (h : bl_RX L M u) : bl_RX L (bl_sA M a (x, f, o, r, t)) (bl_st (bl_st (bl_st (bl_st (bl_st u 7 a x) 8 a (nI f)) 9 a (nI o)) 10 a (nI r)) 11 a t) := by
  obtain ⟨r1, r2, r3, r4, r5, r6⟩ := h
  refine ⟨r1, r2, r3, fun c hc => ?_, r5, r6⟩
  show (bl_st u 7 a x).1 7 c = (va_up M.2.2.1 a (x, f, o, r, t) c).1 ∧ (bl_st (bl_st u 7 a x) 8 a (nI f)).1 8 c = nI (va_up M.2.2.1 a (x, f, o, r, t) c).2.1 ∧ (bl_st (bl_st (bl_st u 7 a x) 8 a (nI f)) 9 a (nI o)).1 9 c = nI (va_up M.2.2.1 a (x, f, o, r, t) c).2.2.1 ∧ (bl_st (bl_st (bl_st (bl_st u 7 a x) 8 a (nI f)) 9 a (nI o)) 10 a (nI r)).1 10 c = nI (va_up M.2.2.1 a (x, f, o, r, t) c).2.2.2.1 ∧ (bl_st (bl_st (bl_st (bl_st (bl_st u 7 a x) 8 a (nI f)) 9 a (nI o)) 10 a (nI r)) 11 a t).1 11 c = (va_up M.2.2.1 a (x, f, o, r, t) c).2.2.2.2
  by_cases e : c = a
  · rw [e, bl_st_eq, bl_st_eq, bl_st_eq, bl_st_eq, bl_st_eq, va_up_self]
    exact ⟨rfl, rfl, rfl, rfl, rfl⟩
  · rw [bl_st_ne _ _ _ e, bl_st_ne _ _ _ e, bl_st_ne _ _ _ e, bl_st_ne _ _ _ e, bl_st_ne _ _ _ e, va_up_ne _ _ e]
    exact r4 c hc
theorem bl_RY_sL {L b : Nat} {M : bl_M} {u : bl_S} {x : Int32} (h : bl_RY L M u) : bl_RY L (bl_sL M b x) (bl_st u 4 b x) := by
  obtain ⟨r1, r2, r3, r4, r5, r6⟩ := h
  refine ⟨r1, r2, fun c hc => ?_, r4, r5, r6⟩
  show _ = va_up M.2.1 b x c
  by_cases e : c = b
  · rw [e, bl_st_eq, va_up_self]
  · rw [bl_st_ne _ _ _ e, va_up_ne _ _ e]
    exact r3 c hc
theorem bl_RY_sH {L a : Nat} {M : bl_M} {u : bl_S} {o : Option Nat} (h : bl_RY L M u) : bl_RY L (bl_sH M a o) (bl_st u 10 a (bl_hv o)) := by
  obtain ⟨r1, r2, r3, r4, r5, r6⟩ := h
  refine ⟨r1, r2, r3, r4, fun c hc => ?_, r6⟩
  show _ = bl_hv (va_up M.2.2.2.1 a o c)
  by_cases e : c = a
  · rw [e, bl_st_eq, va_up_self]
  · rw [bl_st_ne _ _ _ e, va_up_ne _ _ e]
    exact r5 c hc
theorem bl_RY_sG {L : Nat} {M : bl_M} {u : bl_S} {g : Int32} (h : bl_RY L M u) : bl_RY L (bl_sG M g) (u.1, u.2.1, g) := by
  obtain ⟨r1, r2, r3, r4, r5, r6⟩ := h
  exact ⟨r1, r2, r3, r4, r5, rfl⟩
theorem bl_RY_sA {L a f o r : Nat} {M : bl_M} {u : bl_S} {x t : Int32} (h : bl_RY L M u) : bl_RY L (bl_sA M a (x, f, o, r, t)) (bl_st (bl_st (bl_st (bl_st (bl_st u 5 a x) 6 a (nI f)) 7 a (nI o)) 8 a (nI r)) 9 a t) := by
  obtain ⟨r1, r2, r3, r4, r5, r6⟩ := h
  refine ⟨r1, r2, r3, fun c hc => ?_, r5, r6⟩
  show (bl_st u 5 a x).1 5 c = (va_up M.2.2.1 a (x, f, o, r, t) c).1 ∧ (bl_st (bl_st u 5 a x) 6 a (nI f)).1 6 c = nI (va_up M.2.2.1 a (x, f, o, r, t) c).2.1 ∧ (bl_st (bl_st (bl_st u 5 a x) 6 a (nI f)) 7 a (nI o)).1 7 c = nI (va_up M.2.2.1 a (x, f, o, r, t) c).2.2.1 ∧ (bl_st (bl_st (bl_st (bl_st u 5 a x) 6 a (nI f)) 7 a (nI o)) 8 a (nI r)).1 8 c = nI (va_up M.2.2.1 a (x, f, o, r, t) c).2.2.2.1 ∧ (bl_st (bl_st (bl_st (bl_st (bl_st u 5 a x) 6 a (nI f)) 7 a (nI o)) 8 a (nI r)) 9 a t).1 9 c = (va_up M.2.2.1 a (x, f, o, r, t) c).2.2.2.2
  by_cases e : c = a
  · rw [e, bl_st_eq, bl_st_eq, bl_st_eq, bl_st_eq, bl_st_eq, va_up_self]
    exact ⟨rfl, rfl, rfl, rfl, rfl⟩
  · rw [bl_st_ne _ _ _ e, bl_st_ne _ _ _ e, bl_st_ne _ _ _ e, bl_st_ne _ _ _ e, bl_st_ne _ _ _ e, va_up_ne _ _ e]
    exact r4 c hc
/-! the answers, case by case -/
def bl_bv (x : Int32) : Int32 := if bl_bad x then 1 else 0
theorem bl_nb {b : Nat} (hb : b < 4) : ¬ bl_bad (nI b) := fun h => h.elim (nI_pos (by omega)) (nI_ge (a := b) (b := 4) hb (by decide))
theorem bl_bx {x : Int32} (h : ¬ bl_bad x) : ∃ b, b < 4 ∧ x = nI b := by
  rcases pk_ix x (n := 4) (by decide) with q | q | q
  · exact absurd (Or.inl q) h
  · exact absurd (Or.inr q) h
  · exact q
theorem bl_bv0 {x : Int32} (h : bl_bv x = 0) : ∃ b, b < 4 ∧ x = nI b := by
  refine bl_bx fun q => ?_
  unfold bl_bv at h
  rw [if_pos q] at h
  cases h
theorem bl_bv1 {x : Int32} (h : ¬ bl_bv x = 0) : bl_bad x := Decidable.by_contra fun q => h (if_neg q)
theorem bl_bvb {b : Nat} (hb : b < 4) : bl_bv (nI b) = 0 := if_neg (bl_nb hb)
theorem bl_rng {x m : Int32} {n : Nat} (hm : m.toInt = n) (h0 : ¬ x < 0) (h1 : ¬ m < x) : ∃ j, j ≤ n ∧ x = nI j := nI_of2 hm h0 (Int32.not_lt.mp h1)
theorem bl_cb {b : Nat} (hb : b < 4) : (nI b).toNatClampNeg = b := nI_clamp (by omega)
theorem bl_n7 {k : Nat} (hk : k ≤ 7) : ¬ (nI k < 0 ∨ 7 < nI k) := fun h => h.elim (nI_pos (by omega)) (nI_nlt (a := 7) (b := k) hk (by decide))
theorem bl_put_bad {L : Nat} {M : bl_M} {x y : Int32} (h : bl_bad x) : bl_put L M x y = (-1, M) := if_pos h
theorem bl_put_kind {L b : Nat} {M : bl_M} {y : Int32} (hb : b < 4) (h : y < 0 ∨ 7 < y) : bl_put L M (nI b) y = (-2, M) := by
  unfold bl_put
  rw [if_neg (bl_nb hb), if_pos h]
theorem bl_put_ok {L b k : Nat} {M : bl_M} (hb : b < 4) (hk : k ≤ 7) (hr : bl_room L (M.1 b)) : bl_put L M (nI b) (nI k) = (nI ((M.1 b).1 + 1), bl_sB M b (bl_start L (M.1 b) k)) := by
  unfold bl_put
  rw [if_neg (bl_nb hb), if_neg (bl_n7 hk), bl_cb hb, nI_clamp (by omega), if_pos hr]
theorem bl_put_no {L b k : Nat} {M : bl_M} (hb : b < 4) (hk : k ≤ 7) (hr : ¬ bl_room L (M.1 b)) : bl_put L M (nI b) (nI k) = (-3, M) := by
  unfold bl_put
  rw [if_neg (bl_nb hb), if_neg (bl_n7 hk), bl_cb hb, nI_clamp (by omega), if_neg hr]
theorem bl_take_bad {M : bl_M} {x : Int32} (h : bl_bad x) : bl_take M x = (-1, M) := if_pos h
theorem bl_take_ok {b : Nat} {M : bl_M} (hb : b < 4) (he : bl_end (M.1 b)) : bl_take M (nI b) = (nI ((M.1 b).2.2 0), bl_sB M b (bl_off (M.1 b) 0)) := by
  unfold bl_take
  rw [if_neg (bl_nb hb), bl_cb hb, if_pos he]
theorem bl_take_no {b : Nat} {M : bl_M} (hb : b < 4) (he : ¬ bl_end (M.1 b)) : bl_take M (nI b) = (-4, M) := by
  unfold bl_take
  rw [if_neg (bl_nb hb), bl_cb hb, if_neg he]
theorem bl_lead_bad {M : bl_M} {x y : Int32} (h : bl_bad x) : bl_lead M x y = (-1, M) := if_pos h
theorem bl_lead_no {b : Nat} {M : bl_M} {y : Int32} (hb : b < 4) (h : y < -2 ∨ 4 ≤ y ∨ y = nI b) : bl_lead M (nI b) y = (-5, M) := by
  unfold bl_lead
  rw [if_neg (bl_nb hb), if_pos h]
theorem bl_lead_ok {b : Nat} {M : bl_M} {y : Int32} (hb : b < 4) (h : ¬ (y < -2 ∨ 4 ≤ y ∨ y = nI b)) : bl_lead M (nI b) y = (M.2.1 b, bl_sL M b y) := by
  unfold bl_lead
  rw [if_neg (bl_nb hb), if_neg h, bl_cb hb]
theorem bl_arm_no {M : bl_M} {x y z t : Int32} (h : x < 0 ∨ 1 < x ∨ z < 0 ∨ 60 < z) : bl_arm M x y z t = (-5, M) := if_pos h
theorem bl_arm_ok {M : bl_M} {a r f o : Nat} {y t : Int32} (ha : a < 2) (hr : r ≤ 60) (hf : y &&& 3 = nI f) (ho : (y >>> (2 &&& 31)) &&& 3 = nI o) (hf4 : f < 4) (ho4 : o < 4) : bl_arm M (nI a) y (nI r) t = (0, bl_sA M a (1, f, o, r, t &&& 255)) := by
  unfold bl_arm
  rw [if_neg, hf, ho, nI_clamp (by omega), nI_clamp (by omega), nI_clamp (by omega), nI_clamp (by omega)]
  rintro (h | h | h | h)
  · exact nI_pos (by omega) h
  · exact nI_nlt (a := 1) (b := a) (by omega) (by decide) h
  · exact nI_pos (by omega) h
  · exact nI_nlt (a := 60) (b := r) (by omega) (by decide) h
theorem bl_items_bad {M : bl_M} {x : Int32} (h : bl_bad x) : bl_items M x = -1 := if_pos h
theorem bl_items_ok {M : bl_M} {b : Nat} (hb : b < 4) : bl_items M (nI b) = nI (M.1 b).1 := by
  unfold bl_items
  rw [if_neg (bl_nb hb), bl_cb hb]
theorem bl_place_bad {M : bl_M} {x i : Int32} (h : bl_bad x) : bl_place M x i = -1 := if_pos h
theorem bl_place_no {M : bl_M} {b : Nat} {i : Int32} (hb : b < 4) (h : i < 0 ∨ nI (M.1 b).1 ≤ i) : bl_place M (nI b) i = -4 := by
  unfold bl_place
  rw [if_neg (bl_nb hb), bl_cb hb, if_pos h]
theorem bl_place_ok {M : bl_M} {b i : Nat} (hb : b < 4) (hn : (M.1 b).1 ≤ 16) (h : i < (M.1 b).1) : bl_place M (nI b) (nI i) = nI ((M.1 b).2.1 i) := by
  unfold bl_place
  rw [if_neg (bl_nb hb), bl_cb hb, if_neg, nI_clamp (by omega)]
  exact fun q => q.elim (nI_pos (by omega)) (nI_ge h (by omega))
theorem bl_kind_bad {M : bl_M} {x i : Int32} (h : bl_bad x) : bl_kind M x i = -1 := if_pos h
theorem bl_kind_no {M : bl_M} {b : Nat} {i : Int32} (hb : b < 4) (h : i < 0 ∨ nI (M.1 b).1 ≤ i) : bl_kind M (nI b) i = -4 := by
  unfold bl_kind
  rw [if_neg (bl_nb hb), bl_cb hb, if_pos h]
theorem bl_kind_ok {M : bl_M} {b i : Nat} (hb : b < 4) (hn : (M.1 b).1 ≤ 16) (h : i < (M.1 b).1) : bl_kind M (nI b) (nI i) = nI ((M.1 b).2.2 i) := by
  unfold bl_kind
  rw [if_neg (bl_nb hb), bl_cb hb, if_neg, nI_clamp (by omega)]
  exact fun q => q.elim (nI_pos (by omega)) (nI_ge h (by omega))
theorem bl_held_no {M : bl_M} {x : Int32} (h : x < 0 ∨ 1 < x) : bl_held M x = -5 := if_pos h
theorem bl_held_ok {M : bl_M} {a : Nat} (ha : a < 2) : bl_held M (nI a) = bl_hv (M.2.2.2.1 a) := by
  unfold bl_held
  rw [if_neg, nI_clamp (by omega)]
  exact fun q => q.elim (nI_pos (by omega)) (nI_nlt (a := 1) (b := a) (by omega) (by decide))
theorem bl_rq_bad {L : Nat} {M : bl_M} {x : Int32} (h : bl_bad x) : bl_rq L M x = 0 := if_pos h
theorem bl_rq_ok {L : Nat} {M : bl_M} {b : Nat} (hb : b < 4) : bl_rq L M (nI b) = if bl_room L (M.1 b) then 1 else 0 := by
  unfold bl_rq
  rw [if_neg (bl_nb hb), bl_cb hb]
theorem bl_moving_bad {M : bl_M} {x : Int32} (h : bl_bad x) : bl_moving M x = -1 := if_pos h
theorem bl_moving_ok {M : bl_M} {b : Nat} (hb : b < 4) : bl_moving M (nI b) = nI ((M.1 b).1 - bl_find (bl_gf (M.1 b).2.1) (M.1 b).1) := by
  unfold bl_moving
  rw [if_neg (bl_nb hb), bl_cb hb]
/-! the invariant, over a public step -/
theorem bl_I_put {L : Nat} {M : bl_M} {x y : Int32} (h : bl_I L M) : bl_I L (bl_put L M x y).2 := by
  by_cases e1 : bl_bad x
  · rw [bl_put_bad e1]; exact h
  · obtain ⟨b, hb, rfl⟩ := bl_bx e1
    by_cases e2 : y < 0 ∨ 7 < y
    · rw [bl_put_kind hb e2]; exact h
    · obtain ⟨k, hk, rfl⟩ := bl_rng (m := 7) (n := 7) rfl (fun q => e2 (Or.inl q)) (fun q => e2 (Or.inr q))
      by_cases e3 : bl_room L (M.1 b)
      · rw [bl_put_ok hb hk e3]
        exact bl_I_sB h (bl_ok_start (h.2.1 b hb) e3 hk)
      · rw [bl_put_no hb hk e3]; exact h
theorem bl_I_take {L : Nat} {M : bl_M} {x : Int32} (h : bl_I L M) : bl_I L (bl_take M x).2 := by
  by_cases e1 : bl_bad x
  · rw [bl_take_bad e1]; exact h
  · obtain ⟨b, hb, rfl⟩ := bl_bx e1
    by_cases e2 : bl_end (M.1 b)
    · rw [bl_take_ok hb e2]
      exact bl_I_sB h (bl_ok_off (h.2.1 b hb) e2.1)
    · rw [bl_take_no hb e2]; exact h
theorem bl_ldok_of {b : Nat} {y : Int32} (h : ¬ (y < -2 ∨ 4 ≤ y ∨ y = nI b)) : bl_ldok b y := by
  by_cases h0 : y < 0
  · have h1 : ¬ y < -2 := fun q => h (Or.inl q)
    rw [Int32.lt_iff_toInt_lt] at h0 h1
    have e2 : ((-2 : Int32)).toInt = -2 := by decide
    have e0 : ((0 : Int32)).toInt = 0 := by decide
    rw [e0] at h0
    rw [e2] at h1
    by_cases e : y.toInt = -1
    · exact Or.inl (Int32.toInt_inj.mp (by rw [e]; decide))
    · exact Or.inr (Or.inl (Int32.toInt_inj.mp (by rw [e2]; omega)))
  · obtain ⟨t, ht, rfl⟩ := bl_bx (x := y) (fun q => q.elim h0 (fun q => h (Or.inr (Or.inl q))))
    exact Or.inr (Or.inr ⟨t, ht, fun q => h (Or.inr (Or.inr (by rw [q]))), rfl⟩)
theorem bl_I_lead {L : Nat} {M : bl_M} {x y : Int32} (h : bl_I L M) : bl_I L (bl_lead M x y).2 := by
  by_cases e1 : bl_bad x
  · rw [bl_lead_bad e1]; exact h
  · obtain ⟨b, hb, rfl⟩ := bl_bx e1
    by_cases e2 : y < -2 ∨ 4 ≤ y ∨ y = nI b
    · rw [bl_lead_no hb e2]; exact h
    · rw [bl_lead_ok hb e2]
      exact bl_I_sL h (bl_ldok_of e2)
theorem bl_m3 (y : Int32) : ∃ f, f < 4 ∧ y &&& 3 = nI f := pk_andE y (m := 3) 2 (by decide)
theorem bl_I_arm {L : Nat} {M : bl_M} {x y z t : Int32} (h : bl_I L M) : bl_I L (bl_arm M x y z t).2 := by
  by_cases e1 : x < 0 ∨ 1 < x ∨ z < 0 ∨ 60 < z
  · rw [bl_arm_no e1]; exact h
  · obtain ⟨a, ha, rfl⟩ := bl_rng (x := x) (m := 1) (n := 1) rfl (fun q => e1 (Or.inl q)) (fun q => e1 (Or.inr (Or.inl q)))
    obtain ⟨r, hr, rfl⟩ := bl_rng (x := z) (m := 60) (n := 60) rfl (fun q => e1 (Or.inr (Or.inr (Or.inl q)))) (fun q => e1 (Or.inr (Or.inr (Or.inr q))))
    obtain ⟨f, hf, ef⟩ := bl_m3 y
    obtain ⟨o, ho, eo⟩ := bl_m3 (y >>> (2 &&& 31))
    rw [bl_arm_ok (by omega) hr ef eo hf ho]
    exact bl_I_sA h ⟨Or.inr rfl, hf, ho, hr⟩
end
section
set_option maxRecDepth 100000
/-! THE WORLDS OF THE TWO CLASSES, each as one predicate, and rows over them. P: (classes, array classes, addresses: 0 the object, k the array of field k) -/
abbrev vwCl : List vw_C := [(RX1, TX1, 14), (RX2, TX2, 12)]
abbrev bl_P : Type := va_G × (Nat → ClassId) × (Nat → Nat)
abbrev bl_rm (d : Nat) : Room := { frames := d, cells := 0, slots := 0, locals := 30 * d }
section BL0
variable {p : Program} {l : Launch} {e : Env} {R : Room} {s : State} {m : MethodId} {args : Array Value} {below : List Frame} {meth : Method} {c : Code} {H : Heap} {locs : List Loc} {cells slots : Nat} {Q : State → Prop} {cc : ByteArray} {nL pc : Nat} {ls : Array Slot} {rest : List Value} {P : bl_P} {A : Nat → Prop} {u : bl_S}
/-- the int on top, said otherwise -/
theorem bl_as {x y : Int32} (h : x = y) (k : W p l e R s m args below meth c H locs cells slots Q (F0 m pc ls (.int y :: rest))) : W p l e R s m args below meth c H locs cells slots Q (F0 m pc ls (.int x :: rest)) := h ▸ k
end BL0
def x1L (P : bl_P) (u : bl_S) : va_W := [(P.2.2 0, .inr (0, [.int u.2.1, .ref (P.2.2 1), .ref (P.2.2 2), .ref (P.2.2 3), .ref (P.2.2 4), .ref (P.2.2 5), .ref (P.2.2 6), .ref (P.2.2 7), .ref (P.2.2 8), .ref (P.2.2 9), .ref (P.2.2 10), .ref (P.2.2 11), .ref (P.2.2 12), .int u.2.2])), (P.2.2 1, .inl (P.2.1 1, 4, .inl (u.1 1))), (P.2.2 2, .inl (P.2.1 2, 4, .inl (u.1 2))), (P.2.2 3, .inl (P.2.1 3, 64, .inl (u.1 3))), (P.2.2 4, .inl (P.2.1 4, 64, .inl (u.1 4))), (P.2.2 5, .inl (P.2.1 5, 4, .inl (u.1 5))), (P.2.2 6, .inl (P.2.1 6, 4, .inl (u.1 6))), (P.2.2 7, .inl (P.2.1 7, 2, .inl (u.1 7))), (P.2.2 8, .inl (P.2.1 8, 2, .inl (u.1 8))), (P.2.2 9, .inl (P.2.1 9, 2, .inl (u.1 9))), (P.2.2 10, .inl (P.2.1 10, 2, .inl (u.1 10))), (P.2.2 11, .inl (P.2.1 11, 2, .inl (u.1 11))), (P.2.2 12, .inl (P.2.1 12, 2, .inl (u.1 12)))]
def x1T (P : bl_P) : List (ClassId × FieldType) := [(P.2.1 1, .int), (P.2.1 2, .int), (P.2.1 3, .int), (P.2.1 4, .int), (P.2.1 5, .int), (P.2.1 6, .int), (P.2.1 7, .boolean), (P.2.1 8, .int), (P.2.1 9, .int), (P.2.1 10, .int), (P.2.1 11, .int), (P.2.1 12, .int)]
def x1W (P : bl_P) (A : Nat → Prop) (H0 : Heap) (u : bl_S) (H : Heap) (locs : List Loc) : Prop := va_P P.1 vwCl (x1L P u) H ∧ va_D A (x1L P u) ∧ va_S A H0 H locs
def x1C (P : bl_P) (cc : ByteArray) (nL : Nat) (p : Program) (c : Code) (s : State) (m : MethodId) (args : Array Value) : Prop := CallFix p m c cc nL s args lw_all RX1 ∧ va_K P.1 vwCl (x1T P) s
def x1Pc (P : bl_P) (u : bl_S) (As : List Value) (sz : Nat) : Array Value → State → Prop := va_Pc (.ref (P.2.2 0) :: As) (fun U => U.heap.size = sz ∧ va_P P.1 vwCl (x1L P u) U.heap ∧ va_K P.1 vwCl (x1T P) U ∧ va_D (fun _ => True) (x1L P u))
def x1B (P : bl_P) (A : Nat → Prop) (u : bl_S) (t : State) : Prop := va_P P.1 vwCl (x1L P u) t.heap ∧ va_K P.1 vwCl (x1T P) t ∧ va_D A (x1L P u)
/-- a contract with an int (boolean) answer -/
def x1Mi (l : Launch) (y : MethodName) (cc : ByteArray) (nL : Nat) (ret : Option FieldType) (d : Nat) (P : bl_P) (u : bl_S) (As : List Value) (post : Int32 → bl_S → Prop) : Prop := ∀ sz : Nat, Met l y (ws_ y cc nL ret) (bl_rm d) (x1Pc P u As sz) (va_Qi post (x1B P (va_A (x1L P u) sz)) (va_A (x1L P u) sz)) 0 0 (va_A (x1L P u) sz)
/-- a contract without an answer -/
def x1Mv (l : Launch) (y : MethodName) (cc : ByteArray) (nL : Nat) (d : Nat) (P : bl_P) (u : bl_S) (As : List Value) (post : bl_S → Prop) : Prop := ∀ sz : Nat, Met l y (ws_ y cc nL none) (bl_rm d) (x1Pc P u As sz) (va_Qv post (x1B P (va_A (x1L P u) sz)) (va_A (x1L P u) sz)) 0 0 (va_A (x1L P u) sz)
section BLX1
variable {p : Program} {l : Launch} {e : Env} {R : Room} {s : State} {m : MethodId} {args : Array Value} {below : List Frame} {meth : Method} {c : Code} {H : Heap} {locs : List Loc} {cells slots : Nat} {Q : State → Prop} {cc : ByteArray} {nL pc : Nat} {ls : Array Slot} {rest : List Value} {P : bl_P} {A : Nat → Prop} {u : bl_S}
theorem x1_length (C : x1C P cc nL p c s m args) (w : x1W P A s.heap u H locs) {v : Int32} (hv : u.2.1 = v) (hdg : decode cc pc = .ok (.getfield 47, 3)) (kk : W p l e R s m args below meth c H locs cells slots Q (F0 m (pc + 3) ls (.int v :: rest))) : W p l e R s m args below meth c H locs cells slots Q (F0 m pc ls (.ref (P.2.2 0) :: rest)) := by
  subst hv
  exact va_get (D := P.1) (ci := 0) (v := .int u.2.1) (C := RX1) (T := TX1) (N := 14) C.1.1 C.1.2.1 C.1.2.2.2.2 in_X1 C.1.2.2.2.1 C.2 w.1 0 rfl rfl 0 (by decide) (C.1.2.2.2.2 _ q32) (fun _ h9 => h9) rfl hdg kk
theorem x1_gone (C : x1C P cc nL p c s m args) (w : x1W P A s.heap u H locs) {v : Int32} (hv : u.2.2 = v) (hdg : decode cc pc = .ok (.getfield 79, 3)) (kk : W p l e R s m args below meth c H locs cells slots Q (F0 m (pc + 3) ls (.int v :: rest))) : W p l e R s m args below meth c H locs cells slots Q (F0 m pc ls (.ref (P.2.2 0) :: rest)) := by
  subst hv
  exact va_get (D := P.1) (ci := 0) (v := .int u.2.2) (C := RX1) (T := TX1) (N := 14) C.1.1 C.1.2.1 C.1.2.2.2.2 in_X1 C.1.2.2.2.1 C.2 w.1 0 rfl rfl 13 (by decide) (C.1.2.2.2.2 _ q45) (fun _ h9 => h9) rfl hdg kk
theorem x1_put_gone (C : x1C P cc nL p c s m args) (w : x1W P A s.heap u H locs) {v : Int32} (hdg : decode cc pc = .ok (.putfield 79, 3)) (kk : ∀ (H1 : Heap) (locs1 : List Loc), x1W P A s.heap (u.1, u.2.1, v) H1 locs1 → W p l e R s m args below meth c H1 locs1 cells slots Q (F0 m (pc + 3) ls rest)) : W p l e R s m args below meth c H locs cells slots Q (F0 m pc ls (.int v :: .ref (P.2.2 0) :: rest)) := by
  exact va_put (D := P.1) (ci := 0) (v := .int v) (ty := .int) (C := RX1) (T := TX1) (N := 14) C.1.1 C.1.2.1 C.1.2.2.2.2 in_X1 tyX1 tyX1_ok nmX1 C.1.2.2.2.1 C.2 w.1 w.2.1 w.2.2 0 rfl rfl 13 (by decide) (C.1.2.2.2.2 _ q45) (fun _ h9 => h9) rfl (by decide +kernel) rfl rfl (Nat.le_of_ble_eq_true rfl) hdg (fun H1 locs1 hP hD hS => kk H1 locs1 ⟨hP, hD, hS⟩)
theorem x1_head (C : x1C P cc nL p c s m args) (w : x1W P A s.heap u H locs) (hdg : decode cc pc = .ok (.getfield 7, 3)) (kk : W p l e R s m args below meth c H locs cells slots Q (F0 m (pc + 3) ls (.ref (P.2.2 1) :: rest))) : W p l e R s m args below meth c H locs cells slots Q (F0 m pc ls (.ref (P.2.2 0) :: rest)) :=
  va_get (D := P.1) (ci := 0) (v := .ref (P.2.2 1)) (C := RX1) (T := TX1) (N := 14) C.1.1 C.1.2.1 C.1.2.2.2.2 in_X1 C.1.2.2.2.1 C.2 w.1 0 rfl rfl 1 (by decide) (C.1.2.2.2.2 _ q33) (fun _ h9 => h9) rfl hdg kk
theorem x1_ld_head (C : x1C P cc nL p c s m args) (w : x1W P A s.heap u H locs) {i v : Int32} {j : Nat} (hj : j < 4) (hi : i = nI j) (hv : u.1 1 j = v) (hdg : decode cc pc = .ok (.iaload, 1)) (kk : W p l e R s m args below meth c H locs cells slots Q (F0 m (pc + 1) ls (.int v :: rest))) : W p l e R s m args below meth c H locs cells slots Q (F0 m pc ls (.int i :: .ref (P.2.2 1) :: rest)) := by
  subst hi
  subst hv
  have hc : (nI j).toNatClampNeg = j := nI_clamp (by omega)
  refine va_iald (D := P.1) (n := 4) (f := u.1 1) C.1.1 C.1.2.1 C.2 w.1 1 0 rfl rfl (vp_in_nI hj (by decide)) hdg ?_
  rw [hc]
  exact kk
theorem x1_st_head (C : x1C P cc nL p c s m args) (w : x1W P A s.heap u H locs) {i v : Int32} {j : Nat} (hj : j < 4) (hi : i = nI j) (hdg : decode cc pc = .ok (.iastore, 1)) (kk : ∀ (H1 : Heap) (locs1 : List Loc), x1W P A s.heap (bl_st u 1 j v) H1 locs1 → W p l e R s m args below meth c H1 locs1 cells slots Q (F0 m (pc + 1) ls rest)) : W p l e R s m args below meth c H locs cells slots Q (F0 m pc ls (.int v :: .int i :: .ref (P.2.2 1) :: rest)) := by
  subst hi
  have hc : (nI j).toNatClampNeg = j := nI_clamp (by omega)
  refine va_iast (D := P.1) (n := 4) (f := u.1 1) C.1.1 C.1.2.1 C.2 w.1 w.2.1 w.2.2 1 0 rfl rfl (vp_in_nI hj (by decide)) hdg (fun H1 locs1 hP hD hS => ?_)
  rw [hc] at hP hD
  exact kk H1 locs1 ⟨hP, hD, hS⟩
theorem x1_count (C : x1C P cc nL p c s m args) (w : x1W P A s.heap u H locs) (hdg : decode cc pc = .ok (.getfield 13, 3)) (kk : W p l e R s m args below meth c H locs cells slots Q (F0 m (pc + 3) ls (.ref (P.2.2 2) :: rest))) : W p l e R s m args below meth c H locs cells slots Q (F0 m pc ls (.ref (P.2.2 0) :: rest)) :=
  va_get (D := P.1) (ci := 0) (v := .ref (P.2.2 2)) (C := RX1) (T := TX1) (N := 14) C.1.1 C.1.2.1 C.1.2.2.2.2 in_X1 C.1.2.2.2.1 C.2 w.1 0 rfl rfl 2 (by decide) (C.1.2.2.2.2 _ q34) (fun _ h9 => h9) rfl hdg kk
theorem x1_ld_count (C : x1C P cc nL p c s m args) (w : x1W P A s.heap u H locs) {i v : Int32} {j : Nat} (hj : j < 4) (hi : i = nI j) (hv : u.1 2 j = v) (hdg : decode cc pc = .ok (.iaload, 1)) (kk : W p l e R s m args below meth c H locs cells slots Q (F0 m (pc + 1) ls (.int v :: rest))) : W p l e R s m args below meth c H locs cells slots Q (F0 m pc ls (.int i :: .ref (P.2.2 2) :: rest)) := by
  subst hi
  subst hv
  have hc : (nI j).toNatClampNeg = j := nI_clamp (by omega)
  refine va_iald (D := P.1) (n := 4) (f := u.1 2) C.1.1 C.1.2.1 C.2 w.1 2 1 rfl rfl (vp_in_nI hj (by decide)) hdg ?_
  rw [hc]
  exact kk
theorem x1_st_count (C : x1C P cc nL p c s m args) (w : x1W P A s.heap u H locs) {i v : Int32} {j : Nat} (hj : j < 4) (hi : i = nI j) (hdg : decode cc pc = .ok (.iastore, 1)) (kk : ∀ (H1 : Heap) (locs1 : List Loc), x1W P A s.heap (bl_st u 2 j v) H1 locs1 → W p l e R s m args below meth c H1 locs1 cells slots Q (F0 m (pc + 1) ls rest)) : W p l e R s m args below meth c H locs cells slots Q (F0 m pc ls (.int v :: .int i :: .ref (P.2.2 2) :: rest)) := by
  subst hi
  have hc : (nI j).toNatClampNeg = j := nI_clamp (by omega)
  refine va_iast (D := P.1) (n := 4) (f := u.1 2) C.1.1 C.1.2.1 C.2 w.1 w.2.1 w.2.2 2 1 rfl rfl (vp_in_nI hj (by decide)) hdg (fun H1 locs1 hP hD hS => ?_)
  rw [hc] at hP hD
  exact kk H1 locs1 ⟨hP, hD, hS⟩
theorem x1_gap (C : x1C P cc nL p c s m args) (w : x1W P A s.heap u H locs) (hdg : decode cc pc = .ok (.getfield 16, 3)) (kk : W p l e R s m args below meth c H locs cells slots Q (F0 m (pc + 3) ls (.ref (P.2.2 3) :: rest))) : W p l e R s m args below meth c H locs cells slots Q (F0 m pc ls (.ref (P.2.2 0) :: rest)) :=
  va_get (D := P.1) (ci := 0) (v := .ref (P.2.2 3)) (C := RX1) (T := TX1) (N := 14) C.1.1 C.1.2.1 C.1.2.2.2.2 in_X1 C.1.2.2.2.1 C.2 w.1 0 rfl rfl 3 (by decide) (C.1.2.2.2.2 _ q35) (fun _ h9 => h9) rfl hdg kk
theorem x1_ld_gap (C : x1C P cc nL p c s m args) (w : x1W P A s.heap u H locs) {i v : Int32} {j : Nat} (hj : j < 64) (hi : i = nI j) (hv : u.1 3 j = v) (hdg : decode cc pc = .ok (.iaload, 1)) (kk : W p l e R s m args below meth c H locs cells slots Q (F0 m (pc + 1) ls (.int v :: rest))) : W p l e R s m args below meth c H locs cells slots Q (F0 m pc ls (.int i :: .ref (P.2.2 3) :: rest)) := by
  subst hi
  subst hv
  have hc : (nI j).toNatClampNeg = j := nI_clamp (by omega)
  refine va_iald (D := P.1) (n := 64) (f := u.1 3) C.1.1 C.1.2.1 C.2 w.1 3 2 rfl rfl (vp_in_nI hj (by decide)) hdg ?_
  rw [hc]
  exact kk
theorem x1_st_gap (C : x1C P cc nL p c s m args) (w : x1W P A s.heap u H locs) {i v : Int32} {j : Nat} (hj : j < 64) (hi : i = nI j) (hdg : decode cc pc = .ok (.iastore, 1)) (kk : ∀ (H1 : Heap) (locs1 : List Loc), x1W P A s.heap (bl_st u 3 j v) H1 locs1 → W p l e R s m args below meth c H1 locs1 cells slots Q (F0 m (pc + 1) ls rest)) : W p l e R s m args below meth c H locs cells slots Q (F0 m pc ls (.int v :: .int i :: .ref (P.2.2 3) :: rest)) := by
  subst hi
  have hc : (nI j).toNatClampNeg = j := nI_clamp (by omega)
  refine va_iast (D := P.1) (n := 64) (f := u.1 3) C.1.1 C.1.2.1 C.2 w.1 w.2.1 w.2.2 3 2 rfl rfl (vp_in_nI hj (by decide)) hdg (fun H1 locs1 hP hD hS => ?_)
  rw [hc] at hP hD
  exact kk H1 locs1 ⟨hP, hD, hS⟩
theorem x1_kinds (C : x1C P cc nL p c s m args) (w : x1W P A s.heap u H locs) (hdg : decode cc pc = .ok (.getfield 19, 3)) (kk : W p l e R s m args below meth c H locs cells slots Q (F0 m (pc + 3) ls (.ref (P.2.2 4) :: rest))) : W p l e R s m args below meth c H locs cells slots Q (F0 m pc ls (.ref (P.2.2 0) :: rest)) :=
  va_get (D := P.1) (ci := 0) (v := .ref (P.2.2 4)) (C := RX1) (T := TX1) (N := 14) C.1.1 C.1.2.1 C.1.2.2.2.2 in_X1 C.1.2.2.2.1 C.2 w.1 0 rfl rfl 4 (by decide) (C.1.2.2.2.2 _ q36) (fun _ h9 => h9) rfl hdg kk
theorem x1_ld_kinds (C : x1C P cc nL p c s m args) (w : x1W P A s.heap u H locs) {i v : Int32} {j : Nat} (hj : j < 64) (hi : i = nI j) (hv : u.1 4 j = v) (hdg : decode cc pc = .ok (.iaload, 1)) (kk : W p l e R s m args below meth c H locs cells slots Q (F0 m (pc + 1) ls (.int v :: rest))) : W p l e R s m args below meth c H locs cells slots Q (F0 m pc ls (.int i :: .ref (P.2.2 4) :: rest)) := by
  subst hi
  subst hv
  have hc : (nI j).toNatClampNeg = j := nI_clamp (by omega)
  refine va_iald (D := P.1) (n := 64) (f := u.1 4) C.1.1 C.1.2.1 C.2 w.1 4 3 rfl rfl (vp_in_nI hj (by decide)) hdg ?_
  rw [hc]
  exact kk
theorem x1_st_kinds (C : x1C P cc nL p c s m args) (w : x1W P A s.heap u H locs) {i v : Int32} {j : Nat} (hj : j < 64) (hi : i = nI j) (hdg : decode cc pc = .ok (.iastore, 1)) (kk : ∀ (H1 : Heap) (locs1 : List Loc), x1W P A s.heap (bl_st u 4 j v) H1 locs1 → W p l e R s m args below meth c H1 locs1 cells slots Q (F0 m (pc + 1) ls rest)) : W p l e R s m args below meth c H locs cells slots Q (F0 m pc ls (.int v :: .int i :: .ref (P.2.2 4) :: rest)) := by
  subst hi
  have hc : (nI j).toNatClampNeg = j := nI_clamp (by omega)
  refine va_iast (D := P.1) (n := 64) (f := u.1 4) C.1.1 C.1.2.1 C.2 w.1 w.2.1 w.2.2 4 3 rfl rfl (vp_in_nI hj (by decide)) hdg (fun H1 locs1 hP hD hS => ?_)
  rw [hc] at hP hD
  exact kk H1 locs1 ⟨hP, hD, hS⟩
theorem x1_gaps (C : x1C P cc nL p c s m args) (w : x1W P A s.heap u H locs) (hdg : decode cc pc = .ok (.getfield 22, 3)) (kk : W p l e R s m args below meth c H locs cells slots Q (F0 m (pc + 3) ls (.ref (P.2.2 5) :: rest))) : W p l e R s m args below meth c H locs cells slots Q (F0 m pc ls (.ref (P.2.2 0) :: rest)) :=
  va_get (D := P.1) (ci := 0) (v := .ref (P.2.2 5)) (C := RX1) (T := TX1) (N := 14) C.1.1 C.1.2.1 C.1.2.2.2.2 in_X1 C.1.2.2.2.1 C.2 w.1 0 rfl rfl 5 (by decide) (C.1.2.2.2.2 _ q37) (fun _ h9 => h9) rfl hdg kk
theorem x1_ld_gaps (C : x1C P cc nL p c s m args) (w : x1W P A s.heap u H locs) {i v : Int32} {j : Nat} (hj : j < 4) (hi : i = nI j) (hv : u.1 5 j = v) (hdg : decode cc pc = .ok (.iaload, 1)) (kk : W p l e R s m args below meth c H locs cells slots Q (F0 m (pc + 1) ls (.int v :: rest))) : W p l e R s m args below meth c H locs cells slots Q (F0 m pc ls (.int i :: .ref (P.2.2 5) :: rest)) := by
  subst hi
  subst hv
  have hc : (nI j).toNatClampNeg = j := nI_clamp (by omega)
  refine va_iald (D := P.1) (n := 4) (f := u.1 5) C.1.1 C.1.2.1 C.2 w.1 5 4 rfl rfl (vp_in_nI hj (by decide)) hdg ?_
  rw [hc]
  exact kk
theorem x1_st_gaps (C : x1C P cc nL p c s m args) (w : x1W P A s.heap u H locs) {i v : Int32} {j : Nat} (hj : j < 4) (hi : i = nI j) (hdg : decode cc pc = .ok (.iastore, 1)) (kk : ∀ (H1 : Heap) (locs1 : List Loc), x1W P A s.heap (bl_st u 5 j v) H1 locs1 → W p l e R s m args below meth c H1 locs1 cells slots Q (F0 m (pc + 1) ls rest)) : W p l e R s m args below meth c H locs cells slots Q (F0 m pc ls (.int v :: .int i :: .ref (P.2.2 5) :: rest)) := by
  subst hi
  have hc : (nI j).toNatClampNeg = j := nI_clamp (by omega)
  refine va_iast (D := P.1) (n := 4) (f := u.1 5) C.1.1 C.1.2.1 C.2 w.1 w.2.1 w.2.2 5 4 rfl rfl (vp_in_nI hj (by decide)) hdg (fun H1 locs1 hP hD hS => ?_)
  rw [hc] at hP hD
  exact kk H1 locs1 ⟨hP, hD, hS⟩
theorem x1_leads (C : x1C P cc nL p c s m args) (w : x1W P A s.heap u H locs) (hdg : decode cc pc = .ok (.getfield 25, 3)) (kk : W p l e R s m args below meth c H locs cells slots Q (F0 m (pc + 3) ls (.ref (P.2.2 6) :: rest))) : W p l e R s m args below meth c H locs cells slots Q (F0 m pc ls (.ref (P.2.2 0) :: rest)) :=
  va_get (D := P.1) (ci := 0) (v := .ref (P.2.2 6)) (C := RX1) (T := TX1) (N := 14) C.1.1 C.1.2.1 C.1.2.2.2.2 in_X1 C.1.2.2.2.1 C.2 w.1 0 rfl rfl 6 (by decide) (C.1.2.2.2.2 _ q38) (fun _ h9 => h9) rfl hdg kk
theorem x1_ld_leads (C : x1C P cc nL p c s m args) (w : x1W P A s.heap u H locs) {i v : Int32} {j : Nat} (hj : j < 4) (hi : i = nI j) (hv : u.1 6 j = v) (hdg : decode cc pc = .ok (.iaload, 1)) (kk : W p l e R s m args below meth c H locs cells slots Q (F0 m (pc + 1) ls (.int v :: rest))) : W p l e R s m args below meth c H locs cells slots Q (F0 m pc ls (.int i :: .ref (P.2.2 6) :: rest)) := by
  subst hi
  subst hv
  have hc : (nI j).toNatClampNeg = j := nI_clamp (by omega)
  refine va_iald (D := P.1) (n := 4) (f := u.1 6) C.1.1 C.1.2.1 C.2 w.1 6 5 rfl rfl (vp_in_nI hj (by decide)) hdg ?_
  rw [hc]
  exact kk
theorem x1_st_leads (C : x1C P cc nL p c s m args) (w : x1W P A s.heap u H locs) {i v : Int32} {j : Nat} (hj : j < 4) (hi : i = nI j) (hdg : decode cc pc = .ok (.iastore, 1)) (kk : ∀ (H1 : Heap) (locs1 : List Loc), x1W P A s.heap (bl_st u 6 j v) H1 locs1 → W p l e R s m args below meth c H1 locs1 cells slots Q (F0 m (pc + 1) ls rest)) : W p l e R s m args below meth c H locs cells slots Q (F0 m pc ls (.int v :: .int i :: .ref (P.2.2 6) :: rest)) := by
  subst hi
  have hc : (nI j).toNatClampNeg = j := nI_clamp (by omega)
  refine va_iast (D := P.1) (n := 4) (f := u.1 6) C.1.1 C.1.2.1 C.2 w.1 w.2.1 w.2.2 6 5 rfl rfl (vp_in_nI hj (by decide)) hdg (fun H1 locs1 hP hD hS => ?_)
  rw [hc] at hP hD
  exact kk H1 locs1 ⟨hP, hD, hS⟩
theorem x1_set (C : x1C P cc nL p c s m args) (w : x1W P A s.heap u H locs) (hdg : decode cc pc = .ok (.getfield 28, 3)) (kk : W p l e R s m args below meth c H locs cells slots Q (F0 m (pc + 3) ls (.ref (P.2.2 7) :: rest))) : W p l e R s m args below meth c H locs cells slots Q (F0 m pc ls (.ref (P.2.2 0) :: rest)) :=
  va_get (D := P.1) (ci := 0) (v := .ref (P.2.2 7)) (C := RX1) (T := TX1) (N := 14) C.1.1 C.1.2.1 C.1.2.2.2.2 in_X1 C.1.2.2.2.1 C.2 w.1 0 rfl rfl 7 (by decide) (C.1.2.2.2.2 _ q39) (fun _ h9 => h9) rfl hdg kk
theorem x1_ld_set (C : x1C P cc nL p c s m args) (w : x1W P A s.heap u H locs) {i v : Int32} {j : Nat} (hj : j < 2) (hi : i = nI j) (hv : u.1 7 j = v) (hdg : decode cc pc = .ok (.baload, 1)) (kk : W p l e R s m args below meth c H locs cells slots Q (F0 m (pc + 1) ls (.int v :: rest))) : W p l e R s m args below meth c H locs cells slots Q (F0 m pc ls (.int i :: .ref (P.2.2 7) :: rest)) := by
  subst hi
  subst hv
  have hc : (nI j).toNatClampNeg = j := nI_clamp (by omega)
  refine va_zald (D := P.1) (n := 2) (f := u.1 7) C.1.1 C.1.2.1 C.2 w.1 7 6 rfl rfl (vp_in_nI hj (by decide)) hdg ?_
  rw [hc]
  exact kk
theorem x1_st_set (C : x1C P cc nL p c s m args) (w : x1W P A s.heap u H locs) {i : Int32} {j : Nat} (hj : j < 2) (hi : i = nI j) (hdg : decode cc pc = .ok (.bastore, 1)) (kk : ∀ (H1 : Heap) (locs1 : List Loc), x1W P A s.heap (bl_st u 7 j 1) H1 locs1 → W p l e R s m args below meth c H1 locs1 cells slots Q (F0 m (pc + 1) ls rest)) : W p l e R s m args below meth c H locs cells slots Q (F0 m pc ls (.int 1 :: .int i :: .ref (P.2.2 7) :: rest)) := by
  subst hi
  have hc : (nI j).toNatClampNeg = j := nI_clamp (by omega)
  refine va_zast (D := P.1) (n := 2) (f := u.1 7) C.1.1 C.1.2.1 C.2 w.1 w.2.1 w.2.2 7 6 rfl rfl (vp_in_nI hj (by decide)) hdg (fun H1 locs1 hP hD hS => ?_)
  rw [hc] at hP hD
  exact kk H1 locs1 ⟨hP, hD, hS⟩
theorem x1_takesFrom (C : x1C P cc nL p c s m args) (w : x1W P A s.heap u H locs) (hdg : decode cc pc = .ok (.getfield 32, 3)) (kk : W p l e R s m args below meth c H locs cells slots Q (F0 m (pc + 3) ls (.ref (P.2.2 8) :: rest))) : W p l e R s m args below meth c H locs cells slots Q (F0 m pc ls (.ref (P.2.2 0) :: rest)) :=
  va_get (D := P.1) (ci := 0) (v := .ref (P.2.2 8)) (C := RX1) (T := TX1) (N := 14) C.1.1 C.1.2.1 C.1.2.2.2.2 in_X1 C.1.2.2.2.1 C.2 w.1 0 rfl rfl 8 (by decide) (C.1.2.2.2.2 _ q40) (fun _ h9 => h9) rfl hdg kk
theorem x1_ld_takesFrom (C : x1C P cc nL p c s m args) (w : x1W P A s.heap u H locs) {i v : Int32} {j : Nat} (hj : j < 2) (hi : i = nI j) (hv : u.1 8 j = v) (hdg : decode cc pc = .ok (.iaload, 1)) (kk : W p l e R s m args below meth c H locs cells slots Q (F0 m (pc + 1) ls (.int v :: rest))) : W p l e R s m args below meth c H locs cells slots Q (F0 m pc ls (.int i :: .ref (P.2.2 8) :: rest)) := by
  subst hi
  subst hv
  have hc : (nI j).toNatClampNeg = j := nI_clamp (by omega)
  refine va_iald (D := P.1) (n := 2) (f := u.1 8) C.1.1 C.1.2.1 C.2 w.1 8 7 rfl rfl (vp_in_nI hj (by decide)) hdg ?_
  rw [hc]
  exact kk
theorem x1_st_takesFrom (C : x1C P cc nL p c s m args) (w : x1W P A s.heap u H locs) {i v : Int32} {j : Nat} (hj : j < 2) (hi : i = nI j) (hdg : decode cc pc = .ok (.iastore, 1)) (kk : ∀ (H1 : Heap) (locs1 : List Loc), x1W P A s.heap (bl_st u 8 j v) H1 locs1 → W p l e R s m args below meth c H1 locs1 cells slots Q (F0 m (pc + 1) ls rest)) : W p l e R s m args below meth c H locs cells slots Q (F0 m pc ls (.int v :: .int i :: .ref (P.2.2 8) :: rest)) := by
  subst hi
  have hc : (nI j).toNatClampNeg = j := nI_clamp (by omega)
  refine va_iast (D := P.1) (n := 2) (f := u.1 8) C.1.1 C.1.2.1 C.2 w.1 w.2.1 w.2.2 8 7 rfl rfl (vp_in_nI hj (by decide)) hdg (fun H1 locs1 hP hD hS => ?_)
  rw [hc] at hP hD
  exact kk H1 locs1 ⟨hP, hD, hS⟩
theorem x1_putsOn (C : x1C P cc nL p c s m args) (w : x1W P A s.heap u H locs) (hdg : decode cc pc = .ok (.getfield 35, 3)) (kk : W p l e R s m args below meth c H locs cells slots Q (F0 m (pc + 3) ls (.ref (P.2.2 9) :: rest))) : W p l e R s m args below meth c H locs cells slots Q (F0 m pc ls (.ref (P.2.2 0) :: rest)) :=
  va_get (D := P.1) (ci := 0) (v := .ref (P.2.2 9)) (C := RX1) (T := TX1) (N := 14) C.1.1 C.1.2.1 C.1.2.2.2.2 in_X1 C.1.2.2.2.1 C.2 w.1 0 rfl rfl 9 (by decide) (C.1.2.2.2.2 _ q41) (fun _ h9 => h9) rfl hdg kk
theorem x1_ld_putsOn (C : x1C P cc nL p c s m args) (w : x1W P A s.heap u H locs) {i v : Int32} {j : Nat} (hj : j < 2) (hi : i = nI j) (hv : u.1 9 j = v) (hdg : decode cc pc = .ok (.iaload, 1)) (kk : W p l e R s m args below meth c H locs cells slots Q (F0 m (pc + 1) ls (.int v :: rest))) : W p l e R s m args below meth c H locs cells slots Q (F0 m pc ls (.int i :: .ref (P.2.2 9) :: rest)) := by
  subst hi
  subst hv
  have hc : (nI j).toNatClampNeg = j := nI_clamp (by omega)
  refine va_iald (D := P.1) (n := 2) (f := u.1 9) C.1.1 C.1.2.1 C.2 w.1 9 8 rfl rfl (vp_in_nI hj (by decide)) hdg ?_
  rw [hc]
  exact kk
theorem x1_st_putsOn (C : x1C P cc nL p c s m args) (w : x1W P A s.heap u H locs) {i v : Int32} {j : Nat} (hj : j < 2) (hi : i = nI j) (hdg : decode cc pc = .ok (.iastore, 1)) (kk : ∀ (H1 : Heap) (locs1 : List Loc), x1W P A s.heap (bl_st u 9 j v) H1 locs1 → W p l e R s m args below meth c H1 locs1 cells slots Q (F0 m (pc + 1) ls rest)) : W p l e R s m args below meth c H locs cells slots Q (F0 m pc ls (.int v :: .int i :: .ref (P.2.2 9) :: rest)) := by
  subst hi
  have hc : (nI j).toNatClampNeg = j := nI_clamp (by omega)
  refine va_iast (D := P.1) (n := 2) (f := u.1 9) C.1.1 C.1.2.1 C.2 w.1 w.2.1 w.2.2 9 8 rfl rfl (vp_in_nI hj (by decide)) hdg (fun H1 locs1 hP hD hS => ?_)
  rw [hc] at hP hD
  exact kk H1 locs1 ⟨hP, hD, hS⟩
theorem x1_reach (C : x1C P cc nL p c s m args) (w : x1W P A s.heap u H locs) (hdg : decode cc pc = .ok (.getfield 38, 3)) (kk : W p l e R s m args below meth c H locs cells slots Q (F0 m (pc + 3) ls (.ref (P.2.2 10) :: rest))) : W p l e R s m args below meth c H locs cells slots Q (F0 m pc ls (.ref (P.2.2 0) :: rest)) :=
  va_get (D := P.1) (ci := 0) (v := .ref (P.2.2 10)) (C := RX1) (T := TX1) (N := 14) C.1.1 C.1.2.1 C.1.2.2.2.2 in_X1 C.1.2.2.2.1 C.2 w.1 0 rfl rfl 10 (by decide) (C.1.2.2.2.2 _ q42) (fun _ h9 => h9) rfl hdg kk
theorem x1_ld_reach (C : x1C P cc nL p c s m args) (w : x1W P A s.heap u H locs) {i v : Int32} {j : Nat} (hj : j < 2) (hi : i = nI j) (hv : u.1 10 j = v) (hdg : decode cc pc = .ok (.iaload, 1)) (kk : W p l e R s m args below meth c H locs cells slots Q (F0 m (pc + 1) ls (.int v :: rest))) : W p l e R s m args below meth c H locs cells slots Q (F0 m pc ls (.int i :: .ref (P.2.2 10) :: rest)) := by
  subst hi
  subst hv
  have hc : (nI j).toNatClampNeg = j := nI_clamp (by omega)
  refine va_iald (D := P.1) (n := 2) (f := u.1 10) C.1.1 C.1.2.1 C.2 w.1 10 9 rfl rfl (vp_in_nI hj (by decide)) hdg ?_
  rw [hc]
  exact kk
theorem x1_st_reach (C : x1C P cc nL p c s m args) (w : x1W P A s.heap u H locs) {i v : Int32} {j : Nat} (hj : j < 2) (hi : i = nI j) (hdg : decode cc pc = .ok (.iastore, 1)) (kk : ∀ (H1 : Heap) (locs1 : List Loc), x1W P A s.heap (bl_st u 10 j v) H1 locs1 → W p l e R s m args below meth c H1 locs1 cells slots Q (F0 m (pc + 1) ls rest)) : W p l e R s m args below meth c H locs cells slots Q (F0 m pc ls (.int v :: .int i :: .ref (P.2.2 10) :: rest)) := by
  subst hi
  have hc : (nI j).toNatClampNeg = j := nI_clamp (by omega)
  refine va_iast (D := P.1) (n := 2) (f := u.1 10) C.1.1 C.1.2.1 C.2 w.1 w.2.1 w.2.2 10 9 rfl rfl (vp_in_nI hj (by decide)) hdg (fun H1 locs1 hP hD hS => ?_)
  rw [hc] at hP hD
  exact kk H1 locs1 ⟨hP, hD, hS⟩
theorem x1_takesKinds (C : x1C P cc nL p c s m args) (w : x1W P A s.heap u H locs) (hdg : decode cc pc = .ok (.getfield 41, 3)) (kk : W p l e R s m args below meth c H locs cells slots Q (F0 m (pc + 3) ls (.ref (P.2.2 11) :: rest))) : W p l e R s m args below meth c H locs cells slots Q (F0 m pc ls (.ref (P.2.2 0) :: rest)) :=
  va_get (D := P.1) (ci := 0) (v := .ref (P.2.2 11)) (C := RX1) (T := TX1) (N := 14) C.1.1 C.1.2.1 C.1.2.2.2.2 in_X1 C.1.2.2.2.1 C.2 w.1 0 rfl rfl 11 (by decide) (C.1.2.2.2.2 _ q43) (fun _ h9 => h9) rfl hdg kk
theorem x1_ld_takesKinds (C : x1C P cc nL p c s m args) (w : x1W P A s.heap u H locs) {i v : Int32} {j : Nat} (hj : j < 2) (hi : i = nI j) (hv : u.1 11 j = v) (hdg : decode cc pc = .ok (.iaload, 1)) (kk : W p l e R s m args below meth c H locs cells slots Q (F0 m (pc + 1) ls (.int v :: rest))) : W p l e R s m args below meth c H locs cells slots Q (F0 m pc ls (.int i :: .ref (P.2.2 11) :: rest)) := by
  subst hi
  subst hv
  have hc : (nI j).toNatClampNeg = j := nI_clamp (by omega)
  refine va_iald (D := P.1) (n := 2) (f := u.1 11) C.1.1 C.1.2.1 C.2 w.1 11 10 rfl rfl (vp_in_nI hj (by decide)) hdg ?_
  rw [hc]
  exact kk
theorem x1_st_takesKinds (C : x1C P cc nL p c s m args) (w : x1W P A s.heap u H locs) {i v : Int32} {j : Nat} (hj : j < 2) (hi : i = nI j) (hdg : decode cc pc = .ok (.iastore, 1)) (kk : ∀ (H1 : Heap) (locs1 : List Loc), x1W P A s.heap (bl_st u 11 j v) H1 locs1 → W p l e R s m args below meth c H1 locs1 cells slots Q (F0 m (pc + 1) ls rest)) : W p l e R s m args below meth c H locs cells slots Q (F0 m pc ls (.int v :: .int i :: .ref (P.2.2 11) :: rest)) := by
  subst hi
  have hc : (nI j).toNatClampNeg = j := nI_clamp (by omega)
  refine va_iast (D := P.1) (n := 2) (f := u.1 11) C.1.1 C.1.2.1 C.2 w.1 w.2.1 w.2.2 11 10 rfl rfl (vp_in_nI hj (by decide)) hdg (fun H1 locs1 hP hD hS => ?_)
  rw [hc] at hP hD
  exact kk H1 locs1 ⟨hP, hD, hS⟩
theorem x1_holds (C : x1C P cc nL p c s m args) (w : x1W P A s.heap u H locs) (hdg : decode cc pc = .ok (.getfield 44, 3)) (kk : W p l e R s m args below meth c H locs cells slots Q (F0 m (pc + 3) ls (.ref (P.2.2 12) :: rest))) : W p l e R s m args below meth c H locs cells slots Q (F0 m pc ls (.ref (P.2.2 0) :: rest)) :=
  va_get (D := P.1) (ci := 0) (v := .ref (P.2.2 12)) (C := RX1) (T := TX1) (N := 14) C.1.1 C.1.2.1 C.1.2.2.2.2 in_X1 C.1.2.2.2.1 C.2 w.1 0 rfl rfl 12 (by decide) (C.1.2.2.2.2 _ q44) (fun _ h9 => h9) rfl hdg kk
theorem x1_ld_holds (C : x1C P cc nL p c s m args) (w : x1W P A s.heap u H locs) {i v : Int32} {j : Nat} (hj : j < 2) (hi : i = nI j) (hv : u.1 12 j = v) (hdg : decode cc pc = .ok (.iaload, 1)) (kk : W p l e R s m args below meth c H locs cells slots Q (F0 m (pc + 1) ls (.int v :: rest))) : W p l e R s m args below meth c H locs cells slots Q (F0 m pc ls (.int i :: .ref (P.2.2 12) :: rest)) := by
  subst hi
  subst hv
  have hc : (nI j).toNatClampNeg = j := nI_clamp (by omega)
  refine va_iald (D := P.1) (n := 2) (f := u.1 12) C.1.1 C.1.2.1 C.2 w.1 12 11 rfl rfl (vp_in_nI hj (by decide)) hdg ?_
  rw [hc]
  exact kk
theorem x1_st_holds (C : x1C P cc nL p c s m args) (w : x1W P A s.heap u H locs) {i v : Int32} {j : Nat} (hj : j < 2) (hi : i = nI j) (hdg : decode cc pc = .ok (.iastore, 1)) (kk : ∀ (H1 : Heap) (locs1 : List Loc), x1W P A s.heap (bl_st u 12 j v) H1 locs1 → W p l e R s m args below meth c H1 locs1 cells slots Q (F0 m (pc + 1) ls rest)) : W p l e R s m args below meth c H locs cells slots Q (F0 m pc ls (.int v :: .int i :: .ref (P.2.2 12) :: rest)) := by
  subst hi
  have hc : (nI j).toNatClampNeg = j := nI_clamp (by omega)
  refine va_iast (D := P.1) (n := 2) (f := u.1 12) C.1.1 C.1.2.1 C.2 w.1 w.2.1 w.2.2 12 11 rfl rfl (vp_in_nI hj (by decide)) hdg (fun H1 locs1 hP hD hS => ?_)
  rw [hc] at hP hD
  exact kk H1 locs1 ⟨hP, hD, hS⟩
theorem x1_calli (C : x1C P cc nL p c s m args) (w : x1W P A s.heap u H locs) (hA : ∀ q, s.heap.size ≤ q → A q) {y : MethodName} {cb : ByteArray} {nB n d idx : Nat} {ret : Option FieldType} {As st : List Value} {post : Int32 → bl_S → Prop} (hM : x1Mi l y cb nB ret d P u As post) (hg : GoodIn lw_all (wsV RX1 idx RX1 y (ws_ y cb nB ret))) (hd : y.cls = RX1 ∧ y.cls ≠ "java/lang/invoke/MethodHandle" ∧ y.cls ≠ "java/lang/invoke/VarHandle" ∧ (parseMethodDescriptor y.desc).map (fun d => d.parameters.length) = some n) (hn : As.length = n) (hR : d + 1 ≤ R.frames ∧ 8 + (nB + 11) + 30 * d ≤ R.locals) (hz : ls.size = nL) (hst : st = As.reverse ++ .ref (P.2.2 0) :: rest) (hW : (rest.map fun v => v.category).sum ≤ 8) (hdg : decode cc pc = .ok (.invokevirtual idx, 3)) (hf : cells ≤ R.cells ∧ slots ≤ R.slots)
    (kk : ∀ (r : Int32) (v : bl_S) (H1 : Heap) (locs1 : List Loc), post r v → x1W P A s.heap v H1 locs1 → W p l e R s m args below meth c H1 locs1 cells slots Q (F0 m (pc + 3) ls (.int r :: rest))) : W p l e R s m args below meth c H locs cells slots Q (F0 m pc ls st) := by
  have hFc := va_free (wc := x1L P u) w.2.1 w.2.2 hA [0, 1, 2, 3, 4, 5, 6, 7, 8, 9, 10, 11, 12] rfl
  refine va_calli (va_runV (As := As) (rest := rest) (C := RX1) (b := P.2.2 0) C.1 (hM H.size) (cwV n C.1.2.2.2.2 hg rfl rfl rfl hd hR) ⟨fun a U g mk q => by obtain ⟨q0, q1, qP, qK, qD⟩ := q; exact ⟨q0, q1, qP, va_K.moved (u := U) (U := U.calling g mk a) (Vm.Alike.refl U.vm) qK, qD⟩, va_recv C.2 w.1 (ci := 0) (q0 := 0) rfl rfl, fun U hU hW => ⟨rfl, by rw [hU], by rw [hU]; exact w.1, va_K.moved hW.alike C.2, w.2.1.weaken (fun _ _ _ _ => trivial)⟩⟩ rfl hn hz hst (lv_room hW) hdg hf) w.2.2 (fun q _ h => hFc q h) hFc (fun r v t H1 locs1 ht hvm hp hB hz1 hk1 hS => ?_)
  obtain ⟨hP1, hK1, hD1⟩ := hB
  rw [ht] at hP1
  exact kk r v H1 locs1 hp ⟨hP1, hD1.weaken (fun _ q _ h => hFc q.1 h), hS⟩
theorem x1_callv (C : x1C P cc nL p c s m args) (w : x1W P A s.heap u H locs) (hA : ∀ q, s.heap.size ≤ q → A q) {y : MethodName} {cb : ByteArray} {nB n d idx : Nat} {As st : List Value} {post : bl_S → Prop} (hM : x1Mv l y cb nB d P u As post) (hg : GoodIn lw_all (wsV RX1 idx RX1 y (ws_ y cb nB none))) (hd : y.cls = RX1 ∧ y.cls ≠ "java/lang/invoke/MethodHandle" ∧ y.cls ≠ "java/lang/invoke/VarHandle" ∧ (parseMethodDescriptor y.desc).map (fun d => d.parameters.length) = some n) (hn : As.length = n) (hR : d + 1 ≤ R.frames ∧ 8 + (nB + 11) + 30 * d ≤ R.locals) (hz : ls.size = nL) (hst : st = As.reverse ++ .ref (P.2.2 0) :: rest) (hW : (rest.map fun v => v.category).sum ≤ 8) (hdg : decode cc pc = .ok (.invokevirtual idx, 3)) (hf : cells ≤ R.cells ∧ slots ≤ R.slots)
    (kk : ∀ (v : bl_S) (H1 : Heap) (locs1 : List Loc), post v → x1W P A s.heap v H1 locs1 → W p l e R s m args below meth c H1 locs1 cells slots Q (F0 m (pc + 3) ls (rest))) : W p l e R s m args below meth c H locs cells slots Q (F0 m pc ls st) := by
  have hFc := va_free (wc := x1L P u) w.2.1 w.2.2 hA [0, 1, 2, 3, 4, 5, 6, 7, 8, 9, 10, 11, 12] rfl
  refine va_callv (va_runV (As := As) (rest := rest) (C := RX1) (b := P.2.2 0) C.1 (hM H.size) (cwV n C.1.2.2.2.2 hg rfl rfl rfl hd hR) ⟨fun a U g mk q => by obtain ⟨q0, q1, qP, qK, qD⟩ := q; exact ⟨q0, q1, qP, va_K.moved (u := U) (U := U.calling g mk a) (Vm.Alike.refl U.vm) qK, qD⟩, va_recv C.2 w.1 (ci := 0) (q0 := 0) rfl rfl, fun U hU hW => ⟨rfl, by rw [hU], by rw [hU]; exact w.1, va_K.moved hW.alike C.2, w.2.1.weaken (fun _ _ _ _ => trivial)⟩⟩ rfl hn hz hst (lv_room hW) hdg hf) w.2.2 (fun q _ h => hFc q h) hFc (fun v t H1 locs1 ht hvm hp hB hz1 hk1 hS => ?_)
  obtain ⟨hP1, hK1, hD1⟩ := hB
  rw [ht] at hP1
  exact kk v H1 locs1 hp ⟨hP1, hD1.weaken (fun _ q _ h => hFc q.1 h), hS⟩
end BLX1
theorem x1Mi_of {l : Launch} {y : MethodName} {cc : ByteArray} {nL d : Nat} {ret : Option FieldType} {ty : FieldType} {P : bl_P} {u : bl_S} {As : List Value} {post : Int32 → bl_S → Prop} (hy : plainName y.cls = true) (hc : y.cls = RX1) (hret : ret = some ty) (hlen : (lg_sl (Value.ref (P.2.2 0) :: As)).length ≤ nL)
    (body : ∀ (p : Program) (e : Env) (s : State) (m : MethodId) (args : Array Value) (below : List Frame) (meth : Method) (c : Code) (A : Nat → Prop) (Q : State → Prop) (ls : Array Slot), x1C P cc nL p c s m args → (∀ q, s.heap.size ≤ q → A q) → (∀ (v : Int32) (z : bl_S) (H : Heap) (locs : List Loc) (ls : Array Slot) (pc : Nat), decode cc pc = .ok (.ireturn, 1) → narrow ty (.int v) = .int v → post v z → x1W P A s.heap z H locs → W p l e (bl_rm d) s m args below meth c H locs 0 0 Q (F0 m pc ls [.int v])) → x1W P A s.heap u s.heap [] → lv_has ls nL (lv_args 0 (Value.ref (P.2.2 0) :: As)) → W p l e (bl_rm d) s m args below meth c s.heap [] 0 0 Q (F0 m 0 ls [])) : x1Mi l y cc nL ret d P u As post := by
  intro sz
  refine Met.ofW (cc := cc) (maxL := nL) (ret := ret) hy rfl ?_
  intro p e s m args below meth c s₁ B hml hv
  obtain ⟨rfl, hsz, hP, hK, hD0⟩ := hv
  have hts := atoms_spec (ws := ws_ y cc nL ret) B.pre
  have hts : ∀ w ∈ lw_all, w.before _ s = true := fun w h => hts w (List.mem_cons_of_mem _ h)
  have hown : s.vm.findClass RX1 = some m.cls := by rw [← hc]; exact findClass_of_methodNamed B.named
  subst hsz
  have hD := hD0.self (sz := s.heap.size)
  generalize hAe : va_A (x1L P u) s.heap.size = A at hD ⊢
  have hA : ∀ q : Nat, s.heap.size ≤ q → A q := fun q h => by rw [← hAe]; exact Or.inr h
  have hl := lv_entry (Value.ref (P.2.2 0) :: As) (n := nL) hlen
  rw [lg_entry_eq]
  generalize (lg_sl (Value.ref (P.2.2 0) :: As) ++ List.replicate (nL - (lg_sl (Value.ref (P.2.2 0) :: As)).length) Slot.unset).toArray = ls at hl ⊢
  refine body p e s m _ below meth c A _ ls ⟨⟨B.exec, B.bytes, hml, hown, hts⟩, hK⟩ hA (fun v z H locs ls pc hd hn hp hw => ?_) ⟨hP, hD, va_S.rf⟩ hl
  exact W.zret (v := v) (ty := ty) B.exec B.bytes (by rw [B.returns, hret]) hn (fun t ht hW => ⟨⟨v, z, rfl, hp, by rw [ht]; exact hw.1, va_K.moved hW.alike hK, hw.2.1⟩, hw.2.2.F ht⟩) hw.2.2.2.2 hd B.notSynchronized
theorem x1Mv_of {l : Launch} {y : MethodName} {cc : ByteArray} {nL d : Nat} {P : bl_P} {u : bl_S} {As : List Value} {post : bl_S → Prop} (hy : plainName y.cls = true) (hc : y.cls = RX1) (hlen : (lg_sl (Value.ref (P.2.2 0) :: As)).length ≤ nL)
    (body : ∀ (p : Program) (e : Env) (s : State) (m : MethodId) (args : Array Value) (below : List Frame) (meth : Method) (c : Code) (A : Nat → Prop) (Q : State → Prop) (ls : Array Slot), x1C P cc nL p c s m args → (∀ q, s.heap.size ≤ q → A q) → (∀ (z : bl_S) (H : Heap) (locs : List Loc) (ls : Array Slot) (pc : Nat), decode cc pc = .ok (.return_, 1) → post z → x1W P A s.heap z H locs → W p l e (bl_rm d) s m args below meth c H locs 0 0 Q (F0 m pc ls [])) → x1W P A s.heap u s.heap [] → lv_has ls nL (lv_args 0 (Value.ref (P.2.2 0) :: As)) → W p l e (bl_rm d) s m args below meth c s.heap [] 0 0 Q (F0 m 0 ls [])) : x1Mv l y cc nL d P u As post := by
  intro sz
  refine Met.ofW (cc := cc) (maxL := nL) (ret := none) hy rfl ?_
  intro p e s m args below meth c s₁ B hml hv
  obtain ⟨rfl, hsz, hP, hK, hD0⟩ := hv
  have hts := atoms_spec (ws := ws_ y cc nL none) B.pre
  have hts : ∀ w ∈ lw_all, w.before _ s = true := fun w h => hts w (List.mem_cons_of_mem _ h)
  have hown : s.vm.findClass RX1 = some m.cls := by rw [← hc]; exact findClass_of_methodNamed B.named
  subst hsz
  have hD := hD0.self (sz := s.heap.size)
  generalize hAe : va_A (x1L P u) s.heap.size = A at hD ⊢
  have hA : ∀ q : Nat, s.heap.size ≤ q → A q := fun q h => by rw [← hAe]; exact Or.inr h
  have hl := lv_entry (Value.ref (P.2.2 0) :: As) (n := nL) hlen
  rw [lg_entry_eq]
  generalize (lg_sl (Value.ref (P.2.2 0) :: As) ++ List.replicate (nL - (lg_sl (Value.ref (P.2.2 0) :: As)).length) Slot.unset).toArray = ls at hl ⊢
  refine body p e s m _ below meth c A _ ls ⟨⟨B.exec, B.bytes, hml, hown, hts⟩, hK⟩ hA (fun z H locs ls pc hd hp hw => ?_) ⟨hP, hD, va_S.rf⟩ hl
  exact W.vret B.exec B.bytes B.returns (fun t ht hW => ⟨⟨z, rfl, hp, by rw [ht]; exact hw.1, va_K.moved hW.alike hK, hw.2.1⟩, hw.2.2.F ht⟩) hw.2.2.2.2 hd B.notSynchronized
theorem x1d_put : yX1_put.cls = RX1 ∧ yX1_put.cls ≠ "java/lang/invoke/MethodHandle" ∧ yX1_put.cls ≠ "java/lang/invoke/VarHandle" ∧ (parseMethodDescriptor yX1_put.desc).map (fun d => d.parameters.length) = some 2 := by decide +kernel
theorem x1gl_put : GoodIn lw_all (wsV RX0 21 RX1 yX1_put (ws_ yX1_put cX1_put 3 (some .int))) := lw_V q77 q78 q79 q22 q80
theorem x1d_hasRoom : yX1_hasRoom.cls = RX1 ∧ yX1_hasRoom.cls ≠ "java/lang/invoke/MethodHandle" ∧ yX1_hasRoom.cls ≠ "java/lang/invoke/VarHandle" ∧ (parseMethodDescriptor yX1_hasRoom.desc).map (fun d => d.parameters.length) = some 1 := by decide +kernel
theorem x1g_hasRoom : GoodIn lw_all (wsV RX1 67 RX1 yX1_hasRoom (ws_ yX1_hasRoom cX1_hasRoom 3 (some .boolean))) := lw_V q84 q86 qs0 q22 q87
theorem x1d_lastPlace : yX1_lastPlace.cls = RX1 ∧ yX1_lastPlace.cls ≠ "java/lang/invoke/MethodHandle" ∧ yX1_lastPlace.cls ≠ "java/lang/invoke/VarHandle" ∧ (parseMethodDescriptor yX1_lastPlace.desc).map (fun d => d.parameters.length) = some 1 := by decide +kernel
theorem x1g_lastPlace : GoodIn lw_all (wsV RX1 51 RX1 yX1_lastPlace (ws_ yX1_lastPlace cX1_lastPlace 2 (some .int))) := lw_V q88 q90 qs1 q22 q91
theorem x1d_append : yX1_append.cls = RX1 ∧ yX1_append.cls ≠ "java/lang/invoke/MethodHandle" ∧ yX1_append.cls ≠ "java/lang/invoke/VarHandle" ∧ (parseMethodDescriptor yX1_append.desc).map (fun d => d.parameters.length) = some 2 := by decide +kernel
theorem x1g_append : GoodIn lw_all (wsV RX1 70 RX1 yX1_append (ws_ yX1_append cX1_append 5 none)) := lw_V q92 q94 qs2 q22 q95
theorem x1d_slot : yX1_slot.cls = RX1 ∧ yX1_slot.cls ≠ "java/lang/invoke/MethodHandle" ∧ yX1_slot.cls ≠ "java/lang/invoke/VarHandle" ∧ (parseMethodDescriptor yX1_slot.desc).map (fun d => d.parameters.length) = some 2 := by decide +kernel
theorem x1g_slot : GoodIn lw_all (wsV RX1 55 RX1 yX1_slot (ws_ yX1_slot cX1_slot 3 (some .int))) := lw_V q96 q98 qs3 q22 q99
theorem x1d_take : yX1_take.cls = RX1 ∧ yX1_take.cls ≠ "java/lang/invoke/MethodHandle" ∧ yX1_take.cls ≠ "java/lang/invoke/VarHandle" ∧ (parseMethodDescriptor yX1_take.desc).map (fun d => d.parameters.length) = some 1 := by decide +kernel
theorem x1gl_take : GoodIn lw_all (wsV RX0 26 RX1 yX1_take (ws_ yX1_take cX1_take 2 (some .int))) := lw_V q100 q101 q102 q22 q103
theorem x1d_atEnd : yX1_atEnd.cls = RX1 ∧ yX1_atEnd.cls ≠ "java/lang/invoke/MethodHandle" ∧ yX1_atEnd.cls ≠ "java/lang/invoke/VarHandle" ∧ (parseMethodDescriptor yX1_atEnd.desc).map (fun d => d.parameters.length) = some 1 := by decide +kernel
theorem x1g_atEnd : GoodIn lw_all (wsV RX1 73 RX1 yX1_atEnd (ws_ yX1_atEnd cX1_atEnd 2 (some .boolean))) := lw_V q104 q106 qs4 q22 q107
theorem x1d_removeItem : yX1_removeItem.cls = RX1 ∧ yX1_removeItem.cls ≠ "java/lang/invoke/MethodHandle" ∧ yX1_removeItem.cls ≠ "java/lang/invoke/VarHandle" ∧ (parseMethodDescriptor yX1_removeItem.desc).map (fun d => d.parameters.length) = some 2 := by decide +kernel
theorem x1g_removeItem : GoodIn lw_all (wsV RX1 76 RX1 yX1_removeItem (ws_ yX1_removeItem cX1_removeItem 6 (some .int))) := lw_V q108 q110 qs5 q22 q111
theorem x1d_closeUp : yX1_closeUp.cls = RX1 ∧ yX1_closeUp.cls ≠ "java/lang/invoke/MethodHandle" ∧ yX1_closeUp.cls ≠ "java/lang/invoke/VarHandle" ∧ (parseMethodDescriptor yX1_closeUp.desc).map (fun d => d.parameters.length) = some 2 := by decide +kernel
theorem x1g_closeUp : GoodIn lw_all (wsV RX1 59 RX1 yX1_closeUp (ws_ yX1_closeUp cX1_closeUp 6 none)) := lw_V q112 q114 qs6 q22 q115
theorem x1d_lead : yX1_lead.cls = RX1 ∧ yX1_lead.cls ≠ "java/lang/invoke/MethodHandle" ∧ yX1_lead.cls ≠ "java/lang/invoke/VarHandle" ∧ (parseMethodDescriptor yX1_lead.desc).map (fun d => d.parameters.length) = some 2 := by decide +kernel
theorem x1gl_lead : GoodIn lw_all (wsV RX0 31 RX1 yX1_lead (ws_ yX1_lead cX1_lead 4 (some .int))) := lw_V q116 q117 q118 q22 q119
theorem x1d_arm : yX1_arm.cls = RX1 ∧ yX1_arm.cls ≠ "java/lang/invoke/MethodHandle" ∧ yX1_arm.cls ≠ "java/lang/invoke/VarHandle" ∧ (parseMethodDescriptor yX1_arm.desc).map (fun d => d.parameters.length) = some 4 := by decide +kernel
theorem x1gl_arm : GoodIn lw_all (wsV RX0 35 RX1 yX1_arm (ws_ yX1_arm cX1_arm 5 (some .int))) := lw_V q120 q121 q122 q22 q123
theorem x1d_tick : yX1_tick.cls = RX1 ∧ yX1_tick.cls ≠ "java/lang/invoke/MethodHandle" ∧ yX1_tick.cls ≠ "java/lang/invoke/VarHandle" ∧ (parseMethodDescriptor yX1_tick.desc).map (fun d => d.parameters.length) = some 1 := by decide +kernel
theorem x1gl_tick : GoodIn lw_all (wsV RX0 40 RX1 yX1_tick (ws_ yX1_tick cX1_tick 5 (some .int))) := lw_V q124 q125 q126 q22 q127
theorem x1d_tickOnce : yX1_tickOnce.cls = RX1 ∧ yX1_tickOnce.cls ≠ "java/lang/invoke/MethodHandle" ∧ yX1_tickOnce.cls ≠ "java/lang/invoke/VarHandle" ∧ (parseMethodDescriptor yX1_tickOnce.desc).map (fun d => d.parameters.length) = some 0 := by decide +kernel
theorem x1g_tickOnce : GoodIn lw_all (wsV RX1 98 RX1 yX1_tickOnce (ws_ yX1_tickOnce cX1_tickOnce 2 none)) := lw_V q128 q130 qs7 q22 q131
theorem x1d_passOn : yX1_passOn.cls = RX1 ∧ yX1_passOn.cls ≠ "java/lang/invoke/MethodHandle" ∧ yX1_passOn.cls ≠ "java/lang/invoke/VarHandle" ∧ (parseMethodDescriptor yX1_passOn.desc).map (fun d => d.parameters.length) = some 1 := by decide +kernel
theorem x1g_passOn : GoodIn lw_all (wsV RX1 88 RX1 yX1_passOn (ws_ yX1_passOn cX1_passOn 6 none)) := lw_V q132 q134 qs8 q22 q135
theorem x1d_advance : yX1_advance.cls = RX1 ∧ yX1_advance.cls ≠ "java/lang/invoke/MethodHandle" ∧ yX1_advance.cls ≠ "java/lang/invoke/VarHandle" ∧ (parseMethodDescriptor yX1_advance.desc).map (fun d => d.parameters.length) = some 1 := by decide +kernel
theorem x1g_advance : GoodIn lw_all (wsV RX1 92 RX1 yX1_advance (ws_ yX1_advance cX1_advance 3 none)) := lw_V q136 q138 qs9 q22 q139
theorem x1d_firstOpen : yX1_firstOpen.cls = RX1 ∧ yX1_firstOpen.cls ≠ "java/lang/invoke/MethodHandle" ∧ yX1_firstOpen.cls ≠ "java/lang/invoke/VarHandle" ∧ (parseMethodDescriptor yX1_firstOpen.desc).map (fun d => d.parameters.length) = some 1 := by decide +kernel
theorem x1g_firstOpen : GoodIn lw_all (wsV RX1 82 RX1 yX1_firstOpen (ws_ yX1_firstOpen cX1_firstOpen 3 (some .int))) := lw_V q140 q142 qs10 q22 q143
theorem x1d_moveArm : yX1_moveArm.cls = RX1 ∧ yX1_moveArm.cls ≠ "java/lang/invoke/MethodHandle" ∧ yX1_moveArm.cls ≠ "java/lang/invoke/VarHandle" ∧ (parseMethodDescriptor yX1_moveArm.desc).map (fun d => d.parameters.length) = some 1 := by decide +kernel
theorem x1g_moveArm : GoodIn lw_all (wsV RX1 95 RX1 yX1_moveArm (ws_ yX1_moveArm cX1_moveArm 3 none)) := lw_V q144 q146 qs11 q22 q147
theorem x1d_withinReach : yX1_withinReach.cls = RX1 ∧ yX1_withinReach.cls ≠ "java/lang/invoke/MethodHandle" ∧ yX1_withinReach.cls ≠ "java/lang/invoke/VarHandle" ∧ (parseMethodDescriptor yX1_withinReach.desc).map (fun d => d.parameters.length) = some 1 := by decide +kernel
theorem x1g_withinReach : GoodIn lw_all (wsV RX1 85 RX1 yX1_withinReach (ws_ yX1_withinReach cX1_withinReach 7 (some .int))) := lw_V q148 q150 qs12 q22 q151
theorem x1d_items : yX1_items.cls = RX1 ∧ yX1_items.cls ≠ "java/lang/invoke/MethodHandle" ∧ yX1_items.cls ≠ "java/lang/invoke/VarHandle" ∧ (parseMethodDescriptor yX1_items.desc).map (fun d => d.parameters.length) = some 1 := by decide +kernel
theorem x1gl_items : GoodIn lw_all (wsV RX0 44 RX1 yX1_items (ws_ yX1_items cX1_items 2 (some .int))) := lw_V q152 q153 q154 q22 q155
theorem x1d_place : yX1_place.cls = RX1 ∧ yX1_place.cls ≠ "java/lang/invoke/MethodHandle" ∧ yX1_place.cls ≠ "java/lang/invoke/VarHandle" ∧ (parseMethodDescriptor yX1_place.desc).map (fun d => d.parameters.length) = some 2 := by decide +kernel
theorem x1gl_place : GoodIn lw_all (wsV RX0 48 RX1 yX1_place (ws_ yX1_place cX1_place 3 (some .int))) := lw_V q156 q157 q158 q22 q159
theorem x1d_placeOf : yX1_placeOf.cls = RX1 ∧ yX1_placeOf.cls ≠ "java/lang/invoke/MethodHandle" ∧ yX1_placeOf.cls ≠ "java/lang/invoke/VarHandle" ∧ (parseMethodDescriptor yX1_placeOf.desc).map (fun d => d.parameters.length) = some 2 := by decide +kernel
theorem x1g_placeOf : GoodIn lw_all (wsV RX1 101 RX1 yX1_placeOf (ws_ yX1_placeOf cX1_placeOf 5 (some .int))) := lw_V q160 q162 qs13 q22 q163
theorem x1d_kind : yX1_kind.cls = RX1 ∧ yX1_kind.cls ≠ "java/lang/invoke/MethodHandle" ∧ yX1_kind.cls ≠ "java/lang/invoke/VarHandle" ∧ (parseMethodDescriptor yX1_kind.desc).map (fun d => d.parameters.length) = some 2 := by decide +kernel
theorem x1gl_kind : GoodIn lw_all (wsV RX0 52 RX1 yX1_kind (ws_ yX1_kind cX1_kind 3 (some .int))) := lw_V q164 q165 q166 q22 q167
theorem x1d_out : yX1_out.cls = RX1 ∧ yX1_out.cls ≠ "java/lang/invoke/MethodHandle" ∧ yX1_out.cls ≠ "java/lang/invoke/VarHandle" ∧ (parseMethodDescriptor yX1_out.desc).map (fun d => d.parameters.length) = some 0 := by decide +kernel
theorem x1gl_out : GoodIn lw_all (wsV RX0 56 RX1 yX1_out (ws_ yX1_out cX1_out 1 (some .int))) := lw_V q168 q169 q170 q22 q171
theorem x1d_held : yX1_held.cls = RX1 ∧ yX1_held.cls ≠ "java/lang/invoke/MethodHandle" ∧ yX1_held.cls ≠ "java/lang/invoke/VarHandle" ∧ (parseMethodDescriptor yX1_held.desc).map (fun d => d.parameters.length) = some 1 := by decide +kernel
theorem x1gl_held : GoodIn lw_all (wsV RX0 61 RX1 yX1_held (ws_ yX1_held cX1_held 2 (some .int))) := lw_V q172 q173 q174 q22 q175
theorem x1d_room : yX1_room.cls = RX1 ∧ yX1_room.cls ≠ "java/lang/invoke/MethodHandle" ∧ yX1_room.cls ≠ "java/lang/invoke/VarHandle" ∧ (parseMethodDescriptor yX1_room.desc).map (fun d => d.parameters.length) = some 1 := by decide +kernel
theorem x1gl_room : GoodIn lw_all (wsV RX0 65 RX1 yX1_room (ws_ yX1_room cX1_room 2 (some .boolean))) := lw_V q176 q177 q178 q22 q179
theorem x1d_moving : yX1_moving.cls = RX1 ∧ yX1_moving.cls ≠ "java/lang/invoke/MethodHandle" ∧ yX1_moving.cls ≠ "java/lang/invoke/VarHandle" ∧ (parseMethodDescriptor yX1_moving.desc).map (fun d => d.parameters.length) = some 1 := by decide +kernel
theorem x1gl_moving : GoodIn lw_all (wsV RX0 70 RX1 yX1_moving (ws_ yX1_moving cX1_moving 2 (some .int))) := lw_V q180 q181 q182 q22 q183
def x2L (P : bl_P) (u : bl_S) : va_W := [(P.2.2 0, .inr (1, [.int u.2.1, .ref (P.2.2 1), .ref (P.2.2 2), .ref (P.2.2 3), .ref (P.2.2 4), .ref (P.2.2 5), .ref (P.2.2 6), .ref (P.2.2 7), .ref (P.2.2 8), .ref (P.2.2 9), .ref (P.2.2 10), .int u.2.2])), (P.2.2 1, .inl (P.2.1 1, 4, .inl (u.1 1))), (P.2.2 2, .inl (P.2.1 2, 64, .inl (u.1 2))), (P.2.2 3, .inl (P.2.1 3, 64, .inl (u.1 3))), (P.2.2 4, .inl (P.2.1 4, 4, .inl (u.1 4))), (P.2.2 5, .inl (P.2.1 5, 2, .inl (u.1 5))), (P.2.2 6, .inl (P.2.1 6, 2, .inl (u.1 6))), (P.2.2 7, .inl (P.2.1 7, 2, .inl (u.1 7))), (P.2.2 8, .inl (P.2.1 8, 2, .inl (u.1 8))), (P.2.2 9, .inl (P.2.1 9, 2, .inl (u.1 9))), (P.2.2 10, .inl (P.2.1 10, 2, .inl (u.1 10)))]
def x2T (P : bl_P) : List (ClassId × FieldType) := [(P.2.1 1, .int), (P.2.1 2, .int), (P.2.1 3, .int), (P.2.1 4, .int), (P.2.1 5, .boolean), (P.2.1 6, .int), (P.2.1 7, .int), (P.2.1 8, .int), (P.2.1 9, .int), (P.2.1 10, .int)]
def x2W (P : bl_P) (A : Nat → Prop) (H0 : Heap) (u : bl_S) (H : Heap) (locs : List Loc) : Prop := va_P P.1 vwCl (x2L P u) H ∧ va_D A (x2L P u) ∧ va_S A H0 H locs
def x2C (P : bl_P) (cc : ByteArray) (nL : Nat) (p : Program) (c : Code) (s : State) (m : MethodId) (args : Array Value) : Prop := CallFix p m c cc nL s args lw_all RX2 ∧ va_K P.1 vwCl (x2T P) s
def x2Pc (P : bl_P) (u : bl_S) (As : List Value) (sz : Nat) : Array Value → State → Prop := va_Pc (.ref (P.2.2 0) :: As) (fun U => U.heap.size = sz ∧ va_P P.1 vwCl (x2L P u) U.heap ∧ va_K P.1 vwCl (x2T P) U ∧ va_D (fun _ => True) (x2L P u))
def x2B (P : bl_P) (A : Nat → Prop) (u : bl_S) (t : State) : Prop := va_P P.1 vwCl (x2L P u) t.heap ∧ va_K P.1 vwCl (x2T P) t ∧ va_D A (x2L P u)
/-- a contract with an int (boolean) answer -/
def x2Mi (l : Launch) (y : MethodName) (cc : ByteArray) (nL : Nat) (ret : Option FieldType) (d : Nat) (P : bl_P) (u : bl_S) (As : List Value) (post : Int32 → bl_S → Prop) : Prop := ∀ sz : Nat, Met l y (ws_ y cc nL ret) (bl_rm d) (x2Pc P u As sz) (va_Qi post (x2B P (va_A (x2L P u) sz)) (va_A (x2L P u) sz)) 0 0 (va_A (x2L P u) sz)
/-- a contract without an answer -/
def x2Mv (l : Launch) (y : MethodName) (cc : ByteArray) (nL : Nat) (d : Nat) (P : bl_P) (u : bl_S) (As : List Value) (post : bl_S → Prop) : Prop := ∀ sz : Nat, Met l y (ws_ y cc nL none) (bl_rm d) (x2Pc P u As sz) (va_Qv post (x2B P (va_A (x2L P u) sz)) (va_A (x2L P u) sz)) 0 0 (va_A (x2L P u) sz)
section BLX2
variable {p : Program} {l : Launch} {e : Env} {R : Room} {s : State} {m : MethodId} {args : Array Value} {below : List Frame} {meth : Method} {c : Code} {H : Heap} {locs : List Loc} {cells slots : Nat} {Q : State → Prop} {cc : ByteArray} {nL pc : Nat} {ls : Array Slot} {rest : List Value} {P : bl_P} {A : Nat → Prop} {u : bl_S}
theorem x2_length (C : x2C P cc nL p c s m args) (w : x2W P A s.heap u H locs) {v : Int32} (hv : u.2.1 = v) (hdg : decode cc pc = .ok (.getfield 41, 3)) (kk : W p l e R s m args below meth c H locs cells slots Q (F0 m (pc + 3) ls (.int v :: rest))) : W p l e R s m args below meth c H locs cells slots Q (F0 m pc ls (.ref (P.2.2 0) :: rest)) := by
  subst hv
  exact va_get (D := P.1) (ci := 1) (v := .int u.2.1) (C := RX2) (T := TX2) (N := 12) C.1.1 C.1.2.1 C.1.2.2.2.2 in_X2 C.1.2.2.2.1 C.2 w.1 0 rfl rfl 0 (by decide) (C.1.2.2.2.2 _ q193) (fun _ h9 => h9) rfl hdg kk
theorem x2_gone (C : x2C P cc nL p c s m args) (w : x2W P A s.heap u H locs) {v : Int32} (hv : u.2.2 = v) (hdg : decode cc pc = .ok (.getfield 60, 3)) (kk : W p l e R s m args below meth c H locs cells slots Q (F0 m (pc + 3) ls (.int v :: rest))) : W p l e R s m args below meth c H locs cells slots Q (F0 m pc ls (.ref (P.2.2 0) :: rest)) := by
  subst hv
  exact va_get (D := P.1) (ci := 1) (v := .int u.2.2) (C := RX2) (T := TX2) (N := 12) C.1.1 C.1.2.1 C.1.2.2.2.2 in_X2 C.1.2.2.2.1 C.2 w.1 0 rfl rfl 11 (by decide) (C.1.2.2.2.2 _ q204) (fun _ h9 => h9) rfl hdg kk
theorem x2_put_gone (C : x2C P cc nL p c s m args) (w : x2W P A s.heap u H locs) {v : Int32} (hdg : decode cc pc = .ok (.putfield 60, 3)) (kk : ∀ (H1 : Heap) (locs1 : List Loc), x2W P A s.heap (u.1, u.2.1, v) H1 locs1 → W p l e R s m args below meth c H1 locs1 cells slots Q (F0 m (pc + 3) ls rest)) : W p l e R s m args below meth c H locs cells slots Q (F0 m pc ls (.int v :: .ref (P.2.2 0) :: rest)) := by
  exact va_put (D := P.1) (ci := 1) (v := .int v) (ty := .int) (C := RX2) (T := TX2) (N := 12) C.1.1 C.1.2.1 C.1.2.2.2.2 in_X2 tyX2 tyX2_ok nmX2 C.1.2.2.2.1 C.2 w.1 w.2.1 w.2.2 0 rfl rfl 11 (by decide) (C.1.2.2.2.2 _ q204) (fun _ h9 => h9) rfl (by decide +kernel) rfl rfl (Nat.le_of_ble_eq_true rfl) hdg (fun H1 locs1 hP hD hS => kk H1 locs1 ⟨hP, hD, hS⟩)
theorem x2_counts (C : x2C P cc nL p c s m args) (w : x2W P A s.heap u H locs) (hdg : decode cc pc = .ok (.getfield 7, 3)) (kk : W p l e R s m args below meth c H locs cells slots Q (F0 m (pc + 3) ls (.ref (P.2.2 1) :: rest))) : W p l e R s m args below meth c H locs cells slots Q (F0 m pc ls (.ref (P.2.2 0) :: rest)) :=
  va_get (D := P.1) (ci := 1) (v := .ref (P.2.2 1)) (C := RX2) (T := TX2) (N := 12) C.1.1 C.1.2.1 C.1.2.2.2.2 in_X2 C.1.2.2.2.1 C.2 w.1 0 rfl rfl 1 (by decide) (C.1.2.2.2.2 _ q194) (fun _ h9 => h9) rfl hdg kk
theorem x2_ld_counts (C : x2C P cc nL p c s m args) (w : x2W P A s.heap u H locs) {i v : Int32} {j : Nat} (hj : j < 4) (hi : i = nI j) (hv : u.1 1 j = v) (hdg : decode cc pc = .ok (.iaload, 1)) (kk : W p l e R s m args below meth c H locs cells slots Q (F0 m (pc + 1) ls (.int v :: rest))) : W p l e R s m args below meth c H locs cells slots Q (F0 m pc ls (.int i :: .ref (P.2.2 1) :: rest)) := by
  subst hi
  subst hv
  have hc : (nI j).toNatClampNeg = j := nI_clamp (by omega)
  refine va_iald (D := P.1) (n := 4) (f := u.1 1) C.1.1 C.1.2.1 C.2 w.1 1 0 rfl rfl (vp_in_nI hj (by decide)) hdg ?_
  rw [hc]
  exact kk
theorem x2_st_counts (C : x2C P cc nL p c s m args) (w : x2W P A s.heap u H locs) {i v : Int32} {j : Nat} (hj : j < 4) (hi : i = nI j) (hdg : decode cc pc = .ok (.iastore, 1)) (kk : ∀ (H1 : Heap) (locs1 : List Loc), x2W P A s.heap (bl_st u 1 j v) H1 locs1 → W p l e R s m args below meth c H1 locs1 cells slots Q (F0 m (pc + 1) ls rest)) : W p l e R s m args below meth c H locs cells slots Q (F0 m pc ls (.int v :: .int i :: .ref (P.2.2 1) :: rest)) := by
  subst hi
  have hc : (nI j).toNatClampNeg = j := nI_clamp (by omega)
  refine va_iast (D := P.1) (n := 4) (f := u.1 1) C.1.1 C.1.2.1 C.2 w.1 w.2.1 w.2.2 1 0 rfl rfl (vp_in_nI hj (by decide)) hdg (fun H1 locs1 hP hD hS => ?_)
  rw [hc] at hP hD
  exact kk H1 locs1 ⟨hP, hD, hS⟩
theorem x2_places (C : x2C P cc nL p c s m args) (w : x2W P A s.heap u H locs) (hdg : decode cc pc = .ok (.getfield 13, 3)) (kk : W p l e R s m args below meth c H locs cells slots Q (F0 m (pc + 3) ls (.ref (P.2.2 2) :: rest))) : W p l e R s m args below meth c H locs cells slots Q (F0 m pc ls (.ref (P.2.2 0) :: rest)) :=
  va_get (D := P.1) (ci := 1) (v := .ref (P.2.2 2)) (C := RX2) (T := TX2) (N := 12) C.1.1 C.1.2.1 C.1.2.2.2.2 in_X2 C.1.2.2.2.1 C.2 w.1 0 rfl rfl 2 (by decide) (C.1.2.2.2.2 _ q195) (fun _ h9 => h9) rfl hdg kk
theorem x2_ld_places (C : x2C P cc nL p c s m args) (w : x2W P A s.heap u H locs) {i v : Int32} {j : Nat} (hj : j < 64) (hi : i = nI j) (hv : u.1 2 j = v) (hdg : decode cc pc = .ok (.iaload, 1)) (kk : W p l e R s m args below meth c H locs cells slots Q (F0 m (pc + 1) ls (.int v :: rest))) : W p l e R s m args below meth c H locs cells slots Q (F0 m pc ls (.int i :: .ref (P.2.2 2) :: rest)) := by
  subst hi
  subst hv
  have hc : (nI j).toNatClampNeg = j := nI_clamp (by omega)
  refine va_iald (D := P.1) (n := 64) (f := u.1 2) C.1.1 C.1.2.1 C.2 w.1 2 1 rfl rfl (vp_in_nI hj (by decide)) hdg ?_
  rw [hc]
  exact kk
theorem x2_st_places (C : x2C P cc nL p c s m args) (w : x2W P A s.heap u H locs) {i v : Int32} {j : Nat} (hj : j < 64) (hi : i = nI j) (hdg : decode cc pc = .ok (.iastore, 1)) (kk : ∀ (H1 : Heap) (locs1 : List Loc), x2W P A s.heap (bl_st u 2 j v) H1 locs1 → W p l e R s m args below meth c H1 locs1 cells slots Q (F0 m (pc + 1) ls rest)) : W p l e R s m args below meth c H locs cells slots Q (F0 m pc ls (.int v :: .int i :: .ref (P.2.2 2) :: rest)) := by
  subst hi
  have hc : (nI j).toNatClampNeg = j := nI_clamp (by omega)
  refine va_iast (D := P.1) (n := 64) (f := u.1 2) C.1.1 C.1.2.1 C.2 w.1 w.2.1 w.2.2 2 1 rfl rfl (vp_in_nI hj (by decide)) hdg (fun H1 locs1 hP hD hS => ?_)
  rw [hc] at hP hD
  exact kk H1 locs1 ⟨hP, hD, hS⟩
theorem x2_kinds (C : x2C P cc nL p c s m args) (w : x2W P A s.heap u H locs) (hdg : decode cc pc = .ok (.getfield 16, 3)) (kk : W p l e R s m args below meth c H locs cells slots Q (F0 m (pc + 3) ls (.ref (P.2.2 3) :: rest))) : W p l e R s m args below meth c H locs cells slots Q (F0 m pc ls (.ref (P.2.2 0) :: rest)) :=
  va_get (D := P.1) (ci := 1) (v := .ref (P.2.2 3)) (C := RX2) (T := TX2) (N := 12) C.1.1 C.1.2.1 C.1.2.2.2.2 in_X2 C.1.2.2.2.1 C.2 w.1 0 rfl rfl 3 (by decide) (C.1.2.2.2.2 _ q196) (fun _ h9 => h9) rfl hdg kk
theorem x2_ld_kinds (C : x2C P cc nL p c s m args) (w : x2W P A s.heap u H locs) {i v : Int32} {j : Nat} (hj : j < 64) (hi : i = nI j) (hv : u.1 3 j = v) (hdg : decode cc pc = .ok (.iaload, 1)) (kk : W p l e R s m args below meth c H locs cells slots Q (F0 m (pc + 1) ls (.int v :: rest))) : W p l e R s m args below meth c H locs cells slots Q (F0 m pc ls (.int i :: .ref (P.2.2 3) :: rest)) := by
  subst hi
  subst hv
  have hc : (nI j).toNatClampNeg = j := nI_clamp (by omega)
  refine va_iald (D := P.1) (n := 64) (f := u.1 3) C.1.1 C.1.2.1 C.2 w.1 3 2 rfl rfl (vp_in_nI hj (by decide)) hdg ?_
  rw [hc]
  exact kk
theorem x2_st_kinds (C : x2C P cc nL p c s m args) (w : x2W P A s.heap u H locs) {i v : Int32} {j : Nat} (hj : j < 64) (hi : i = nI j) (hdg : decode cc pc = .ok (.iastore, 1)) (kk : ∀ (H1 : Heap) (locs1 : List Loc), x2W P A s.heap (bl_st u 3 j v) H1 locs1 → W p l e R s m args below meth c H1 locs1 cells slots Q (F0 m (pc + 1) ls rest)) : W p l e R s m args below meth c H locs cells slots Q (F0 m pc ls (.int v :: .int i :: .ref (P.2.2 3) :: rest)) := by
  subst hi
  have hc : (nI j).toNatClampNeg = j := nI_clamp (by omega)
  refine va_iast (D := P.1) (n := 64) (f := u.1 3) C.1.1 C.1.2.1 C.2 w.1 w.2.1 w.2.2 3 2 rfl rfl (vp_in_nI hj (by decide)) hdg (fun H1 locs1 hP hD hS => ?_)
  rw [hc] at hP hD
  exact kk H1 locs1 ⟨hP, hD, hS⟩
theorem x2_leads (C : x2C P cc nL p c s m args) (w : x2W P A s.heap u H locs) (hdg : decode cc pc = .ok (.getfield 19, 3)) (kk : W p l e R s m args below meth c H locs cells slots Q (F0 m (pc + 3) ls (.ref (P.2.2 4) :: rest))) : W p l e R s m args below meth c H locs cells slots Q (F0 m pc ls (.ref (P.2.2 0) :: rest)) :=
  va_get (D := P.1) (ci := 1) (v := .ref (P.2.2 4)) (C := RX2) (T := TX2) (N := 12) C.1.1 C.1.2.1 C.1.2.2.2.2 in_X2 C.1.2.2.2.1 C.2 w.1 0 rfl rfl 4 (by decide) (C.1.2.2.2.2 _ q197) (fun _ h9 => h9) rfl hdg kk
theorem x2_ld_leads (C : x2C P cc nL p c s m args) (w : x2W P A s.heap u H locs) {i v : Int32} {j : Nat} (hj : j < 4) (hi : i = nI j) (hv : u.1 4 j = v) (hdg : decode cc pc = .ok (.iaload, 1)) (kk : W p l e R s m args below meth c H locs cells slots Q (F0 m (pc + 1) ls (.int v :: rest))) : W p l e R s m args below meth c H locs cells slots Q (F0 m pc ls (.int i :: .ref (P.2.2 4) :: rest)) := by
  subst hi
  subst hv
  have hc : (nI j).toNatClampNeg = j := nI_clamp (by omega)
  refine va_iald (D := P.1) (n := 4) (f := u.1 4) C.1.1 C.1.2.1 C.2 w.1 4 3 rfl rfl (vp_in_nI hj (by decide)) hdg ?_
  rw [hc]
  exact kk
theorem x2_st_leads (C : x2C P cc nL p c s m args) (w : x2W P A s.heap u H locs) {i v : Int32} {j : Nat} (hj : j < 4) (hi : i = nI j) (hdg : decode cc pc = .ok (.iastore, 1)) (kk : ∀ (H1 : Heap) (locs1 : List Loc), x2W P A s.heap (bl_st u 4 j v) H1 locs1 → W p l e R s m args below meth c H1 locs1 cells slots Q (F0 m (pc + 1) ls rest)) : W p l e R s m args below meth c H locs cells slots Q (F0 m pc ls (.int v :: .int i :: .ref (P.2.2 4) :: rest)) := by
  subst hi
  have hc : (nI j).toNatClampNeg = j := nI_clamp (by omega)
  refine va_iast (D := P.1) (n := 4) (f := u.1 4) C.1.1 C.1.2.1 C.2 w.1 w.2.1 w.2.2 4 3 rfl rfl (vp_in_nI hj (by decide)) hdg (fun H1 locs1 hP hD hS => ?_)
  rw [hc] at hP hD
  exact kk H1 locs1 ⟨hP, hD, hS⟩
theorem x2_isSet (C : x2C P cc nL p c s m args) (w : x2W P A s.heap u H locs) (hdg : decode cc pc = .ok (.getfield 22, 3)) (kk : W p l e R s m args below meth c H locs cells slots Q (F0 m (pc + 3) ls (.ref (P.2.2 5) :: rest))) : W p l e R s m args below meth c H locs cells slots Q (F0 m pc ls (.ref (P.2.2 0) :: rest)) :=
  va_get (D := P.1) (ci := 1) (v := .ref (P.2.2 5)) (C := RX2) (T := TX2) (N := 12) C.1.1 C.1.2.1 C.1.2.2.2.2 in_X2 C.1.2.2.2.1 C.2 w.1 0 rfl rfl 5 (by decide) (C.1.2.2.2.2 _ q198) (fun _ h9 => h9) rfl hdg kk
theorem x2_ld_isSet (C : x2C P cc nL p c s m args) (w : x2W P A s.heap u H locs) {i v : Int32} {j : Nat} (hj : j < 2) (hi : i = nI j) (hv : u.1 5 j = v) (hdg : decode cc pc = .ok (.baload, 1)) (kk : W p l e R s m args below meth c H locs cells slots Q (F0 m (pc + 1) ls (.int v :: rest))) : W p l e R s m args below meth c H locs cells slots Q (F0 m pc ls (.int i :: .ref (P.2.2 5) :: rest)) := by
  subst hi
  subst hv
  have hc : (nI j).toNatClampNeg = j := nI_clamp (by omega)
  refine va_zald (D := P.1) (n := 2) (f := u.1 5) C.1.1 C.1.2.1 C.2 w.1 5 4 rfl rfl (vp_in_nI hj (by decide)) hdg ?_
  rw [hc]
  exact kk
theorem x2_st_isSet (C : x2C P cc nL p c s m args) (w : x2W P A s.heap u H locs) {i : Int32} {j : Nat} (hj : j < 2) (hi : i = nI j) (hdg : decode cc pc = .ok (.bastore, 1)) (kk : ∀ (H1 : Heap) (locs1 : List Loc), x2W P A s.heap (bl_st u 5 j 1) H1 locs1 → W p l e R s m args below meth c H1 locs1 cells slots Q (F0 m (pc + 1) ls rest)) : W p l e R s m args below meth c H locs cells slots Q (F0 m pc ls (.int 1 :: .int i :: .ref (P.2.2 5) :: rest)) := by
  subst hi
  have hc : (nI j).toNatClampNeg = j := nI_clamp (by omega)
  refine va_zast (D := P.1) (n := 2) (f := u.1 5) C.1.1 C.1.2.1 C.2 w.1 w.2.1 w.2.2 5 4 rfl rfl (vp_in_nI hj (by decide)) hdg (fun H1 locs1 hP hD hS => ?_)
  rw [hc] at hP hD
  exact kk H1 locs1 ⟨hP, hD, hS⟩
theorem x2_from (C : x2C P cc nL p c s m args) (w : x2W P A s.heap u H locs) (hdg : decode cc pc = .ok (.getfield 26, 3)) (kk : W p l e R s m args below meth c H locs cells slots Q (F0 m (pc + 3) ls (.ref (P.2.2 6) :: rest))) : W p l e R s m args below meth c H locs cells slots Q (F0 m pc ls (.ref (P.2.2 0) :: rest)) :=
  va_get (D := P.1) (ci := 1) (v := .ref (P.2.2 6)) (C := RX2) (T := TX2) (N := 12) C.1.1 C.1.2.1 C.1.2.2.2.2 in_X2 C.1.2.2.2.1 C.2 w.1 0 rfl rfl 6 (by decide) (C.1.2.2.2.2 _ q199) (fun _ h9 => h9) rfl hdg kk
theorem x2_ld_from (C : x2C P cc nL p c s m args) (w : x2W P A s.heap u H locs) {i v : Int32} {j : Nat} (hj : j < 2) (hi : i = nI j) (hv : u.1 6 j = v) (hdg : decode cc pc = .ok (.iaload, 1)) (kk : W p l e R s m args below meth c H locs cells slots Q (F0 m (pc + 1) ls (.int v :: rest))) : W p l e R s m args below meth c H locs cells slots Q (F0 m pc ls (.int i :: .ref (P.2.2 6) :: rest)) := by
  subst hi
  subst hv
  have hc : (nI j).toNatClampNeg = j := nI_clamp (by omega)
  refine va_iald (D := P.1) (n := 2) (f := u.1 6) C.1.1 C.1.2.1 C.2 w.1 6 5 rfl rfl (vp_in_nI hj (by decide)) hdg ?_
  rw [hc]
  exact kk
theorem x2_st_from (C : x2C P cc nL p c s m args) (w : x2W P A s.heap u H locs) {i v : Int32} {j : Nat} (hj : j < 2) (hi : i = nI j) (hdg : decode cc pc = .ok (.iastore, 1)) (kk : ∀ (H1 : Heap) (locs1 : List Loc), x2W P A s.heap (bl_st u 6 j v) H1 locs1 → W p l e R s m args below meth c H1 locs1 cells slots Q (F0 m (pc + 1) ls rest)) : W p l e R s m args below meth c H locs cells slots Q (F0 m pc ls (.int v :: .int i :: .ref (P.2.2 6) :: rest)) := by
  subst hi
  have hc : (nI j).toNatClampNeg = j := nI_clamp (by omega)
  refine va_iast (D := P.1) (n := 2) (f := u.1 6) C.1.1 C.1.2.1 C.2 w.1 w.2.1 w.2.2 6 5 rfl rfl (vp_in_nI hj (by decide)) hdg (fun H1 locs1 hP hD hS => ?_)
  rw [hc] at hP hD
  exact kk H1 locs1 ⟨hP, hD, hS⟩
theorem x2_onto (C : x2C P cc nL p c s m args) (w : x2W P A s.heap u H locs) (hdg : decode cc pc = .ok (.getfield 29, 3)) (kk : W p l e R s m args below meth c H locs cells slots Q (F0 m (pc + 3) ls (.ref (P.2.2 7) :: rest))) : W p l e R s m args below meth c H locs cells slots Q (F0 m pc ls (.ref (P.2.2 0) :: rest)) :=
  va_get (D := P.1) (ci := 1) (v := .ref (P.2.2 7)) (C := RX2) (T := TX2) (N := 12) C.1.1 C.1.2.1 C.1.2.2.2.2 in_X2 C.1.2.2.2.1 C.2 w.1 0 rfl rfl 7 (by decide) (C.1.2.2.2.2 _ q200) (fun _ h9 => h9) rfl hdg kk
theorem x2_ld_onto (C : x2C P cc nL p c s m args) (w : x2W P A s.heap u H locs) {i v : Int32} {j : Nat} (hj : j < 2) (hi : i = nI j) (hv : u.1 7 j = v) (hdg : decode cc pc = .ok (.iaload, 1)) (kk : W p l e R s m args below meth c H locs cells slots Q (F0 m (pc + 1) ls (.int v :: rest))) : W p l e R s m args below meth c H locs cells slots Q (F0 m pc ls (.int i :: .ref (P.2.2 7) :: rest)) := by
  subst hi
  subst hv
  have hc : (nI j).toNatClampNeg = j := nI_clamp (by omega)
  refine va_iald (D := P.1) (n := 2) (f := u.1 7) C.1.1 C.1.2.1 C.2 w.1 7 6 rfl rfl (vp_in_nI hj (by decide)) hdg ?_
  rw [hc]
  exact kk
theorem x2_st_onto (C : x2C P cc nL p c s m args) (w : x2W P A s.heap u H locs) {i v : Int32} {j : Nat} (hj : j < 2) (hi : i = nI j) (hdg : decode cc pc = .ok (.iastore, 1)) (kk : ∀ (H1 : Heap) (locs1 : List Loc), x2W P A s.heap (bl_st u 7 j v) H1 locs1 → W p l e R s m args below meth c H1 locs1 cells slots Q (F0 m (pc + 1) ls rest)) : W p l e R s m args below meth c H locs cells slots Q (F0 m pc ls (.int v :: .int i :: .ref (P.2.2 7) :: rest)) := by
  subst hi
  have hc : (nI j).toNatClampNeg = j := nI_clamp (by omega)
  refine va_iast (D := P.1) (n := 2) (f := u.1 7) C.1.1 C.1.2.1 C.2 w.1 w.2.1 w.2.2 7 6 rfl rfl (vp_in_nI hj (by decide)) hdg (fun H1 locs1 hP hD hS => ?_)
  rw [hc] at hP hD
  exact kk H1 locs1 ⟨hP, hD, hS⟩
theorem x2_reaches (C : x2C P cc nL p c s m args) (w : x2W P A s.heap u H locs) (hdg : decode cc pc = .ok (.getfield 32, 3)) (kk : W p l e R s m args below meth c H locs cells slots Q (F0 m (pc + 3) ls (.ref (P.2.2 8) :: rest))) : W p l e R s m args below meth c H locs cells slots Q (F0 m pc ls (.ref (P.2.2 0) :: rest)) :=
  va_get (D := P.1) (ci := 1) (v := .ref (P.2.2 8)) (C := RX2) (T := TX2) (N := 12) C.1.1 C.1.2.1 C.1.2.2.2.2 in_X2 C.1.2.2.2.1 C.2 w.1 0 rfl rfl 8 (by decide) (C.1.2.2.2.2 _ q201) (fun _ h9 => h9) rfl hdg kk
theorem x2_ld_reaches (C : x2C P cc nL p c s m args) (w : x2W P A s.heap u H locs) {i v : Int32} {j : Nat} (hj : j < 2) (hi : i = nI j) (hv : u.1 8 j = v) (hdg : decode cc pc = .ok (.iaload, 1)) (kk : W p l e R s m args below meth c H locs cells slots Q (F0 m (pc + 1) ls (.int v :: rest))) : W p l e R s m args below meth c H locs cells slots Q (F0 m pc ls (.int i :: .ref (P.2.2 8) :: rest)) := by
  subst hi
  subst hv
  have hc : (nI j).toNatClampNeg = j := nI_clamp (by omega)
  refine va_iald (D := P.1) (n := 2) (f := u.1 8) C.1.1 C.1.2.1 C.2 w.1 8 7 rfl rfl (vp_in_nI hj (by decide)) hdg ?_
  rw [hc]
  exact kk
theorem x2_st_reaches (C : x2C P cc nL p c s m args) (w : x2W P A s.heap u H locs) {i v : Int32} {j : Nat} (hj : j < 2) (hi : i = nI j) (hdg : decode cc pc = .ok (.iastore, 1)) (kk : ∀ (H1 : Heap) (locs1 : List Loc), x2W P A s.heap (bl_st u 8 j v) H1 locs1 → W p l e R s m args below meth c H1 locs1 cells slots Q (F0 m (pc + 1) ls rest)) : W p l e R s m args below meth c H locs cells slots Q (F0 m pc ls (.int v :: .int i :: .ref (P.2.2 8) :: rest)) := by
  subst hi
  have hc : (nI j).toNatClampNeg = j := nI_clamp (by omega)
  refine va_iast (D := P.1) (n := 2) (f := u.1 8) C.1.1 C.1.2.1 C.2 w.1 w.2.1 w.2.2 8 7 rfl rfl (vp_in_nI hj (by decide)) hdg (fun H1 locs1 hP hD hS => ?_)
  rw [hc] at hP hD
  exact kk H1 locs1 ⟨hP, hD, hS⟩
theorem x2_takes (C : x2C P cc nL p c s m args) (w : x2W P A s.heap u H locs) (hdg : decode cc pc = .ok (.getfield 35, 3)) (kk : W p l e R s m args below meth c H locs cells slots Q (F0 m (pc + 3) ls (.ref (P.2.2 9) :: rest))) : W p l e R s m args below meth c H locs cells slots Q (F0 m pc ls (.ref (P.2.2 0) :: rest)) :=
  va_get (D := P.1) (ci := 1) (v := .ref (P.2.2 9)) (C := RX2) (T := TX2) (N := 12) C.1.1 C.1.2.1 C.1.2.2.2.2 in_X2 C.1.2.2.2.1 C.2 w.1 0 rfl rfl 9 (by decide) (C.1.2.2.2.2 _ q202) (fun _ h9 => h9) rfl hdg kk
theorem x2_ld_takes (C : x2C P cc nL p c s m args) (w : x2W P A s.heap u H locs) {i v : Int32} {j : Nat} (hj : j < 2) (hi : i = nI j) (hv : u.1 9 j = v) (hdg : decode cc pc = .ok (.iaload, 1)) (kk : W p l e R s m args below meth c H locs cells slots Q (F0 m (pc + 1) ls (.int v :: rest))) : W p l e R s m args below meth c H locs cells slots Q (F0 m pc ls (.int i :: .ref (P.2.2 9) :: rest)) := by
  subst hi
  subst hv
  have hc : (nI j).toNatClampNeg = j := nI_clamp (by omega)
  refine va_iald (D := P.1) (n := 2) (f := u.1 9) C.1.1 C.1.2.1 C.2 w.1 9 8 rfl rfl (vp_in_nI hj (by decide)) hdg ?_
  rw [hc]
  exact kk
theorem x2_st_takes (C : x2C P cc nL p c s m args) (w : x2W P A s.heap u H locs) {i v : Int32} {j : Nat} (hj : j < 2) (hi : i = nI j) (hdg : decode cc pc = .ok (.iastore, 1)) (kk : ∀ (H1 : Heap) (locs1 : List Loc), x2W P A s.heap (bl_st u 9 j v) H1 locs1 → W p l e R s m args below meth c H1 locs1 cells slots Q (F0 m (pc + 1) ls rest)) : W p l e R s m args below meth c H locs cells slots Q (F0 m pc ls (.int v :: .int i :: .ref (P.2.2 9) :: rest)) := by
  subst hi
  have hc : (nI j).toNatClampNeg = j := nI_clamp (by omega)
  refine va_iast (D := P.1) (n := 2) (f := u.1 9) C.1.1 C.1.2.1 C.2 w.1 w.2.1 w.2.2 9 8 rfl rfl (vp_in_nI hj (by decide)) hdg (fun H1 locs1 hP hD hS => ?_)
  rw [hc] at hP hD
  exact kk H1 locs1 ⟨hP, hD, hS⟩
theorem x2_holds (C : x2C P cc nL p c s m args) (w : x2W P A s.heap u H locs) (hdg : decode cc pc = .ok (.getfield 38, 3)) (kk : W p l e R s m args below meth c H locs cells slots Q (F0 m (pc + 3) ls (.ref (P.2.2 10) :: rest))) : W p l e R s m args below meth c H locs cells slots Q (F0 m pc ls (.ref (P.2.2 0) :: rest)) :=
  va_get (D := P.1) (ci := 1) (v := .ref (P.2.2 10)) (C := RX2) (T := TX2) (N := 12) C.1.1 C.1.2.1 C.1.2.2.2.2 in_X2 C.1.2.2.2.1 C.2 w.1 0 rfl rfl 10 (by decide) (C.1.2.2.2.2 _ q203) (fun _ h9 => h9) rfl hdg kk
theorem x2_ld_holds (C : x2C P cc nL p c s m args) (w : x2W P A s.heap u H locs) {i v : Int32} {j : Nat} (hj : j < 2) (hi : i = nI j) (hv : u.1 10 j = v) (hdg : decode cc pc = .ok (.iaload, 1)) (kk : W p l e R s m args below meth c H locs cells slots Q (F0 m (pc + 1) ls (.int v :: rest))) : W p l e R s m args below meth c H locs cells slots Q (F0 m pc ls (.int i :: .ref (P.2.2 10) :: rest)) := by
  subst hi
  subst hv
  have hc : (nI j).toNatClampNeg = j := nI_clamp (by omega)
  refine va_iald (D := P.1) (n := 2) (f := u.1 10) C.1.1 C.1.2.1 C.2 w.1 10 9 rfl rfl (vp_in_nI hj (by decide)) hdg ?_
  rw [hc]
  exact kk
theorem x2_st_holds (C : x2C P cc nL p c s m args) (w : x2W P A s.heap u H locs) {i v : Int32} {j : Nat} (hj : j < 2) (hi : i = nI j) (hdg : decode cc pc = .ok (.iastore, 1)) (kk : ∀ (H1 : Heap) (locs1 : List Loc), x2W P A s.heap (bl_st u 10 j v) H1 locs1 → W p l e R s m args below meth c H1 locs1 cells slots Q (F0 m (pc + 1) ls rest)) : W p l e R s m args below meth c H locs cells slots Q (F0 m pc ls (.int v :: .int i :: .ref (P.2.2 10) :: rest)) := by
  subst hi
  have hc : (nI j).toNatClampNeg = j := nI_clamp (by omega)
  refine va_iast (D := P.1) (n := 2) (f := u.1 10) C.1.1 C.1.2.1 C.2 w.1 w.2.1 w.2.2 10 9 rfl rfl (vp_in_nI hj (by decide)) hdg (fun H1 locs1 hP hD hS => ?_)
  rw [hc] at hP hD
  exact kk H1 locs1 ⟨hP, hD, hS⟩
theorem x2_calli (C : x2C P cc nL p c s m args) (w : x2W P A s.heap u H locs) (hA : ∀ q, s.heap.size ≤ q → A q) {y : MethodName} {cb : ByteArray} {nB n d idx : Nat} {ret : Option FieldType} {As st : List Value} {post : Int32 → bl_S → Prop} (hM : x2Mi l y cb nB ret d P u As post) (hg : GoodIn lw_all (wsV RX2 idx RX2 y (ws_ y cb nB ret))) (hd : y.cls = RX2 ∧ y.cls ≠ "java/lang/invoke/MethodHandle" ∧ y.cls ≠ "java/lang/invoke/VarHandle" ∧ (parseMethodDescriptor y.desc).map (fun d => d.parameters.length) = some n) (hn : As.length = n) (hR : d + 1 ≤ R.frames ∧ 8 + (nB + 11) + 30 * d ≤ R.locals) (hz : ls.size = nL) (hst : st = As.reverse ++ .ref (P.2.2 0) :: rest) (hW : (rest.map fun v => v.category).sum ≤ 8) (hdg : decode cc pc = .ok (.invokevirtual idx, 3)) (hf : cells ≤ R.cells ∧ slots ≤ R.slots)
    (kk : ∀ (r : Int32) (v : bl_S) (H1 : Heap) (locs1 : List Loc), post r v → x2W P A s.heap v H1 locs1 → W p l e R s m args below meth c H1 locs1 cells slots Q (F0 m (pc + 3) ls (.int r :: rest))) : W p l e R s m args below meth c H locs cells slots Q (F0 m pc ls st) := by
  have hFc := va_free (wc := x2L P u) w.2.1 w.2.2 hA [0, 1, 2, 3, 4, 5, 6, 7, 8, 9, 10] rfl
  refine va_calli (va_runV (As := As) (rest := rest) (C := RX2) (b := P.2.2 0) C.1 (hM H.size) (cwV n C.1.2.2.2.2 hg rfl rfl rfl hd hR) ⟨fun a U g mk q => by obtain ⟨q0, q1, qP, qK, qD⟩ := q; exact ⟨q0, q1, qP, va_K.moved (u := U) (U := U.calling g mk a) (Vm.Alike.refl U.vm) qK, qD⟩, va_recv C.2 w.1 (ci := 1) (q0 := 0) rfl rfl, fun U hU hW => ⟨rfl, by rw [hU], by rw [hU]; exact w.1, va_K.moved hW.alike C.2, w.2.1.weaken (fun _ _ _ _ => trivial)⟩⟩ rfl hn hz hst (lv_room hW) hdg hf) w.2.2 (fun q _ h => hFc q h) hFc (fun r v t H1 locs1 ht hvm hp hB hz1 hk1 hS => ?_)
  obtain ⟨hP1, hK1, hD1⟩ := hB
  rw [ht] at hP1
  exact kk r v H1 locs1 hp ⟨hP1, hD1.weaken (fun _ q _ h => hFc q.1 h), hS⟩
theorem x2_callv (C : x2C P cc nL p c s m args) (w : x2W P A s.heap u H locs) (hA : ∀ q, s.heap.size ≤ q → A q) {y : MethodName} {cb : ByteArray} {nB n d idx : Nat} {As st : List Value} {post : bl_S → Prop} (hM : x2Mv l y cb nB d P u As post) (hg : GoodIn lw_all (wsV RX2 idx RX2 y (ws_ y cb nB none))) (hd : y.cls = RX2 ∧ y.cls ≠ "java/lang/invoke/MethodHandle" ∧ y.cls ≠ "java/lang/invoke/VarHandle" ∧ (parseMethodDescriptor y.desc).map (fun d => d.parameters.length) = some n) (hn : As.length = n) (hR : d + 1 ≤ R.frames ∧ 8 + (nB + 11) + 30 * d ≤ R.locals) (hz : ls.size = nL) (hst : st = As.reverse ++ .ref (P.2.2 0) :: rest) (hW : (rest.map fun v => v.category).sum ≤ 8) (hdg : decode cc pc = .ok (.invokevirtual idx, 3)) (hf : cells ≤ R.cells ∧ slots ≤ R.slots)
    (kk : ∀ (v : bl_S) (H1 : Heap) (locs1 : List Loc), post v → x2W P A s.heap v H1 locs1 → W p l e R s m args below meth c H1 locs1 cells slots Q (F0 m (pc + 3) ls (rest))) : W p l e R s m args below meth c H locs cells slots Q (F0 m pc ls st) := by
  have hFc := va_free (wc := x2L P u) w.2.1 w.2.2 hA [0, 1, 2, 3, 4, 5, 6, 7, 8, 9, 10] rfl
  refine va_callv (va_runV (As := As) (rest := rest) (C := RX2) (b := P.2.2 0) C.1 (hM H.size) (cwV n C.1.2.2.2.2 hg rfl rfl rfl hd hR) ⟨fun a U g mk q => by obtain ⟨q0, q1, qP, qK, qD⟩ := q; exact ⟨q0, q1, qP, va_K.moved (u := U) (U := U.calling g mk a) (Vm.Alike.refl U.vm) qK, qD⟩, va_recv C.2 w.1 (ci := 1) (q0 := 0) rfl rfl, fun U hU hW => ⟨rfl, by rw [hU], by rw [hU]; exact w.1, va_K.moved hW.alike C.2, w.2.1.weaken (fun _ _ _ _ => trivial)⟩⟩ rfl hn hz hst (lv_room hW) hdg hf) w.2.2 (fun q _ h => hFc q h) hFc (fun v t H1 locs1 ht hvm hp hB hz1 hk1 hS => ?_)
  obtain ⟨hP1, hK1, hD1⟩ := hB
  rw [ht] at hP1
  exact kk v H1 locs1 hp ⟨hP1, hD1.weaken (fun _ q _ h => hFc q.1 h), hS⟩
end BLX2
theorem x2Mi_of {l : Launch} {y : MethodName} {cc : ByteArray} {nL d : Nat} {ret : Option FieldType} {ty : FieldType} {P : bl_P} {u : bl_S} {As : List Value} {post : Int32 → bl_S → Prop} (hy : plainName y.cls = true) (hc : y.cls = RX2) (hret : ret = some ty) (hlen : (lg_sl (Value.ref (P.2.2 0) :: As)).length ≤ nL)
    (body : ∀ (p : Program) (e : Env) (s : State) (m : MethodId) (args : Array Value) (below : List Frame) (meth : Method) (c : Code) (A : Nat → Prop) (Q : State → Prop) (ls : Array Slot), x2C P cc nL p c s m args → (∀ q, s.heap.size ≤ q → A q) → (∀ (v : Int32) (z : bl_S) (H : Heap) (locs : List Loc) (ls : Array Slot) (pc : Nat), decode cc pc = .ok (.ireturn, 1) → narrow ty (.int v) = .int v → post v z → x2W P A s.heap z H locs → W p l e (bl_rm d) s m args below meth c H locs 0 0 Q (F0 m pc ls [.int v])) → x2W P A s.heap u s.heap [] → lv_has ls nL (lv_args 0 (Value.ref (P.2.2 0) :: As)) → W p l e (bl_rm d) s m args below meth c s.heap [] 0 0 Q (F0 m 0 ls [])) : x2Mi l y cc nL ret d P u As post := by
  intro sz
  refine Met.ofW (cc := cc) (maxL := nL) (ret := ret) hy rfl ?_
  intro p e s m args below meth c s₁ B hml hv
  obtain ⟨rfl, hsz, hP, hK, hD0⟩ := hv
  have hts := atoms_spec (ws := ws_ y cc nL ret) B.pre
  have hts : ∀ w ∈ lw_all, w.before _ s = true := fun w h => hts w (List.mem_cons_of_mem _ h)
  have hown : s.vm.findClass RX2 = some m.cls := by rw [← hc]; exact findClass_of_methodNamed B.named
  subst hsz
  have hD := hD0.self (sz := s.heap.size)
  generalize hAe : va_A (x2L P u) s.heap.size = A at hD ⊢
  have hA : ∀ q : Nat, s.heap.size ≤ q → A q := fun q h => by rw [← hAe]; exact Or.inr h
  have hl := lv_entry (Value.ref (P.2.2 0) :: As) (n := nL) hlen
  rw [lg_entry_eq]
  generalize (lg_sl (Value.ref (P.2.2 0) :: As) ++ List.replicate (nL - (lg_sl (Value.ref (P.2.2 0) :: As)).length) Slot.unset).toArray = ls at hl ⊢
  refine body p e s m _ below meth c A _ ls ⟨⟨B.exec, B.bytes, hml, hown, hts⟩, hK⟩ hA (fun v z H locs ls pc hd hn hp hw => ?_) ⟨hP, hD, va_S.rf⟩ hl
  exact W.zret (v := v) (ty := ty) B.exec B.bytes (by rw [B.returns, hret]) hn (fun t ht hW => ⟨⟨v, z, rfl, hp, by rw [ht]; exact hw.1, va_K.moved hW.alike hK, hw.2.1⟩, hw.2.2.F ht⟩) hw.2.2.2.2 hd B.notSynchronized
theorem x2Mv_of {l : Launch} {y : MethodName} {cc : ByteArray} {nL d : Nat} {P : bl_P} {u : bl_S} {As : List Value} {post : bl_S → Prop} (hy : plainName y.cls = true) (hc : y.cls = RX2) (hlen : (lg_sl (Value.ref (P.2.2 0) :: As)).length ≤ nL)
    (body : ∀ (p : Program) (e : Env) (s : State) (m : MethodId) (args : Array Value) (below : List Frame) (meth : Method) (c : Code) (A : Nat → Prop) (Q : State → Prop) (ls : Array Slot), x2C P cc nL p c s m args → (∀ q, s.heap.size ≤ q → A q) → (∀ (z : bl_S) (H : Heap) (locs : List Loc) (ls : Array Slot) (pc : Nat), decode cc pc = .ok (.return_, 1) → post z → x2W P A s.heap z H locs → W p l e (bl_rm d) s m args below meth c H locs 0 0 Q (F0 m pc ls [])) → x2W P A s.heap u s.heap [] → lv_has ls nL (lv_args 0 (Value.ref (P.2.2 0) :: As)) → W p l e (bl_rm d) s m args below meth c s.heap [] 0 0 Q (F0 m 0 ls [])) : x2Mv l y cc nL d P u As post := by
  intro sz
  refine Met.ofW (cc := cc) (maxL := nL) (ret := none) hy rfl ?_
  intro p e s m args below meth c s₁ B hml hv
  obtain ⟨rfl, hsz, hP, hK, hD0⟩ := hv
  have hts := atoms_spec (ws := ws_ y cc nL none) B.pre
  have hts : ∀ w ∈ lw_all, w.before _ s = true := fun w h => hts w (List.mem_cons_of_mem _ h)
  have hown : s.vm.findClass RX2 = some m.cls := by rw [← hc]; exact findClass_of_methodNamed B.named
  subst hsz
  have hD := hD0.self (sz := s.heap.size)
  generalize hAe : va_A (x2L P u) s.heap.size = A at hD ⊢
  have hA : ∀ q : Nat, s.heap.size ≤ q → A q := fun q h => by rw [← hAe]; exact Or.inr h
  have hl := lv_entry (Value.ref (P.2.2 0) :: As) (n := nL) hlen
  rw [lg_entry_eq]
  generalize (lg_sl (Value.ref (P.2.2 0) :: As) ++ List.replicate (nL - (lg_sl (Value.ref (P.2.2 0) :: As)).length) Slot.unset).toArray = ls at hl ⊢
  refine body p e s m _ below meth c A _ ls ⟨⟨B.exec, B.bytes, hml, hown, hts⟩, hK⟩ hA (fun z H locs ls pc hd hp hw => ?_) ⟨hP, hD, va_S.rf⟩ hl
  exact W.vret B.exec B.bytes B.returns (fun t ht hW => ⟨⟨z, rfl, hp, by rw [ht]; exact hw.1, va_K.moved hW.alike hK, hw.2.1⟩, hw.2.2.F ht⟩) hw.2.2.2.2 hd B.notSynchronized
theorem x2d_put : yX2_put.cls = RX2 ∧ yX2_put.cls ≠ "java/lang/invoke/MethodHandle" ∧ yX2_put.cls ≠ "java/lang/invoke/VarHandle" ∧ (parseMethodDescriptor yX2_put.desc).map (fun d => d.parameters.length) = some 2 := by decide +kernel
theorem x2gl_put : GoodIn lw_all (wsV RX0 25 RX2 yX2_put (ws_ yX2_put cX2_put 3 (some .int))) := lw_V q230 q231 q232 q23 q233
theorem x2d_bad : yX2_bad.cls = RX2 ∧ yX2_bad.cls ≠ "java/lang/invoke/MethodHandle" ∧ yX2_bad.cls ≠ "java/lang/invoke/VarHandle" ∧ (parseMethodDescriptor yX2_bad.desc).map (fun d => d.parameters.length) = some 1 := by decide +kernel
theorem x2g_bad : GoodIn lw_all (wsV RX2 45 RX2 yX2_bad (ws_ yX2_bad cX2_bad 2 (some .boolean))) := lw_V q234 q236 qs14 q23 q237
theorem x2d_room : yX2_room.cls = RX2 ∧ yX2_room.cls ≠ "java/lang/invoke/MethodHandle" ∧ yX2_room.cls ≠ "java/lang/invoke/VarHandle" ∧ (parseMethodDescriptor yX2_room.desc).map (fun d => d.parameters.length) = some 1 := by decide +kernel
theorem x2gl_room : GoodIn lw_all (wsV RX0 69 RX2 yX2_room (ws_ yX2_room cX2_room 2 (some .boolean))) := lw_V q302 q239 q240 q23 q241
theorem x2g_room : GoodIn lw_all (wsV RX2 49 RX2 yX2_room (ws_ yX2_room cX2_room 2 (some .boolean))) := lw_V q238 q239 q240 q23 q241
theorem x2d_start : yX2_start.cls = RX2 ∧ yX2_start.cls ≠ "java/lang/invoke/MethodHandle" ∧ yX2_start.cls ≠ "java/lang/invoke/VarHandle" ∧ (parseMethodDescriptor yX2_start.desc).map (fun d => d.parameters.length) = some 2 := by decide +kernel
theorem x2g_start : GoodIn lw_all (wsV RX2 52 RX2 yX2_start (ws_ yX2_start cX2_start 4 none)) := lw_V q242 q244 qs15 q23 q245
theorem x2d_take : yX2_take.cls = RX2 ∧ yX2_take.cls ≠ "java/lang/invoke/MethodHandle" ∧ yX2_take.cls ≠ "java/lang/invoke/VarHandle" ∧ (parseMethodDescriptor yX2_take.desc).map (fun d => d.parameters.length) = some 1 := by decide +kernel
theorem x2gl_take : GoodIn lw_all (wsV RX0 30 RX2 yX2_take (ws_ yX2_take cX2_take 2 (some .int))) := lw_V q246 q247 q248 q23 q249
theorem x2d_off : yX2_off.cls = RX2 ∧ yX2_off.cls ≠ "java/lang/invoke/MethodHandle" ∧ yX2_off.cls ≠ "java/lang/invoke/VarHandle" ∧ (parseMethodDescriptor yX2_off.desc).map (fun d => d.parameters.length) = some 2 := by decide +kernel
theorem x2g_off : GoodIn lw_all (wsV RX2 56 RX2 yX2_off (ws_ yX2_off cX2_off 5 (some .int))) := lw_V q250 q252 qs16 q23 q253
theorem x2d_lead : yX2_lead.cls = RX2 ∧ yX2_lead.cls ≠ "java/lang/invoke/MethodHandle" ∧ yX2_lead.cls ≠ "java/lang/invoke/VarHandle" ∧ (parseMethodDescriptor yX2_lead.desc).map (fun d => d.parameters.length) = some 2 := by decide +kernel
theorem x2gl_lead : GoodIn lw_all (wsV RX0 34 RX2 yX2_lead (ws_ yX2_lead cX2_lead 4 (some .int))) := lw_V q254 q255 q256 q23 q257
theorem x2d_arm : yX2_arm.cls = RX2 ∧ yX2_arm.cls ≠ "java/lang/invoke/MethodHandle" ∧ yX2_arm.cls ≠ "java/lang/invoke/VarHandle" ∧ (parseMethodDescriptor yX2_arm.desc).map (fun d => d.parameters.length) = some 4 := by decide +kernel
theorem x2gl_arm : GoodIn lw_all (wsV RX0 39 RX2 yX2_arm (ws_ yX2_arm cX2_arm 5 (some .int))) := lw_V q258 q259 q260 q23 q261
theorem x2d_tick : yX2_tick.cls = RX2 ∧ yX2_tick.cls ≠ "java/lang/invoke/MethodHandle" ∧ yX2_tick.cls ≠ "java/lang/invoke/VarHandle" ∧ (parseMethodDescriptor yX2_tick.desc).map (fun d => d.parameters.length) = some 1 := by decide +kernel
theorem x2gl_tick : GoodIn lw_all (wsV RX0 43 RX2 yX2_tick (ws_ yX2_tick cX2_tick 5 (some .int))) := lw_V q262 q263 q264 q23 q265
theorem x2d_end : yX2_end.cls = RX2 ∧ yX2_end.cls ≠ "java/lang/invoke/MethodHandle" ∧ yX2_end.cls ≠ "java/lang/invoke/VarHandle" ∧ (parseMethodDescriptor yX2_end.desc).map (fun d => d.parameters.length) = some 1 := by decide +kernel
theorem x2g_end : GoodIn lw_all (wsV RX2 67 RX2 yX2_end (ws_ yX2_end cX2_end 4 none)) := lw_V q266 q268 qs17 q23 q269
theorem x2d_move : yX2_move.cls = RX2 ∧ yX2_move.cls ≠ "java/lang/invoke/MethodHandle" ∧ yX2_move.cls ≠ "java/lang/invoke/VarHandle" ∧ (parseMethodDescriptor yX2_move.desc).map (fun d => d.parameters.length) = some 1 := by decide +kernel
theorem x2g_move : GoodIn lw_all (wsV RX2 71 RX2 yX2_move (ws_ yX2_move cX2_move 3 none)) := lw_V q270 q272 qs18 q23 q273
theorem x2d_moves : yX2_moves.cls = RX2 ∧ yX2_moves.cls ≠ "java/lang/invoke/MethodHandle" ∧ yX2_moves.cls ≠ "java/lang/invoke/VarHandle" ∧ (parseMethodDescriptor yX2_moves.desc).map (fun d => d.parameters.length) = some 2 := by decide +kernel
theorem x2g_moves : GoodIn lw_all (wsV RX2 63 RX2 yX2_moves (ws_ yX2_moves cX2_moves 4 (some .boolean))) := lw_V q274 q276 qs19 q23 q277
theorem x2d_work : yX2_work.cls = RX2 ∧ yX2_work.cls ≠ "java/lang/invoke/MethodHandle" ∧ yX2_work.cls ≠ "java/lang/invoke/VarHandle" ∧ (parseMethodDescriptor yX2_work.desc).map (fun d => d.parameters.length) = some 1 := by decide +kernel
theorem x2g_work : GoodIn lw_all (wsV RX2 74 RX2 yX2_work (ws_ yX2_work cX2_work 6 none)) := lw_V q278 q280 qs20 q23 q281
theorem x2d_items : yX2_items.cls = RX2 ∧ yX2_items.cls ≠ "java/lang/invoke/MethodHandle" ∧ yX2_items.cls ≠ "java/lang/invoke/VarHandle" ∧ (parseMethodDescriptor yX2_items.desc).map (fun d => d.parameters.length) = some 1 := by decide +kernel
theorem x2gl_items : GoodIn lw_all (wsV RX0 47 RX2 yX2_items (ws_ yX2_items cX2_items 2 (some .int))) := lw_V q282 q283 q284 q23 q285
theorem x2d_place : yX2_place.cls = RX2 ∧ yX2_place.cls ≠ "java/lang/invoke/MethodHandle" ∧ yX2_place.cls ≠ "java/lang/invoke/VarHandle" ∧ (parseMethodDescriptor yX2_place.desc).map (fun d => d.parameters.length) = some 2 := by decide +kernel
theorem x2gl_place : GoodIn lw_all (wsV RX0 51 RX2 yX2_place (ws_ yX2_place cX2_place 3 (some .int))) := lw_V q286 q287 q288 q23 q289
theorem x2d_kind : yX2_kind.cls = RX2 ∧ yX2_kind.cls ≠ "java/lang/invoke/MethodHandle" ∧ yX2_kind.cls ≠ "java/lang/invoke/VarHandle" ∧ (parseMethodDescriptor yX2_kind.desc).map (fun d => d.parameters.length) = some 2 := by decide +kernel
theorem x2gl_kind : GoodIn lw_all (wsV RX0 55 RX2 yX2_kind (ws_ yX2_kind cX2_kind 3 (some .int))) := lw_V q290 q291 q292 q23 q293
theorem x2d_out : yX2_out.cls = RX2 ∧ yX2_out.cls ≠ "java/lang/invoke/MethodHandle" ∧ yX2_out.cls ≠ "java/lang/invoke/VarHandle" ∧ (parseMethodDescriptor yX2_out.desc).map (fun d => d.parameters.length) = some 0 := by decide +kernel
theorem x2gl_out : GoodIn lw_all (wsV RX0 60 RX2 yX2_out (ws_ yX2_out cX2_out 1 (some .int))) := lw_V q294 q295 q296 q23 q297
theorem x2d_held : yX2_held.cls = RX2 ∧ yX2_held.cls ≠ "java/lang/invoke/MethodHandle" ∧ yX2_held.cls ≠ "java/lang/invoke/VarHandle" ∧ (parseMethodDescriptor yX2_held.desc).map (fun d => d.parameters.length) = some 1 := by decide +kernel
theorem x2gl_held : GoodIn lw_all (wsV RX0 64 RX2 yX2_held (ws_ yX2_held cX2_held 2 (some .int))) := lw_V q298 q299 q300 q23 q301
theorem x2d_moving : yX2_moving.cls = RX2 ∧ yX2_moving.cls ≠ "java/lang/invoke/MethodHandle" ∧ yX2_moving.cls ≠ "java/lang/invoke/VarHandle" ∧ (parseMethodDescriptor yX2_moving.desc).map (fun d => d.parameters.length) = some 1 := by decide +kernel
theorem x2gl_moving : GoodIn lw_all (wsV RX0 73 RX2 yX2_moving (ws_ yX2_moving cX2_moving 6 (some .int))) := lw_V q303 q304 q305 q23 q306
end
section
/-! the steps, case by case -/
theorem bl_pass_stay {L b : Nat} {M : bl_M} (he : ¬ bl_end (M.1 b)) : bl_pass L M b = M := if_neg he
theorem bl_pass_out {L b : Nat} {M : bl_M} (he : bl_end (M.1 b)) (h1 : M.2.1 b = -2) : bl_pass L M b = bl_sG (bl_sB M b (bl_off (M.1 b) 0)) (M.2.2.2.2 + 1) := by
  unfold bl_pass
  rw [if_pos he, if_pos h1]
theorem bl_pass_closed {L b : Nat} {M : bl_M} (he : bl_end (M.1 b)) (h1 : ¬ M.2.1 b = -2) (h2 : M.2.1 b < 0) : bl_pass L M b = M := by
  unfold bl_pass
  rw [if_pos he, if_neg h1, if_pos h2]
theorem bl_pass_go {L b t : Nat} {M : bl_M} (he : bl_end (M.1 b)) (h1 : ¬ M.2.1 b = -2) (h2 : ¬ M.2.1 b < 0) (ht : t < 4) (et : M.2.1 b = nI t) (hr : bl_room L (M.1 t)) : bl_pass L M b = bl_sB (bl_sB M b (bl_off (M.1 b) 0)) t (bl_start L (M.1 t) ((M.1 b).2.2 0)) := by
  unfold bl_pass
  rw [if_pos he, if_neg h1, if_neg h2, et, bl_cb ht, if_pos hr]
theorem bl_pass_full {L b t : Nat} {M : bl_M} (he : bl_end (M.1 b)) (h1 : ¬ M.2.1 b = -2) (h2 : ¬ M.2.1 b < 0) (ht : t < 4) (et : M.2.1 b = nI t) (hr : ¬ bl_room L (M.1 t)) : bl_pass L M b = M := by
  unfold bl_pass
  rw [if_pos he, if_neg h1, if_neg h2, et, bl_cb ht, if_neg hr]
theorem bl_work_put {L a k : Nat} {M : bl_M} (eh : M.2.2.2.1 a = some k) (hr : bl_room L (M.1 (M.2.2.1 a).2.2.1)) : bl_work L M a = bl_sH (bl_sB M (M.2.2.1 a).2.2.1 (bl_start L (M.1 (M.2.2.1 a).2.2.1) k)) a none := by
  unfold bl_work
  rw [eh]
  exact if_pos hr
theorem bl_work_full {L a k : Nat} {M : bl_M} (eh : M.2.2.2.1 a = some k) (hr : ¬ bl_room L (M.1 (M.2.2.1 a).2.2.1)) : bl_work L M a = M := by
  unfold bl_work
  rw [eh]
  exact if_neg hr
theorem bl_work_take {L a : Nat} {M : bl_M} (eh : M.2.2.2.1 a = none) (hh : bl_hit M a < (M.1 (M.2.2.1 a).2.1).1) : bl_work L M a = bl_sH (bl_sB M (M.2.2.1 a).2.1 (bl_off (M.1 (M.2.2.1 a).2.1) (bl_hit M a))) a (some ((M.1 (M.2.2.1 a).2.1).2.2 (bl_hit M a))) := by
  unfold bl_work
  rw [eh]
  exact if_pos hh
theorem bl_work_none {L a : Nat} {M : bl_M} (eh : M.2.2.2.1 a = none) (hh : ¬ bl_hit M a < (M.1 (M.2.2.1 a).2.1).1) : bl_work L M a = M := by
  unfold bl_work
  rw [eh]
  exact if_neg hh
theorem bl_arms_skip {L a : Nat} {M : bl_M} (h : ((bl_arms L M a).2.2.1 a).1 = 0) : bl_arms L M (a + 1) = bl_arms L M a := if_pos h
theorem bl_arms_do {L a : Nat} {M : bl_M} (h : ¬ ((bl_arms L M a).2.2.1 a).1 = 0) : bl_arms L M (a + 1) = bl_work L (bl_arms L M a) a := if_neg h
theorem bl_ps_pos {L r : Nat} {B : bl_B} (h : bl_ok L B) (hg : bl_gap B.2.1 r ≠ 0) : ∀ k, r < k → k ≤ B.1 → 1 ≤ bl_ps B.2.1 k := by
  intro k
  induction k with
  | zero => intro h1 _; omega
  | succ k ih =>
    intro h1 h2
    rw [← bl_ps_step h (by omega)]
    by_cases e : r = k
    · subst e
      omega
    · have := ih (by omega) (by omega)
      omega
theorem bl_num_le (x : Int32) : bl_num x ≤ 200 := by
  unfold bl_num
  split
  · omega
  · rename_i h
    by_cases h0 : x < 0
    · have h1 : x.toNatClampNeg = 0 := by
        rw [Int32.lt_iff_toInt_lt] at h0
        have e0 : ((0 : Int32)).toInt = 0 := by decide
        rw [e0] at h0
        show x.toInt.toNat = 0
        omega
      omega
    · obtain ⟨j, hj, rfl⟩ := bl_rng (m := 200) (n := 200) rfl h0 h
      rw [nI_clamp (by omega)]
      exact hj
theorem bl_num_lo {x : Int32} (h : x ≤ nI 200) : ∀ i, i ≤ 200 → (x ≤ nI i ↔ bl_num x ≤ i) := by
  intro i hi
  have hu : bl_num x = x.toNatClampNeg := if_neg (Int32.not_lt.mpr h)
  rw [hu]
  by_cases h0 : x < 0
  · have h1 : x.toNatClampNeg = 0 := by
      rw [Int32.lt_iff_toInt_lt] at h0
      have e0 : ((0 : Int32)).toInt = 0 := by decide
      rw [e0] at h0
      show x.toInt.toNat = 0
      omega
    refine ⟨fun _ => by omega, fun _ => ?_⟩
    rw [Int32.lt_iff_toInt_lt] at h0
    have e0 : ((0 : Int32)).toInt = 0 := by decide
    rw [e0] at h0
    rw [Int32.le_iff_toInt_le, nI_toInt (by omega)]
    omega
  · obtain ⟨j, hj, rfl⟩ := bl_rng (m := 200) (n := 200) rfl h0 (Int32.not_lt.mpr h)
    rw [nI_clamp (by omega)]
    exact nI_leI (by omega) (by omega)
theorem bl_num_hi {x : Int32} (h : ¬ x ≤ nI 200) : ∀ i, i ≤ 200 → (nI 200 ≤ nI i ↔ bl_num x ≤ i) := by
  intro i hi
  have hu : bl_num x = 200 := if_pos (Int32.not_le.mp h)
  rw [hu]
  exact nI_leI (by omega) (by omega)
theorem bl_fb_t {r : bl_Arm} {B : bl_B} {i : Nat} (h : bl_fit r B i) : bl_fb r B i = true := decide_eq_true h
theorem bl_fb_f {r : bl_Arm} {B : bl_B} {i : Nat} (h : ¬ bl_fit r B i) : bl_fb r B i = false := decide_eq_false h
theorem bl_ext {k : Nat} {p : Nat → Prop} (h : ∀ j, j < k → p j) (hk : p k) : ∀ j, j < k + 1 → p j := fun j hj => by
  by_cases e : j = k
  · rw [e]; exact hk
  · exact h j (by omega)
end
section
set_option maxRecDepth 100000
theorem bl_eq0 {k : Nat} (h : k < 2 ^ 31) : nI k = 0 ↔ k = 0 := nI_eq (b := 0) h (by decide)
theorem bl_gap_le (p : Nat → Nat) (k : Nat) : bl_gap p k ≤ p k := by
  cases k with
  | zero => exact Nat.le_refl _
  | succ k => exact Nat.sub_le _ _
theorem bl_sB_at (M : bl_M) (b : Nat) (B : bl_B) : (bl_sB M b B).1 b = B := va_up_self _ _ _
theorem bl_sB_ne (M : bl_M) {b c : Nat} (B : bl_B) (h : c ≠ b) : (bl_sB M b B).1 c = M.1 c := va_up_ne _ _ h
theorem bl_and15 {k : Nat} (h : k < 2 ^ 32) : nI k &&& nI 15 = nI (k % 16) := pk_andN h (m := nI 15) 4 (by decide)
set_option maxHeartbeats 4000000 in
/-- bad(x): 1 if x is no belt -/
theorem c1_bad (l : Launch) (x : Int32) (sz : Nat) : Met l yX1_bad (ws_ yX1_bad cX1_bad 1 (some .boolean)) (bl_rm 0) (va_Pc [.int x] (fun U => U.heap.size = sz)) (va_Qi (fun (r : Int32) (_ : Unit) => bl_bv x = r) (fun _ _ => True) (va_A [] sz)) 0 0 (va_A [] sz) := by
  refine Met.ofW (cc := cX1_bad) (maxL := 1) (ret := some .boolean) (by decide) rfl ?_
  intro p e s m args below meth c s₁ B hml hv
  obtain ⟨rfl, hsz⟩ := hv
  have hx := B.exec
  have hbc := B.bytes
  have hr := B.returns
  subst hsz
  have hS : va_S (va_A [] s.heap.size) s.heap s.heap [] := va_S.rf
  generalize va_A [] s.heap.size = A at hS ⊢
  have hl := lv_entry ([.int x]) (n := 1) (Nat.le_of_ble_eq_true rfl)
  rw [lg_entry_eq]
  generalize (lg_sl ([.int x]) ++ List.replicate (1 - (lg_sl ([.int x])).length) Slot.unset).toArray = ls at hl ⊢
  have hl : lv_has ls 1 [(0, .int x)] := hl
  refine lv_iload_n hx hbc dX1_bad_0 rfl (lv_at hl 0 rfl) ?_
  refine lv_if_lt (tgt := 9) hx hbc dX1_bad_1 (by decide) (fun c1 => ?_) (fun c1 => ?_)
  · refine lv_iconst (v := nI 1) hx hbc dX1_bad_9 (by decide) ?_
    refine lv_goto (tgt := 14) hx hbc dX1_bad_10 (by decide) ?_
    exact W.zret (ty := .boolean) hx hbc hr rfl (fun t ht hW => ⟨⟨_, (), rfl, if_pos (Or.inl c1), trivial⟩, hS.F ht⟩) hS.2.2 dX1_bad_14 B.notSynchronized
  · refine lv_iload_n hx hbc dX1_bad_4 rfl (lv_at hl 0 rfl) ?_
    refine lv_iconst (v := nI 4) hx hbc dX1_bad_5 (by decide) ?_
    refine lv_icmp_lt (tgt := 13) hx hbc dX1_bad_6 (by decide) (fun c2 => ?_) (fun c2 => ?_)
    · refine lv_iconst (v := nI 0) hx hbc dX1_bad_13 (by decide) ?_
      exact W.zret (ty := .boolean) hx hbc hr rfl (fun t ht hW => ⟨⟨_, (), rfl, if_neg (fun q => q.elim c1 (fun q => Int32.not_lt.mpr q c2)), trivial⟩, hS.F ht⟩) hS.2.2 dX1_bad_14 B.notSynchronized
    · refine lv_iconst (v := nI 1) hx hbc dX1_bad_9 (by decide) ?_
      refine lv_goto (tgt := 14) hx hbc dX1_bad_10 (by decide) ?_
      exact W.zret (ty := .boolean) hx hbc hr rfl (fun t ht hW => ⟨⟨_, (), rfl, if_pos (Or.inr (Int32.not_lt.mp c2)), trivial⟩, hS.F ht⟩) hS.2.2 dX1_bad_14 B.notSynchronized
section BLbad
variable {p : Program} {l : Launch} {e : Env} {R : Room} {s : State} {m : MethodId} {args : Array Value} {below : List Frame} {meth : Method} {c : Code} {H : Heap} {locs : List Loc} {cells slots : Nat} {Q : State → Prop} {cc : ByteArray} {nL pc : Nat} {ls : Array Slot} {rest : List Value} {P : bl_P} {A : Nat → Prop} {u : bl_S}
theorem x1_callbad {x : Int32} (C : x1C P cc nL p c s m args) (w : x1W P A s.heap u H locs) (hA : ∀ q, s.heap.size ≤ q → A q) (hR : 1 ≤ R.frames ∧ 20 ≤ R.locals) (hz : ls.size = nL) (hW : (rest.map fun v => v.category).sum ≤ 8) (hdg : decode cc pc = .ok (.invokestatic 63, 3)) (hf : cells ≤ R.cells ∧ slots ≤ R.slots)
    (kk : ∀ (H1 : Heap) (locs1 : List Loc), x1W P A s.heap u H1 locs1 → W p l e R s m args below meth c H1 locs1 cells slots Q (F0 m (pc + 3) ls (.int (bl_bv x) :: rest))) : W p l e R s m args below meth c H locs cells slots Q (F0 m pc ls (.int x :: rest)) := by
  have hn : ∀ q, va_A [] H.size q → H.size ≤ q := fun q h => h.elim (fun ⟨k, e, z⟩ => by simp at z) id
  have hFc : ∀ q, va_A [] H.size q → A q := fun q h => hA q (Nat.le_trans w.2.2.1 (hn q h))
  refine va_calli (va_runS (As := [.int x]) (rest := rest) C.1 (c1_bad l x H.size) (va_cwS 1 C.1.2.2.2.2 (lw_S q81 q82 q22 q83) rfl rfl rfl (by decide +kernel) hR) ⟨fun a U g mk q => ⟨q.1, q.2⟩, fun U hU hW => ⟨rfl, by show U.heap.size = H.size; rw [hU]⟩⟩ rfl rfl hz rfl (lv_room hW) hdg hf) w.2.2 (fun q _ h => hFc q h) hFc (fun r v t H1 locs1 ht hvm hp hB hz1 hk1 hS => ?_)
  have hk : ∀ (k : Nat) (q : Nat × va_E), (x1L P u)[k]? = some q → H1[q.1]? = H[q.1]? := fun k q hq => hk1 q.1 (w.1 k q hq).lt (fun h => absurd (hn _ h) (Nat.not_le.mpr (w.1 k q hq).lt))
  subst hp
  exact kk H1 locs1 ⟨w.1.kept hk, w.2.1, hS⟩
end BLbad
set_option maxHeartbeats 4000000 in
set_option maxRecDepth 100000 in
/-- slot(b, i) -/
theorem c1_slot (l : Launch) (P : bl_P) (u : bl_S) {b i h : Nat} (hb : b < 4) (hi : i < 64) (hh : h < 16) (e1 : u.1 1 b = nI h) : x1Mi l yX1_slot cX1_slot 3 (some .int) 0 P u [.int (nI b), .int (nI i)] (fun r v => nI (b * 16 + (h + i) % 16) = r ∧ u = v) := by
  refine x1Mi_of (ty := .int) (by decide) rfl rfl (Nat.le_of_ble_eq_true rfl) ?_
  intro p e s m args below meth c A Q ls C hA hret w hl
  have hx := C.1.1
  have hbc := C.1.2.1
  have hl : lv_has ls 3 [(0, .ref (P.2.2 0)), (1, .int (nI b)), (2, .int (nI i))] := hl
  refine lv_iload_n hx hbc dX1_slot_0 rfl (lv_at hl 1 rfl) ?_
  refine lv_bipush (v := nI 16) hx hbc dX1_slot_1 (by decide) ?_
  refine lv_imul hx hbc dX1_slot_3 ?_
  refine bl_as (pk_mul _ _) ?_
  refine lv_aload_n hx hbc dX1_slot_4 rfl (lv_at hl 0 rfl) ?_
  refine x1_head C w dX1_slot_5 ?_
  refine lv_iload_n hx hbc dX1_slot_8 rfl (lv_at hl 1 rfl) ?_
  refine x1_ld_head C w (j := b) (by omega) rfl (v := nI h) (e1) dX1_slot_9 ?_
  refine lv_iload_n hx hbc dX1_slot_10 rfl (lv_at hl 2 rfl) ?_
  refine lv_iadd hx hbc dX1_slot_11 ?_
  refine bl_as (nI_add _ _) ?_
  refine lv_bipush (v := nI 15) hx hbc dX1_slot_12 (by decide) ?_
  refine lv_iand hx hbc dX1_slot_14 ?_
  refine bl_as (y := nI ((h + i) % 16)) (bl_and15 (by omega)) ?_
  refine lv_iadd hx hbc dX1_slot_15 ?_
  refine bl_as (nI_add _ _) ?_
  exact hret _ _ _ _ _ _ dX1_slot_16 rfl (⟨rfl, rfl⟩) w
set_option maxHeartbeats 4000000 in
set_option maxRecDepth 100000 in
/-- lastPlace(b) -/
theorem c1_lastPlace (l : Launch) (P : bl_P) (u : bl_S) {L h b : Nat} {B : bl_B} (hb : b < 4) (hX : bl_XB u h b B) (hok : bl_ok L B) (h0 : 0 < B.1) : x1Mi l yX1_lastPlace cX1_lastPlace 2 (some .int) 0 P u [.int (nI b)] (fun r v => nI (B.2.1 (B.1 - 1)) = r ∧ u = v) := by
  refine x1Mi_of (ty := .int) (by decide) rfl rfl (Nat.le_of_ble_eq_true rfl) ?_
  intro p e s m args below meth c A Q ls C hA hret w hl
  have hx := C.1.1
  have hbc := C.1.2.1
  have hl : lv_has ls 2 [(0, .ref (P.2.2 0)), (1, .int (nI b))] := hl
  refine lv_aload_n hx hbc dX1_lastPlace_0 rfl (lv_at hl 0 rfl) ?_
  refine x1_gaps C w dX1_lastPlace_1 ?_
  refine lv_iload_n hx hbc dX1_lastPlace_4 rfl (lv_at hl 1 rfl) ?_
  refine x1_ld_gaps C w (j := b) (by omega) rfl (v := nI (bl_ps B.2.1 B.1)) (hX.2.2.2.1) dX1_lastPlace_5 ?_
  refine lv_iconst (v := nI 4) hx hbc dX1_lastPlace_6 (by decide) ?_
  refine lv_aload_n hx hbc dX1_lastPlace_7 rfl (lv_at hl 0 rfl) ?_
  refine x1_count C w dX1_lastPlace_8 ?_
  refine lv_iload_n hx hbc dX1_lastPlace_11 rfl (lv_at hl 1 rfl) ?_
  refine x1_ld_count C w (j := b) (by omega) rfl (v := nI B.1) (hX.2.2.1) dX1_lastPlace_12 ?_
  refine lv_iconst (v := nI 1) hx hbc dX1_lastPlace_13 (by decide) ?_
  refine lv_isub hx hbc dX1_lastPlace_14 ?_
  refine bl_as (y := nI (B.1 - 1)) (pk_sub (by omega)) ?_
  refine lv_imul hx hbc dX1_lastPlace_15 ?_
  refine bl_as (pk_mul _ _) ?_
  refine lv_iadd hx hbc dX1_lastPlace_16 ?_
  refine bl_as (nI_add _ _) ?_
  exact hret _ _ _ _ _ _ dX1_lastPlace_17 rfl (⟨by rw [bl_ps_last hok h0], rfl⟩) w
set_option maxHeartbeats 4000000 in
set_option maxRecDepth 100000 in
/-- hasRoom(b) -/
theorem c1_hasRoom (l : Launch) (P : bl_P) (u : bl_S) {L h b : Nat} {B : bl_B} (hb : b < 4) (hX : bl_XB u h b B) (hok : bl_ok L B) (hL : 8 ≤ L ∧ L ≤ 60) (eL : u.2.1 = nI L) : x1Mi l yX1_hasRoom cX1_hasRoom 3 (some .boolean) 1 P u [.int (nI b)] (fun r v => (if bl_room L B then 1 else 0) = r ∧ u = v) := by
  refine x1Mi_of (ty := .boolean) (by decide) rfl rfl (Nat.le_of_ble_eq_true rfl) ?_
  intro p e s m args below meth c A Q ls C hA hret w hl
  have hx := C.1.1
  have hbc := C.1.2.1
  have hl : lv_has ls 3 [(0, .ref (P.2.2 0)), (1, .int (nI b))] := hl
  have hn := bl_cnt hL.2 hok
  refine lv_aload_n hx hbc dX1_hasRoom_0 rfl (lv_at hl 0 rfl) ?_
  refine x1_count C w dX1_hasRoom_1 ?_
  refine lv_iload_n hx hbc dX1_hasRoom_4 rfl (lv_at hl 1 rfl) ?_
  refine x1_ld_count C w (j := b) (by omega) rfl (v := nI B.1) (hX.2.2.1) dX1_hasRoom_5 ?_
  refine lv_if_ne (tgt := 11) hx hbc dX1_hasRoom_6 (by decide) (fun c1 => ?_) (fun c1 => ?_)
  · have h0 : 0 < B.1 := Nat.pos_of_ne_zero (fun q => c1 ((bl_eq0 (by omega)).mpr q))
    have hp := (hok.1 (B.1 - 1) (by omega)).1
    refine lv_aload_n hx hbc dX1_hasRoom_11 rfl (lv_at hl 0 rfl) ?_
    refine lv_iload_n hx hbc dX1_hasRoom_12 rfl (lv_at hl 1 rfl) ?_
    refine x1_calli C w hA (rest := []) (c1_lastPlace l P _ hb hX hok h0) x1g_lastPlace x1d_lastPlace rfl ⟨Nat.le_of_ble_eq_true rfl, Nat.le_of_ble_eq_true rfl⟩ hl.1 rfl (Nat.le_of_ble_eq_true rfl) dX1_hasRoom_13 ⟨Nat.zero_le _, Nat.zero_le _⟩ (fun r v H locs hp w => ?_)
    obtain ⟨rfl, rfl⟩ := hp
    refine lv_istore_n (lv' := [(2, .int (nI (B.2.1 (B.1 - 1)))), (0, .ref (P.2.2 0)), (1, .int (nI b))]) hx hbc dX1_hasRoom_16 rfl hl (by decide) rfl (fun ls hl => ?_)
    refine lv_iload_n hx hbc dX1_hasRoom_17 rfl (lv_at hl 0 rfl) ?_
    refine lv_aload_n hx hbc dX1_hasRoom_18 rfl (lv_at hl 1 rfl) ?_
    refine x1_length C w (v := nI L) (eL) dX1_hasRoom_19 ?_
    refine lv_iconst (v := nI 4) hx hbc dX1_hasRoom_22 (by decide) ?_
    refine lv_isub hx hbc dX1_hasRoom_23 ?_
    refine bl_as (y := nI (L - 4)) (pk_sub (by omega)) ?_
    refine lv_icmp_gt (tgt := 31) hx hbc dX1_hasRoom_24 (by decide) (fun c2 => ?_) (fun c2 => ?_)
    · have c2 := (nI_ltI (by omega) (by omega)).mp c2
      refine lv_iconst (v := nI 0) hx hbc dX1_hasRoom_31 (by decide) ?_
      exact hret _ _ _ _ _ _ dX1_hasRoom_32 rfl (⟨if_neg (fun q => by rcases q with q | q <;> omega), rfl⟩) w
    · have c2 : ¬ (L - 4 < B.2.1 (B.1 - 1)) := fun q => c2 ((nI_ltI (by omega) (by omega)).mpr q)
      refine lv_iconst (v := nI 1) hx hbc dX1_hasRoom_27 (by decide) ?_
      refine lv_goto (tgt := 32) hx hbc dX1_hasRoom_28 (by decide) ?_
      exact hret _ _ _ _ _ _ dX1_hasRoom_32 rfl (⟨if_pos (Or.inr (by omega)), rfl⟩) w
  · have c1 := (bl_eq0 (by omega)).mp c1
    refine lv_iconst (v := nI 1) hx hbc dX1_hasRoom_9 (by decide) ?_
    exact hret _ _ _ _ _ _ dX1_hasRoom_10 rfl (⟨if_pos (Or.inl c1), rfl⟩) w
set_option maxHeartbeats 4000000 in
set_option maxRecDepth 100000 in
/-- placeOf(b, i) -/
theorem c1_placeOf (l : Launch) (P : bl_P) (u : bl_S) {L h b i : Nat} {B : bl_B} (hb : b < 4) (hX : bl_XB u h b B) (hok : bl_ok L B) (hL : 8 ≤ L ∧ L ≤ 60) (hi : i < B.1) : x1Mi l yX1_placeOf cX1_placeOf 5 (some .int) 1 P u [.int (nI b), .int (nI i)] (fun r v => nI (B.2.1 i) = r ∧ u = v) := by
  refine x1Mi_of (ty := .int) (by decide) rfl rfl (Nat.le_of_ble_eq_true rfl) ?_
  intro p e s m args below meth c A Q ls C hA hret w hl
  have hx := C.1.1
  have hbc := C.1.2.1
  have hl : lv_has ls 5 [(0, .ref (P.2.2 0)), (1, .int (nI b)), (2, .int (nI i))] := hl
  have hn := bl_cnt hL.2 hok
  refine lv_iconst (v := nI 4) hx hbc dX1_placeOf_0 (by decide) ?_
  refine lv_iload_n hx hbc dX1_placeOf_1 rfl (lv_at hl 2 rfl) ?_
  refine lv_imul hx hbc dX1_placeOf_2 ?_
  refine bl_as (pk_mul _ _) ?_
  refine lv_istore_n (lv' := [(3, .int (nI (4 * i))), (0, .ref (P.2.2 0)), (1, .int (nI b)), (2, .int (nI i))]) hx hbc dX1_placeOf_3 rfl hl (by decide) rfl (fun ls hl => ?_)
  refine lv_iconst (v := nI 0) hx hbc dX1_placeOf_4 (by decide) ?_
  refine lv_istore (lv' := [(4, .int (nI 0)), (3, .int (nI (4 * i))), (0, .ref (P.2.2 0)), (1, .int (nI b)), (2, .int (nI i))]) hx hbc dX1_placeOf_5 hl (by decide) rfl (fun ls hl => ?_)
  have loop : ∀ (f : Nat) (k : Nat), (k ≤ i + 1) → (i + 2 ≤ k + f) → ∀ (H : Heap) (locs : List Loc) (ls : Array Slot), x1W P A s.heap u H locs → lv_has ls 5 [(0, .ref (P.2.2 0)), (1, .int (nI b)), (2, .int (nI i)), (3, .int (nI (4 * i + bl_ps B.2.1 k))), (4, .int (nI k))] → W p l e (bl_rm 1) s m args below meth c H locs 0 0 Q (F0 m 7 ls []) := by
    intro f
    induction f with
    | zero =>
      intro k hk hf
      exact absurd hf (by omega)
    | succ f ih =>
      intro k hk hf H locs ls w hl
      refine lv_iload hx hbc dX1_placeOf_7 (lv_at hl 4 rfl) ?_
      refine lv_iload_n hx hbc dX1_placeOf_9 rfl (lv_at hl 2 rfl) ?_
      refine lv_icmp_gt (tgt := 34) hx hbc dX1_placeOf_10 (by decide) (fun c1 => ?_) (fun c1 => ?_)
      · have c1 := (nI_ltI (by omega) (by omega)).mp c1
        have e1 : k = i + 1 := by omega
        have h1 := bl_low hok i hi
        refine lv_iload_n hx hbc dX1_placeOf_34 rfl (lv_at hl 3 rfl) ?_
        exact hret _ _ _ _ _ _ dX1_placeOf_35 rfl (⟨by rw [e1, show 4 * i + bl_ps B.2.1 (i + 1) = B.2.1 i from (show 4 * i + (B.2.1 i - 4 * i) = B.2.1 i by omega)], rfl⟩) w
      · have c1 : ¬ i < k := fun q => c1 ((nI_ltI (by omega) (by omega)).mpr q)
        refine lv_iload_n hx hbc dX1_placeOf_13 rfl (lv_at hl 3 rfl) ?_
        refine lv_aload_n hx hbc dX1_placeOf_14 rfl (lv_at hl 0 rfl) ?_
        refine x1_gap C w dX1_placeOf_15 ?_
        refine lv_aload_n hx hbc dX1_placeOf_18 rfl (lv_at hl 0 rfl) ?_
        refine lv_iload_n hx hbc dX1_placeOf_19 rfl (lv_at hl 1 rfl) ?_
        refine lv_iload hx hbc dX1_placeOf_20 (lv_at hl 4 rfl) ?_
        refine x1_calli C w hA (rest := [.ref (P.2.2 3), .int (nI (4 * i + bl_ps B.2.1 k))]) (c1_slot l P _ (i := k) hb (by omega) hX.1 hX.2.1) x1g_slot x1d_slot rfl ⟨Nat.le_of_ble_eq_true rfl, Nat.le_of_ble_eq_true rfl⟩ hl.1 rfl (Nat.le_of_ble_eq_true rfl) dX1_placeOf_22 ⟨Nat.zero_le _, Nat.zero_le _⟩ (fun r v H locs hp w => ?_)
        obtain ⟨rfl, rfl⟩ := hp
        refine x1_ld_gap C w (j := b * 16 + (h + k) % 16) (by omega) rfl (v := nI (bl_gap B.2.1 k)) ((hX.2.2.2.2 k (by omega)).1) dX1_placeOf_25 ?_
        refine lv_iadd hx hbc dX1_placeOf_26 ?_
        refine bl_as (nI_add _ _) ?_
        refine bl_as (y := nI (4 * i + bl_ps B.2.1 (k + 1))) (by rw [← bl_ps_step hok (by omega), Nat.add_assoc]) ?_
        refine lv_istore_n (lv' := [(3, .int (nI (4 * i + bl_ps B.2.1 (k + 1)))), (0, .ref (P.2.2 0)), (1, .int (nI b)), (2, .int (nI i)), (4, .int (nI k))]) hx hbc dX1_placeOf_27 rfl hl (by decide) rfl (fun ls hl => ?_)
        refine lv_iinc (v := nI (k + 1)) (lv' := [(4, .int (nI (k + 1))), (3, .int (nI (4 * i + bl_ps B.2.1 (k + 1)))), (0, .ref (P.2.2 0)), (1, .int (nI b)), (2, .int (nI i))]) hx hbc dX1_placeOf_28 hl (k := 4) rfl (nI_add _ 1) (by decide) rfl (fun ls hl => ?_)
        refine lv_goto (tgt := 7) hx hbc dX1_placeOf_31 (by decide) ?_
        exact ih (k + 1) (by omega) (by omega) _ _ _ w (lv_sub hl [2, 3, 4, 1, 0] rfl)
  exact loop (i + 2) 0 (by omega) (by omega) _ _ _ w (lv_sub hl [2, 3, 4, 1, 0] rfl)
set_option maxHeartbeats 4000000 in
set_option maxRecDepth 100000 in
/-- atEnd(b) -/
theorem c1_atEnd (l : Launch) (P : bl_P) (u : bl_S) {L h b : Nat} {B : bl_B} (hb : b < 4) (hX : bl_XB u h b B) (hok : bl_ok L B) (hL : 8 ≤ L ∧ L ≤ 60) : x1Mi l yX1_atEnd cX1_atEnd 2 (some .boolean) 1 P u [.int (nI b)] (fun r v => (if bl_end B then 1 else 0) = r ∧ u = v) := by
  refine x1Mi_of (ty := .boolean) (by decide) rfl rfl (Nat.le_of_ble_eq_true rfl) ?_
  intro p e s m args below meth c A Q ls C hA hret w hl
  have hx := C.1.1
  have hbc := C.1.2.1
  have hl : lv_has ls 2 [(0, .ref (P.2.2 0)), (1, .int (nI b))] := hl
  have hn := bl_cnt hL.2 hok
  refine lv_aload_n hx hbc dX1_atEnd_0 rfl (lv_at hl 0 rfl) ?_
  refine x1_count C w dX1_atEnd_1 ?_
  refine lv_iload_n hx hbc dX1_atEnd_4 rfl (lv_at hl 1 rfl) ?_
  refine x1_ld_count C w (j := b) (by omega) rfl (v := nI B.1) (hX.2.2.1) dX1_atEnd_5 ?_
  refine lv_if_le (tgt := 27) hx hbc dX1_atEnd_6 (by decide) (fun c1 => ?_) (fun c1 => ?_)
  · have c1 : B.1 ≤ 0 := (nI_leI (b := 0) (by omega) (by decide)).mp c1
    refine lv_iconst (v := nI 0) hx hbc dX1_atEnd_27 (by decide) ?_
    exact hret _ _ _ _ _ _ dX1_atEnd_28 rfl (⟨if_neg (fun q => by have := q.1; omega), rfl⟩) w
  · have c1 : 0 < B.1 := Nat.pos_of_ne_zero (fun q => c1 (by rw [q]; decide))
    have hp := (hok.1 0 c1).1
    refine lv_aload_n hx hbc dX1_atEnd_9 rfl (lv_at hl 0 rfl) ?_
    refine x1_gap C w dX1_atEnd_10 ?_
    refine lv_aload_n hx hbc dX1_atEnd_13 rfl (lv_at hl 0 rfl) ?_
    refine lv_iload_n hx hbc dX1_atEnd_14 rfl (lv_at hl 1 rfl) ?_
    refine lv_iconst (v := nI 0) hx hbc dX1_atEnd_15 (by decide) ?_
    refine x1_calli C w hA (rest := [.ref (P.2.2 3)]) (c1_slot l P _ (i := 0) hb (by omega) hX.1 hX.2.1) x1g_slot x1d_slot rfl ⟨Nat.le_of_ble_eq_true rfl, Nat.le_of_ble_eq_true rfl⟩ hl.1 rfl (Nat.le_of_ble_eq_true rfl) dX1_atEnd_16 ⟨Nat.zero_le _, Nat.zero_le _⟩ (fun r v H locs hp w => ?_)
    obtain ⟨rfl, rfl⟩ := hp
    refine x1_ld_gap C w (j := b * 16 + (h + 0) % 16) (by omega) rfl (v := nI (B.2.1 0)) ((hX.2.2.2.2 0 c1).1) dX1_atEnd_19 ?_
    refine lv_if_ne (tgt := 27) hx hbc dX1_atEnd_20 (by decide) (fun c2 => ?_) (fun c2 => ?_)
    · refine lv_iconst (v := nI 0) hx hbc dX1_atEnd_27 (by decide) ?_
      exact hret _ _ _ _ _ _ dX1_atEnd_28 rfl (⟨if_neg (fun q => c2 ((bl_eq0 (by omega)).mpr q.2)), rfl⟩) w
    · refine lv_iconst (v := nI 1) hx hbc dX1_atEnd_23 (by decide) ?_
      refine lv_goto (tgt := 28) hx hbc dX1_atEnd_24 (by decide) ?_
      exact hret _ _ _ _ _ _ dX1_atEnd_28 rfl (⟨if_pos ⟨c1, (bl_eq0 (by omega)).mp c2⟩, rfl⟩) w
set_option maxHeartbeats 4000000 in
set_option maxRecDepth 100000 in
/-- firstOpen(b) -/
theorem c1_firstOpen (l : Launch) (P : bl_P) (u : bl_S) {L h b : Nat} {B : bl_B} (hb : b < 4) (hX : bl_XB u h b B) (hok : bl_ok L B) (hL : 8 ≤ L ∧ L ≤ 60) : x1Mi l yX1_firstOpen cX1_firstOpen 3 (some .int) 1 P u [.int (nI b)] (fun r v => nI (bl_find (bl_gf B.2.1) B.1) = r ∧ u = v) := by
  refine x1Mi_of (ty := .int) (by decide) rfl rfl (Nat.le_of_ble_eq_true rfl) ?_
  intro p e s m args below meth c A Q ls C hA hret w hl
  have hx := C.1.1
  have hbc := C.1.2.1
  have hl : lv_has ls 3 [(0, .ref (P.2.2 0)), (1, .int (nI b))] := hl
  have hn := bl_cnt hL.2 hok
  refine lv_iconst (v := nI 0) hx hbc dX1_firstOpen_0 (by decide) ?_
  refine lv_istore_n (lv' := [(2, .int (nI 0)), (0, .ref (P.2.2 0)), (1, .int (nI b))]) hx hbc dX1_firstOpen_1 rfl hl (by decide) rfl (fun ls hl => ?_)
  have loop : ∀ (f : Nat) (k : Nat), (k ≤ B.1) → (B.1 + 1 ≤ k + f) → (∀ j, j < k → bl_gap B.2.1 j = 0) → ∀ (H : Heap) (locs : List Loc) (ls : Array Slot), x1W P A s.heap u H locs → lv_has ls 3 [(0, .ref (P.2.2 0)), (1, .int (nI b)), (2, .int (nI k))] → W p l e (bl_rm 1) s m args below meth c H locs 0 0 Q (F0 m 2 ls []) := by
    intro f
    induction f with
    | zero =>
      intro k hk hf hg
      exact absurd hf (by omega)
    | succ f ih =>
      intro k hk hf hg H locs ls w hl
      refine lv_iload_n hx hbc dX1_firstOpen_2 rfl (lv_at hl 2 rfl) ?_
      refine lv_aload_n hx hbc dX1_firstOpen_3 rfl (lv_at hl 0 rfl) ?_
      refine x1_count C w dX1_firstOpen_4 ?_
      refine lv_iload_n hx hbc dX1_firstOpen_7 rfl (lv_at hl 1 rfl) ?_
      refine x1_ld_count C w (j := b) (by omega) rfl (v := nI B.1) (hX.2.2.1) dX1_firstOpen_8 ?_
      refine lv_icmp_ge (tgt := 32) hx hbc dX1_firstOpen_9 (by decide) (fun c1 => ?_) (fun c1 => ?_)
      · have c1 := (nI_leI (by omega) (by omega)).mp c1
        refine lv_iload_n hx hbc dX1_firstOpen_32 rfl (lv_at hl 2 rfl) ?_
        exact hret _ _ _ _ _ _ dX1_firstOpen_33 rfl (⟨by rw [bl_find_eq hk (fun j hj => bl_gf_f (hg j hj)) (fun q => by omega)], rfl⟩) w
      · have c1 : ¬ B.1 ≤ k := fun q => c1 ((nI_leI (by omega) (by omega)).mpr q)
        have hp := (hok.1 k (by omega)).1
        have hq := bl_gap_le B.2.1 k
        refine lv_aload_n hx hbc dX1_firstOpen_12 rfl (lv_at hl 0 rfl) ?_
        refine x1_gap C w dX1_firstOpen_13 ?_
        refine lv_aload_n hx hbc dX1_firstOpen_16 rfl (lv_at hl 0 rfl) ?_
        refine lv_iload_n hx hbc dX1_firstOpen_17 rfl (lv_at hl 1 rfl) ?_
        refine lv_iload_n hx hbc dX1_firstOpen_18 rfl (lv_at hl 2 rfl) ?_
        refine x1_calli C w hA (rest := [.ref (P.2.2 3)]) (c1_slot l P _ (i := k) hb (by omega) hX.1 hX.2.1) x1g_slot x1d_slot rfl ⟨Nat.le_of_ble_eq_true rfl, Nat.le_of_ble_eq_true rfl⟩ hl.1 rfl (Nat.le_of_ble_eq_true rfl) dX1_firstOpen_19 ⟨Nat.zero_le _, Nat.zero_le _⟩ (fun r v H locs hp w => ?_)
        obtain ⟨rfl, rfl⟩ := hp
        refine x1_ld_gap C w (j := b * 16 + (h + k) % 16) (by omega) rfl (v := nI (bl_gap B.2.1 k)) ((hX.2.2.2.2 k (by omega)).1) dX1_firstOpen_22 ?_
        refine lv_if_ne (tgt := 32) hx hbc dX1_firstOpen_23 (by decide) (fun c2 => ?_) (fun c2 => ?_)
        · refine lv_iload_n hx hbc dX1_firstOpen_32 rfl (lv_at hl 2 rfl) ?_
          exact hret _ _ _ _ _ _ dX1_firstOpen_33 rfl (⟨by rw [bl_find_eq hk (fun j hj => bl_gf_f (hg j hj)) (fun _ => bl_gf_t (fun q => c2 ((bl_eq0 (by omega)).mpr q)))], rfl⟩) w
        · have c2 := (bl_eq0 (by omega)).mp c2
          refine lv_iinc (v := nI (k + 1)) (lv' := [(2, .int (nI (k + 1))), (0, .ref (P.2.2 0)), (1, .int (nI b))]) hx hbc dX1_firstOpen_26 hl (k := 2) rfl (nI_add _ 1) (by decide) rfl (fun ls hl => ?_)
          refine lv_goto (tgt := 2) hx hbc dX1_firstOpen_29 (by decide) ?_
          exact ih (k + 1) (by omega) (by omega) (fun j hj => by by_cases e : j = k; (rw [e]; exact c2); exact hg j (by omega)) _ _ _ w (lv_sub hl [1, 2, 0] rfl)
  exact loop (B.1 + 1) 0 (by omega) (by omega) (fun j hj => absurd hj (Nat.not_lt_zero _)) _ _ _ w (lv_sub hl [1, 2, 0] rfl)
set_option maxHeartbeats 4000000 in
set_option maxRecDepth 100000 in
/-- closeUp(b, i): with k items -/
theorem c1_closeUp (l : Launch) (P : bl_P) (u : bl_S) {b i h k : Nat} (hb : b < 4) (hh : h < 16) (hk : k ≤ 16) (hi : i < k) (e1 : u.1 1 b = nI h) (e2 : u.1 2 b = nI k) : x1Mv l yX1_closeUp cX1_closeUp 6 1 P u [.int (nI b), .int (nI i)] (fun v => bl_cl u v b h i (k - 1)) := by
  refine x1Mv_of (by decide) rfl (Nat.le_of_ble_eq_true rfl) ?_
  intro p e s m args below meth c A Q ls C hA hret w hl
  have hx := C.1.1
  have hbc := C.1.2.1
  have hl : lv_has ls 6 [(0, .ref (P.2.2 0)), (1, .int (nI b)), (2, .int (nI i))] := hl
  refine lv_iload_n hx hbc dX1_closeUp_0 rfl (lv_at hl 2 rfl) ?_
  refine lv_istore_n (lv' := [(3, .int (nI i)), (0, .ref (P.2.2 0)), (1, .int (nI b)), (2, .int (nI i))]) hx hbc dX1_closeUp_1 rfl hl (by decide) rfl (fun ls hl => ?_)
  have loop : ∀ (f : Nat) (j : Nat) (v : bl_S), (i ≤ j) → (j + 1 ≤ k) → (k ≤ j + f) → (bl_cl u v b h i j) → ∀ (H : Heap) (locs : List Loc) (ls : Array Slot), x1W P A s.heap v H locs → lv_has ls 6 [(0, .ref (P.2.2 0)), (1, .int (nI b)), (2, .int (nI i)), (3, .int (nI j))] → W p l e (bl_rm 1) s m args below meth c H locs 0 0 Q (F0 m 2 ls []) := by
    intro f
    induction f with
    | zero =>
      intro j v hj hk2 hf hc
      exact absurd hf (by omega)
    | succ f ih =>
      intro j v hj hk2 hf hc H locs ls w hl
      have g1 : v.1 1 b = nI h := (congrFun (hc.2.1 1 (by decide) (by decide)) b).trans e1
      have g2 : v.1 2 b = nI k := (congrFun (hc.2.1 2 (by decide) (by decide)) b).trans e2
      refine lv_iload_n hx hbc dX1_closeUp_2 rfl (lv_at hl 3 rfl) ?_
      refine lv_iconst (v := nI 1) hx hbc dX1_closeUp_3 (by decide) ?_
      refine lv_iadd hx hbc dX1_closeUp_4 ?_
      refine bl_as (nI_add _ _) ?_
      refine lv_aload_n hx hbc dX1_closeUp_5 rfl (lv_at hl 0 rfl) ?_
      refine x1_count C w dX1_closeUp_6 ?_
      refine lv_iload_n hx hbc dX1_closeUp_9 rfl (lv_at hl 1 rfl) ?_
      refine x1_ld_count C w (j := b) (by omega) rfl (v := nI k) (g2) dX1_closeUp_10 ?_
      refine lv_icmp_ge (tgt := 66) hx hbc dX1_closeUp_11 (by decide) (fun c1 => ?_) (fun c1 => ?_)
      · have c1 := (nI_leI (by omega) (by omega)).mp c1
        have e9 : j = k - 1 := by omega
        exact hret _ _ _ _ _ dX1_closeUp_66 (by rw [← e9]; exact hc) w
      · have c1 : ¬ k ≤ j + 1 := fun q => c1 ((nI_leI (by omega) (by omega)).mpr q)
        refine lv_aload_n hx hbc dX1_closeUp_14 rfl (lv_at hl 0 rfl) ?_
        refine lv_iload_n hx hbc dX1_closeUp_15 rfl (lv_at hl 1 rfl) ?_
        refine lv_iload_n hx hbc dX1_closeUp_16 rfl (lv_at hl 3 rfl) ?_
        refine x1_calli C w hA (rest := []) (c1_slot l P _ (i := j) hb (by omega) hh g1) x1g_slot x1d_slot rfl ⟨Nat.le_of_ble_eq_true rfl, Nat.le_of_ble_eq_true rfl⟩ hl.1 rfl (Nat.le_of_ble_eq_true rfl) dX1_closeUp_17 ⟨Nat.zero_le _, Nat.zero_le _⟩ (fun r v H locs hp w => ?_)
        obtain ⟨rfl, rfl⟩ := hp
        refine lv_istore (lv' := [(4, .int (nI (b * 16 + (h + j) % 16))), (0, .ref (P.2.2 0)), (1, .int (nI b)), (2, .int (nI i)), (3, .int (nI j))]) hx hbc dX1_closeUp_20 hl (by decide) rfl (fun ls hl => ?_)
        refine lv_aload_n hx hbc dX1_closeUp_22 rfl (lv_at hl 1 rfl) ?_
        refine lv_iload_n hx hbc dX1_closeUp_23 rfl (lv_at hl 2 rfl) ?_
        refine lv_iload_n hx hbc dX1_closeUp_24 rfl (lv_at hl 4 rfl) ?_
        refine lv_iconst (v := nI 1) hx hbc dX1_closeUp_25 (by decide) ?_
        refine lv_iadd hx hbc dX1_closeUp_26 ?_
        refine bl_as (nI_add _ _) ?_
        refine x1_calli C w hA (rest := []) (c1_slot l P _ (i := j + 1) hb (by omega) hh g1) x1g_slot x1d_slot rfl ⟨Nat.le_of_ble_eq_true rfl, Nat.le_of_ble_eq_true rfl⟩ hl.1 rfl (Nat.le_of_ble_eq_true rfl) dX1_closeUp_27 ⟨Nat.zero_le _, Nat.zero_le _⟩ (fun r v H locs hp w => ?_)
        obtain ⟨rfl, rfl⟩ := hp
        refine lv_istore (lv' := [(5, .int (nI (b * 16 + (h + (j + 1)) % 16))), (4, .int (nI (b * 16 + (h + j) % 16))), (0, .ref (P.2.2 0)), (1, .int (nI b)), (2, .int (nI i)), (3, .int (nI j))]) hx hbc dX1_closeUp_30 hl (by decide) rfl (fun ls hl => ?_)
        refine lv_aload_n hx hbc dX1_closeUp_32 rfl (lv_at hl 2 rfl) ?_
        refine x1_gap C w dX1_closeUp_33 ?_
        refine lv_iload hx hbc dX1_closeUp_36 (lv_at hl 1 rfl) ?_
        refine lv_aload_n hx hbc dX1_closeUp_38 rfl (lv_at hl 2 rfl) ?_
        refine x1_gap C w dX1_closeUp_39 ?_
        refine lv_iload hx hbc dX1_closeUp_42 (lv_at hl 0 rfl) ?_
        refine x1_ld_gap C w (j := b * 16 + (h + (j + 1)) % 16) (by omega) rfl (v := v.1 3 (b * 16 + (h + (j + 1)) % 16)) (rfl) dX1_closeUp_44 ?_
        refine x1_st_gap C w (j := b * 16 + (h + j) % 16) (by omega) rfl dX1_closeUp_45 (fun H locs w => ?_)
        refine lv_aload_n hx hbc dX1_closeUp_46 rfl (lv_at hl 2 rfl) ?_
        refine x1_kinds C w dX1_closeUp_47 ?_
        refine lv_iload hx hbc dX1_closeUp_50 (lv_at hl 1 rfl) ?_
        refine lv_aload_n hx hbc dX1_closeUp_52 rfl (lv_at hl 2 rfl) ?_
        refine x1_kinds C w dX1_closeUp_53 ?_
        refine lv_iload hx hbc dX1_closeUp_56 (lv_at hl 0 rfl) ?_
        refine x1_ld_kinds C w (j := b * 16 + (h + (j + 1)) % 16) (by omega) rfl (v := v.1 4 (b * 16 + (h + (j + 1)) % 16)) (rfl) dX1_closeUp_58 ?_
        refine x1_st_kinds C w (j := b * 16 + (h + j) % 16) (by omega) rfl dX1_closeUp_59 (fun H locs w => ?_)
        refine lv_iinc (v := nI (j + 1)) (lv' := [(3, .int (nI (j + 1))), (5, .int (nI (b * 16 + (h + (j + 1)) % 16))), (4, .int (nI (b * 16 + (h + j) % 16))), (0, .ref (P.2.2 0)), (1, .int (nI b)), (2, .int (nI i))]) hx hbc dX1_closeUp_60 hl (k := 5) rfl (nI_add _ 1) (by decide) rfl (fun ls hl => ?_)
        refine lv_goto (tgt := 2) hx hbc dX1_closeUp_63 (by decide) ?_
        exact ih (j + 1) _ (by omega) (by omega) (by omega) (bl_cl_s hc hj (by omega)) _ _ _ w (lv_sub hl [3, 4, 5, 0] rfl)
  exact loop k i u (Nat.le_refl _) (by omega) (by omega) bl_cl_0 _ _ _ w (lv_sub hl [1, 2, 3, 0] rfl)
end
section
set_option maxRecDepth 100000
set_option maxHeartbeats 4000000 in
set_option maxRecDepth 100000 in
/-- append(b, k), where there is room -/
theorem c1_append (l : Launch) (P : bl_P) (u : bl_S) {L b k : Nat} {M : bl_M} (hI : bl_I L M) (hR : bl_RX L M u) (hb : b < 4) (hr : bl_room L (M.1 b)) : x1Mv l yX1_append cX1_append 5 1 P u [.int (nI b), .int (nI k)] (fun v => bl_RX L (bl_sB M b (bl_start L (M.1 b) k)) v) := by
  refine x1Mv_of (by decide) rfl (Nat.le_of_ble_eq_true rfl) ?_
  intro p e s m args below meth c A Q ls C hA hret w hl
  have hx := C.1.1
  have hbc := C.1.2.1
  have hl : lv_has ls 5 [(0, .ref (P.2.2 0)), (1, .int (nI b)), (2, .int (nI k))] := hl
  obtain ⟨h, hX⟩ := hR.2.1 b hb
  have hok := hI.2.1 b hb
  have hL := hI.1
  have hn := bl_cnt_room hL.2 hok hr
  have hh := hX.1
  have rest_ : ∀  (H : Heap) (locs : List Loc) (ls : Array Slot), x1W P A s.heap u H locs → lv_has ls 5 [(0, .ref (P.2.2 0)), (1, .int (nI b)), (2, .int (nI k))] → W p l e (bl_rm 1) s m args below meth c H locs 0 0 Q (F0 m 28 ls [.int (nI (bl_open L (M.1 b)))]) := by
    intro  H locs ls  w hl
    refine lv_istore_n (lv' := [(3, .int (nI (bl_open L (M.1 b)))), (0, .ref (P.2.2 0)), (1, .int (nI b)), (2, .int (nI k))]) hx hbc dX1_append_28 rfl hl (by decide) rfl (fun ls hl => ?_)
    refine lv_aload_n hx hbc dX1_append_29 rfl (lv_at hl 1 rfl) ?_
    refine lv_iload_n hx hbc dX1_append_30 rfl (lv_at hl 2 rfl) ?_
    refine lv_aload_n hx hbc dX1_append_31 rfl (lv_at hl 1 rfl) ?_
    refine x1_count C w dX1_append_32 ?_
    refine lv_iload_n hx hbc dX1_append_35 rfl (lv_at hl 2 rfl) ?_
    refine x1_ld_count C w (j := b) (by omega) rfl (v := nI ((M.1 b).1)) (hX.2.2.1) dX1_append_36 ?_
    refine x1_calli C w hA (rest := []) (c1_slot l P _ (i := (M.1 b).1) hb (by omega) hX.1 hX.2.1) x1g_slot x1d_slot rfl ⟨Nat.le_of_ble_eq_true rfl, Nat.le_of_ble_eq_true rfl⟩ hl.1 rfl (Nat.le_of_ble_eq_true rfl) dX1_append_37 ⟨Nat.zero_le _, Nat.zero_le _⟩ (fun r v H locs hp w => ?_)
    obtain ⟨rfl, rfl⟩ := hp
    refine lv_istore (lv' := [(4, .int (nI (b * 16 + (h + ((M.1 b).1)) % 16))), (3, .int (nI (bl_open L (M.1 b)))), (0, .ref (P.2.2 0)), (1, .int (nI b)), (2, .int (nI k))]) hx hbc dX1_append_40 hl (by decide) rfl (fun ls hl => ?_)
    refine lv_aload_n hx hbc dX1_append_42 rfl (lv_at hl 2 rfl) ?_
    refine x1_gap C w dX1_append_43 ?_
    refine lv_iload hx hbc dX1_append_46 (lv_at hl 0 rfl) ?_
    refine lv_iload_n hx hbc dX1_append_48 rfl (lv_at hl 1 rfl) ?_
    refine x1_st_gap C w (j := b * 16 + (h + ((M.1 b).1)) % 16) (by omega) rfl dX1_append_49 (fun H locs w => ?_)
    refine lv_aload_n hx hbc dX1_append_50 rfl (lv_at hl 2 rfl) ?_
    refine x1_kinds C w dX1_append_51 ?_
    refine lv_iload hx hbc dX1_append_54 (lv_at hl 0 rfl) ?_
    refine lv_iload_n hx hbc dX1_append_56 rfl (lv_at hl 4 rfl) ?_
    refine x1_st_kinds C w (j := b * 16 + (h + ((M.1 b).1)) % 16) (by omega) rfl dX1_append_57 (fun H locs w => ?_)
    refine lv_aload_n hx hbc dX1_append_58 rfl (lv_at hl 2 rfl) ?_
    refine x1_gaps C w dX1_append_59 ?_
    refine lv_iload_n hx hbc dX1_append_62 rfl (lv_at hl 3 rfl) ?_
    refine lv_dup2_11 hx hbc dX1_append_63 rfl rfl ?_
    refine x1_ld_gaps C w (j := b) (by omega) rfl (v := nI (bl_ps (M.1 b).2.1 (M.1 b).1)) (hX.2.2.2.1) dX1_append_64 ?_
    refine lv_iload_n hx hbc dX1_append_65 rfl (lv_at hl 1 rfl) ?_
    refine lv_iadd hx hbc dX1_append_66 ?_
    refine bl_as (nI_add _ _) ?_
    refine x1_st_gaps C w (j := b) (by omega) rfl dX1_append_67 (fun H locs w => ?_)
    refine lv_aload_n hx hbc dX1_append_68 rfl (lv_at hl 2 rfl) ?_
    refine x1_count C w dX1_append_69 ?_
    refine lv_iload_n hx hbc dX1_append_72 rfl (lv_at hl 3 rfl) ?_
    refine lv_dup2_11 hx hbc dX1_append_73 rfl rfl ?_
    refine x1_ld_count C w (j := b) (by omega) rfl (v := nI ((M.1 b).1)) (hX.2.2.1) dX1_append_74 ?_
    refine lv_iconst (v := nI 1) hx hbc dX1_append_75 (by decide) ?_
    refine lv_iadd hx hbc dX1_append_76 ?_
    refine bl_as (nI_add _ _) ?_
    refine x1_st_count C w (j := b) (by omega) rfl dX1_append_77 (fun H locs w => ?_)
    exact hret _ _ _ _ _ dX1_append_78 (bl_RX_sB hR (bl_X_append_f (Nat.mod_lt _ (by decide))) (bl_X_append hL.2 hX hok hr)) w
  refine lv_aload_n hx hbc dX1_append_0 rfl (lv_at hl 0 rfl) ?_
  refine x1_count C w dX1_append_1 ?_
  refine lv_iload_n hx hbc dX1_append_4 rfl (lv_at hl 1 rfl) ?_
  refine x1_ld_count C w (j := b) (by omega) rfl (v := nI ((M.1 b).1)) (hX.2.2.1) dX1_append_5 ?_
  refine lv_if_ne (tgt := 16) hx hbc dX1_append_6 (by decide) (fun c1 => ?_) (fun c1 => ?_)
  · have h0 : ¬ (M.1 b).1 = 0 := fun q => c1 ((bl_eq0 (by omega)).mpr q)
    have hp := (hok.1 ((M.1 b).1 - 1) (by omega)).1
    have hr2 : (M.1 b).2.1 ((M.1 b).1 - 1) + 4 ≤ L := hr.elim (fun q => absurd q h0) id
    refine lv_aload_n hx hbc dX1_append_16 rfl (lv_at hl 0 rfl) ?_
    refine x1_length C w (v := nI L) (hR.1) dX1_append_17 ?_
    refine lv_aload_n hx hbc dX1_append_20 rfl (lv_at hl 0 rfl) ?_
    refine lv_iload_n hx hbc dX1_append_21 rfl (lv_at hl 1 rfl) ?_
    refine x1_calli C w hA (rest := [.int (nI L)]) (c1_lastPlace l P _ hb hX hok (by omega)) x1g_lastPlace x1d_lastPlace rfl ⟨Nat.le_of_ble_eq_true rfl, Nat.le_of_ble_eq_true rfl⟩ hl.1 rfl (Nat.le_of_ble_eq_true rfl) dX1_append_22 ⟨Nat.zero_le _, Nat.zero_le _⟩ (fun r v H locs hp w => ?_)
    obtain ⟨rfl, rfl⟩ := hp
    refine lv_isub hx hbc dX1_append_25 ?_
    refine bl_as (y := nI (L - (M.1 b).2.1 ((M.1 b).1 - 1))) (pk_sub (by omega)) ?_
    refine lv_iconst (v := nI 4) hx hbc dX1_append_26 (by decide) ?_
    refine lv_isub hx hbc dX1_append_27 ?_
    refine bl_as (y := nI (L - (M.1 b).2.1 ((M.1 b).1 - 1) - 4)) (pk_sub (by omega)) ?_
    refine bl_as (y := nI (bl_open L (M.1 b))) (by rw [show bl_open L (M.1 b) = _ from if_neg h0]) ?_
    exact rest_ _ _ _ w (lv_sub hl [0, 1, 2] rfl)
  · have h0 := (bl_eq0 (by omega)).mp c1
    refine lv_aload_n hx hbc dX1_append_9 rfl (lv_at hl 0 rfl) ?_
    refine x1_length C w (v := nI L) (hR.1) dX1_append_10 ?_
    refine bl_as (y := nI (bl_open L (M.1 b))) (by rw [show bl_open L (M.1 b) = _ from if_pos h0]) ?_
    refine lv_goto (tgt := 28) hx hbc dX1_append_13 (by decide) ?_
    exact rest_ _ _ _ w (lv_sub hl [0, 1, 2] rfl)
set_option maxHeartbeats 4000000 in
set_option maxRecDepth 100000 in
/-- removeItem(b, i) -/
theorem c1_removeItem (l : Launch) (P : bl_P) (u : bl_S) {L b i : Nat} {M : bl_M} (hI : bl_I L M) (hR : bl_RX L M u) (hb : b < 4) (hi : i < (M.1 b).1) : x1Mi l yX1_removeItem cX1_removeItem 6 (some .int) 2 P u [.int (nI b), .int (nI i)] (fun r v => nI ((M.1 b).2.2 i) = r ∧ bl_RX L (bl_sB M b (bl_off (M.1 b) i)) v) := by
  refine x1Mi_of (ty := .int) (by decide) rfl rfl (Nat.le_of_ble_eq_true rfl) ?_
  intro p e s m args below meth c A Q ls C hA hret w hl
  have hx := C.1.1
  have hbc := C.1.2.1
  have hl : lv_has ls 6 [(0, .ref (P.2.2 0)), (1, .int (nI b)), (2, .int (nI i))] := hl
  obtain ⟨h, hX⟩ := hR.2.1 b hb
  have hok := hI.2.1 b hb
  have hL := hI.1
  have hn := bl_cnt hL.2 hok
  have hh := hX.1
  have rest_ : ∀ (u1 : bl_S) (H : Heap) (locs : List Loc) (ls : Array Slot), (bl_R1 u1 h b i (M.1 b)) → (bl_Xf b u u1) → x1W P A s.heap u1 H locs → lv_has ls 6 [(0, .ref (P.2.2 0)), (1, .int (nI b)), (2, .int (nI i)), (4, .int (nI ((M.1 b).2.2 i)))] → W p l e (bl_rm 2) s m args below meth c H locs 0 0 Q (F0 m 79 ls []) := by
    intro u1 H locs ls h1 hf w hl
    have hh := h1.1
    refine lv_iload_n hx hbc dX1_removeItem_79 rfl (lv_at hl 2 rfl) ?_
    refine lv_if_ne (tgt := 103) hx hbc dX1_removeItem_80 (by decide) (fun c2 => ?_) (fun c2 => ?_)
    · have hi0 : ¬ i = 0 := fun q => c2 ((bl_eq0 (by omega)).mpr q)
      refine lv_aload_n hx hbc dX1_removeItem_103 rfl (lv_at hl 0 rfl) ?_
      refine lv_iload_n hx hbc dX1_removeItem_104 rfl (lv_at hl 1 rfl) ?_
      refine lv_iload_n hx hbc dX1_removeItem_105 rfl (lv_at hl 2 rfl) ?_
      refine x1_callv C w hA (rest := []) (c1_closeUp l P _ (k := (M.1 b).1) hb hh hn hi h1.2.1 h1.2.2.1) x1g_closeUp x1d_closeUp rfl ⟨Nat.le_of_ble_eq_true rfl, Nat.le_of_ble_eq_true rfl⟩ hl.1 rfl (Nat.le_of_ble_eq_true rfl) dX1_removeItem_106 ⟨Nat.zero_le _, Nat.zero_le _⟩ (fun v H locs hp w => ?_)
      have g2 : v.1 2 b = nI (M.1 b).1 := (congrFun (hp.2.1 2 (by decide) (by decide)) b).trans h1.2.2.1
      refine lv_aload_n hx hbc dX1_removeItem_109 rfl (lv_at hl 0 rfl) ?_
      refine x1_count C w dX1_removeItem_110 ?_
      refine lv_iload_n hx hbc dX1_removeItem_113 rfl (lv_at hl 1 rfl) ?_
      refine lv_dup2_11 hx hbc dX1_removeItem_114 rfl rfl ?_
      refine x1_ld_count C w (j := b) (by omega) rfl (v := nI ((M.1 b).1)) (g2) dX1_removeItem_115 ?_
      refine lv_iconst (v := nI 1) hx hbc dX1_removeItem_116 (by decide) ?_
      refine lv_isub hx hbc dX1_removeItem_117 ?_
      refine bl_as (y := nI ((M.1 b).1 - 1)) (pk_sub (by omega)) ?_
      refine x1_st_count C w (j := b) (by omega) rfl dX1_removeItem_118 (fun H locs w => ?_)
      refine lv_iload hx hbc dX1_removeItem_119 (lv_at hl 3 rfl) ?_
      exact hret _ _ _ _ _ _ dX1_removeItem_121 rfl (⟨rfl, bl_RX_sB hR ((hf.tr (bl_cl_f hp)).s1 2 _ (by omega)) (bl_X_remc hn h1 hi hp)⟩) w
    · have hi0 := (bl_eq0 (by omega)).mp c2
      subst hi0
      refine lv_aload_n hx hbc dX1_removeItem_83 rfl (lv_at hl 0 rfl) ?_
      refine x1_head C w dX1_removeItem_84 ?_
      refine lv_iload_n hx hbc dX1_removeItem_87 rfl (lv_at hl 1 rfl) ?_
      refine lv_aload_n hx hbc dX1_removeItem_88 rfl (lv_at hl 0 rfl) ?_
      refine x1_head C w dX1_removeItem_89 ?_
      refine lv_iload_n hx hbc dX1_removeItem_92 rfl (lv_at hl 1 rfl) ?_
      refine x1_ld_head C w (j := b) (by omega) rfl (v := nI h) (h1.2.1) dX1_removeItem_93 ?_
      refine lv_iconst (v := nI 1) hx hbc dX1_removeItem_94 (by decide) ?_
      refine lv_iadd hx hbc dX1_removeItem_95 ?_
      refine bl_as (nI_add _ _) ?_
      refine lv_bipush (v := nI 15) hx hbc dX1_removeItem_96 (by decide) ?_
      refine lv_iand hx hbc dX1_removeItem_98 ?_
      refine bl_as (y := nI ((h + 1) % 16)) (bl_and15 (by omega)) ?_
      refine x1_st_head C w (j := b) (by omega) rfl dX1_removeItem_99 (fun H locs w => ?_)
      refine lv_goto (tgt := 109) hx hbc dX1_removeItem_100 (by decide) ?_
      refine lv_aload_n hx hbc dX1_removeItem_109 rfl (lv_at hl 0 rfl) ?_
      refine x1_count C w dX1_removeItem_110 ?_
      refine lv_iload_n hx hbc dX1_removeItem_113 rfl (lv_at hl 1 rfl) ?_
      refine lv_dup2_11 hx hbc dX1_removeItem_114 rfl rfl ?_
      refine x1_ld_count C w (j := b) (by omega) rfl (v := nI ((M.1 b).1)) (h1.2.2.1) dX1_removeItem_115 ?_
      refine lv_iconst (v := nI 1) hx hbc dX1_removeItem_116 (by decide) ?_
      refine lv_isub hx hbc dX1_removeItem_117 ?_
      refine bl_as (y := nI ((M.1 b).1 - 1)) (pk_sub (by omega)) ?_
      refine x1_st_count C w (j := b) (by omega) rfl dX1_removeItem_118 (fun H locs w => ?_)
      refine lv_iload hx hbc dX1_removeItem_119 (lv_at hl 3 rfl) ?_
      exact hret _ _ _ _ _ _ dX1_removeItem_121 rfl (⟨rfl, bl_RX_sB hR ((hf.s1 1 _ (by omega)).s1 2 _ (by omega)) (bl_X_rem0 h1 hi)⟩) w
  refine lv_aload_n hx hbc dX1_removeItem_0 rfl (lv_at hl 0 rfl) ?_
  refine lv_iload_n hx hbc dX1_removeItem_1 rfl (lv_at hl 1 rfl) ?_
  refine lv_iload_n hx hbc dX1_removeItem_2 rfl (lv_at hl 2 rfl) ?_
  refine x1_calli C w hA (rest := []) (c1_slot l P _ (i := i) hb (by omega) hX.1 hX.2.1) x1g_slot x1d_slot rfl ⟨Nat.le_of_ble_eq_true rfl, Nat.le_of_ble_eq_true rfl⟩ hl.1 rfl (Nat.le_of_ble_eq_true rfl) dX1_removeItem_3 ⟨Nat.zero_le _, Nat.zero_le _⟩ (fun r v H locs hp w => ?_)
  obtain ⟨rfl, rfl⟩ := hp
  refine lv_istore_n (lv' := [(3, .int (nI (b * 16 + (h + i) % 16))), (0, .ref (P.2.2 0)), (1, .int (nI b)), (2, .int (nI i))]) hx hbc dX1_removeItem_6 rfl hl (by decide) rfl (fun ls hl => ?_)
  refine lv_aload_n hx hbc dX1_removeItem_7 rfl (lv_at hl 1 rfl) ?_
  refine x1_kinds C w dX1_removeItem_8 ?_
  refine lv_iload_n hx hbc dX1_removeItem_11 rfl (lv_at hl 0 rfl) ?_
  refine x1_ld_kinds C w (j := b * 16 + (h + i) % 16) (by omega) rfl (v := nI ((M.1 b).2.2 i)) ((hX.2.2.2.2 i hi).2) dX1_removeItem_12 ?_
  refine lv_istore (lv' := [(4, .int (nI ((M.1 b).2.2 i))), (3, .int (nI (b * 16 + (h + i) % 16))), (0, .ref (P.2.2 0)), (1, .int (nI b)), (2, .int (nI i))]) hx hbc dX1_removeItem_13 hl (by decide) rfl (fun ls hl => ?_)
  refine lv_aload_n hx hbc dX1_removeItem_15 rfl (lv_at hl 2 rfl) ?_
  refine x1_gap C w dX1_removeItem_16 ?_
  refine lv_iload_n hx hbc dX1_removeItem_19 rfl (lv_at hl 1 rfl) ?_
  refine x1_ld_gap C w (j := b * 16 + (h + i) % 16) (by omega) rfl (v := nI (bl_gap (M.1 b).2.1 i)) ((hX.2.2.2.2 i hi).1) dX1_removeItem_20 ?_
  refine lv_istore (lv' := [(5, .int (nI (bl_gap (M.1 b).2.1 i))), (4, .int (nI ((M.1 b).2.2 i))), (3, .int (nI (b * 16 + (h + i) % 16))), (0, .ref (P.2.2 0)), (1, .int (nI b)), (2, .int (nI i))]) hx hbc dX1_removeItem_21 hl (by decide) rfl (fun ls hl => ?_)
  refine lv_iload_n hx hbc dX1_removeItem_23 rfl (lv_at hl 5 rfl) ?_
  refine lv_iconst (v := nI 1) hx hbc dX1_removeItem_24 (by decide) ?_
  refine lv_iadd hx hbc dX1_removeItem_25 ?_
  refine bl_as (nI_add _ _) ?_
  refine lv_aload_n hx hbc dX1_removeItem_26 rfl (lv_at hl 3 rfl) ?_
  refine x1_count C w dX1_removeItem_27 ?_
  refine lv_iload_n hx hbc dX1_removeItem_30 rfl (lv_at hl 4 rfl) ?_
  refine x1_ld_count C w (j := b) (by omega) rfl (v := nI ((M.1 b).1)) (hX.2.2.1) dX1_removeItem_31 ?_
  refine lv_icmp_ge (tgt := 68) hx hbc dX1_removeItem_32 (by decide) (fun c1 => ?_) (fun c1 => ?_)
  · have c1 := (nI_leI (by omega) (by omega)).mp c1
    have hi2 : i + 1 = (M.1 b).1 := by omega
    refine lv_aload_n hx hbc dX1_removeItem_68 rfl (lv_at hl 3 rfl) ?_
    refine x1_gaps C w dX1_removeItem_69 ?_
    refine lv_iload_n hx hbc dX1_removeItem_72 rfl (lv_at hl 4 rfl) ?_
    refine lv_dup2_11 hx hbc dX1_removeItem_73 rfl rfl ?_
    refine x1_ld_gaps C w (j := b) (by omega) rfl (v := nI (bl_ps (M.1 b).2.1 (M.1 b).1)) (hX.2.2.2.1) dX1_removeItem_74 ?_
    refine lv_iload hx hbc dX1_removeItem_75 (lv_at hl 0 rfl) ?_
    refine lv_isub hx hbc dX1_removeItem_77 ?_
    refine bl_as (y := nI (bl_ps (M.1 b).2.1 (M.1 b).1 - bl_gap (M.1 b).2.1 i)) (pk_sub (bl_ps_off2 hok hi2).1) ?_
    refine x1_st_gaps C w (j := b) (by omega) rfl dX1_removeItem_78 (fun H locs w => ?_)
    exact rest_ _ _ _ _ (bl_X_rem2 hX hok hi2) (bl_Xf.rf.s1 5 _ (by omega)) w (lv_sub hl [3, 4, 5, 1] rfl)
  · have c1 : ¬ (M.1 b).1 ≤ i + 1 := fun q => c1 ((nI_leI (by omega) (by omega)).mpr q)
    have hi2 : i + 1 < (M.1 b).1 := by omega
    refine lv_aload_n hx hbc dX1_removeItem_35 rfl (lv_at hl 3 rfl) ?_
    refine x1_gap C w dX1_removeItem_36 ?_
    refine lv_aload_n hx hbc dX1_removeItem_39 rfl (lv_at hl 3 rfl) ?_
    refine lv_iload_n hx hbc dX1_removeItem_40 rfl (lv_at hl 4 rfl) ?_
    refine lv_iload_n hx hbc dX1_removeItem_41 rfl (lv_at hl 5 rfl) ?_
    refine lv_iconst (v := nI 1) hx hbc dX1_removeItem_42 (by decide) ?_
    refine lv_iadd hx hbc dX1_removeItem_43 ?_
    refine bl_as (nI_add _ _) ?_
    refine x1_calli C w hA (rest := [.ref (P.2.2 3)]) (c1_slot l P _ (i := i + 1) hb (by omega) hX.1 hX.2.1) x1g_slot x1d_slot rfl ⟨Nat.le_of_ble_eq_true rfl, Nat.le_of_ble_eq_true rfl⟩ hl.1 rfl (Nat.le_of_ble_eq_true rfl) dX1_removeItem_44 ⟨Nat.zero_le _, Nat.zero_le _⟩ (fun r v H locs hp w => ?_)
    obtain ⟨rfl, rfl⟩ := hp
    refine lv_dup2_11 hx hbc dX1_removeItem_47 rfl rfl ?_
    refine x1_ld_gap C w (j := b * 16 + (h + (i + 1)) % 16) (by omega) rfl (v := nI (bl_gap (M.1 b).2.1 (i + 1))) ((hX.2.2.2.2 (i + 1) hi2).1) dX1_removeItem_48 ?_
    refine lv_iload hx hbc dX1_removeItem_49 (lv_at hl 0 rfl) ?_
    refine lv_iconst (v := nI 4) hx hbc dX1_removeItem_51 (by decide) ?_
    refine lv_iadd hx hbc dX1_removeItem_52 ?_
    refine bl_as (nI_add _ _) ?_
    refine lv_iadd hx hbc dX1_removeItem_53 ?_
    refine bl_as (nI_add _ _) ?_
    refine x1_st_gap C w (j := b * 16 + (h + (i + 1)) % 16) (by omega) rfl dX1_removeItem_54 (fun H locs w => ?_)
    refine lv_aload_n hx hbc dX1_removeItem_55 rfl (lv_at hl 3 rfl) ?_
    refine x1_gaps C w dX1_removeItem_56 ?_
    refine lv_iload_n hx hbc dX1_removeItem_59 rfl (lv_at hl 4 rfl) ?_
    refine lv_dup2_11 hx hbc dX1_removeItem_60 rfl rfl ?_
    refine x1_ld_gaps C w (j := b) (by omega) rfl (v := nI (bl_ps (M.1 b).2.1 (M.1 b).1)) (hX.2.2.2.1) dX1_removeItem_61 ?_
    refine lv_iconst (v := nI 4) hx hbc dX1_removeItem_62 (by decide) ?_
    refine lv_iadd hx hbc dX1_removeItem_63 ?_
    refine bl_as (nI_add _ _) ?_
    refine x1_st_gaps C w (j := b) (by omega) rfl dX1_removeItem_64 (fun H locs w => ?_)
    refine lv_goto (tgt := 79) hx hbc dX1_removeItem_65 (by decide) ?_
    exact rest_ _ _ _ _ (bl_X_rem1 hL.2 hX hok hi2) ((bl_Xf.rf.s3 3 _ _ (by omega) (Nat.mod_lt _ (by decide))).s1 5 _ (by omega)) w (lv_sub hl [3, 4, 5, 1] rfl)
set_option maxHeartbeats 4000000 in
set_option maxRecDepth 100000 in
/-- advance(b) -/
theorem c1_advance (l : Launch) (P : bl_P) (u : bl_S) {L b : Nat} {M : bl_M} (hI : bl_I L M) (hR : bl_RX L M u) (hb : b < 4) : x1Mv l yX1_advance cX1_advance 3 2 P u [.int (nI b)] (fun v => bl_RX L (bl_adv1 M b) v) := by
  refine x1Mv_of (by decide) rfl (Nat.le_of_ble_eq_true rfl) ?_
  intro p e s m args below meth c A Q ls C hA hret w hl
  have hx := C.1.1
  have hbc := C.1.2.1
  have hl : lv_has ls 3 [(0, .ref (P.2.2 0)), (1, .int (nI b))] := hl
  obtain ⟨h, hX⟩ := hR.2.1 b hb
  have hok := hI.2.1 b hb
  have hL := hI.1
  have hn := bl_cnt hL.2 hok
  have hh := hX.1
  have hfl := bl_find_le (bl_gf (M.1 b).2.1) (M.1 b).1
  refine lv_aload_n hx hbc dX1_advance_0 rfl (lv_at hl 0 rfl) ?_
  refine lv_iload_n hx hbc dX1_advance_1 rfl (lv_at hl 1 rfl) ?_
  refine x1_calli C w hA (rest := []) (c1_firstOpen l P _ hb hX hok hL) x1g_firstOpen x1d_firstOpen rfl ⟨Nat.le_of_ble_eq_true rfl, Nat.le_of_ble_eq_true rfl⟩ hl.1 rfl (Nat.le_of_ble_eq_true rfl) dX1_advance_2 ⟨Nat.zero_le _, Nat.zero_le _⟩ (fun r v H locs hp w => ?_)
  obtain ⟨rfl, rfl⟩ := hp
  refine lv_istore_n (lv' := [(2, .int (nI (bl_find (bl_gf (M.1 b).2.1) (M.1 b).1))), (0, .ref (P.2.2 0)), (1, .int (nI b))]) hx hbc dX1_advance_5 rfl hl (by decide) rfl (fun ls hl => ?_)
  refine lv_iload_n hx hbc dX1_advance_6 rfl (lv_at hl 0 rfl) ?_
  refine lv_aload_n hx hbc dX1_advance_7 rfl (lv_at hl 1 rfl) ?_
  refine x1_count C w dX1_advance_8 ?_
  refine lv_iload_n hx hbc dX1_advance_11 rfl (lv_at hl 2 rfl) ?_
  refine x1_ld_count C w (j := b) (by omega) rfl (v := nI ((M.1 b).1)) (hX.2.2.1) dX1_advance_12 ?_
  refine lv_icmp_ne (tgt := 17) hx hbc dX1_advance_13 (by decide) (fun c1 => ?_) (fun c1 => ?_)
  · have c1 : ¬ bl_find (bl_gf (M.1 b).2.1) (M.1 b).1 = (M.1 b).1 := fun q => c1 (by rw [q])
    have hlt : bl_find (bl_gf (M.1 b).2.1) (M.1 b).1 < (M.1 b).1 := by omega
    have hg := bl_gf_ne (bl_find_at _ _ hlt)
    have hps := bl_ps_pos hok hg (M.1 b).1 hlt (Nat.le_refl _)
    refine lv_aload_n hx hbc dX1_advance_17 rfl (lv_at hl 1 rfl) ?_
    refine x1_gap C w dX1_advance_18 ?_
    refine lv_aload_n hx hbc dX1_advance_21 rfl (lv_at hl 1 rfl) ?_
    refine lv_iload_n hx hbc dX1_advance_22 rfl (lv_at hl 2 rfl) ?_
    refine lv_iload_n hx hbc dX1_advance_23 rfl (lv_at hl 0 rfl) ?_
    refine x1_calli C w hA (rest := [.ref (P.2.2 3)]) (c1_slot l P _ (i := bl_find (bl_gf (M.1 b).2.1) (M.1 b).1) hb (by omega) hX.1 hX.2.1) x1g_slot x1d_slot rfl ⟨Nat.le_of_ble_eq_true rfl, Nat.le_of_ble_eq_true rfl⟩ hl.1 rfl (Nat.le_of_ble_eq_true rfl) dX1_advance_24 ⟨Nat.zero_le _, Nat.zero_le _⟩ (fun r v H locs hp w => ?_)
    obtain ⟨rfl, rfl⟩ := hp
    refine lv_dup2_11 hx hbc dX1_advance_27 rfl rfl ?_
    refine x1_ld_gap C w (j := b * 16 + (h + (bl_find (bl_gf (M.1 b).2.1) (M.1 b).1)) % 16) (by omega) rfl (v := nI (bl_gap (M.1 b).2.1 (bl_find (bl_gf (M.1 b).2.1) (M.1 b).1))) ((hX.2.2.2.2 _ hlt).1) dX1_advance_28 ?_
    refine lv_iconst (v := nI 1) hx hbc dX1_advance_29 (by decide) ?_
    refine lv_isub hx hbc dX1_advance_30 ?_
    refine bl_as (y := nI (bl_gap (M.1 b).2.1 (bl_find (bl_gf (M.1 b).2.1) (M.1 b).1) - 1)) (pk_sub (Nat.pos_of_ne_zero hg)) ?_
    refine x1_st_gap C w (j := b * 16 + (h + (bl_find (bl_gf (M.1 b).2.1) (M.1 b).1)) % 16) (by omega) rfl dX1_advance_31 (fun H locs w => ?_)
    refine lv_aload_n hx hbc dX1_advance_32 rfl (lv_at hl 1 rfl) ?_
    refine x1_gaps C w dX1_advance_33 ?_
    refine lv_iload_n hx hbc dX1_advance_36 rfl (lv_at hl 2 rfl) ?_
    refine lv_dup2_11 hx hbc dX1_advance_37 rfl rfl ?_
    refine x1_ld_gaps C w (j := b) (by omega) rfl (v := nI (bl_ps (M.1 b).2.1 (M.1 b).1)) (hX.2.2.2.1) dX1_advance_38 ?_
    refine lv_iconst (v := nI 1) hx hbc dX1_advance_39 (by decide) ?_
    refine lv_isub hx hbc dX1_advance_40 ?_
    refine bl_as (y := nI (bl_ps (M.1 b).2.1 (M.1 b).1 - 1)) (pk_sub hps) ?_
    refine x1_st_gaps C w (j := b) (by omega) rfl dX1_advance_41 (fun H locs w => ?_)
    exact hret _ _ _ _ _ dX1_advance_42 (bl_RX_sB hR ((bl_Xf.rf.s3 3 _ _ (by omega) (Nat.mod_lt _ (by decide))).s1 5 _ (by omega)) (bl_X_adv1 hL.2 hX hok hlt)) w
  · have c1 := (nI_eq (by omega) (by omega)).mp c1
    exact hret _ _ _ _ _ dX1_advance_16 (bl_RX_sB hR bl_Xf.rf (bl_X_adv0 hX c1)) w
set_option maxHeartbeats 4000000 in
set_option maxRecDepth 100000 in
/-- withinReach(a) -/
theorem c1_withinReach (l : Launch) (P : bl_P) (u : bl_S) {L h a b : Nat} {B : bl_B} {r : bl_Arm} (ha : a < 2) (hb : b < 4) (hX : bl_XB u h b B) (hok : bl_ok L B) (hL : 8 ≤ L ∧ L ≤ 60) (e8 : u.1 8 a = nI b) (e10 : u.1 10 a = nI r.2.2.2.1) (e11 : u.1 11 a = r.2.2.2.2) (hr6 : r.2.2.2.1 ≤ 60) : x1Mi l yX1_withinReach cX1_withinReach 7 (some .int) 1 P u [.int (nI a)] (fun z v => (if bl_find (bl_fb r B) B.1 < B.1 then nI (bl_find (bl_fb r B) B.1) else -1) = z ∧ u = v) := by
  refine x1Mi_of (ty := .int) (by decide) rfl rfl (Nat.le_of_ble_eq_true rfl) ?_
  intro p e s m args below meth c A Q ls C hA hret w hl
  have hx := C.1.1
  have hbc := C.1.2.1
  have hl : lv_has ls 7 [(0, .ref (P.2.2 0)), (1, .int (nI a))] := hl
  have hn := bl_cnt hL.2 hok
  refine lv_aload_n hx hbc dX1_withinReach_0 rfl (lv_at hl 0 rfl) ?_
  refine x1_takesFrom C w dX1_withinReach_1 ?_
  refine lv_iload_n hx hbc dX1_withinReach_4 rfl (lv_at hl 1 rfl) ?_
  refine x1_ld_takesFrom C w (j := a) (by omega) rfl (v := nI b) (e8) dX1_withinReach_5 ?_
  refine lv_istore_n (lv' := [(2, .int (nI b)), (0, .ref (P.2.2 0)), (1, .int (nI a))]) hx hbc dX1_withinReach_6 rfl hl (by decide) rfl (fun ls hl => ?_)
  refine lv_bipush (v := (-4)) hx hbc dX1_withinReach_7 (by decide) ?_
  refine lv_istore_n (lv' := [(3, .int ((-4))), (2, .int (nI b)), (0, .ref (P.2.2 0)), (1, .int (nI a))]) hx hbc dX1_withinReach_9 rfl hl (by decide) rfl (fun ls hl => ?_)
  refine lv_iconst (v := nI 0) hx hbc dX1_withinReach_10 (by decide) ?_
  refine lv_istore (lv' := [(4, .int (nI 0)), (3, .int ((-4))), (2, .int (nI b)), (0, .ref (P.2.2 0)), (1, .int (nI a))]) hx hbc dX1_withinReach_11 hl (by decide) rfl (fun ls hl => ?_)
  have loop : ∀ (f : Nat) (k : Nat), (k ≤ B.1) → (B.1 + 1 ≤ k + f) → (∀ j, j < k → ¬ bl_fit r B j) → ∀ (H : Heap) (locs : List Loc) (ls : Array Slot), x1W P A s.heap u H locs → lv_has ls 7 [(0, .ref (P.2.2 0)), (1, .int (nI a)), (2, .int (nI b)), (3, .int ((bl_pl B.2.1 k))), (4, .int (nI k))] → W p l e (bl_rm 1) s m args below meth c H locs 0 0 Q (F0 m 13 ls []) := by
    intro f
    induction f with
    | zero =>
      intro k hk hf hg
      exact absurd hf (by omega)
    | succ f ih =>
      intro k hk hf hg H locs ls w hl
      refine lv_iload hx hbc dX1_withinReach_13 (lv_at hl 4 rfl) ?_
      refine lv_aload_n hx hbc dX1_withinReach_15 rfl (lv_at hl 0 rfl) ?_
      refine x1_count C w dX1_withinReach_16 ?_
      refine lv_iload_n hx hbc dX1_withinReach_19 rfl (lv_at hl 2 rfl) ?_
      refine x1_ld_count C w (j := b) (by omega) rfl (v := nI B.1) (hX.2.2.1) dX1_withinReach_20 ?_
      refine lv_icmp_ge (tgt := 108) hx hbc dX1_withinReach_21 (by decide) (fun c1 => ?_) (fun c1 => ?_)
      · have c1 := (nI_leI (by omega) (by omega)).mp c1
        have e9 := bl_find_eq hk (fun j hj => bl_fb_f (hg j hj)) (fun q => by omega)
        refine lv_iconst (v := (-1)) hx hbc dX1_withinReach_108 (by decide) ?_
        exact hret _ _ _ _ _ _ dX1_withinReach_109 rfl (⟨if_neg (by rw [e9]; omega), rfl⟩) w
      · have c1 : ¬ B.1 ≤ k := fun q => c1 ((nI_leI (by omega) (by omega)).mpr q)
        have hkn : k < B.1 := by omega
        have hp := (hok.1 k hkn).1
        have hq := (hok.1 k hkn).2
        refine lv_aload_n hx hbc dX1_withinReach_24 rfl (lv_at hl 0 rfl) ?_
        refine lv_iload_n hx hbc dX1_withinReach_25 rfl (lv_at hl 2 rfl) ?_
        refine lv_iload hx hbc dX1_withinReach_26 (lv_at hl 4 rfl) ?_
        refine x1_calli C w hA (rest := []) (c1_slot l P _ (i := k) hb (by omega) hX.1 hX.2.1) x1g_slot x1d_slot rfl ⟨Nat.le_of_ble_eq_true rfl, Nat.le_of_ble_eq_true rfl⟩ hl.1 rfl (Nat.le_of_ble_eq_true rfl) dX1_withinReach_28 ⟨Nat.zero_le _, Nat.zero_le _⟩ (fun r v H locs hp w => ?_)
        obtain ⟨rfl, rfl⟩ := hp
        refine lv_istore (lv' := [(5, .int (nI (b * 16 + (h + k) % 16))), (0, .ref (P.2.2 0)), (1, .int (nI a)), (2, .int (nI b)), (3, .int ((bl_pl B.2.1 k))), (4, .int (nI k))]) hx hbc dX1_withinReach_31 hl (by decide) rfl (fun ls hl => ?_)
        refine lv_iload_n hx hbc dX1_withinReach_33 rfl (lv_at hl 4 rfl) ?_
        refine lv_aload_n hx hbc dX1_withinReach_34 rfl (lv_at hl 1 rfl) ?_
        refine x1_gap C w dX1_withinReach_35 ?_
        refine lv_iload hx hbc dX1_withinReach_38 (lv_at hl 0 rfl) ?_
        refine x1_ld_gap C w (j := b * 16 + (h + k) % 16) (by omega) rfl (v := nI (bl_gap B.2.1 k)) ((hX.2.2.2.2 k hkn).1) dX1_withinReach_40 ?_
        refine lv_iconst (v := nI 4) hx hbc dX1_withinReach_41 (by decide) ?_
        refine lv_iadd hx hbc dX1_withinReach_42 ?_
        refine bl_as (nI_add _ _) ?_
        refine lv_iadd hx hbc dX1_withinReach_43 ?_
        refine bl_as (y := nI (B.2.1 k)) (bl_pl_step hok hkn) ?_
        refine lv_istore_n (lv' := [(3, .int (nI (B.2.1 k))), (5, .int (nI (b * 16 + (h + k) % 16))), (0, .ref (P.2.2 0)), (1, .int (nI a)), (2, .int (nI b)), (4, .int (nI k))]) hx hbc dX1_withinReach_44 rfl hl (by decide) rfl (fun ls hl => ?_)
        refine lv_aload_n hx hbc dX1_withinReach_45 rfl (lv_at hl 2 rfl) ?_
        refine x1_takesKinds C w dX1_withinReach_46 ?_
        refine lv_iload_n hx hbc dX1_withinReach_49 rfl (lv_at hl 3 rfl) ?_
        refine x1_ld_takesKinds C w (j := a) (by omega) rfl (v := r.2.2.2.2) (e11) dX1_withinReach_50 ?_
        refine lv_aload_n hx hbc dX1_withinReach_51 rfl (lv_at hl 2 rfl) ?_
        refine x1_kinds C w dX1_withinReach_52 ?_
        refine lv_iload hx hbc dX1_withinReach_55 (lv_at hl 1 rfl) ?_
        refine x1_ld_kinds C w (j := b * 16 + (h + k) % 16) (by omega) rfl (v := nI (B.2.2 k)) ((hX.2.2.2.2 k hkn).2) dX1_withinReach_57 ?_
        refine lv_ishr hx hbc dX1_withinReach_58 ?_
        refine bl_as (y := r.2.2.2.2 >>> (nI (B.2.2 k) &&& 31)) (rfl) ?_
        refine lv_iconst (v := nI 1) hx hbc dX1_withinReach_59 (by decide) ?_
        refine lv_iand hx hbc dX1_withinReach_60 ?_
        refine bl_as (y := (r.2.2.2.2 >>> (nI (B.2.2 k) &&& 31)) &&& 1) (rfl) ?_
        refine lv_iconst (v := nI 1) hx hbc dX1_withinReach_61 (by decide) ?_
        refine lv_icmp_ne (tgt := 69) hx hbc dX1_withinReach_62 (by decide) (fun c2 => ?_) (fun c2 => ?_)
        · refine lv_iconst (v := nI 0) hx hbc dX1_withinReach_69 (by decide) ?_
          refine lv_istore (lv' := [(6, .int (nI 0)), (3, .int (nI (B.2.1 k))), (5, .int (nI (b * 16 + (h + k) % 16))), (0, .ref (P.2.2 0)), (1, .int (nI a)), (2, .int (nI b)), (4, .int (nI k))]) hx hbc dX1_withinReach_70 hl (by decide) rfl (fun ls hl => ?_)
          refine lv_iload hx hbc dX1_withinReach_72 (lv_at hl 0 rfl) ?_
          refine lv_if_eq (tgt := 102) hx hbc dX1_withinReach_74 (by decide) (fun _ => ?_) (fun c9 => absurd (rfl) c9)
          refine lv_iinc (v := nI (k + 1)) (lv' := [(4, .int (nI (k + 1))), (6, .int (nI 0)), (3, .int (nI (B.2.1 k))), (5, .int (nI (b * 16 + (h + k) % 16))), (0, .ref (P.2.2 0)), (1, .int (nI a)), (2, .int (nI b))]) hx hbc dX1_withinReach_102 hl (k := 6) rfl (nI_add _ 1) (by decide) rfl (fun ls hl => ?_)
          refine lv_goto (tgt := 13) hx hbc dX1_withinReach_105 (by decide) ?_
          exact ih (k + 1) (by omega) (by omega) (bl_ext hg (fun q => c2 q.1)) _ _ _ w (lv_sub hl [4, 5, 6, 2, 0] rfl)
        · refine lv_iconst (v := nI 1) hx hbc dX1_withinReach_65 (by decide) ?_
          refine lv_goto (tgt := 70) hx hbc dX1_withinReach_66 (by decide) ?_
          refine lv_istore (lv' := [(6, .int (nI 1)), (3, .int (nI (B.2.1 k))), (5, .int (nI (b * 16 + (h + k) % 16))), (0, .ref (P.2.2 0)), (1, .int (nI a)), (2, .int (nI b)), (4, .int (nI k))]) hx hbc dX1_withinReach_70 hl (by decide) rfl (fun ls hl => ?_)
          refine lv_iload hx hbc dX1_withinReach_72 (lv_at hl 0 rfl) ?_
          refine lv_if_eq (tgt := 102) hx hbc dX1_withinReach_74 (by decide) (fun c9 => absurd c9 (by decide)) (fun _ => ?_)
          refine lv_iload_n hx hbc dX1_withinReach_77 rfl (lv_at hl 1 rfl) ?_
          refine lv_aload_n hx hbc dX1_withinReach_78 rfl (lv_at hl 3 rfl) ?_
          refine x1_reach C w dX1_withinReach_79 ?_
          refine lv_iload_n hx hbc dX1_withinReach_82 rfl (lv_at hl 4 rfl) ?_
          refine x1_ld_reach C w (j := a) (by omega) rfl (v := nI r.2.2.2.1) (e10) dX1_withinReach_83 ?_
          refine lv_icmp_lt (tgt := 102) hx hbc dX1_withinReach_84 (by decide) (fun c3 => ?_) (fun c3 => ?_)
          · have c3 := (nI_ltI (by omega) (by omega)).mp c3
            refine lv_iinc (v := nI (k + 1)) (lv' := [(4, .int (nI (k + 1))), (6, .int (nI 1)), (3, .int (nI (B.2.1 k))), (5, .int (nI (b * 16 + (h + k) % 16))), (0, .ref (P.2.2 0)), (1, .int (nI a)), (2, .int (nI b))]) hx hbc dX1_withinReach_102 hl (k := 6) rfl (nI_add _ 1) (by decide) rfl (fun ls hl => ?_)
            refine lv_goto (tgt := 13) hx hbc dX1_withinReach_105 (by decide) ?_
            exact ih (k + 1) (by omega) (by omega) (bl_ext hg (fun q => by have := q.2.1; omega)) _ _ _ w (lv_sub hl [4, 5, 6, 2, 0] rfl)
          · have c3 : ¬ B.2.1 k < r.2.2.2.1 := fun q => c3 ((nI_ltI (by omega) (by omega)).mpr q)
            refine lv_iload_n hx hbc dX1_withinReach_87 rfl (lv_at hl 1 rfl) ?_
            refine lv_aload_n hx hbc dX1_withinReach_88 rfl (lv_at hl 3 rfl) ?_
            refine x1_reach C w dX1_withinReach_89 ?_
            refine lv_iload_n hx hbc dX1_withinReach_92 rfl (lv_at hl 4 rfl) ?_
            refine x1_ld_reach C w (j := a) (by omega) rfl (v := nI r.2.2.2.1) (e10) dX1_withinReach_93 ?_
            refine lv_iconst (v := nI 3) hx hbc dX1_withinReach_94 (by decide) ?_
            refine lv_iadd hx hbc dX1_withinReach_95 ?_
            refine bl_as (nI_add _ _) ?_
            refine lv_icmp_gt (tgt := 102) hx hbc dX1_withinReach_96 (by decide) (fun c4 => ?_) (fun c4 => ?_)
            · have c4 := (nI_ltI (by omega) (by omega)).mp c4
              refine lv_iinc (v := nI (k + 1)) (lv' := [(4, .int (nI (k + 1))), (6, .int (nI 1)), (3, .int (nI (B.2.1 k))), (5, .int (nI (b * 16 + (h + k) % 16))), (0, .ref (P.2.2 0)), (1, .int (nI a)), (2, .int (nI b))]) hx hbc dX1_withinReach_102 hl (k := 6) rfl (nI_add _ 1) (by decide) rfl (fun ls hl => ?_)
              refine lv_goto (tgt := 13) hx hbc dX1_withinReach_105 (by decide) ?_
              exact ih (k + 1) (by omega) (by omega) (bl_ext hg (fun q => by have := q.2.2; omega)) _ _ _ w (lv_sub hl [4, 5, 6, 2, 0] rfl)
            · have c4 : ¬ r.2.2.2.1 + 3 < B.2.1 k := fun q => c4 ((nI_ltI (by omega) (by omega)).mpr q)
              have e9 := bl_find_eq hk (fun j hj => bl_fb_f (hg j hj)) (fun _ => bl_fb_t ⟨c2, by omega, by omega⟩)
              refine lv_iload hx hbc dX1_withinReach_99 (lv_at hl 6 rfl) ?_
              exact hret _ _ _ _ _ _ dX1_withinReach_101 rfl (⟨by rw [e9, if_pos hkn], rfl⟩) w
  exact loop (B.1 + 1) 0 (by omega) (by omega) (fun j hj => absurd hj (Nat.not_lt_zero _)) _ _ _ w (lv_sub hl [3, 4, 2, 1, 0] rfl)
end
section
set_option maxRecDepth 100000
set_option maxHeartbeats 4000000 in
set_option maxRecDepth 100000 in
/-- passOn(b) -/
theorem c1_passOn (l : Launch) (P : bl_P) (u : bl_S) {L b : Nat} {M : bl_M} (hI : bl_I L M) (hR : bl_RX L M u) (hb : b < 4) : x1Mv l yX1_passOn cX1_passOn 6 3 P u [.int (nI b)] (fun v => bl_RX L (bl_pass L M b) v) := by
  refine x1Mv_of (by decide) rfl (Nat.le_of_ble_eq_true rfl) ?_
  intro p e s m args below meth c A Q ls C hA hret w hl
  have hx := C.1.1
  have hbc := C.1.2.1
  have hl : lv_has ls 6 [(0, .ref (P.2.2 0)), (1, .int (nI b))] := hl
  obtain ⟨h, hX⟩ := hR.2.1 b hb
  have hok := hI.2.1 b hb
  have hL := hI.1
  have hn := bl_cnt hL.2 hok
  refine lv_aload_n hx hbc dX1_passOn_0 rfl (lv_at hl 0 rfl) ?_
  refine lv_iload_n hx hbc dX1_passOn_1 rfl (lv_at hl 1 rfl) ?_
  refine x1_calli C w hA (rest := []) (c1_atEnd l P _ hb hX hok hL) x1g_atEnd x1d_atEnd rfl ⟨Nat.le_of_ble_eq_true rfl, Nat.le_of_ble_eq_true rfl⟩ hl.1 rfl (Nat.le_of_ble_eq_true rfl) dX1_passOn_2 ⟨Nat.zero_le _, Nat.zero_le _⟩ (fun r v H locs hp w => ?_)
  obtain ⟨rfl, rfl⟩ := hp
  by_cases he : bl_end (M.1 b)
  · refine bl_as (y := nI 1) (if_pos he) ?_
    refine lv_istore_n (lv' := [(2, .int (nI 1)), (0, .ref (P.2.2 0)), (1, .int (nI b))]) hx hbc dX1_passOn_5 rfl hl (by decide) rfl (fun ls hl => ?_)
    refine lv_iload_n hx hbc dX1_passOn_6 rfl (lv_at hl 0 rfl) ?_
    refine lv_if_ne (tgt := 11) hx hbc dX1_passOn_7 (by decide) (fun _ => ?_) (fun c9 => absurd c9 (by decide))
    refine lv_aload_n hx hbc dX1_passOn_11 rfl (lv_at hl 1 rfl) ?_
    refine x1_leads C w dX1_passOn_12 ?_
    refine lv_iload_n hx hbc dX1_passOn_15 rfl (lv_at hl 2 rfl) ?_
    refine x1_ld_leads C w (j := b) (by omega) rfl (v := (M.2.1 b)) (hR.2.2.1 b hb) dX1_passOn_16 ?_
    refine lv_istore_n (lv' := [(3, .int ((M.2.1 b))), (2, .int (nI 1)), (0, .ref (P.2.2 0)), (1, .int (nI b))]) hx hbc dX1_passOn_17 rfl hl (by decide) rfl (fun ls hl => ?_)
    refine lv_iload_n hx hbc dX1_passOn_18 rfl (lv_at hl 0 rfl) ?_
    refine lv_bipush (v := (-2)) hx hbc dX1_passOn_19 (by decide) ?_
    refine lv_icmp_ne (tgt := 44) hx hbc dX1_passOn_21 (by decide) (fun c1 => ?_) (fun c1 => ?_)
    · refine lv_iload_n hx hbc dX1_passOn_44 rfl (lv_at hl 0 rfl) ?_
      refine lv_if_lt (tgt := 75) hx hbc dX1_passOn_45 (by decide) (fun c2 => ?_) (fun c2 => ?_)
      · exact hret _ _ _ _ _ dX1_passOn_75 (by rw [bl_pass_closed he c1 c2]; exact hR) w
      · obtain ⟨t, ht, hne, et⟩ := bl_ld (hI.2.2.1 b hb) c2
        obtain ⟨h2, hXt⟩ := hR.2.1 t ht
        rw [et] at hl
        refine lv_aload_n hx hbc dX1_passOn_48 rfl (lv_at hl 2 rfl) ?_
        refine lv_iload_n hx hbc dX1_passOn_49 rfl (lv_at hl 0 rfl) ?_
        refine x1_calli C w hA (rest := []) (c1_hasRoom l P _ ht hXt (hI.2.1 t ht) hL hR.1) x1g_hasRoom x1d_hasRoom rfl ⟨Nat.le_of_ble_eq_true rfl, Nat.le_of_ble_eq_true rfl⟩ hl.1 rfl (Nat.le_of_ble_eq_true rfl) dX1_passOn_50 ⟨Nat.zero_le _, Nat.zero_le _⟩ (fun r v H locs hp w => ?_)
        obtain ⟨rfl, rfl⟩ := hp
        by_cases hr : bl_room L (M.1 t)
        · refine bl_as (y := nI 1) (if_pos hr) ?_
          refine lv_istore (lv' := [(4, .int (nI 1)), (3, .int (nI t)), (2, .int (nI 1)), (0, .ref (P.2.2 0)), (1, .int (nI b))]) hx hbc dX1_passOn_53 hl (by decide) rfl (fun ls hl => ?_)
          refine lv_iload hx hbc dX1_passOn_55 (lv_at hl 0 rfl) ?_
          refine lv_if_eq (tgt := 75) hx hbc dX1_passOn_57 (by decide) (fun c9 => absurd c9 (by decide)) (fun _ => ?_)
          refine lv_aload_n hx hbc dX1_passOn_60 rfl (lv_at hl 3 rfl) ?_
          refine lv_iload_n hx hbc dX1_passOn_61 rfl (lv_at hl 4 rfl) ?_
          refine lv_iconst (v := nI 0) hx hbc dX1_passOn_62 (by decide) ?_
          refine x1_calli C w hA (rest := []) (c1_removeItem l P _ (i := 0) hI hR hb he.1) x1g_removeItem x1d_removeItem rfl ⟨Nat.le_of_ble_eq_true rfl, Nat.le_of_ble_eq_true rfl⟩ hl.1 rfl (Nat.le_of_ble_eq_true rfl) dX1_passOn_63 ⟨Nat.zero_le _, Nat.zero_le _⟩ (fun r v H locs hp w => ?_)
          obtain ⟨rfl, hR1⟩ := hp
          refine lv_istore (lv' := [(5, .int (nI ((M.1 b).2.2 0))), (4, .int (nI 1)), (3, .int (nI t)), (2, .int (nI 1)), (0, .ref (P.2.2 0)), (1, .int (nI b))]) hx hbc dX1_passOn_66 hl (by decide) rfl (fun ls hl => ?_)
          refine lv_aload_n hx hbc dX1_passOn_68 rfl (lv_at hl 4 rfl) ?_
          refine lv_iload_n hx hbc dX1_passOn_69 rfl (lv_at hl 2 rfl) ?_
          refine lv_iload hx hbc dX1_passOn_70 (lv_at hl 0 rfl) ?_
          have hI1 := bl_I_sB (b := b) hI (bl_ok_off hok he.1)
          refine x1_callv C w hA (rest := []) (c1_append l P _ hI1 hR1 ht (by rw [bl_sB_ne M _ hne]; exact hr)) x1g_append x1d_append rfl ⟨Nat.le_of_ble_eq_true rfl, Nat.le_of_ble_eq_true rfl⟩ hl.1 rfl (Nat.le_of_ble_eq_true rfl) dX1_passOn_72 ⟨Nat.zero_le _, Nat.zero_le _⟩ (fun v H locs hp w => ?_)
          rw [bl_sB_ne M _ hne] at hp
          exact hret _ _ _ _ _ dX1_passOn_75 (by rw [bl_pass_go he c1 c2 ht et hr]; exact hp) w
        · refine bl_as (y := nI 0) (if_neg hr) ?_
          refine lv_istore (lv' := [(4, .int (nI 0)), (3, .int (nI t)), (2, .int (nI 1)), (0, .ref (P.2.2 0)), (1, .int (nI b))]) hx hbc dX1_passOn_53 hl (by decide) rfl (fun ls hl => ?_)
          refine lv_iload hx hbc dX1_passOn_55 (lv_at hl 0 rfl) ?_
          refine lv_if_eq (tgt := 75) hx hbc dX1_passOn_57 (by decide) (fun _ => ?_) (fun c9 => absurd (rfl) c9)
          exact hret _ _ _ _ _ dX1_passOn_75 (by rw [bl_pass_full he c1 c2 ht et hr]; exact hR) w
    · refine lv_aload_n hx hbc dX1_passOn_24 rfl (lv_at hl 2 rfl) ?_
      refine lv_iload_n hx hbc dX1_passOn_25 rfl (lv_at hl 3 rfl) ?_
      refine lv_iconst (v := nI 0) hx hbc dX1_passOn_26 (by decide) ?_
      refine x1_calli C w hA (rest := []) (c1_removeItem l P _ (i := 0) hI hR hb he.1) x1g_removeItem x1d_removeItem rfl ⟨Nat.le_of_ble_eq_true rfl, Nat.le_of_ble_eq_true rfl⟩ hl.1 rfl (Nat.le_of_ble_eq_true rfl) dX1_passOn_27 ⟨Nat.zero_le _, Nat.zero_le _⟩ (fun r v H locs hp w => ?_)
      obtain ⟨rfl, hR1⟩ := hp
      refine lv_pop hx hbc dX1_passOn_30 rfl ?_
      refine lv_aload_n hx hbc dX1_passOn_31 rfl (lv_at hl 2 rfl) ?_
      refine lv_dup hx hbc dX1_passOn_32 rfl ?_
      refine x1_gone C w (v := M.2.2.2.2) (hR1.2.2.2.2.2) dX1_passOn_33 ?_
      refine lv_iconst (v := nI 1) hx hbc dX1_passOn_36 (by decide) ?_
      refine lv_iadd hx hbc dX1_passOn_37 ?_
      refine bl_as (y := (M.2.2.2.2 + 1)) (rfl) ?_
      refine x1_put_gone C w dX1_passOn_38 (fun H locs w => ?_)
      refine lv_goto (tgt := 75) hx hbc dX1_passOn_41 (by decide) ?_
      exact hret _ _ _ _ _ dX1_passOn_75 (by rw [bl_pass_out he c1]; exact bl_RX_sG hR1) w
  · refine bl_as (y := nI 0) (if_neg he) ?_
    refine lv_istore_n (lv' := [(2, .int (nI 0)), (0, .ref (P.2.2 0)), (1, .int (nI b))]) hx hbc dX1_passOn_5 rfl hl (by decide) rfl (fun ls hl => ?_)
    refine lv_iload_n hx hbc dX1_passOn_6 rfl (lv_at hl 0 rfl) ?_
    refine lv_if_ne (tgt := 11) hx hbc dX1_passOn_7 (by decide) (fun c9 => absurd c9 (fun q => q rfl)) (fun _ => ?_)
    exact hret _ _ _ _ _ dX1_passOn_10 (by rw [bl_pass_stay he]; exact hR) w
set_option maxHeartbeats 4000000 in
set_option maxRecDepth 100000 in
/-- moveArm(a) -/
theorem c1_moveArm (l : Launch) (P : bl_P) (u : bl_S) {L a : Nat} {M : bl_M} (hI : bl_I L M) (hR : bl_RX L M u) (ha : a < 2) : x1Mv l yX1_moveArm cX1_moveArm 3 3 P u [.int (nI a)] (fun v => bl_RX L (bl_work L M a) v) := by
  refine x1Mv_of (by decide) rfl (Nat.le_of_ble_eq_true rfl) ?_
  intro p e s m args below meth c A Q ls C hA hret w hl
  have hx := C.1.1
  have hbc := C.1.2.1
  have hl : lv_has ls 3 [(0, .ref (P.2.2 0)), (1, .int (nI a))] := hl
  have hok := hI.2.1
  have hL := hI.1
  obtain ⟨ra, rb, rc, rd⟩ := hI.2.2.2.1 a ha
  obtain ⟨e7, e8, e9, e10, e11⟩ := hR.2.2.2.1 a ha
  have e12 := hR.2.2.2.2.1 a ha
  refine lv_aload_n hx hbc dX1_moveArm_0 rfl (lv_at hl 0 rfl) ?_
  refine x1_holds C w dX1_moveArm_1 ?_
  refine lv_iload_n hx hbc dX1_moveArm_4 rfl (lv_at hl 1 rfl) ?_
  refine x1_ld_holds C w (j := a) (by omega) rfl (v := (bl_hv (M.2.2.2.1 a))) (e12) dX1_moveArm_5 ?_
  rcases Option.eq_none_or_eq_some (M.2.2.2.1 a) with eh | ⟨k, eh⟩
  · refine bl_as (y := (-4)) (by rw [eh]; rfl) ?_
    refine lv_if_lt (tgt := 49) hx hbc dX1_moveArm_6 (by decide) (fun _ => ?_) (fun c9 => absurd (by decide) c9)
    refine lv_aload_n hx hbc dX1_moveArm_49 rfl (lv_at hl 0 rfl) ?_
    refine lv_iload_n hx hbc dX1_moveArm_50 rfl (lv_at hl 1 rfl) ?_
    obtain ⟨h, hX⟩ := hR.2.1 (M.2.2.1 a).2.1 rb
    refine x1_calli C w hA (rest := []) (c1_withinReach l P _ (r := M.2.2.1 a) ha rb hX (hok _ rb) hL e8 e10 e11 rd) x1g_withinReach x1d_withinReach rfl ⟨Nat.le_of_ble_eq_true rfl, Nat.le_of_ble_eq_true rfl⟩ hl.1 rfl (Nat.le_of_ble_eq_true rfl) dX1_moveArm_51 ⟨Nat.zero_le _, Nat.zero_le _⟩ (fun r v H locs hp w => ?_)
    obtain ⟨rfl, rfl⟩ := hp
    by_cases hh : bl_hit M a < (M.1 (M.2.2.1 a).2.1).1
    · refine bl_as (y := nI (bl_hit M a)) (if_pos hh) ?_
      have hn := bl_cnt hL.2 (hok _ rb)
      refine lv_istore_n (lv' := [(2, .int (nI (bl_hit M a))), (0, .ref (P.2.2 0)), (1, .int (nI a))]) hx hbc dX1_moveArm_54 rfl hl (by decide) rfl (fun ls hl => ?_)
      refine lv_iload_n hx hbc dX1_moveArm_55 rfl (lv_at hl 0 rfl) ?_
      refine lv_if_lt (tgt := 76) hx hbc dX1_moveArm_56 (by decide) (fun c9 => absurd c9 (nI_pos (by omega))) (fun _ => ?_)
      refine lv_aload_n hx hbc dX1_moveArm_59 rfl (lv_at hl 1 rfl) ?_
      refine x1_holds C w dX1_moveArm_60 ?_
      refine lv_iload_n hx hbc dX1_moveArm_63 rfl (lv_at hl 2 rfl) ?_
      refine lv_aload_n hx hbc dX1_moveArm_64 rfl (lv_at hl 1 rfl) ?_
      refine lv_aload_n hx hbc dX1_moveArm_65 rfl (lv_at hl 1 rfl) ?_
      refine x1_takesFrom C w dX1_moveArm_66 ?_
      refine lv_iload_n hx hbc dX1_moveArm_69 rfl (lv_at hl 2 rfl) ?_
      refine x1_ld_takesFrom C w (j := a) (by omega) rfl (v := nI ((M.2.2.1 a).2.1)) (e8) dX1_moveArm_70 ?_
      refine lv_iload_n hx hbc dX1_moveArm_71 rfl (lv_at hl 0 rfl) ?_
      refine x1_calli C w hA (rest := [.int (nI a), .ref (P.2.2 12)]) (c1_removeItem l P _ hI hR rb hh) x1g_removeItem x1d_removeItem rfl ⟨Nat.le_of_ble_eq_true rfl, Nat.le_of_ble_eq_true rfl⟩ hl.1 rfl (Nat.le_of_ble_eq_true rfl) dX1_moveArm_72 ⟨Nat.zero_le _, Nat.zero_le _⟩ (fun r v H locs hp w => ?_)
      obtain ⟨rfl, hR1⟩ := hp
      refine x1_st_holds C w (j := a) (by omega) rfl dX1_moveArm_75 (fun H locs w => ?_)
      exact hret _ _ _ _ _ dX1_moveArm_76 (by rw [bl_work_take eh hh]; exact bl_RX_sH (o := some _) hR1) w
    · refine bl_as (y := (-1)) (if_neg hh) ?_
      refine lv_istore_n (lv' := [(2, .int ((-1))), (0, .ref (P.2.2 0)), (1, .int (nI a))]) hx hbc dX1_moveArm_54 rfl hl (by decide) rfl (fun ls hl => ?_)
      refine lv_iload_n hx hbc dX1_moveArm_55 rfl (lv_at hl 0 rfl) ?_
      refine lv_if_lt (tgt := 76) hx hbc dX1_moveArm_56 (by decide) (fun _ => ?_) (fun c9 => absurd (by decide) c9)
      exact hret _ _ _ _ _ dX1_moveArm_76 (by rw [bl_work_none eh hh]; exact hR) w
  · have hk := hI.2.2.2.2 a ha k eh
    have e12 : u.1 12 a = nI k := by rw [e12, eh]; rfl
    obtain ⟨h, hX⟩ := hR.2.1 (M.2.2.1 a).2.2.1 rc
    refine bl_as (y := nI k) (by rw [eh]; rfl) ?_
    refine lv_if_lt (tgt := 49) hx hbc dX1_moveArm_6 (by decide) (fun c9 => absurd c9 (nI_pos (by omega))) (fun _ => ?_)
    refine lv_aload_n hx hbc dX1_moveArm_9 rfl (lv_at hl 0 rfl) ?_
    refine lv_aload_n hx hbc dX1_moveArm_10 rfl (lv_at hl 0 rfl) ?_
    refine x1_putsOn C w dX1_moveArm_11 ?_
    refine lv_iload_n hx hbc dX1_moveArm_14 rfl (lv_at hl 1 rfl) ?_
    refine x1_ld_putsOn C w (j := a) (by omega) rfl (v := nI ((M.2.2.1 a).2.2.1)) (e9) dX1_moveArm_15 ?_
    refine x1_calli C w hA (rest := []) (c1_hasRoom l P _ rc hX (hok _ rc) hL hR.1) x1g_hasRoom x1d_hasRoom rfl ⟨Nat.le_of_ble_eq_true rfl, Nat.le_of_ble_eq_true rfl⟩ hl.1 rfl (Nat.le_of_ble_eq_true rfl) dX1_moveArm_16 ⟨Nat.zero_le _, Nat.zero_le _⟩ (fun r v H locs hp w => ?_)
    obtain ⟨rfl, rfl⟩ := hp
    by_cases hr : bl_room L (M.1 (M.2.2.1 a).2.2.1)
    · refine bl_as (y := nI 1) (if_pos hr) ?_
      refine lv_istore_n (lv' := [(2, .int (nI 1)), (0, .ref (P.2.2 0)), (1, .int (nI a))]) hx hbc dX1_moveArm_19 rfl hl (by decide) rfl (fun ls hl => ?_)
      refine lv_iload_n hx hbc dX1_moveArm_20 rfl (lv_at hl 0 rfl) ?_
      refine lv_if_eq (tgt := 48) hx hbc dX1_moveArm_21 (by decide) (fun c9 => absurd c9 (by decide)) (fun _ => ?_)
      refine lv_aload_n hx hbc dX1_moveArm_24 rfl (lv_at hl 1 rfl) ?_
      refine lv_aload_n hx hbc dX1_moveArm_25 rfl (lv_at hl 1 rfl) ?_
      refine x1_putsOn C w dX1_moveArm_26 ?_
      refine lv_iload_n hx hbc dX1_moveArm_29 rfl (lv_at hl 2 rfl) ?_
      refine x1_ld_putsOn C w (j := a) (by omega) rfl (v := nI ((M.2.2.1 a).2.2.1)) (e9) dX1_moveArm_30 ?_
      refine lv_aload_n hx hbc dX1_moveArm_31 rfl (lv_at hl 1 rfl) ?_
      refine x1_holds C w dX1_moveArm_32 ?_
      refine lv_iload_n hx hbc dX1_moveArm_35 rfl (lv_at hl 2 rfl) ?_
      refine x1_ld_holds C w (j := a) (by omega) rfl (v := nI k) (e12) dX1_moveArm_36 ?_
      refine x1_callv C w hA (rest := []) (c1_append l P _ hI hR rc hr) x1g_append x1d_append rfl ⟨Nat.le_of_ble_eq_true rfl, Nat.le_of_ble_eq_true rfl⟩ hl.1 rfl (Nat.le_of_ble_eq_true rfl) dX1_moveArm_37 ⟨Nat.zero_le _, Nat.zero_le _⟩ (fun v H locs hp w => ?_)
      refine lv_aload_n hx hbc dX1_moveArm_40 rfl (lv_at hl 1 rfl) ?_
      refine x1_holds C w dX1_moveArm_41 ?_
      refine lv_iload_n hx hbc dX1_moveArm_44 rfl (lv_at hl 2 rfl) ?_
      refine lv_bipush (v := (-4)) hx hbc dX1_moveArm_45 (by decide) ?_
      refine x1_st_holds C w (j := a) (by omega) rfl dX1_moveArm_47 (fun H locs w => ?_)
      exact hret _ _ _ _ _ dX1_moveArm_48 (by rw [bl_work_put eh hr]; exact bl_RX_sH (o := none) hp) w
    · refine bl_as (y := nI 0) (if_neg hr) ?_
      refine lv_istore_n (lv' := [(2, .int (nI 0)), (0, .ref (P.2.2 0)), (1, .int (nI a))]) hx hbc dX1_moveArm_19 rfl hl (by decide) rfl (fun ls hl => ?_)
      refine lv_iload_n hx hbc dX1_moveArm_20 rfl (lv_at hl 0 rfl) ?_
      refine lv_if_eq (tgt := 48) hx hbc dX1_moveArm_21 (by decide) (fun _ => ?_) (fun c9 => absurd (rfl) c9)
      exact hret _ _ _ _ _ dX1_moveArm_48 (by rw [bl_work_full eh hr]; exact hR) w
set_option maxHeartbeats 4000000 in
set_option maxRecDepth 100000 in
/-- tickOnce() -/
theorem c1_tickOnce (l : Launch) (P : bl_P) (u : bl_S) {L : Nat} {M : bl_M} (hI : bl_I L M) (hR : bl_RX L M u) : x1Mv l yX1_tickOnce cX1_tickOnce 2 4 P u [] (fun v => bl_RX L (bl_tick1 L M) v) := by
  refine x1Mv_of (by decide) rfl (Nat.le_of_ble_eq_true rfl) ?_
  intro p e s m args below meth c A Q ls C hA hret w hl
  have hx := C.1.1
  have hbc := C.1.2.1
  have hl : lv_has ls 2 [(0, .ref (P.2.2 0))] := hl
  have hIb := bl_I_belts hI
  have hIa := bl_I_arms (hIb 4 (Nat.le_refl _))
  refine lv_iconst (v := nI 0) hx hbc dX1_tickOnce_0 (by decide) ?_
  refine lv_istore_n (lv' := [(1, .int (nI 0)), (0, .ref (P.2.2 0))]) hx hbc dX1_tickOnce_1 rfl hl (by decide) rfl (fun ls hl => ?_)
  have loop : ∀ (f : Nat) (k : Nat) (v : bl_S), (k ≤ 4) → (5 ≤ k + f) → (bl_RX L (bl_belts L M k) v) → ∀ (H : Heap) (locs : List Loc) (ls : Array Slot), x1W P A s.heap v H locs → lv_has ls 2 [(0, .ref (P.2.2 0)), (1, .int (nI k))] → W p l e (bl_rm 4) s m args below meth c H locs 0 0 Q (F0 m 2 ls []) := by
    intro f
    induction f with
    | zero =>
      intro k v hk hf hv
      exact absurd hf (by omega)
    | succ f ih =>
      intro k v hk hf hv H locs ls w hl
      refine lv_iload_n hx hbc dX1_tickOnce_2 rfl (lv_at hl 1 rfl) ?_
      refine lv_iconst (v := nI 4) hx hbc dX1_tickOnce_3 (by decide) ?_
      refine lv_icmp_ge (tgt := 23) hx hbc dX1_tickOnce_4 (by decide) (fun c1 => ?_) (fun c1 => ?_)
      · have c1 : 4 ≤ k := (nI_leI (by omega) (by omega)).mp c1
        have e4 : k = 4 := by omega
        subst e4
        refine lv_iconst (v := nI 0) hx hbc dX1_tickOnce_23 (by decide) ?_
        refine lv_istore_n (lv' := [(1, .int (nI 0)), (0, .ref (P.2.2 0))]) hx hbc dX1_tickOnce_24 rfl hl (by decide) rfl (fun ls hl => ?_)
        clear ih
        have loop : ∀ (f : Nat) (k : Nat) (v : bl_S), (k ≤ 2) → (3 ≤ k + f) → (bl_RX L (bl_arms L (bl_belts L M 4) k) v) → ∀ (H : Heap) (locs : List Loc) (ls : Array Slot), x1W P A s.heap v H locs → lv_has ls 2 [(0, .ref (P.2.2 0)), (1, .int (nI k))] → W p l e (bl_rm 4) s m args below meth c H locs 0 0 Q (F0 m 25 ls []) := by
          intro f
          induction f with
          | zero =>
            intro k v hk hf hv
            exact absurd hf (by omega)
          | succ f ih =>
            intro k v hk hf hv H locs ls w hl
            refine lv_iload_n hx hbc dX1_tickOnce_25 rfl (lv_at hl 1 rfl) ?_
            refine lv_iconst (v := nI 2) hx hbc dX1_tickOnce_26 (by decide) ?_
            refine lv_icmp_ge (tgt := 50) hx hbc dX1_tickOnce_27 (by decide) (fun c1 => ?_) (fun c1 => ?_)
            · have c1 : 2 ≤ k := (nI_leI (by omega) (by omega)).mp c1
              have e2 : k = 2 := by omega
              subst e2
              exact hret _ _ _ _ _ dX1_tickOnce_50 (hv) w
            · have c1 : ¬ 2 ≤ k := fun q => c1 ((nI_leI (by omega) (by omega)).mpr q)
              refine lv_aload_n hx hbc dX1_tickOnce_30 rfl (lv_at hl 0 rfl) ?_
              refine x1_set C w dX1_tickOnce_31 ?_
              refine lv_iload_n hx hbc dX1_tickOnce_34 rfl (lv_at hl 1 rfl) ?_
              refine x1_ld_set C w (j := k) (by omega) rfl (v := ((bl_arms L (bl_belts L M 4) k).2.2.1 k).1) ((hv.2.2.2.1 k (by omega)).1) dX1_tickOnce_35 ?_
              refine lv_if_eq (tgt := 44) hx hbc dX1_tickOnce_36 (by decide) (fun c2 => ?_) (fun c2 => ?_)
              · refine lv_iinc (v := nI (k + 1)) (lv' := [(1, .int (nI (k + 1))), (0, .ref (P.2.2 0))]) hx hbc dX1_tickOnce_44 hl (k := 1) rfl (nI_add _ 1) (by decide) rfl (fun ls hl => ?_)
                refine lv_goto (tgt := 25) hx hbc dX1_tickOnce_47 (by decide) ?_
                exact ih (k + 1) _ (by omega) (by omega) (by rw [bl_arms_skip c2]; exact hv) _ _ _ w (lv_sub hl [1, 0] rfl)
              · refine lv_aload_n hx hbc dX1_tickOnce_39 rfl (lv_at hl 0 rfl) ?_
                refine lv_iload_n hx hbc dX1_tickOnce_40 rfl (lv_at hl 1 rfl) ?_
                refine x1_callv C w hA (rest := []) (c1_moveArm l P _ (hIa k hk) hv (by omega)) x1g_moveArm x1d_moveArm rfl ⟨Nat.le_of_ble_eq_true rfl, Nat.le_of_ble_eq_true rfl⟩ hl.1 rfl (Nat.le_of_ble_eq_true rfl) dX1_tickOnce_41 ⟨Nat.zero_le _, Nat.zero_le _⟩ (fun v2 H locs hp w => ?_)
                refine lv_iinc (v := nI (k + 1)) (lv' := [(1, .int (nI (k + 1))), (0, .ref (P.2.2 0))]) hx hbc dX1_tickOnce_44 hl (k := 1) rfl (nI_add _ 1) (by decide) rfl (fun ls hl => ?_)
                refine lv_goto (tgt := 25) hx hbc dX1_tickOnce_47 (by decide) ?_
                exact ih (k + 1) _ (by omega) (by omega) (by rw [bl_arms_do c2]; exact hp) _ _ _ w (lv_sub hl [1, 0] rfl)
        exact loop 3 0 _ (by omega) (by omega) hv _ _ _ w (lv_sub hl [1, 0] rfl)
      · have c1 : ¬ 4 ≤ k := fun q => c1 ((nI_leI (by omega) (by omega)).mpr q)
        refine lv_aload_n hx hbc dX1_tickOnce_7 rfl (lv_at hl 0 rfl) ?_
        refine lv_iload_n hx hbc dX1_tickOnce_8 rfl (lv_at hl 1 rfl) ?_
        refine x1_callv C w hA (rest := []) (c1_passOn l P _ (hIb k hk) hv (by omega)) x1g_passOn x1d_passOn rfl ⟨Nat.le_of_ble_eq_true rfl, Nat.le_of_ble_eq_true rfl⟩ hl.1 rfl (Nat.le_of_ble_eq_true rfl) dX1_tickOnce_9 ⟨Nat.zero_le _, Nat.zero_le _⟩ (fun v2 H locs hp w => ?_)
        have hp1 := hp
        refine lv_aload_n hx hbc dX1_tickOnce_12 rfl (lv_at hl 0 rfl) ?_
        refine lv_iload_n hx hbc dX1_tickOnce_13 rfl (lv_at hl 1 rfl) ?_
        refine x1_callv C w hA (rest := []) (c1_advance l P _ (bl_I_pass (hIb k hk) (by omega)) hp1 (by omega)) x1g_advance x1d_advance rfl ⟨Nat.le_of_ble_eq_true rfl, Nat.le_of_ble_eq_true rfl⟩ hl.1 rfl (Nat.le_of_ble_eq_true rfl) dX1_tickOnce_14 ⟨Nat.zero_le _, Nat.zero_le _⟩ (fun v3 H locs hp w => ?_)
        refine lv_iinc (v := nI (k + 1)) (lv' := [(1, .int (nI (k + 1))), (0, .ref (P.2.2 0))]) hx hbc dX1_tickOnce_17 hl (k := 1) rfl (nI_add _ 1) (by decide) rfl (fun ls hl => ?_)
        refine lv_goto (tgt := 2) hx hbc dX1_tickOnce_20 (by decide) ?_
        exact ih (k + 1) _ (by omega) (by omega) hp _ _ _ w (lv_sub hl [1, 0] rfl)
  exact loop 5 0 u (by omega) (by omega) hR _ _ _ w (lv_sub hl [1, 0] rfl)
set_option maxHeartbeats 4000000 in
set_option maxRecDepth 100000 in
/-- tick(x) -/
theorem c1_tick (l : Launch) (P : bl_P) (u : bl_S) {L : Nat} {M : bl_M} (x : Int32) (hI : bl_I L M) (hR : bl_RX L M u) : x1Mi l yX1_tick cX1_tick 5 (some .int) 5 P u [.int x] (fun r v => (bl_tick L M x).1 = r ∧ bl_RX L (bl_tick L M x).2 v) := by
  refine x1Mi_of (ty := .int) (by decide) rfl rfl (Nat.le_of_ble_eq_true rfl) ?_
  intro p e s m args below meth c A Q ls C hA hret w hl
  have hx := C.1.1
  have hbc := C.1.2.1
  have hl : lv_has ls 5 [(0, .ref (P.2.2 0)), (1, .int x)] := hl
  have hIt := bl_I_ticks hI
  have hn2 := bl_num_le x
  have rest_ : ∀ (y : Int32) (H : Heap) (locs : List Loc) (ls : Array Slot), (∀ i, i ≤ 200 → (y ≤ nI i ↔ bl_num x ≤ i)) → x1W P A s.heap u H locs → lv_has ls 5 [(0, .ref (P.2.2 0)), (1, .int x)] → W p l e (bl_rm 5) s m args below meth c H locs 0 0 Q (F0 m 14 ls [.int y]) := by
    intro y H locs ls hy w hl
    refine lv_istore_n (lv' := [(2, .int y), (0, .ref (P.2.2 0)), (1, .int x)]) hx hbc dX1_tick_14 rfl hl (by decide) rfl (fun ls hl => ?_)
    refine lv_aload_n hx hbc dX1_tick_15 rfl (lv_at hl 1 rfl) ?_
    refine x1_gone C w (v := M.2.2.2.2) (hR.2.2.2.2.2) dX1_tick_16 ?_
    refine lv_istore_n (lv' := [(3, .int M.2.2.2.2), (2, .int y), (0, .ref (P.2.2 0)), (1, .int x)]) hx hbc dX1_tick_19 rfl hl (by decide) rfl (fun ls hl => ?_)
    refine lv_iconst (v := nI 0) hx hbc dX1_tick_20 (by decide) ?_
    refine lv_istore (lv' := [(4, .int (nI 0)), (3, .int M.2.2.2.2), (2, .int y), (0, .ref (P.2.2 0)), (1, .int x)]) hx hbc dX1_tick_21 hl (by decide) rfl (fun ls hl => ?_)
    have loop : ∀ (f : Nat) (k : Nat) (v : bl_S), (k ≤ bl_num x) → (bl_num x + 1 ≤ k + f) → (bl_RX L (bl_ticks L M k) v) → ∀ (H : Heap) (locs : List Loc) (ls : Array Slot), x1W P A s.heap v H locs → lv_has ls 5 [(0, .ref (P.2.2 0)), (2, .int y), (3, .int M.2.2.2.2), (4, .int (nI k))] → W p l e (bl_rm 5) s m args below meth c H locs 0 0 Q (F0 m 23 ls []) := by
      intro f
      induction f with
      | zero =>
        intro k v hk hf hv
        exact absurd hf (by omega)
      | succ f ih =>
        intro k v hk hf hv H locs ls w hl
        refine lv_iload hx hbc dX1_tick_23 (lv_at hl 3 rfl) ?_
        refine lv_iload_n hx hbc dX1_tick_25 rfl (lv_at hl 1 rfl) ?_
        refine lv_icmp_ge (tgt := 39) hx hbc dX1_tick_26 (by decide) (fun c1 => ?_) (fun c1 => ?_)
        · have c1 := (hy k (by omega)).mp c1
          have e1 : k = bl_num x := by omega
          subst e1
          refine lv_aload_n hx hbc dX1_tick_39 rfl (lv_at hl 0 rfl) ?_
          refine x1_gone C w (v := (bl_ticks L M (bl_num x)).2.2.2.2) (hv.2.2.2.2.2) dX1_tick_40 ?_
          refine lv_iload_n hx hbc dX1_tick_43 rfl (lv_at hl 2 rfl) ?_
          refine lv_isub hx hbc dX1_tick_44 ?_
          refine bl_as (y := ((bl_ticks L M (bl_num x)).2.2.2.2 - M.2.2.2.2)) (rfl) ?_
          exact hret _ _ _ _ _ _ dX1_tick_45 rfl (⟨rfl, hv⟩) w
        · have c1 : ¬ bl_num x ≤ k := fun q => c1 ((hy k (by omega)).mpr q)
          refine lv_aload_n hx hbc dX1_tick_29 rfl (lv_at hl 0 rfl) ?_
          refine x1_callv C w hA (rest := []) (c1_tickOnce l P _ (hIt k) hv) x1g_tickOnce x1d_tickOnce rfl ⟨Nat.le_of_ble_eq_true rfl, Nat.le_of_ble_eq_true rfl⟩ hl.1 rfl (Nat.le_of_ble_eq_true rfl) dX1_tick_30 ⟨Nat.zero_le _, Nat.zero_le _⟩ (fun v2 H locs hp w => ?_)
          refine lv_iinc (v := nI (k + 1)) (lv' := [(4, .int (nI (k + 1))), (0, .ref (P.2.2 0)), (2, .int y), (3, .int M.2.2.2.2)]) hx hbc dX1_tick_33 hl (k := 3) rfl (nI_add _ 1) (by decide) rfl (fun ls hl => ?_)
          refine lv_goto (tgt := 23) hx hbc dX1_tick_36 (by decide) ?_
          exact ih (k + 1) _ (by omega) (by omega) hp _ _ _ w (lv_sub hl [1, 2, 3, 0] rfl)
    exact loop (bl_num x + 1) 0 u (by omega) (by omega) hR _ _ _ w (lv_sub hl [3, 2, 1, 0] rfl)
  refine lv_iload_n hx hbc dX1_tick_0 rfl (lv_at hl 1 rfl) ?_
  refine lv_sipush (v := nI 200) hx hbc dX1_tick_1 (by decide) ?_
  refine lv_icmp_le (tgt := 13) hx hbc dX1_tick_4 (by decide) (fun c0 => ?_) (fun c0 => ?_)
  · refine lv_iload_n hx hbc dX1_tick_13 rfl (lv_at hl 1 rfl) ?_
    exact rest_ _ _ _ _ (bl_num_lo c0) w (lv_sub hl [0, 1] rfl)
  · refine lv_sipush (v := nI 200) hx hbc dX1_tick_7 (by decide) ?_
    refine lv_goto (tgt := 14) hx hbc dX1_tick_10 (by decide) ?_
    exact rest_ _ _ _ _ (bl_num_hi c0) w (lv_sub hl [0, 1] rfl)
set_option maxHeartbeats 4000000 in
set_option maxRecDepth 100000 in
/-- put(x, y) -/
theorem c1_put (l : Launch) (P : bl_P) (u : bl_S) {L : Nat} {M : bl_M} (x y : Int32) (hI : bl_I L M) (hR : bl_RX L M u) : x1Mi l yX1_put cX1_put 3 (some .int) 2 P u [.int x, .int y] (fun r v => (bl_put L M x y).1 = r ∧ bl_RX L (bl_put L M x y).2 v) := by
  refine x1Mi_of (ty := .int) (by decide) rfl rfl (Nat.le_of_ble_eq_true rfl) ?_
  intro p e s m args below meth c A Q ls C hA hret w hl
  have hx := C.1.1
  have hbc := C.1.2.1
  have hl : lv_has ls 3 [(0, .ref (P.2.2 0)), (1, .int x), (2, .int y)] := hl
  refine lv_iload_n hx hbc dX1_put_0 rfl (lv_at hl 1 rfl) ?_
  refine x1_callbad C w hA ⟨Nat.le_of_ble_eq_true rfl, Nat.le_of_ble_eq_true rfl⟩ hl.1 (Nat.le_of_ble_eq_true rfl) dX1_put_1 ⟨Nat.zero_le _, Nat.zero_le _⟩ (fun H locs w => ?_)
  refine lv_if_eq (tgt := 9) hx hbc dX1_put_4 (by decide) (fun c0 => ?_) (fun c0 => ?_)
  · obtain ⟨b, hb, rfl⟩ := bl_bv0 c0
    obtain ⟨h, hX⟩ := hR.2.1 b hb
    have hok := hI.2.1 b hb
    have hL := hI.1
    have hn := bl_cnt hL.2 hok
    refine lv_iload_n hx hbc dX1_put_9 rfl (lv_at hl 2 rfl) ?_
    refine lv_if_lt (tgt := 19) hx hbc dX1_put_10 (by decide) (fun c1 => ?_) (fun c1 => ?_)
    · refine lv_bipush (v := (-2)) hx hbc dX1_put_19 (by decide) ?_
      exact hret _ _ _ _ _ _ dX1_put_21 rfl (by rw [bl_put_kind hb (Or.inl c1)]; exact ⟨rfl, hR⟩) w
    · refine lv_iload_n hx hbc dX1_put_13 rfl (lv_at hl 2 rfl) ?_
      refine lv_bipush (v := nI 7) hx hbc dX1_put_14 (by decide) ?_
      refine lv_icmp_le (tgt := 22) hx hbc dX1_put_16 (by decide) (fun c2 => ?_) (fun c2 => ?_)
      · obtain ⟨k, hk, rfl⟩ := bl_rng (m := 7) (n := 7) rfl c1 (Int32.not_lt.mpr c2)
        refine lv_aload_n hx hbc dX1_put_22 rfl (lv_at hl 0 rfl) ?_
        refine lv_iload_n hx hbc dX1_put_23 rfl (lv_at hl 1 rfl) ?_
        refine x1_calli C w hA (rest := []) (c1_hasRoom l P _ hb hX hok hL hR.1) x1g_hasRoom x1d_hasRoom rfl ⟨Nat.le_of_ble_eq_true rfl, Nat.le_of_ble_eq_true rfl⟩ hl.1 rfl (Nat.le_of_ble_eq_true rfl) dX1_put_24 ⟨Nat.zero_le _, Nat.zero_le _⟩ (fun r v H locs hp w => ?_)
        obtain ⟨rfl, rfl⟩ := hp
        by_cases hr : bl_room L (M.1 b)
        · refine bl_as (y := nI 1) (if_pos hr) ?_
          refine lv_if_ne (tgt := 33) hx hbc dX1_put_27 (by decide) (fun _ => ?_) (fun c9 => absurd c9 (by decide))
          refine lv_aload_n hx hbc dX1_put_33 rfl (lv_at hl 0 rfl) ?_
          refine lv_iload_n hx hbc dX1_put_34 rfl (lv_at hl 1 rfl) ?_
          refine lv_iload_n hx hbc dX1_put_35 rfl (lv_at hl 2 rfl) ?_
          refine x1_callv C w hA (rest := []) (c1_append l P _ hI hR hb hr) x1g_append x1d_append rfl ⟨Nat.le_of_ble_eq_true rfl, Nat.le_of_ble_eq_true rfl⟩ hl.1 rfl (Nat.le_of_ble_eq_true rfl) dX1_put_36 ⟨Nat.zero_le _, Nat.zero_le _⟩ (fun v H locs hp w => ?_)
          obtain ⟨h2, hX2⟩ := hp.2.1 b hb
          rw [bl_sB_at] at hX2
          refine lv_aload_n hx hbc dX1_put_39 rfl (lv_at hl 0 rfl) ?_
          refine x1_count C w dX1_put_40 ?_
          refine lv_iload_n hx hbc dX1_put_43 rfl (lv_at hl 1 rfl) ?_
          refine x1_ld_count C w (j := b) (by omega) rfl (v := nI ((M.1 b).1 + 1)) (hX2.2.2.1) dX1_put_44 ?_
          exact hret _ _ _ _ _ _ dX1_put_45 rfl (by rw [bl_put_ok hb hk hr]; exact ⟨rfl, hp⟩) w
        · refine bl_as (y := nI 0) (if_neg hr) ?_
          refine lv_if_ne (tgt := 33) hx hbc dX1_put_27 (by decide) (fun c9 => absurd c9 (fun q => q rfl)) (fun _ => ?_)
          refine lv_bipush (v := (-3)) hx hbc dX1_put_30 (by decide) ?_
          exact hret _ _ _ _ _ _ dX1_put_32 rfl (by rw [bl_put_no hb hk hr]; exact ⟨rfl, hR⟩) w
      · refine lv_bipush (v := (-2)) hx hbc dX1_put_19 (by decide) ?_
        exact hret _ _ _ _ _ _ dX1_put_21 rfl (by rw [bl_put_kind hb (Or.inr (Int32.not_le.mp c2))]; exact ⟨rfl, hR⟩) w
  · refine lv_iconst (v := (-1)) hx hbc dX1_put_7 (by decide) ?_
    exact hret _ _ _ _ _ _ dX1_put_8 rfl (by rw [bl_put_bad (bl_bv1 c0)]; exact ⟨rfl, hR⟩) w
set_option maxHeartbeats 4000000 in
set_option maxRecDepth 100000 in
/-- take(x) -/
theorem c1_take (l : Launch) (P : bl_P) (u : bl_S) {L : Nat} {M : bl_M} (x : Int32) (hI : bl_I L M) (hR : bl_RX L M u) : x1Mi l yX1_take cX1_take 2 (some .int) 3 P u [.int x] (fun r v => (bl_take M x).1 = r ∧ bl_RX L (bl_take M x).2 v) := by
  refine x1Mi_of (ty := .int) (by decide) rfl rfl (Nat.le_of_ble_eq_true rfl) ?_
  intro p e s m args below meth c A Q ls C hA hret w hl
  have hx := C.1.1
  have hbc := C.1.2.1
  have hl : lv_has ls 2 [(0, .ref (P.2.2 0)), (1, .int x)] := hl
  refine lv_iload_n hx hbc dX1_take_0 rfl (lv_at hl 1 rfl) ?_
  refine x1_callbad C w hA ⟨Nat.le_of_ble_eq_true rfl, Nat.le_of_ble_eq_true rfl⟩ hl.1 (Nat.le_of_ble_eq_true rfl) dX1_take_1 ⟨Nat.zero_le _, Nat.zero_le _⟩ (fun H locs w => ?_)
  refine lv_if_eq (tgt := 9) hx hbc dX1_take_4 (by decide) (fun c0 => ?_) (fun c0 => ?_)
  · obtain ⟨b, hb, rfl⟩ := bl_bv0 c0
    obtain ⟨h, hX⟩ := hR.2.1 b hb
    have hok := hI.2.1 b hb
    have hL := hI.1
    have hn := bl_cnt hL.2 hok
    refine lv_aload_n hx hbc dX1_take_9 rfl (lv_at hl 0 rfl) ?_
    refine lv_iload_n hx hbc dX1_take_10 rfl (lv_at hl 1 rfl) ?_
    refine x1_calli C w hA (rest := []) (c1_atEnd l P _ hb hX hok hL) x1g_atEnd x1d_atEnd rfl ⟨Nat.le_of_ble_eq_true rfl, Nat.le_of_ble_eq_true rfl⟩ hl.1 rfl (Nat.le_of_ble_eq_true rfl) dX1_take_11 ⟨Nat.zero_le _, Nat.zero_le _⟩ (fun r v H locs hp w => ?_)
    obtain ⟨rfl, rfl⟩ := hp
    by_cases he : bl_end (M.1 b)
    · refine bl_as (y := nI 1) (if_pos he) ?_
      refine lv_if_ne (tgt := 20) hx hbc dX1_take_14 (by decide) (fun _ => ?_) (fun c9 => absurd c9 (by decide))
      refine lv_aload_n hx hbc dX1_take_20 rfl (lv_at hl 0 rfl) ?_
      refine lv_iload_n hx hbc dX1_take_21 rfl (lv_at hl 1 rfl) ?_
      refine lv_iconst (v := nI 0) hx hbc dX1_take_22 (by decide) ?_
      refine x1_calli C w hA (rest := []) (c1_removeItem l P _ (i := 0) hI hR hb he.1) x1g_removeItem x1d_removeItem rfl ⟨Nat.le_of_ble_eq_true rfl, Nat.le_of_ble_eq_true rfl⟩ hl.1 rfl (Nat.le_of_ble_eq_true rfl) dX1_take_23 ⟨Nat.zero_le _, Nat.zero_le _⟩ (fun r v H locs hp w => ?_)
      obtain ⟨rfl, hR1⟩ := hp
      exact hret _ _ _ _ _ _ dX1_take_26 rfl (by rw [bl_take_ok hb he]; exact ⟨rfl, hR1⟩) w
    · refine bl_as (y := nI 0) (if_neg he) ?_
      refine lv_if_ne (tgt := 20) hx hbc dX1_take_14 (by decide) (fun c9 => absurd c9 (fun q => q rfl)) (fun _ => ?_)
      refine lv_bipush (v := (-4)) hx hbc dX1_take_17 (by decide) ?_
      exact hret _ _ _ _ _ _ dX1_take_19 rfl (by rw [bl_take_no hb he]; exact ⟨rfl, hR⟩) w
  · refine lv_iconst (v := (-1)) hx hbc dX1_take_7 (by decide) ?_
    exact hret _ _ _ _ _ _ dX1_take_8 rfl (by rw [bl_take_bad (bl_bv1 c0)]; exact ⟨rfl, hR⟩) w
set_option maxHeartbeats 4000000 in
set_option maxRecDepth 100000 in
/-- lead(x, y) -/
theorem c1_lead (l : Launch) (P : bl_P) (u : bl_S) {L : Nat} {M : bl_M} (x y : Int32) (hI : bl_I L M) (hR : bl_RX L M u) : x1Mi l yX1_lead cX1_lead 4 (some .int) 1 P u [.int x, .int y] (fun r v => (bl_lead M x y).1 = r ∧ bl_RX L (bl_lead M x y).2 v) := by
  refine x1Mi_of (ty := .int) (by decide) rfl rfl (Nat.le_of_ble_eq_true rfl) ?_
  intro p e s m args below meth c A Q ls C hA hret w hl
  have hx := C.1.1
  have hbc := C.1.2.1
  have hl : lv_has ls 4 [(0, .ref (P.2.2 0)), (1, .int x), (2, .int y)] := hl
  refine lv_iload_n hx hbc dX1_lead_0 rfl (lv_at hl 1 rfl) ?_
  refine x1_callbad C w hA ⟨Nat.le_of_ble_eq_true rfl, Nat.le_of_ble_eq_true rfl⟩ hl.1 (Nat.le_of_ble_eq_true rfl) dX1_lead_1 ⟨Nat.zero_le _, Nat.zero_le _⟩ (fun H locs w => ?_)
  refine lv_if_eq (tgt := 9) hx hbc dX1_lead_4 (by decide) (fun c0 => ?_) (fun c0 => ?_)
  · obtain ⟨b, hb, rfl⟩ := bl_bv0 c0
    refine lv_iload_n hx hbc dX1_lead_9 rfl (lv_at hl 2 rfl) ?_
    refine lv_bipush (v := (-2)) hx hbc dX1_lead_10 (by decide) ?_
    refine lv_icmp_lt (tgt := 25) hx hbc dX1_lead_12 (by decide) (fun c1 => ?_) (fun c1 => ?_)
    · refine lv_bipush (v := (-5)) hx hbc dX1_lead_25 (by decide) ?_
      exact hret _ _ _ _ _ _ dX1_lead_27 rfl (by rw [bl_lead_no hb (Or.inl c1)]; exact ⟨rfl, hR⟩) w
    · refine lv_iload_n hx hbc dX1_lead_15 rfl (lv_at hl 2 rfl) ?_
      refine lv_iconst (v := nI 4) hx hbc dX1_lead_16 (by decide) ?_
      refine lv_icmp_ge (tgt := 25) hx hbc dX1_lead_17 (by decide) (fun c2 => ?_) (fun c2 => ?_)
      · refine lv_bipush (v := (-5)) hx hbc dX1_lead_25 (by decide) ?_
        exact hret _ _ _ _ _ _ dX1_lead_27 rfl (by rw [bl_lead_no hb (Or.inr (Or.inl c2))]; exact ⟨rfl, hR⟩) w
      · refine lv_iload_n hx hbc dX1_lead_20 rfl (lv_at hl 2 rfl) ?_
        refine lv_iload_n hx hbc dX1_lead_21 rfl (lv_at hl 1 rfl) ?_
        refine lv_icmp_ne (tgt := 28) hx hbc dX1_lead_22 (by decide) (fun c3 => ?_) (fun c3 => ?_)
        · refine lv_aload_n hx hbc dX1_lead_28 rfl (lv_at hl 0 rfl) ?_
          refine x1_leads C w dX1_lead_29 ?_
          refine lv_iload_n hx hbc dX1_lead_32 rfl (lv_at hl 1 rfl) ?_
          refine x1_ld_leads C w (j := b) (by omega) rfl (v := (M.2.1 b)) (hR.2.2.1 b hb) dX1_lead_33 ?_
          refine lv_istore_n (lv' := [(3, .int ((M.2.1 b))), (0, .ref (P.2.2 0)), (1, .int (nI b)), (2, .int y)]) hx hbc dX1_lead_34 rfl hl (by decide) rfl (fun ls hl => ?_)
          refine lv_aload_n hx hbc dX1_lead_35 rfl (lv_at hl 1 rfl) ?_
          refine x1_leads C w dX1_lead_36 ?_
          refine lv_iload_n hx hbc dX1_lead_39 rfl (lv_at hl 2 rfl) ?_
          refine lv_iload_n hx hbc dX1_lead_40 rfl (lv_at hl 3 rfl) ?_
          refine x1_st_leads C w (j := b) (by omega) rfl dX1_lead_41 (fun H locs w => ?_)
          refine lv_iload_n hx hbc dX1_lead_42 rfl (lv_at hl 0 rfl) ?_
          exact hret _ _ _ _ _ _ dX1_lead_43 rfl (by rw [bl_lead_ok hb (fun q => q.elim c1 (fun q => q.elim c2 c3))]; exact ⟨rfl, bl_RX_sL hR⟩) w
        · refine lv_bipush (v := (-5)) hx hbc dX1_lead_25 (by decide) ?_
          exact hret _ _ _ _ _ _ dX1_lead_27 rfl (by rw [bl_lead_no hb (Or.inr (Or.inr c3))]; exact ⟨rfl, hR⟩) w
  · refine lv_iconst (v := (-1)) hx hbc dX1_lead_7 (by decide) ?_
    exact hret _ _ _ _ _ _ dX1_lead_8 rfl (by rw [bl_lead_bad (bl_bv1 c0)]; exact ⟨rfl, hR⟩) w
set_option maxHeartbeats 4000000 in
set_option maxRecDepth 100000 in
/-- arm(x, y, z, t) -/
theorem c1_arm (l : Launch) (P : bl_P) (u : bl_S) {L : Nat} {M : bl_M} (x y z t : Int32) (hI : bl_I L M) (hR : bl_RX L M u) : x1Mi l yX1_arm cX1_arm 5 (some .int) 0 P u [.int x, .int y, .int z, .int t] (fun r v => (bl_arm M x y z t).1 = r ∧ bl_RX L (bl_arm M x y z t).2 v) := by
  refine x1Mi_of (ty := .int) (by decide) rfl rfl (Nat.le_of_ble_eq_true rfl) ?_
  intro p e s m args below meth c A Q ls C hA hret w hl
  have hx := C.1.1
  have hbc := C.1.2.1
  have hl : lv_has ls 5 [(0, .ref (P.2.2 0)), (1, .int x), (2, .int y), (3, .int z), (4, .int t)] := hl
  refine lv_iload_n hx hbc dX1_arm_0 rfl (lv_at hl 1 rfl) ?_
  refine lv_if_lt (tgt := 19) hx hbc dX1_arm_1 (by decide) (fun c1 => ?_) (fun c1 => ?_)
  · refine lv_bipush (v := (-5)) hx hbc dX1_arm_19 (by decide) ?_
    exact hret _ _ _ _ _ _ dX1_arm_21 rfl (by rw [bl_arm_no (Or.inl c1)]; exact ⟨rfl, hR⟩) w
  · refine lv_iload_n hx hbc dX1_arm_4 rfl (lv_at hl 1 rfl) ?_
    refine lv_iconst (v := nI 1) hx hbc dX1_arm_5 (by decide) ?_
    refine lv_icmp_gt (tgt := 19) hx hbc dX1_arm_6 (by decide) (fun c2 => ?_) (fun c2 => ?_)
    · refine lv_bipush (v := (-5)) hx hbc dX1_arm_19 (by decide) ?_
      exact hret _ _ _ _ _ _ dX1_arm_21 rfl (by rw [bl_arm_no (Or.inr (Or.inl c2))]; exact ⟨rfl, hR⟩) w
    · refine lv_iload_n hx hbc dX1_arm_9 rfl (lv_at hl 3 rfl) ?_
      refine lv_if_lt (tgt := 19) hx hbc dX1_arm_10 (by decide) (fun c3 => ?_) (fun c3 => ?_)
      · refine lv_bipush (v := (-5)) hx hbc dX1_arm_19 (by decide) ?_
        exact hret _ _ _ _ _ _ dX1_arm_21 rfl (by rw [bl_arm_no (Or.inr (Or.inr (Or.inl c3)))]; exact ⟨rfl, hR⟩) w
      · refine lv_iload_n hx hbc dX1_arm_13 rfl (lv_at hl 3 rfl) ?_
        refine lv_bipush (v := nI 60) hx hbc dX1_arm_14 (by decide) ?_
        refine lv_icmp_le (tgt := 22) hx hbc dX1_arm_16 (by decide) (fun c4 => ?_) (fun c4 => ?_)
        · obtain ⟨a, ha, rfl⟩ := bl_rng (m := 1) (n := 1) rfl c1 c2
          obtain ⟨r, hr, rfl⟩ := bl_rng (m := 60) (n := 60) rfl c3 (Int32.not_lt.mpr c4)
          obtain ⟨f, hf, ef⟩ := bl_m3 y
          obtain ⟨o, ho, eo⟩ := bl_m3 (y >>> (2 &&& 31))
          refine lv_aload_n hx hbc dX1_arm_22 rfl (lv_at hl 0 rfl) ?_
          refine x1_set C w dX1_arm_23 ?_
          refine lv_iload_n hx hbc dX1_arm_26 rfl (lv_at hl 1 rfl) ?_
          refine lv_iconst (v := nI 1) hx hbc dX1_arm_27 (by decide) ?_
          refine x1_st_set C w (j := a) (by omega) rfl dX1_arm_28 (fun H locs w => ?_)
          refine lv_aload_n hx hbc dX1_arm_29 rfl (lv_at hl 0 rfl) ?_
          refine x1_takesFrom C w dX1_arm_30 ?_
          refine lv_iload_n hx hbc dX1_arm_33 rfl (lv_at hl 1 rfl) ?_
          refine lv_iload_n hx hbc dX1_arm_34 rfl (lv_at hl 2 rfl) ?_
          refine lv_iconst (v := nI 3) hx hbc dX1_arm_35 (by decide) ?_
          refine lv_iand hx hbc dX1_arm_36 ?_
          refine bl_as (y := nI f) (ef) ?_
          refine x1_st_takesFrom C w (j := a) (by omega) rfl dX1_arm_37 (fun H locs w => ?_)
          refine lv_aload_n hx hbc dX1_arm_38 rfl (lv_at hl 0 rfl) ?_
          refine x1_putsOn C w dX1_arm_39 ?_
          refine lv_iload_n hx hbc dX1_arm_42 rfl (lv_at hl 1 rfl) ?_
          refine lv_iload_n hx hbc dX1_arm_43 rfl (lv_at hl 2 rfl) ?_
          refine lv_iconst (v := nI 2) hx hbc dX1_arm_44 (by decide) ?_
          refine lv_ishr hx hbc dX1_arm_45 ?_
          refine bl_as (y := (y >>> (2 &&& 31))) (rfl) ?_
          refine lv_iconst (v := nI 3) hx hbc dX1_arm_46 (by decide) ?_
          refine lv_iand hx hbc dX1_arm_47 ?_
          refine bl_as (y := nI o) (eo) ?_
          refine x1_st_putsOn C w (j := a) (by omega) rfl dX1_arm_48 (fun H locs w => ?_)
          refine lv_aload_n hx hbc dX1_arm_49 rfl (lv_at hl 0 rfl) ?_
          refine x1_reach C w dX1_arm_50 ?_
          refine lv_iload_n hx hbc dX1_arm_53 rfl (lv_at hl 1 rfl) ?_
          refine lv_iload_n hx hbc dX1_arm_54 rfl (lv_at hl 3 rfl) ?_
          refine x1_st_reach C w (j := a) (by omega) rfl dX1_arm_55 (fun H locs w => ?_)
          refine lv_aload_n hx hbc dX1_arm_56 rfl (lv_at hl 0 rfl) ?_
          refine x1_takesKinds C w dX1_arm_57 ?_
          refine lv_iload_n hx hbc dX1_arm_60 rfl (lv_at hl 1 rfl) ?_
          refine lv_iload hx hbc dX1_arm_61 (lv_at hl 4 rfl) ?_
          refine lv_sipush (v := nI 255) hx hbc dX1_arm_63 (by decide) ?_
          refine lv_iand hx hbc dX1_arm_66 ?_
          refine bl_as (y := (t &&& 255)) (rfl) ?_
          refine x1_st_takesKinds C w (j := a) (by omega) rfl dX1_arm_67 (fun H locs w => ?_)
          refine lv_iconst (v := nI 0) hx hbc dX1_arm_68 (by decide) ?_
          exact hret _ _ _ _ _ _ dX1_arm_69 rfl (by rw [bl_arm_ok (by omega) hr ef eo hf ho]; exact ⟨rfl, bl_RX_sA hR⟩) w
        · refine lv_bipush (v := (-5)) hx hbc dX1_arm_19 (by decide) ?_
          exact hret _ _ _ _ _ _ dX1_arm_21 rfl (by rw [bl_arm_no (Or.inr (Or.inr (Or.inr (Int32.not_le.mp c4))))]; exact ⟨rfl, hR⟩) w
set_option maxHeartbeats 4000000 in
set_option maxRecDepth 100000 in
/-- items(x) -/
theorem c1_items (l : Launch) (P : bl_P) (u : bl_S) {L : Nat} {M : bl_M} (x : Int32) (hI : bl_I L M) (hR : bl_RX L M u) : x1Mi l yX1_items cX1_items 2 (some .int) 1 P u [.int x] (fun r v => bl_items M x = r ∧ u = v) := by
  refine x1Mi_of (ty := .int) (by decide) rfl rfl (Nat.le_of_ble_eq_true rfl) ?_
  intro p e s m args below meth c A Q ls C hA hret w hl
  have hx := C.1.1
  have hbc := C.1.2.1
  have hl : lv_has ls 2 [(0, .ref (P.2.2 0)), (1, .int x)] := hl
  refine lv_iload_n hx hbc dX1_items_0 rfl (lv_at hl 1 rfl) ?_
  refine x1_callbad C w hA ⟨Nat.le_of_ble_eq_true rfl, Nat.le_of_ble_eq_true rfl⟩ hl.1 (Nat.le_of_ble_eq_true rfl) dX1_items_1 ⟨Nat.zero_le _, Nat.zero_le _⟩ (fun H locs w => ?_)
  refine lv_if_eq (tgt := 11) hx hbc dX1_items_4 (by decide) (fun c0 => ?_) (fun c0 => ?_)
  · obtain ⟨b, hb, rfl⟩ := bl_bv0 c0
    obtain ⟨h, hX⟩ := hR.2.1 b hb
    have hok := hI.2.1 b hb
    have hL := hI.1
    have hn := bl_cnt hL.2 hok
    refine lv_aload_n hx hbc dX1_items_11 rfl (lv_at hl 0 rfl) ?_
    refine x1_count C w dX1_items_12 ?_
    refine lv_iload_n hx hbc dX1_items_15 rfl (lv_at hl 1 rfl) ?_
    refine x1_ld_count C w (j := b) (by omega) rfl (v := nI ((M.1 b).1)) (hX.2.2.1) dX1_items_16 ?_
    exact hret _ _ _ _ _ _ dX1_items_17 rfl (⟨bl_items_ok hb, rfl⟩) w
  · refine lv_iconst (v := (-1)) hx hbc dX1_items_7 (by decide) ?_
    refine lv_goto (tgt := 17) hx hbc dX1_items_8 (by decide) ?_
    exact hret _ _ _ _ _ _ dX1_items_17 rfl (⟨bl_items_bad (bl_bv1 c0), rfl⟩) w
set_option maxHeartbeats 4000000 in
set_option maxRecDepth 100000 in
/-- place(x, y) -/
theorem c1_place (l : Launch) (P : bl_P) (u : bl_S) {L : Nat} {M : bl_M} (x y : Int32) (hI : bl_I L M) (hR : bl_RX L M u) : x1Mi l yX1_place cX1_place 3 (some .int) 2 P u [.int x, .int y] (fun r v => bl_place M x y = r ∧ u = v) := by
  refine x1Mi_of (ty := .int) (by decide) rfl rfl (Nat.le_of_ble_eq_true rfl) ?_
  intro p e s m args below meth c A Q ls C hA hret w hl
  have hx := C.1.1
  have hbc := C.1.2.1
  have hl : lv_has ls 3 [(0, .ref (P.2.2 0)), (1, .int x), (2, .int y)] := hl
  refine lv_iload_n hx hbc dX1_place_0 rfl (lv_at hl 1 rfl) ?_
  refine x1_callbad C w hA ⟨Nat.le_of_ble_eq_true rfl, Nat.le_of_ble_eq_true rfl⟩ hl.1 (Nat.le_of_ble_eq_true rfl) dX1_place_1 ⟨Nat.zero_le _, Nat.zero_le _⟩ (fun H locs w => ?_)
  refine lv_if_eq (tgt := 9) hx hbc dX1_place_4 (by decide) (fun c0 => ?_) (fun c0 => ?_)
  · obtain ⟨b, hb, rfl⟩ := bl_bv0 c0
    obtain ⟨h, hX⟩ := hR.2.1 b hb
    have hok := hI.2.1 b hb
    have hL := hI.1
    have hn := bl_cnt hL.2 hok
    refine lv_iload_n hx hbc dX1_place_9 rfl (lv_at hl 2 rfl) ?_
    refine lv_if_lt (tgt := 23) hx hbc dX1_place_10 (by decide) (fun c1 => ?_) (fun c1 => ?_)
    · refine lv_bipush (v := (-4)) hx hbc dX1_place_23 (by decide) ?_
      exact hret _ _ _ _ _ _ dX1_place_25 rfl (⟨bl_place_no hb (Or.inl c1), rfl⟩) w
    · refine lv_iload_n hx hbc dX1_place_13 rfl (lv_at hl 2 rfl) ?_
      refine lv_aload_n hx hbc dX1_place_14 rfl (lv_at hl 0 rfl) ?_
      refine x1_count C w dX1_place_15 ?_
      refine lv_iload_n hx hbc dX1_place_18 rfl (lv_at hl 1 rfl) ?_
      refine x1_ld_count C w (j := b) (by omega) rfl (v := nI ((M.1 b).1)) (hX.2.2.1) dX1_place_19 ?_
      refine lv_icmp_lt (tgt := 26) hx hbc dX1_place_20 (by decide) (fun c2 => ?_) (fun c2 => ?_)
      · obtain ⟨k, hk, rfl⟩ := nI_of c1
        have hk := (nI_ltI (by omega) (by omega)).mp c2
        refine lv_aload_n hx hbc dX1_place_26 rfl (lv_at hl 0 rfl) ?_
        refine lv_iload_n hx hbc dX1_place_27 rfl (lv_at hl 1 rfl) ?_
        refine lv_iload_n hx hbc dX1_place_28 rfl (lv_at hl 2 rfl) ?_
        refine x1_calli C w hA (rest := []) (c1_placeOf l P _ hb hX hok hL hk) x1g_placeOf x1d_placeOf rfl ⟨Nat.le_of_ble_eq_true rfl, Nat.le_of_ble_eq_true rfl⟩ hl.1 rfl (Nat.le_of_ble_eq_true rfl) dX1_place_29 ⟨Nat.zero_le _, Nat.zero_le _⟩ (fun r v H locs hp w => ?_)
        obtain ⟨rfl, rfl⟩ := hp
        exact hret _ _ _ _ _ _ dX1_place_32 rfl (⟨bl_place_ok hb hn hk, rfl⟩) w
      · refine lv_bipush (v := (-4)) hx hbc dX1_place_23 (by decide) ?_
        exact hret _ _ _ _ _ _ dX1_place_25 rfl (⟨bl_place_no hb (Or.inr (Int32.not_lt.mp c2)), rfl⟩) w
  · refine lv_iconst (v := (-1)) hx hbc dX1_place_7 (by decide) ?_
    exact hret _ _ _ _ _ _ dX1_place_8 rfl (⟨bl_place_bad (bl_bv1 c0), rfl⟩) w
set_option maxHeartbeats 4000000 in
set_option maxRecDepth 100000 in
/-- kind(x, y) -/
theorem c1_kind (l : Launch) (P : bl_P) (u : bl_S) {L : Nat} {M : bl_M} (x y : Int32) (hI : bl_I L M) (hR : bl_RX L M u) : x1Mi l yX1_kind cX1_kind 3 (some .int) 1 P u [.int x, .int y] (fun r v => bl_kind M x y = r ∧ u = v) := by
  refine x1Mi_of (ty := .int) (by decide) rfl rfl (Nat.le_of_ble_eq_true rfl) ?_
  intro p e s m args below meth c A Q ls C hA hret w hl
  have hx := C.1.1
  have hbc := C.1.2.1
  have hl : lv_has ls 3 [(0, .ref (P.2.2 0)), (1, .int x), (2, .int y)] := hl
  refine lv_iload_n hx hbc dX1_kind_0 rfl (lv_at hl 1 rfl) ?_
  refine x1_callbad C w hA ⟨Nat.le_of_ble_eq_true rfl, Nat.le_of_ble_eq_true rfl⟩ hl.1 (Nat.le_of_ble_eq_true rfl) dX1_kind_1 ⟨Nat.zero_le _, Nat.zero_le _⟩ (fun H locs w => ?_)
  refine lv_if_eq (tgt := 9) hx hbc dX1_kind_4 (by decide) (fun c0 => ?_) (fun c0 => ?_)
  · obtain ⟨b, hb, rfl⟩ := bl_bv0 c0
    obtain ⟨h, hX⟩ := hR.2.1 b hb
    have hok := hI.2.1 b hb
    have hL := hI.1
    have hn := bl_cnt hL.2 hok
    refine lv_iload_n hx hbc dX1_kind_9 rfl (lv_at hl 2 rfl) ?_
    refine lv_if_lt (tgt := 23) hx hbc dX1_kind_10 (by decide) (fun c1 => ?_) (fun c1 => ?_)
    · refine lv_bipush (v := (-4)) hx hbc dX1_kind_23 (by decide) ?_
      refine lv_goto (tgt := 39) hx hbc dX1_kind_25 (by decide) ?_
      exact hret _ _ _ _ _ _ dX1_kind_39 rfl (⟨bl_kind_no hb (Or.inl c1), rfl⟩) w
    · refine lv_iload_n hx hbc dX1_kind_13 rfl (lv_at hl 2 rfl) ?_
      refine lv_aload_n hx hbc dX1_kind_14 rfl (lv_at hl 0 rfl) ?_
      refine x1_count C w dX1_kind_15 ?_
      refine lv_iload_n hx hbc dX1_kind_18 rfl (lv_at hl 1 rfl) ?_
      refine x1_ld_count C w (j := b) (by omega) rfl (v := nI ((M.1 b).1)) (hX.2.2.1) dX1_kind_19 ?_
      refine lv_icmp_lt (tgt := 28) hx hbc dX1_kind_20 (by decide) (fun c2 => ?_) (fun c2 => ?_)
      · obtain ⟨k, hk, rfl⟩ := nI_of c1
        have hk := (nI_ltI (by omega) (by omega)).mp c2
        have hh := hX.1
        refine lv_aload_n hx hbc dX1_kind_28 rfl (lv_at hl 0 rfl) ?_
        refine x1_kinds C w dX1_kind_29 ?_
        refine lv_aload_n hx hbc dX1_kind_32 rfl (lv_at hl 0 rfl) ?_
        refine lv_iload_n hx hbc dX1_kind_33 rfl (lv_at hl 1 rfl) ?_
        refine lv_iload_n hx hbc dX1_kind_34 rfl (lv_at hl 2 rfl) ?_
        refine x1_calli C w hA (rest := [.ref (P.2.2 4)]) (c1_slot l P _ (i := k) hb (by omega) hX.1 hX.2.1) x1g_slot x1d_slot rfl ⟨Nat.le_of_ble_eq_true rfl, Nat.le_of_ble_eq_true rfl⟩ hl.1 rfl (Nat.le_of_ble_eq_true rfl) dX1_kind_35 ⟨Nat.zero_le _, Nat.zero_le _⟩ (fun r v H locs hp w => ?_)
        obtain ⟨rfl, rfl⟩ := hp
        refine x1_ld_kinds C w (j := b * 16 + (h + k) % 16) (by omega) rfl (v := nI ((M.1 b).2.2 k)) ((hX.2.2.2.2 k hk).2) dX1_kind_38 ?_
        exact hret _ _ _ _ _ _ dX1_kind_39 rfl (⟨bl_kind_ok hb hn hk, rfl⟩) w
      · refine lv_bipush (v := (-4)) hx hbc dX1_kind_23 (by decide) ?_
        refine lv_goto (tgt := 39) hx hbc dX1_kind_25 (by decide) ?_
        exact hret _ _ _ _ _ _ dX1_kind_39 rfl (⟨bl_kind_no hb (Or.inr (Int32.not_lt.mp c2)), rfl⟩) w
  · refine lv_iconst (v := (-1)) hx hbc dX1_kind_7 (by decide) ?_
    exact hret _ _ _ _ _ _ dX1_kind_8 rfl (⟨bl_kind_bad (bl_bv1 c0), rfl⟩) w
set_option maxHeartbeats 4000000 in
set_option maxRecDepth 100000 in
/-- out() -/
theorem c1_out (l : Launch) (P : bl_P) (u : bl_S) {L : Nat} {M : bl_M} (hI : bl_I L M) (hR : bl_RX L M u) : x1Mi l yX1_out cX1_out 1 (some .int) 0 P u [] (fun r v => M.2.2.2.2 = r ∧ u = v) := by
  refine x1Mi_of (ty := .int) (by decide) rfl rfl (Nat.le_of_ble_eq_true rfl) ?_
  intro p e s m args below meth c A Q ls C hA hret w hl
  have hx := C.1.1
  have hbc := C.1.2.1
  have hl : lv_has ls 1 [(0, .ref (P.2.2 0))] := hl
  refine lv_aload_n hx hbc dX1_out_0 rfl (lv_at hl 0 rfl) ?_
  refine x1_gone C w (v := M.2.2.2.2) (hR.2.2.2.2.2) dX1_out_1 ?_
  exact hret _ _ _ _ _ _ dX1_out_4 rfl (⟨rfl, rfl⟩) w
set_option maxHeartbeats 4000000 in
set_option maxRecDepth 100000 in
/-- held(x) -/
theorem c1_held (l : Launch) (P : bl_P) (u : bl_S) {L : Nat} {M : bl_M} (x : Int32) (hI : bl_I L M) (hR : bl_RX L M u) : x1Mi l yX1_held cX1_held 2 (some .int) 0 P u [.int x] (fun r v => bl_held M x = r ∧ u = v) := by
  refine x1Mi_of (ty := .int) (by decide) rfl rfl (Nat.le_of_ble_eq_true rfl) ?_
  intro p e s m args below meth c A Q ls C hA hret w hl
  have hx := C.1.1
  have hbc := C.1.2.1
  have hl : lv_has ls 2 [(0, .ref (P.2.2 0)), (1, .int x)] := hl
  refine lv_iload_n hx hbc dX1_held_0 rfl (lv_at hl 1 rfl) ?_
  refine lv_if_lt (tgt := 9) hx hbc dX1_held_1 (by decide) (fun c1 => ?_) (fun c1 => ?_)
  · refine lv_bipush (v := (-5)) hx hbc dX1_held_9 (by decide) ?_
    refine lv_goto (tgt := 20) hx hbc dX1_held_11 (by decide) ?_
    exact hret _ _ _ _ _ _ dX1_held_20 rfl (⟨bl_held_no (Or.inl c1), rfl⟩) w
  · refine lv_iload_n hx hbc dX1_held_4 rfl (lv_at hl 1 rfl) ?_
    refine lv_iconst (v := nI 1) hx hbc dX1_held_5 (by decide) ?_
    refine lv_icmp_le (tgt := 14) hx hbc dX1_held_6 (by decide) (fun c2 => ?_) (fun c2 => ?_)
    · obtain ⟨a, ha, rfl⟩ := bl_rng (m := 1) (n := 1) rfl c1 (Int32.not_lt.mpr c2)
      have ha : a < 2 := by omega
      refine lv_aload_n hx hbc dX1_held_14 rfl (lv_at hl 0 rfl) ?_
      refine x1_holds C w dX1_held_15 ?_
      refine lv_iload_n hx hbc dX1_held_18 rfl (lv_at hl 1 rfl) ?_
      refine x1_ld_holds C w (j := a) (by omega) rfl (v := (bl_hv (M.2.2.2.1 a))) (hR.2.2.2.2.1 a ha) dX1_held_19 ?_
      exact hret _ _ _ _ _ _ dX1_held_20 rfl (⟨bl_held_ok ha, rfl⟩) w
    · refine lv_bipush (v := (-5)) hx hbc dX1_held_9 (by decide) ?_
      refine lv_goto (tgt := 20) hx hbc dX1_held_11 (by decide) ?_
      exact hret _ _ _ _ _ _ dX1_held_20 rfl (⟨bl_held_no (Or.inr (Int32.not_le.mp c2)), rfl⟩) w
set_option maxHeartbeats 4000000 in
set_option maxRecDepth 100000 in
/-- room(x) -/
theorem c1_room (l : Launch) (P : bl_P) (u : bl_S) {L : Nat} {M : bl_M} (x : Int32) (hI : bl_I L M) (hR : bl_RX L M u) : x1Mi l yX1_room cX1_room 2 (some .boolean) 2 P u [.int x] (fun r v => bl_rq L M x = r ∧ u = v) := by
  refine x1Mi_of (ty := .boolean) (by decide) rfl rfl (Nat.le_of_ble_eq_true rfl) ?_
  intro p e s m args below meth c A Q ls C hA hret w hl
  have hx := C.1.1
  have hbc := C.1.2.1
  have hl : lv_has ls 2 [(0, .ref (P.2.2 0)), (1, .int x)] := hl
  refine lv_iload_n hx hbc dX1_room_0 rfl (lv_at hl 1 rfl) ?_
  refine x1_callbad C w hA ⟨Nat.le_of_ble_eq_true rfl, Nat.le_of_ble_eq_true rfl⟩ hl.1 (Nat.le_of_ble_eq_true rfl) dX1_room_1 ⟨Nat.zero_le _, Nat.zero_le _⟩ (fun H locs w => ?_)
  refine lv_if_eq (tgt := 9) hx hbc dX1_room_4 (by decide) (fun c0 => ?_) (fun c0 => ?_)
  · obtain ⟨b, hb, rfl⟩ := bl_bv0 c0
    obtain ⟨h, hX⟩ := hR.2.1 b hb
    have hok := hI.2.1 b hb
    have hL := hI.1
    have hn := bl_cnt hL.2 hok
    refine lv_aload_n hx hbc dX1_room_9 rfl (lv_at hl 0 rfl) ?_
    refine lv_iload_n hx hbc dX1_room_10 rfl (lv_at hl 1 rfl) ?_
    refine x1_calli C w hA (rest := []) (c1_hasRoom l P _ hb hX hok hL hR.1) x1g_hasRoom x1d_hasRoom rfl ⟨Nat.le_of_ble_eq_true rfl, Nat.le_of_ble_eq_true rfl⟩ hl.1 rfl (Nat.le_of_ble_eq_true rfl) dX1_room_11 ⟨Nat.zero_le _, Nat.zero_le _⟩ (fun r v H locs hp w => ?_)
    obtain ⟨rfl, rfl⟩ := hp
    by_cases hr : bl_room L (M.1 b)
    · refine bl_as (y := nI 1) (if_pos hr) ?_
      exact hret _ _ _ _ _ _ dX1_room_14 rfl (⟨by rw [bl_rq_ok hb, if_pos hr]; rfl, rfl⟩) w
    · refine bl_as (y := nI 0) (if_neg hr) ?_
      exact hret _ _ _ _ _ _ dX1_room_14 rfl (⟨by rw [bl_rq_ok hb, if_neg hr]; rfl, rfl⟩) w
  · refine lv_iconst (v := nI 0) hx hbc dX1_room_7 (by decide) ?_
    exact hret _ _ _ _ _ _ dX1_room_8 rfl (⟨bl_rq_bad (bl_bv1 c0), rfl⟩) w
set_option maxHeartbeats 4000000 in
set_option maxRecDepth 100000 in
/-- moving(x) -/
theorem c1_moving (l : Launch) (P : bl_P) (u : bl_S) {L : Nat} {M : bl_M} (x : Int32) (hI : bl_I L M) (hR : bl_RX L M u) : x1Mi l yX1_moving cX1_moving 2 (some .int) 2 P u [.int x] (fun r v => bl_moving M x = r ∧ u = v) := by
  refine x1Mi_of (ty := .int) (by decide) rfl rfl (Nat.le_of_ble_eq_true rfl) ?_
  intro p e s m args below meth c A Q ls C hA hret w hl
  have hx := C.1.1
  have hbc := C.1.2.1
  have hl : lv_has ls 2 [(0, .ref (P.2.2 0)), (1, .int x)] := hl
  refine lv_iload_n hx hbc dX1_moving_0 rfl (lv_at hl 1 rfl) ?_
  refine x1_callbad C w hA ⟨Nat.le_of_ble_eq_true rfl, Nat.le_of_ble_eq_true rfl⟩ hl.1 (Nat.le_of_ble_eq_true rfl) dX1_moving_1 ⟨Nat.zero_le _, Nat.zero_le _⟩ (fun H locs w => ?_)
  refine lv_if_eq (tgt := 9) hx hbc dX1_moving_4 (by decide) (fun c0 => ?_) (fun c0 => ?_)
  · obtain ⟨b, hb, rfl⟩ := bl_bv0 c0
    obtain ⟨h, hX⟩ := hR.2.1 b hb
    have hok := hI.2.1 b hb
    have hL := hI.1
    have hn := bl_cnt hL.2 hok
    refine lv_aload_n hx hbc dX1_moving_9 rfl (lv_at hl 0 rfl) ?_
    refine x1_count C w dX1_moving_10 ?_
    refine lv_iload_n hx hbc dX1_moving_13 rfl (lv_at hl 1 rfl) ?_
    refine x1_ld_count C w (j := b) (by omega) rfl (v := nI ((M.1 b).1)) (hX.2.2.1) dX1_moving_14 ?_
    refine lv_aload_n hx hbc dX1_moving_15 rfl (lv_at hl 0 rfl) ?_
    refine lv_iload_n hx hbc dX1_moving_16 rfl (lv_at hl 1 rfl) ?_
    refine x1_calli C w hA (rest := [.int (nI ((M.1 b).1))]) (c1_firstOpen l P _ hb hX hok hL) x1g_firstOpen x1d_firstOpen rfl ⟨Nat.le_of_ble_eq_true rfl, Nat.le_of_ble_eq_true rfl⟩ hl.1 rfl (Nat.le_of_ble_eq_true rfl) dX1_moving_17 ⟨Nat.zero_le _, Nat.zero_le _⟩ (fun r v H locs hp w => ?_)
    obtain ⟨rfl, rfl⟩ := hp
    refine lv_isub hx hbc dX1_moving_20 ?_
    refine bl_as (y := nI ((M.1 b).1 - bl_find (bl_gf (M.1 b).2.1) (M.1 b).1)) (pk_sub (bl_find_le _ _)) ?_
    exact hret _ _ _ _ _ _ dX1_moving_21 rfl (⟨bl_moving_ok hb, rfl⟩) w
  · refine lv_iconst (v := (-1)) hx hbc dX1_moving_7 (by decide) ?_
    exact hret _ _ _ _ _ _ dX1_moving_8 rfl (⟨bl_moving_bad (bl_bv1 c0), rfl⟩) w
end
section
/-! rows for the reference -/
theorem bl_x34 (x : Int32) : x ≤ nI 3 ↔ ¬ nI 4 ≤ x := by
  rw [Int32.le_iff_toInt_le, Int32.le_iff_toInt_le, nI_toInt (by decide), nI_toInt (by decide)]
  omega
theorem bl_nn4 {k : Nat} (h : k < 2 ^ 31) : ¬ nI k = -4 := by
  intro q
  have := congrArg Int32.toInt q
  rw [nI_toInt h] at this
  have e : ((-4 : Int32)).toInt = -4 := by decide
  rw [e] at this
  omega
theorem bl_dlt {a b : Nat} (ha : a < 2 ^ 30) (hb : b < 2 ^ 30) : nI a - nI b < 0 ↔ a < b := by
  rw [Int32.lt_iff_toInt_lt, pk_sub_toInt ha hb]
  have e : ((0 : Int32)).toInt = 0 := by decide
  rw [e]
  omega
theorem bl_d3 {a b : Nat} (ha : a < 2 ^ 30) (hb : b < 2 ^ 30) : nI 3 < nI a - nI b ↔ b + 3 < a := by
  rw [Int32.lt_iff_toInt_lt, pk_sub_toInt ha hb, nI_toInt (by decide)]
  omega
theorem bl_num_t {x : Int32} {k : Nat} (hk : k < 200) : x ≤ nI k ↔ bl_num x ≤ k := by
  by_cases h : x ≤ nI 200
  · exact bl_num_lo h k (by omega)
  · have hu : bl_num x = 200 := if_pos (Int32.not_le.mp h)
    rw [hu]
    refine ⟨fun q => absurd (Int32.le_trans q (nI_le (by omega) (by decide))) h, fun q => by omega⟩
theorem bl_work_arms {L a : Nat} {M : bl_M} : (bl_work L M a).2.2.1 = M.2.2.1 := by
  unfold bl_work
  cases M.2.2.2.1 a with
  | some k =>
    show (if bl_room L (M.1 (M.2.2.1 a).2.2.1) then _ else M).2.2.1 = _
    split <;> rfl
  | none =>
    show (if bl_hit M a < (M.1 (M.2.2.1 a).2.1).1 then _ else M).2.2.1 = _
    split <;> rfl
end
section
set_option maxRecDepth 100000
set_option maxHeartbeats 4000000 in
set_option maxRecDepth 100000 in
/-- bad(x) -/
theorem c2_bad (l : Launch) (P : bl_P) (u : bl_S) (x : Int32) : x2Mi l yX2_bad cX2_bad 2 (some .boolean) 0 P u [.int x] (fun r v => bl_bv x = r ∧ u = v) := by
  refine x2Mi_of (ty := .boolean) (by decide) rfl rfl (Nat.le_of_ble_eq_true rfl) ?_
  intro p e s m args below meth c A Q ls C hA hret w hl
  have hx := C.1.1
  have hbc := C.1.2.1
  have hl : lv_has ls 2 [(0, .ref (P.2.2 0)), (1, .int x)] := hl
  refine lv_iload_n hx hbc dX2_bad_0 rfl (lv_at hl 1 rfl) ?_
  refine lv_if_lt (tgt := 9) hx hbc dX2_bad_1 (by decide) (fun c1 => ?_) (fun c1 => ?_)
  · refine lv_iconst (v := nI 1) hx hbc dX2_bad_9 (by decide) ?_
    refine lv_goto (tgt := 14) hx hbc dX2_bad_10 (by decide) ?_
    exact hret _ _ _ _ _ _ dX2_bad_14 rfl (⟨if_pos (Or.inl c1), rfl⟩) w
  · refine lv_iload_n hx hbc dX2_bad_4 rfl (lv_at hl 1 rfl) ?_
    refine lv_iconst (v := nI 3) hx hbc dX2_bad_5 (by decide) ?_
    refine lv_icmp_le (tgt := 13) hx hbc dX2_bad_6 (by decide) (fun c2 => ?_) (fun c2 => ?_)
    · refine lv_iconst (v := nI 0) hx hbc dX2_bad_13 (by decide) ?_
      exact hret _ _ _ _ _ _ dX2_bad_14 rfl (⟨if_neg (fun q => q.elim c1 ((bl_x34 x).mp c2)), rfl⟩) w
    · refine lv_iconst (v := nI 1) hx hbc dX2_bad_9 (by decide) ?_
      refine lv_goto (tgt := 14) hx hbc dX2_bad_10 (by decide) ?_
      exact hret _ _ _ _ _ _ dX2_bad_14 rfl (⟨if_pos (Or.inr (Decidable.of_not_not (fun q => c2 ((bl_x34 x).mpr q)))), rfl⟩) w
set_option maxHeartbeats 4000000 in
set_option maxRecDepth 100000 in
/-- room(x) -/
theorem c2_room (l : Launch) (P : bl_P) (u : bl_S) {L : Nat} {M : bl_M} (x : Int32) (hI : bl_I L M) (hR : bl_RY L M u) : x2Mi l yX2_room cX2_room 2 (some .boolean) 1 P u [.int x] (fun r v => bl_rq L M x = r ∧ u = v) := by
  refine x2Mi_of (ty := .boolean) (by decide) rfl rfl (Nat.le_of_ble_eq_true rfl) ?_
  intro p e s m args below meth c A Q ls C hA hret w hl
  have hx := C.1.1
  have hbc := C.1.2.1
  have hl : lv_has ls 2 [(0, .ref (P.2.2 0)), (1, .int x)] := hl
  refine lv_aload_n hx hbc dX2_room_0 rfl (lv_at hl 0 rfl) ?_
  refine lv_iload_n hx hbc dX2_room_1 rfl (lv_at hl 1 rfl) ?_
  refine x2_calli C w hA (rest := []) (c2_bad l P _ x) x2g_bad x2d_bad rfl ⟨Nat.le_of_ble_eq_true rfl, Nat.le_of_ble_eq_true rfl⟩ hl.1 rfl (Nat.le_of_ble_eq_true rfl) dX2_room_2 ⟨Nat.zero_le _, Nat.zero_le _⟩ (fun r v H locs hp w => ?_)
  obtain ⟨rfl, rfl⟩ := hp
  refine lv_if_eq (tgt := 10) hx hbc dX2_room_5 (by decide) (fun c0 => ?_) (fun c0 => ?_)
  · obtain ⟨b, hb, rfl⟩ := bl_bv0 c0
    have hY := hR.2.1 b hb
    have hok := hI.2.1 b hb
    have hL := hI.1
    have hn := bl_cnt hL.2 hok
    refine lv_aload_n hx hbc dX2_room_10 rfl (lv_at hl 0 rfl) ?_
    refine x2_counts C w dX2_room_11 ?_
    refine lv_iload_n hx hbc dX2_room_14 rfl (lv_at hl 1 rfl) ?_
    refine x2_ld_counts C w (j := b) (by omega) rfl (v := nI ((M.1 b).1)) (hY.1) dX2_room_15 ?_
    refine lv_if_eq (tgt := 46) hx hbc dX2_room_16 (by decide) (fun c1 => ?_) (fun c1 => ?_)
    · have c1 := (bl_eq0 (by omega)).mp c1
      refine lv_iconst (v := nI 1) hx hbc dX2_room_46 (by decide) ?_
      refine lv_goto (tgt := 51) hx hbc dX2_room_47 (by decide) ?_
      exact hret _ _ _ _ _ _ dX2_room_51 rfl (⟨by rw [bl_rq_ok hb, if_pos (Or.inl c1)]; rfl, rfl⟩) w
    · have h0 : 0 < (M.1 b).1 := Nat.pos_of_ne_zero (fun q => c1 ((bl_eq0 (by omega)).mpr q))
      have hp := (hok.1 ((M.1 b).1 - 1) (by omega)).1
      refine lv_aload_n hx hbc dX2_room_19 rfl (lv_at hl 0 rfl) ?_
      refine x2_places C w dX2_room_20 ?_
      refine lv_iload_n hx hbc dX2_room_23 rfl (lv_at hl 1 rfl) ?_
      refine lv_bipush (v := nI 16) hx hbc dX2_room_24 (by decide) ?_
      refine lv_imul hx hbc dX2_room_26 ?_
      refine bl_as (pk_mul _ _) ?_
      refine lv_aload_n hx hbc dX2_room_27 rfl (lv_at hl 0 rfl) ?_
      refine x2_counts C w dX2_room_28 ?_
      refine lv_iload_n hx hbc dX2_room_31 rfl (lv_at hl 1 rfl) ?_
      refine x2_ld_counts C w (j := b) (by omega) rfl (v := nI ((M.1 b).1)) (hY.1) dX2_room_32 ?_
      refine lv_iadd hx hbc dX2_room_33 ?_
      refine bl_as (nI_add _ _) ?_
      refine lv_iconst (v := nI 1) hx hbc dX2_room_34 (by decide) ?_
      refine lv_isub hx hbc dX2_room_35 ?_
      refine bl_as (y := nI (b * 16 + ((M.1 b).1 - 1))) ((pk_sub (by omega)).trans (by rw [show b * 16 + (M.1 b).1 - 1 = b * 16 + ((M.1 b).1 - 1) by omega])) ?_
      refine x2_ld_places C w (j := b * 16 + ((M.1 b).1 - 1)) (by omega) rfl (v := nI ((M.1 b).2.1 ((M.1 b).1 - 1))) ((hY.2 _ (by omega)).1) dX2_room_36 ?_
      refine lv_aload_n hx hbc dX2_room_37 rfl (lv_at hl 0 rfl) ?_
      refine x2_length C w (v := nI L) (hR.1) dX2_room_38 ?_
      refine lv_iconst (v := nI 4) hx hbc dX2_room_41 (by decide) ?_
      refine lv_isub hx hbc dX2_room_42 ?_
      refine bl_as (y := nI (L - 4)) (pk_sub (by omega)) ?_
      refine lv_icmp_gt (tgt := 50) hx hbc dX2_room_43 (by decide) (fun c2 => ?_) (fun c2 => ?_)
      · have c2 := (nI_ltI (by omega) (by omega)).mp c2
        refine lv_iconst (v := nI 0) hx hbc dX2_room_50 (by decide) ?_
        exact hret _ _ _ _ _ _ dX2_room_51 rfl (⟨by rw [bl_rq_ok hb, if_neg (fun q => by rcases q with q | q <;> omega)]; rfl, rfl⟩) w
      · have c2 : ¬ (L - 4 < (M.1 b).2.1 ((M.1 b).1 - 1)) := fun q => c2 ((nI_ltI (by omega) (by omega)).mpr q)
        refine lv_iconst (v := nI 1) hx hbc dX2_room_46 (by decide) ?_
        refine lv_goto (tgt := 51) hx hbc dX2_room_47 (by decide) ?_
        exact hret _ _ _ _ _ _ dX2_room_51 rfl (⟨by rw [bl_rq_ok hb, if_pos (Or.inr (by omega))]; rfl, rfl⟩) w
  · refine lv_iconst (v := nI 0) hx hbc dX2_room_8 (by decide) ?_
    exact hret _ _ _ _ _ _ dX2_room_9 rfl (⟨bl_rq_bad (bl_bv1 c0), rfl⟩) w
set_option maxHeartbeats 4000000 in
set_option maxRecDepth 100000 in
/-- start(b, k), where there is room -/
theorem c2_start (l : Launch) (P : bl_P) (u : bl_S) {L b k : Nat} {M : bl_M} (hI : bl_I L M) (hR : bl_RY L M u) (hb : b < 4) (hr : bl_room L (M.1 b)) : x2Mv l yX2_start cX2_start 4 0 P u [.int (nI b), .int (nI k)] (fun v => bl_RY L (bl_sB M b (bl_start L (M.1 b) k)) v) := by
  refine x2Mv_of (by decide) rfl (Nat.le_of_ble_eq_true rfl) ?_
  intro p e s m args below meth c A Q ls C hA hret w hl
  have hx := C.1.1
  have hbc := C.1.2.1
  have hl : lv_has ls 4 [(0, .ref (P.2.2 0)), (1, .int (nI b)), (2, .int (nI k))] := hl
  have hY := hR.2.1 b hb
  have hok := hI.2.1 b hb
  have hL := hI.1
  have hn := bl_cnt hL.2 hok
  have hn5 := bl_cnt_room hL.2 hok hr
  refine lv_iload_n hx hbc dX2_start_0 rfl (lv_at hl 1 rfl) ?_
  refine lv_bipush (v := nI 16) hx hbc dX2_start_1 (by decide) ?_
  refine lv_imul hx hbc dX2_start_3 ?_
  refine bl_as (pk_mul _ _) ?_
  refine lv_aload_n hx hbc dX2_start_4 rfl (lv_at hl 0 rfl) ?_
  refine x2_counts C w dX2_start_5 ?_
  refine lv_iload_n hx hbc dX2_start_8 rfl (lv_at hl 1 rfl) ?_
  refine x2_ld_counts C w (j := b) (by omega) rfl (v := nI ((M.1 b).1)) (hY.1) dX2_start_9 ?_
  refine lv_iadd hx hbc dX2_start_10 ?_
  refine bl_as (nI_add _ _) ?_
  refine lv_istore_n (lv' := [(3, .int (nI (b * 16 + ((M.1 b).1)))), (0, .ref (P.2.2 0)), (1, .int (nI b)), (2, .int (nI k))]) hx hbc dX2_start_11 rfl hl (by decide) rfl (fun ls hl => ?_)
  refine lv_aload_n hx hbc dX2_start_12 rfl (lv_at hl 1 rfl) ?_
  refine x2_places C w dX2_start_13 ?_
  refine lv_iload_n hx hbc dX2_start_16 rfl (lv_at hl 0 rfl) ?_
  refine lv_aload_n hx hbc dX2_start_17 rfl (lv_at hl 1 rfl) ?_
  refine x2_length C w (v := nI L) (hR.1) dX2_start_18 ?_
  refine x2_st_places C w (j := b * 16 + ((M.1 b).1)) (by omega) rfl dX2_start_21 (fun H locs w => ?_)
  refine lv_aload_n hx hbc dX2_start_22 rfl (lv_at hl 1 rfl) ?_
  refine x2_kinds C w dX2_start_23 ?_
  refine lv_iload_n hx hbc dX2_start_26 rfl (lv_at hl 0 rfl) ?_
  refine lv_iload_n hx hbc dX2_start_27 rfl (lv_at hl 3 rfl) ?_
  refine x2_st_kinds C w (j := b * 16 + ((M.1 b).1)) (by omega) rfl dX2_start_28 (fun H locs w => ?_)
  refine lv_aload_n hx hbc dX2_start_29 rfl (lv_at hl 1 rfl) ?_
  refine x2_counts C w dX2_start_30 ?_
  refine lv_iload_n hx hbc dX2_start_33 rfl (lv_at hl 2 rfl) ?_
  refine lv_aload_n hx hbc dX2_start_34 rfl (lv_at hl 1 rfl) ?_
  refine x2_counts C w dX2_start_35 ?_
  refine lv_iload_n hx hbc dX2_start_38 rfl (lv_at hl 2 rfl) ?_
  refine x2_ld_counts C w (j := b) (by omega) rfl (v := nI ((M.1 b).1)) (hY.1) dX2_start_39 ?_
  refine lv_iconst (v := nI 1) hx hbc dX2_start_40 (by decide) ?_
  refine lv_iadd hx hbc dX2_start_41 ?_
  refine bl_as (nI_add _ _) ?_
  refine x2_st_counts C w (j := b) (by omega) rfl dX2_start_42 (fun H locs w => ?_)
  exact hret _ _ _ _ _ dX2_start_43 (bl_RY_sB hI hR (bl_Y_start_f (by omega)) (bl_Y_start hY)) w
set_option maxHeartbeats 4000000 in
set_option maxRecDepth 100000 in
/-- off(b, i) -/
theorem c2_off (l : Launch) (P : bl_P) (u : bl_S) {L b i : Nat} {M : bl_M} (hI : bl_I L M) (hR : bl_RY L M u) (hb : b < 4) (hi : i < (M.1 b).1) : x2Mi l yX2_off cX2_off 5 (some .int) 0 P u [.int (nI b), .int (nI i)] (fun r v => nI ((M.1 b).2.2 i) = r ∧ bl_RY L (bl_sB M b (bl_off (M.1 b) i)) v) := by
  refine x2Mi_of (ty := .int) (by decide) rfl rfl (Nat.le_of_ble_eq_true rfl) ?_
  intro p e s m args below meth c A Q ls C hA hret w hl
  have hx := C.1.1
  have hbc := C.1.2.1
  have hl : lv_has ls 5 [(0, .ref (P.2.2 0)), (1, .int (nI b)), (2, .int (nI i))] := hl
  have hY := hR.2.1 b hb
  have hok := hI.2.1 b hb
  have hL := hI.1
  have hn := bl_cnt hL.2 hok
  refine lv_aload_n hx hbc dX2_off_0 rfl (lv_at hl 0 rfl) ?_
  refine x2_kinds C w dX2_off_1 ?_
  refine lv_iload_n hx hbc dX2_off_4 rfl (lv_at hl 1 rfl) ?_
  refine lv_bipush (v := nI 16) hx hbc dX2_off_5 (by decide) ?_
  refine lv_imul hx hbc dX2_off_7 ?_
  refine bl_as (pk_mul _ _) ?_
  refine lv_iload_n hx hbc dX2_off_8 rfl (lv_at hl 2 rfl) ?_
  refine lv_iadd hx hbc dX2_off_9 ?_
  refine bl_as (nI_add _ _) ?_
  refine x2_ld_kinds C w (j := b * 16 + i) (by omega) rfl (v := nI ((M.1 b).2.2 i)) ((hY.2 i hi).2) dX2_off_10 ?_
  refine lv_istore_n (lv' := [(3, .int (nI ((M.1 b).2.2 i))), (0, .ref (P.2.2 0)), (1, .int (nI b)), (2, .int (nI i))]) hx hbc dX2_off_11 rfl hl (by decide) rfl (fun ls hl => ?_)
  refine lv_iload_n hx hbc dX2_off_12 rfl (lv_at hl 3 rfl) ?_
  refine lv_istore (lv' := [(4, .int (nI i)), (3, .int (nI ((M.1 b).2.2 i))), (0, .ref (P.2.2 0)), (1, .int (nI b)), (2, .int (nI i))]) hx hbc dX2_off_13 hl (by decide) rfl (fun ls hl => ?_)
  have loop : ∀ (f : Nat) (j : Nat) (v : bl_S), (i ≤ j) → (j ≤ (M.1 b).1 - 1) → ((M.1 b).1 ≤ j + f) → (bl_cy u v b i j) → ∀ (H : Heap) (locs : List Loc) (ls : Array Slot), x2W P A s.heap v H locs → lv_has ls 5 [(0, .ref (P.2.2 0)), (1, .int (nI b)), (3, .int (nI ((M.1 b).2.2 i))), (4, .int (nI j))] → W p l e (bl_rm 0) s m args below meth c H locs 0 0 Q (F0 m 15 ls []) := by
    intro f
    induction f with
    | zero =>
      intro j v hj hj2 hf hc
      exact absurd hf (by omega)
    | succ f ih =>
      intro j v hj hj2 hf hc H locs ls w hl
      have g1 : v.1 1 b = nI (M.1 b).1 := (congrFun (hc.2.1 1 (by decide) (by decide)) b).trans hY.1
      refine lv_iload hx hbc dX2_off_15 (lv_at hl 3 rfl) ?_
      refine lv_aload_n hx hbc dX2_off_17 rfl (lv_at hl 0 rfl) ?_
      refine x2_counts C w dX2_off_18 ?_
      refine lv_iload_n hx hbc dX2_off_21 rfl (lv_at hl 1 rfl) ?_
      refine x2_ld_counts C w (j := b) (by omega) rfl (v := nI ((M.1 b).1)) (g1) dX2_off_22 ?_
      refine lv_iconst (v := nI 1) hx hbc dX2_off_23 (by decide) ?_
      refine lv_isub hx hbc dX2_off_24 ?_
      refine bl_as (y := nI ((M.1 b).1 - 1)) (pk_sub (by omega)) ?_
      refine lv_icmp_ge (tgt := 86) hx hbc dX2_off_25 (by decide) (fun c1 => ?_) (fun c1 => ?_)
      · have c1 := (nI_leI (by omega) (by omega)).mp c1
        have e1 : j = (M.1 b).1 - 1 := by omega
        subst e1
        refine lv_aload_n hx hbc dX2_off_86 rfl (lv_at hl 0 rfl) ?_
        refine x2_counts C w dX2_off_87 ?_
        refine lv_iload_n hx hbc dX2_off_90 rfl (lv_at hl 1 rfl) ?_
        refine lv_aload_n hx hbc dX2_off_91 rfl (lv_at hl 0 rfl) ?_
        refine x2_counts C w dX2_off_92 ?_
        refine lv_iload_n hx hbc dX2_off_95 rfl (lv_at hl 1 rfl) ?_
        refine x2_ld_counts C w (j := b) (by omega) rfl (v := nI ((M.1 b).1)) (g1) dX2_off_96 ?_
        refine lv_iconst (v := nI 1) hx hbc dX2_off_97 (by decide) ?_
        refine lv_isub hx hbc dX2_off_98 ?_
        refine bl_as (y := nI ((M.1 b).1 - 1)) (pk_sub (by omega)) ?_
        refine x2_st_counts C w (j := b) (by omega) rfl dX2_off_99 (fun H locs w => ?_)
        refine lv_iload_n hx hbc dX2_off_100 rfl (lv_at hl 2 rfl) ?_
        exact hret _ _ _ _ _ _ dX2_off_101 rfl (⟨rfl, bl_RY_sB hI hR ((bl_cy_f (by omega) hc).s1 _) (bl_Y_off hY hi hc)⟩) w
      · have c1 : ¬ (M.1 b).1 - 1 ≤ j := fun q => c1 ((nI_leI (by omega) (by omega)).mpr q)
        refine lv_aload_n hx hbc dX2_off_28 rfl (lv_at hl 0 rfl) ?_
        refine x2_places C w dX2_off_29 ?_
        refine lv_iload_n hx hbc dX2_off_32 rfl (lv_at hl 1 rfl) ?_
        refine lv_bipush (v := nI 16) hx hbc dX2_off_33 (by decide) ?_
        refine lv_imul hx hbc dX2_off_35 ?_
        refine bl_as (pk_mul _ _) ?_
        refine lv_iload hx hbc dX2_off_36 (lv_at hl 3 rfl) ?_
        refine lv_iadd hx hbc dX2_off_38 ?_
        refine bl_as (nI_add _ _) ?_
        refine lv_aload_n hx hbc dX2_off_39 rfl (lv_at hl 0 rfl) ?_
        refine x2_places C w dX2_off_40 ?_
        refine lv_iload_n hx hbc dX2_off_43 rfl (lv_at hl 1 rfl) ?_
        refine lv_bipush (v := nI 16) hx hbc dX2_off_44 (by decide) ?_
        refine lv_imul hx hbc dX2_off_46 ?_
        refine bl_as (pk_mul _ _) ?_
        refine lv_iload hx hbc dX2_off_47 (lv_at hl 3 rfl) ?_
        refine lv_iadd hx hbc dX2_off_49 ?_
        refine bl_as (nI_add _ _) ?_
        refine lv_iconst (v := nI 1) hx hbc dX2_off_50 (by decide) ?_
        refine lv_iadd hx hbc dX2_off_51 ?_
        refine bl_as (nI_add _ _) ?_
        refine x2_ld_places C w (j := b * 16 + j + 1) (by omega) rfl (v := (v.1 2 (b * 16 + (j + 1)))) (rfl) dX2_off_52 ?_
        refine x2_st_places C w (j := b * 16 + j) (by omega) rfl dX2_off_53 (fun H locs w => ?_)
        refine lv_aload_n hx hbc dX2_off_54 rfl (lv_at hl 0 rfl) ?_
        refine x2_kinds C w dX2_off_55 ?_
        refine lv_iload_n hx hbc dX2_off_58 rfl (lv_at hl 1 rfl) ?_
        refine lv_bipush (v := nI 16) hx hbc dX2_off_59 (by decide) ?_
        refine lv_imul hx hbc dX2_off_61 ?_
        refine bl_as (pk_mul _ _) ?_
        refine lv_iload hx hbc dX2_off_62 (lv_at hl 3 rfl) ?_
        refine lv_iadd hx hbc dX2_off_64 ?_
        refine bl_as (nI_add _ _) ?_
        refine lv_aload_n hx hbc dX2_off_65 rfl (lv_at hl 0 rfl) ?_
        refine x2_kinds C w dX2_off_66 ?_
        refine lv_iload_n hx hbc dX2_off_69 rfl (lv_at hl 1 rfl) ?_
        refine lv_bipush (v := nI 16) hx hbc dX2_off_70 (by decide) ?_
        refine lv_imul hx hbc dX2_off_72 ?_
        refine bl_as (pk_mul _ _) ?_
        refine lv_iload hx hbc dX2_off_73 (lv_at hl 3 rfl) ?_
        refine lv_iadd hx hbc dX2_off_75 ?_
        refine bl_as (nI_add _ _) ?_
        refine lv_iconst (v := nI 1) hx hbc dX2_off_76 (by decide) ?_
        refine lv_iadd hx hbc dX2_off_77 ?_
        refine bl_as (nI_add _ _) ?_
        refine x2_ld_kinds C w (j := b * 16 + j + 1) (by omega) rfl (v := (v.1 3 (b * 16 + (j + 1)))) (rfl) dX2_off_78 ?_
        refine x2_st_kinds C w (j := b * 16 + j) (by omega) rfl dX2_off_79 (fun H locs w => ?_)
        refine lv_iinc (v := nI (j + 1)) (lv' := [(4, .int (nI (j + 1))), (0, .ref (P.2.2 0)), (1, .int (nI b)), (3, .int (nI ((M.1 b).2.2 i)))]) hx hbc dX2_off_80 hl (k := 3) rfl (nI_add _ 1) (by decide) rfl (fun ls hl => ?_)
        refine lv_goto (tgt := 15) hx hbc dX2_off_83 (by decide) ?_
        exact ih (j + 1) _ (by omega) (by omega) (by omega) (bl_cy_s hc hj) _ _ _ w (lv_sub hl [1, 2, 3, 0] rfl)
  exact loop (M.1 b).1 i u (Nat.le_refl _) (by omega) (by omega) bl_cy_0 _ _ _ w (lv_sub hl [2, 3, 1, 0] rfl)
set_option maxHeartbeats 4000000 in
set_option maxRecDepth 100000 in
/-- moves(b, i): the items before i have moved -/
theorem c2_moves (l : Launch) (P : bl_P) (u : bl_S) {L b i : Nat} {B : bl_B} (hb : b < 4) (hok : bl_ok L B) (hL : 8 ≤ L ∧ L ≤ 60) (hi : i < B.1) (ex : u.1 2 (b * 16 + i) = nI (B.2.1 i)) (ey : ∀ j, j + 1 = i → u.1 2 (b * 16 + j) = nI ((bl_adv B).2.1 j)) : x2Mi l yX2_moves cX2_moves 4 (some .boolean) 0 P u [.int (nI b), .int (nI i)] (fun r v => (if bl_opn B.2.1 i = true then 1 else 0) = r ∧ u = v) := by
  refine x2Mi_of (ty := .boolean) (by decide) rfl rfl (Nat.le_of_ble_eq_true rfl) ?_
  intro p e s m args below meth c A Q ls C hA hret w hl
  have hx := C.1.1
  have hbc := C.1.2.1
  have hl : lv_has ls 4 [(0, .ref (P.2.2 0)), (1, .int (nI b)), (2, .int (nI i))] := hl
  have hn := bl_cnt hL.2 hok
  have hp := (hok.1 i hi).1
  refine lv_iload_n hx hbc dX2_moves_0 rfl (lv_at hl 1 rfl) ?_
  refine lv_bipush (v := nI 16) hx hbc dX2_moves_1 (by decide) ?_
  refine lv_imul hx hbc dX2_moves_3 ?_
  refine bl_as (pk_mul _ _) ?_
  refine lv_iload_n hx hbc dX2_moves_4 rfl (lv_at hl 2 rfl) ?_
  refine lv_iadd hx hbc dX2_moves_5 ?_
  refine bl_as (nI_add _ _) ?_
  refine lv_istore_n (lv' := [(3, .int (nI (b * 16 + i))), (0, .ref (P.2.2 0)), (1, .int (nI b)), (2, .int (nI i))]) hx hbc dX2_moves_6 rfl hl (by decide) rfl (fun ls hl => ?_)
  refine lv_aload_n hx hbc dX2_moves_7 rfl (lv_at hl 1 rfl) ?_
  refine x2_places C w dX2_moves_8 ?_
  refine lv_iload_n hx hbc dX2_moves_11 rfl (lv_at hl 0 rfl) ?_
  refine x2_ld_places C w (j := b * 16 + i) (by omega) rfl (v := nI (B.2.1 i)) (ex) dX2_moves_12 ?_
  refine lv_if_ne (tgt := 18) hx hbc dX2_moves_13 (by decide) (fun c1 => ?_) (fun c1 => ?_)
  · have c1 : 0 < B.2.1 i := Nat.pos_of_ne_zero (fun q => c1 ((bl_eq0 (by omega)).mpr q))
    refine lv_iload_n hx hbc dX2_moves_18 rfl (lv_at hl 3 rfl) ?_
    refine lv_if_eq (tgt := 41) hx hbc dX2_moves_19 (by decide) (fun c2 => ?_) (fun c2 => ?_)
    · have c2 := (bl_eq0 (by omega)).mp c2
      subst c2
      have ho : bl_opn B.2.1 0 = true := decide_eq_true c1
      refine lv_iconst (v := nI 1) hx hbc dX2_moves_41 (by decide) ?_
      refine lv_goto (tgt := 46) hx hbc dX2_moves_42 (by decide) ?_
      exact hret _ _ _ _ _ _ dX2_moves_46 rfl (⟨by rw [if_pos ho]; rfl, rfl⟩) w
    · obtain ⟨j, rfl⟩ : ∃ j, i = j + 1 := ⟨i - 1, by have : ¬ i = 0 := fun q => c2 ((bl_eq0 (by omega)).mpr q); omega⟩
      obtain ⟨d, hd, ed, eo⟩ := bl_mv_t hok hL.2 hi
      refine lv_aload_n hx hbc dX2_moves_22 rfl (lv_at hl 1 rfl) ?_
      refine x2_places C w dX2_moves_23 ?_
      refine lv_iload_n hx hbc dX2_moves_26 rfl (lv_at hl 0 rfl) ?_
      refine x2_ld_places C w (j := b * 16 + (j + 1)) (by omega) rfl (v := nI (B.2.1 (j + 1))) (ex) dX2_moves_27 ?_
      refine lv_aload_n hx hbc dX2_moves_28 rfl (lv_at hl 1 rfl) ?_
      refine x2_places C w dX2_moves_29 ?_
      refine lv_iload_n hx hbc dX2_moves_32 rfl (lv_at hl 0 rfl) ?_
      refine lv_iconst (v := nI 1) hx hbc dX2_moves_33 (by decide) ?_
      refine lv_isub hx hbc dX2_moves_34 ?_
      refine bl_as (y := nI (b * 16 + j)) (pk_sub (by omega)) ?_
      refine x2_ld_places C w (j := b * 16 + j) (by omega) rfl (v := nI ((bl_adv B).2.1 j)) (ey j rfl) dX2_moves_35 ?_
      refine lv_isub hx hbc dX2_moves_36 ?_
      refine bl_as (y := nI d) (ed) ?_
      refine lv_iconst (v := nI 4) hx hbc dX2_moves_37 (by decide) ?_
      refine lv_icmp_le (tgt := 45) hx hbc dX2_moves_38 (by decide) (fun c3 => ?_) (fun c3 => ?_)
      · have c3 := (nI_leI (by omega) (by omega)).mp c3
        have ho : ¬ bl_opn B.2.1 (j + 1) = true := fun q => by have := (eo.mp q).2; omega
        refine lv_iconst (v := nI 0) hx hbc dX2_moves_45 (by decide) ?_
        exact hret _ _ _ _ _ _ dX2_moves_46 rfl (⟨by rw [if_neg ho]; rfl, rfl⟩) w
      · have c3 : ¬ d ≤ 4 := fun q => c3 ((nI_leI (by omega) (by omega)).mpr q)
        have ho := eo.mpr ⟨c1, by omega⟩
        refine lv_iconst (v := nI 1) hx hbc dX2_moves_41 (by decide) ?_
        refine lv_goto (tgt := 46) hx hbc dX2_moves_42 (by decide) ?_
        exact hret _ _ _ _ _ _ dX2_moves_46 rfl (⟨by rw [if_pos ho]; rfl, rfl⟩) w
  · have c1 := (bl_eq0 (by omega)).mp c1
    have ho : ¬ bl_opn B.2.1 i = true := fun q => by have := bl_opn_pos hok i hi q; omega
    refine lv_iconst (v := nI 0) hx hbc dX2_moves_16 (by decide) ?_
    exact hret _ _ _ _ _ _ dX2_moves_17 rfl (⟨by rw [if_neg ho]; rfl, rfl⟩) w
set_option maxHeartbeats 4000000 in
set_option maxRecDepth 100000 in
/-- move(b) -/
theorem c2_move (l : Launch) (P : bl_P) (u : bl_S) {L b : Nat} {M : bl_M} (hI : bl_I L M) (hR : bl_RY L M u) (hb : b < 4) : x2Mv l yX2_move cX2_move 3 1 P u [.int (nI b)] (fun v => bl_RY L (bl_adv1 M b) v) := by
  refine x2Mv_of (by decide) rfl (Nat.le_of_ble_eq_true rfl) ?_
  intro p e s m args below meth c A Q ls C hA hret w hl
  have hx := C.1.1
  have hbc := C.1.2.1
  have hl : lv_has ls 3 [(0, .ref (P.2.2 0)), (1, .int (nI b))] := hl
  have hY := hR.2.1 b hb
  have hok := hI.2.1 b hb
  have hL := hI.1
  have hn := bl_cnt hL.2 hok
  refine lv_iconst (v := nI 0) hx hbc dX2_move_0 (by decide) ?_
  refine lv_istore_n (lv' := [(2, .int (nI 0)), (0, .ref (P.2.2 0)), (1, .int (nI b))]) hx hbc dX2_move_1 rfl hl (by decide) rfl (fun ls hl => ?_)
  have loop : ∀ (f : Nat) (k : Nat) (v : bl_S), (k ≤ (M.1 b).1) → ((M.1 b).1 + 1 ≤ k + f) → (bl_mv u v b k (M.1 b)) → ∀ (H : Heap) (locs : List Loc) (ls : Array Slot), x2W P A s.heap v H locs → lv_has ls 3 [(0, .ref (P.2.2 0)), (1, .int (nI b)), (2, .int (nI k))] → W p l e (bl_rm 1) s m args below meth c H locs 0 0 Q (F0 m 2 ls []) := by
    intro f
    induction f with
    | zero =>
      intro k v hk hf hm
      exact absurd hf (by omega)
    | succ f ih =>
      intro k v hk hf hm H locs ls w hl
      have g1 : v.1 1 b = nI (M.1 b).1 := (congrFun (hm.2.1 1 (by decide)) b).trans hY.1
      refine lv_iload_n hx hbc dX2_move_2 rfl (lv_at hl 2 rfl) ?_
      refine lv_aload_n hx hbc dX2_move_3 rfl (lv_at hl 0 rfl) ?_
      refine x2_counts C w dX2_move_4 ?_
      refine lv_iload_n hx hbc dX2_move_7 rfl (lv_at hl 1 rfl) ?_
      refine x2_ld_counts C w (j := b) (by omega) rfl (v := nI ((M.1 b).1)) (g1) dX2_move_8 ?_
      refine lv_icmp_ge (tgt := 51) hx hbc dX2_move_9 (by decide) (fun c1 => ?_) (fun c1 => ?_)
      · have c1 := (nI_leI (by omega) (by omega)).mp c1
        have e1 : k = (M.1 b).1 := by omega
        subst e1
        exact hret _ _ _ _ _ dX2_move_51 (bl_RY_sB hI hR (bl_mv_f (by omega) hm) (bl_Y_adv hY hm)) w
      · have c1 : ¬ (M.1 b).1 ≤ k := fun q => c1 ((nI_leI (by omega) (by omega)).mpr q)
        have hkn : k < (M.1 b).1 := by omega
        have ex : v.1 2 (b * 16 + k) = nI ((M.1 b).2.1 k) := (hm.2.2.1 _ (fun j hj => by omega)).trans (hY.2 k hkn).1
        refine lv_aload_n hx hbc dX2_move_12 rfl (lv_at hl 0 rfl) ?_
        refine lv_iload_n hx hbc dX2_move_13 rfl (lv_at hl 1 rfl) ?_
        refine lv_iload_n hx hbc dX2_move_14 rfl (lv_at hl 2 rfl) ?_
        refine x2_calli C w hA (rest := []) (c2_moves l P _ hb hok hL hkn ex (fun j hj => hm.2.2.2 j (by omega))) x2g_moves x2d_moves rfl ⟨Nat.le_of_ble_eq_true rfl, Nat.le_of_ble_eq_true rfl⟩ hl.1 rfl (Nat.le_of_ble_eq_true rfl) dX2_move_15 ⟨Nat.zero_le _, Nat.zero_le _⟩ (fun r v2 H locs hp w => ?_)
        obtain ⟨rfl, rfl⟩ := hp
        by_cases ho : bl_opn (M.1 b).2.1 k = true
        · refine bl_as (y := nI 1) (if_pos ho) ?_
          have hpos := bl_opn_pos hok k hkn ho
          refine lv_if_eq (tgt := 45) hx hbc dX2_move_18 (by decide) (fun c9 => absurd c9 (by decide)) (fun _ => ?_)
          refine lv_aload_n hx hbc dX2_move_21 rfl (lv_at hl 0 rfl) ?_
          refine x2_places C w dX2_move_22 ?_
          refine lv_iload_n hx hbc dX2_move_25 rfl (lv_at hl 1 rfl) ?_
          refine lv_bipush (v := nI 16) hx hbc dX2_move_26 (by decide) ?_
          refine lv_imul hx hbc dX2_move_28 ?_
          refine bl_as (pk_mul _ _) ?_
          refine lv_iload_n hx hbc dX2_move_29 rfl (lv_at hl 2 rfl) ?_
          refine lv_iadd hx hbc dX2_move_30 ?_
          refine bl_as (nI_add _ _) ?_
          refine lv_aload_n hx hbc dX2_move_31 rfl (lv_at hl 0 rfl) ?_
          refine x2_places C w dX2_move_32 ?_
          refine lv_iload_n hx hbc dX2_move_35 rfl (lv_at hl 1 rfl) ?_
          refine lv_bipush (v := nI 16) hx hbc dX2_move_36 (by decide) ?_
          refine lv_imul hx hbc dX2_move_38 ?_
          refine bl_as (pk_mul _ _) ?_
          refine lv_iload_n hx hbc dX2_move_39 rfl (lv_at hl 2 rfl) ?_
          refine lv_iadd hx hbc dX2_move_40 ?_
          refine bl_as (nI_add _ _) ?_
          refine x2_ld_places C w (j := b * 16 + k) (by omega) rfl (v := nI ((M.1 b).2.1 k)) (ex) dX2_move_41 ?_
          refine lv_iconst (v := nI 1) hx hbc dX2_move_42 (by decide) ?_
          refine lv_isub hx hbc dX2_move_43 ?_
          refine bl_as (y := nI ((M.1 b).2.1 k - 1)) (pk_sub hpos) ?_
          refine x2_st_places C w (j := b * 16 + k) (by omega) rfl dX2_move_44 (fun H locs w => ?_)
          refine lv_iinc (v := nI (k + 1)) (lv' := [(2, .int (nI (k + 1))), (0, .ref (P.2.2 0)), (1, .int (nI b))]) hx hbc dX2_move_45 hl (k := 2) rfl (nI_add _ 1) (by decide) rfl (fun ls hl => ?_)
          refine lv_goto (tgt := 2) hx hbc dX2_move_48 (by decide) ?_
          exact ih (k + 1) _ (by omega) (by omega) (bl_mv_y hm ho) _ _ _ w (lv_sub hl [1, 2, 0] rfl)
        · refine bl_as (y := nI 0) (if_neg ho) ?_
          refine lv_if_eq (tgt := 45) hx hbc dX2_move_18 (by decide) (fun _ => ?_) (fun c9 => absurd (rfl) c9)
          refine lv_iinc (v := nI (k + 1)) (lv' := [(2, .int (nI (k + 1))), (0, .ref (P.2.2 0)), (1, .int (nI b))]) hx hbc dX2_move_45 hl (k := 2) rfl (nI_add _ 1) (by decide) rfl (fun ls hl => ?_)
          refine lv_goto (tgt := 2) hx hbc dX2_move_48 (by decide) ?_
          exact ih (k + 1) _ (by omega) (by omega) (bl_mv_n hY hkn hm ho) _ _ _ w (lv_sub hl [1, 2, 0] rfl)
  exact loop ((M.1 b).1 + 1) 0 u (by omega) (by omega) bl_mv_0 _ _ _ w (lv_sub hl [1, 2, 0] rfl)
set_option maxHeartbeats 4000000 in
set_option maxRecDepth 100000 in
/-- end(b) -/
theorem c2_end (l : Launch) (P : bl_P) (u : bl_S) {L b : Nat} {M : bl_M} (hI : bl_I L M) (hR : bl_RY L M u) (hb : b < 4) : x2Mv l yX2_end cX2_end 4 2 P u [.int (nI b)] (fun v => bl_RY L (bl_pass L M b) v) := by
  refine x2Mv_of (by decide) rfl (Nat.le_of_ble_eq_true rfl) ?_
  intro p e s m args below meth c A Q ls C hA hret w hl
  have hx := C.1.1
  have hbc := C.1.2.1
  have hl : lv_has ls 4 [(0, .ref (P.2.2 0)), (1, .int (nI b))] := hl
  have hY := hR.2.1 b hb
  have hok := hI.2.1 b hb
  have hL := hI.1
  have hn := bl_cnt hL.2 hok
  refine lv_aload_n hx hbc dX2_end_0 rfl (lv_at hl 0 rfl) ?_
  refine x2_counts C w dX2_end_1 ?_
  refine lv_iload_n hx hbc dX2_end_4 rfl (lv_at hl 1 rfl) ?_
  refine x2_ld_counts C w (j := b) (by omega) rfl (v := nI ((M.1 b).1)) (hY.1) dX2_end_5 ?_
  refine lv_if_le (tgt := 79) hx hbc dX2_end_6 (by decide) (fun c1 => ?_) (fun c1 => ?_)
  · have c1 : (M.1 b).1 ≤ 0 := (nI_leI (b := 0) (by omega) (by decide)).mp c1
    exact hret _ _ _ _ _ dX2_end_79 (by rw [bl_pass_stay (fun q => by have := q.1; omega)]; exact hR) w
  · have c1 : 0 < (M.1 b).1 := Nat.pos_of_ne_zero (fun q => c1 (by rw [q]; decide))
    have hp := (hok.1 0 c1).1
    refine lv_aload_n hx hbc dX2_end_9 rfl (lv_at hl 0 rfl) ?_
    refine x2_places C w dX2_end_10 ?_
    refine lv_iload_n hx hbc dX2_end_13 rfl (lv_at hl 1 rfl) ?_
    refine lv_bipush (v := nI 16) hx hbc dX2_end_14 (by decide) ?_
    refine lv_imul hx hbc dX2_end_16 ?_
    refine bl_as (pk_mul _ _) ?_
    refine x2_ld_places C w (j := b * 16) (by omega) rfl (v := nI ((M.1 b).2.1 0)) ((hY.2 0 c1).1) dX2_end_17 ?_
    refine lv_if_ne (tgt := 79) hx hbc dX2_end_18 (by decide) (fun c2 => ?_) (fun c2 => ?_)
    · exact hret _ _ _ _ _ dX2_end_79 (by rw [bl_pass_stay (fun q => c2 ((bl_eq0 (by omega)).mpr q.2))]; exact hR) w
    · have he : bl_end (M.1 b) := ⟨c1, (bl_eq0 (by omega)).mp c2⟩
      refine lv_aload_n hx hbc dX2_end_21 rfl (lv_at hl 0 rfl) ?_
      refine x2_leads C w dX2_end_22 ?_
      refine lv_iload_n hx hbc dX2_end_25 rfl (lv_at hl 1 rfl) ?_
      refine x2_ld_leads C w (j := b) (by omega) rfl (v := (M.2.1 b)) (hR.2.2.1 b hb) dX2_end_26 ?_
      refine lv_istore_n (lv' := [(2, .int ((M.2.1 b))), (0, .ref (P.2.2 0)), (1, .int (nI b))]) hx hbc dX2_end_27 rfl hl (by decide) rfl (fun ls hl => ?_)
      refine lv_iload_n hx hbc dX2_end_28 rfl (lv_at hl 0 rfl) ?_
      refine lv_bipush (v := (-2)) hx hbc dX2_end_29 (by decide) ?_
      refine lv_icmp_ne (tgt := 54) hx hbc dX2_end_31 (by decide) (fun c3 => ?_) (fun c3 => ?_)
      · refine lv_iload_n hx hbc dX2_end_54 rfl (lv_at hl 0 rfl) ?_
        refine lv_if_lt (tgt := 79) hx hbc dX2_end_55 (by decide) (fun c4 => ?_) (fun c4 => ?_)
        · exact hret _ _ _ _ _ dX2_end_79 (by rw [bl_pass_closed he c3 c4]; exact hR) w
        · obtain ⟨t, ht, hne, et⟩ := bl_ld (hI.2.2.1 b hb) c4
          rw [et] at hl
          refine lv_aload_n hx hbc dX2_end_58 rfl (lv_at hl 1 rfl) ?_
          refine lv_iload_n hx hbc dX2_end_59 rfl (lv_at hl 0 rfl) ?_
          refine x2_calli C w hA (rest := []) (c2_room l P _ (nI t) hI hR) x2g_room x2d_room rfl ⟨Nat.le_of_ble_eq_true rfl, Nat.le_of_ble_eq_true rfl⟩ hl.1 rfl (Nat.le_of_ble_eq_true rfl) dX2_end_60 ⟨Nat.zero_le _, Nat.zero_le _⟩ (fun r v H locs hp w => ?_)
          obtain ⟨rfl, rfl⟩ := hp
          refine bl_as (y := (if bl_room L (M.1 t) then 1 else 0)) (bl_rq_ok ht) ?_
          by_cases hr : bl_room L (M.1 t)
          · refine bl_as (y := nI 1) (if_pos hr) ?_
            refine lv_if_eq (tgt := 79) hx hbc dX2_end_63 (by decide) (fun c9 => absurd c9 (by decide)) (fun _ => ?_)
            refine lv_aload_n hx hbc dX2_end_66 rfl (lv_at hl 1 rfl) ?_
            refine lv_iload_n hx hbc dX2_end_67 rfl (lv_at hl 2 rfl) ?_
            refine lv_iconst (v := nI 0) hx hbc dX2_end_68 (by decide) ?_
            refine x2_calli C w hA (rest := []) (c2_off l P _ (i := 0) hI hR hb he.1) x2g_off x2d_off rfl ⟨Nat.le_of_ble_eq_true rfl, Nat.le_of_ble_eq_true rfl⟩ hl.1 rfl (Nat.le_of_ble_eq_true rfl) dX2_end_69 ⟨Nat.zero_le _, Nat.zero_le _⟩ (fun r v H locs hp w => ?_)
            obtain ⟨rfl, hR1⟩ := hp
            refine lv_istore_n (lv' := [(3, .int (nI ((M.1 b).2.2 0))), (2, .int (nI t)), (0, .ref (P.2.2 0)), (1, .int (nI b))]) hx hbc dX2_end_72 rfl hl (by decide) rfl (fun ls hl => ?_)
            refine lv_aload_n hx hbc dX2_end_73 rfl (lv_at hl 2 rfl) ?_
            refine lv_iload_n hx hbc dX2_end_74 rfl (lv_at hl 1 rfl) ?_
            refine lv_iload_n hx hbc dX2_end_75 rfl (lv_at hl 0 rfl) ?_
            have hI1 := bl_I_sB (b := b) hI (bl_ok_off hok he.1)
            refine x2_callv C w hA (rest := []) (c2_start l P _ hI1 hR1 ht (by rw [bl_sB_ne M _ hne]; exact hr)) x2g_start x2d_start rfl ⟨Nat.le_of_ble_eq_true rfl, Nat.le_of_ble_eq_true rfl⟩ hl.1 rfl (Nat.le_of_ble_eq_true rfl) dX2_end_76 ⟨Nat.zero_le _, Nat.zero_le _⟩ (fun v H locs hp w => ?_)
            rw [bl_sB_ne M _ hne] at hp
            exact hret _ _ _ _ _ dX2_end_79 (by rw [bl_pass_go he c3 c4 ht et hr]; exact hp) w
          · refine bl_as (y := nI 0) (if_neg hr) ?_
            refine lv_if_eq (tgt := 79) hx hbc dX2_end_63 (by decide) (fun _ => ?_) (fun c9 => absurd (rfl) c9)
            exact hret _ _ _ _ _ dX2_end_79 (by rw [bl_pass_full he c3 c4 ht et hr]; exact hR) w
      · refine lv_aload_n hx hbc dX2_end_34 rfl (lv_at hl 1 rfl) ?_
        refine lv_iload_n hx hbc dX2_end_35 rfl (lv_at hl 2 rfl) ?_
        refine lv_iconst (v := nI 0) hx hbc dX2_end_36 (by decide) ?_
        refine x2_calli C w hA (rest := []) (c2_off l P _ (i := 0) hI hR hb he.1) x2g_off x2d_off rfl ⟨Nat.le_of_ble_eq_true rfl, Nat.le_of_ble_eq_true rfl⟩ hl.1 rfl (Nat.le_of_ble_eq_true rfl) dX2_end_37 ⟨Nat.zero_le _, Nat.zero_le _⟩ (fun r v H locs hp w => ?_)
        obtain ⟨rfl, hR1⟩ := hp
        refine lv_pop hx hbc dX2_end_40 rfl ?_
        refine lv_aload_n hx hbc dX2_end_41 rfl (lv_at hl 1 rfl) ?_
        refine lv_aload_n hx hbc dX2_end_42 rfl (lv_at hl 1 rfl) ?_
        refine x2_gone C w (v := M.2.2.2.2) (hR1.2.2.2.2.2) dX2_end_43 ?_
        refine lv_iconst (v := nI 1) hx hbc dX2_end_46 (by decide) ?_
        refine lv_iadd hx hbc dX2_end_47 ?_
        refine bl_as (y := (M.2.2.2.2 + 1)) (rfl) ?_
        refine x2_put_gone C w dX2_end_48 (fun H locs w => ?_)
        refine lv_goto (tgt := 79) hx hbc dX2_end_51 (by decide) ?_
        exact hret _ _ _ _ _ dX2_end_79 (by rw [bl_pass_out he c3]; exact bl_RY_sG hR1) w
end
section
set_option maxRecDepth 100000
set_option maxHeartbeats 4000000 in
set_option maxRecDepth 100000 in
/-- work(a) -/
theorem c2_work (l : Launch) (P : bl_P) (u : bl_S) {L a : Nat} {M : bl_M} (hI : bl_I L M) (hR : bl_RY L M u) (ha : a < 2) : x2Mv l yX2_work cX2_work 6 2 P u [.int (nI a)] (fun v => bl_RY L (bl_work L M a) v) := by
  refine x2Mv_of (by decide) rfl (Nat.le_of_ble_eq_true rfl) ?_
  intro p e s m args below meth c A Q ls C hA hret w hl
  have hx := C.1.1
  have hbc := C.1.2.1
  have hl : lv_has ls 6 [(0, .ref (P.2.2 0)), (1, .int (nI a))] := hl
  have hok := hI.2.1
  have hL := hI.1
  obtain ⟨ra, rb, rc, rd⟩ := hI.2.2.2.1 a ha
  obtain ⟨e5, e6, e7, e8, e9⟩ := hR.2.2.2.1 a ha
  have e10 := hR.2.2.2.2.1 a ha
  refine lv_aload_n hx hbc dX2_work_0 rfl (lv_at hl 0 rfl) ?_
  refine x2_holds C w dX2_work_1 ?_
  refine lv_iload_n hx hbc dX2_work_4 rfl (lv_at hl 1 rfl) ?_
  refine x2_ld_holds C w (j := a) (by omega) rfl (v := (bl_hv (M.2.2.2.1 a))) (e10) dX2_work_5 ?_
  rcases Option.eq_none_or_eq_some (M.2.2.2.1 a) with eh | ⟨k, eh⟩
  · refine bl_as (y := (-4)) (by rw [eh]; rfl) ?_
    refine lv_bipush (v := (-4)) hx hbc dX2_work_6 (by decide) ?_
    refine lv_icmp_eq (tgt := 49) hx hbc dX2_work_8 (by decide) (fun _ => ?_) (fun c9 => absurd (rfl) c9)
    refine lv_aload_n hx hbc dX2_work_49 rfl (lv_at hl 0 rfl) ?_
    refine x2_from C w dX2_work_50 ?_
    refine lv_iload_n hx hbc dX2_work_53 rfl (lv_at hl 1 rfl) ?_
    refine x2_ld_from C w (j := a) (by omega) rfl (v := nI ((M.2.2.1 a).2.1)) (e6) dX2_work_54 ?_
    refine lv_istore_n (lv' := [(2, .int (nI ((M.2.2.1 a).2.1))), (0, .ref (P.2.2 0)), (1, .int (nI a))]) hx hbc dX2_work_55 rfl hl (by decide) rfl (fun ls hl => ?_)
    refine lv_iconst (v := nI 0) hx hbc dX2_work_56 (by decide) ?_
    refine lv_istore_n (lv' := [(3, .int (nI 0)), (2, .int (nI ((M.2.2.1 a).2.1))), (0, .ref (P.2.2 0)), (1, .int (nI a))]) hx hbc dX2_work_57 rfl hl (by decide) rfl (fun ls hl => ?_)
    have loop : ∀ (f : Nat) (k : Nat) (N : bl_M) (v : bl_S), (k ≤ 16) → (17 ≤ k + f) → (bl_RY L N v) → ((M = N ∧ k ≤ (M.1 (M.2.2.1 a).2.1).1 ∧ ∀ j, j < k → ¬ bl_fit (M.2.2.1 a) (M.1 (M.2.2.1 a).2.1) j) ∨ (bl_work L M a = N ∧ ∃ q, N.2.2.2.1 a = some q)) → ∀ (H : Heap) (locs : List Loc) (ls : Array Slot), x2W P A s.heap v H locs → lv_has ls 6 [(0, .ref (P.2.2 0)), (1, .int (nI a)), (2, .int (nI ((M.2.2.1 a).2.1))), (3, .int (nI k))] → W p l e (bl_rm 2) s m args below meth c H locs 0 0 Q (F0 m 58 ls []) := by
      intro f
      induction f with
      | zero =>
        intro k N v hk hf hv hN
        exact absurd hf (by omega)
      | succ f ih =>
        intro k N v hk hf hv hN H locs ls w hl
        have hIN : bl_I L N := hN.elim (fun q => by rw [← q.1]; exact hI) (fun q => by rw [← q.1]; exact bl_I_work hI ha)
        have hAN : N.2.2.1 = M.2.2.1 := hN.elim (fun q => by rw [← q.1]) (fun q => by rw [← q.1]; exact bl_work_arms)
        have hYN := hv.2.1 _ rb
        have hnN := bl_cnt hL.2 (hIN.2.1 _ rb)
        obtain ⟨g5, g6, g7, g8, g9⟩ := hv.2.2.2.1 a ha
        rw [hAN] at g5 g6 g7 g8 g9
        have g10 := hv.2.2.2.2.1 a ha
        refine lv_iload_n hx hbc dX2_work_58 rfl (lv_at hl 3 rfl) ?_
        refine lv_aload_n hx hbc dX2_work_59 rfl (lv_at hl 0 rfl) ?_
        refine x2_counts C w dX2_work_60 ?_
        refine lv_iload_n hx hbc dX2_work_63 rfl (lv_at hl 2 rfl) ?_
        refine x2_ld_counts C w (j := (M.2.2.1 a).2.1) (by omega) rfl (v := nI ((N.1 (M.2.2.1 a).2.1).1)) (hYN.1) dX2_work_64 ?_
        refine lv_icmp_ge (tgt := 164) hx hbc dX2_work_65 (by decide) (fun c1 => ?_) (fun c1 => ?_)
        · have c1 := (nI_leI (by omega) (by omega)).mp c1
          rcases hN with ⟨rfl, hk2, hg⟩ | ⟨rfl, q, hq⟩
          · have e1 : bl_hit M a = (M.1 (M.2.2.1 a).2.1).1 := bl_find_eq (Nat.le_refl _) (fun j hj => bl_fb_f (hg j (by omega))) (fun q => absurd q (Nat.lt_irrefl _))
            exact hret _ _ _ _ _ dX2_work_164 (by rw [bl_work_none eh (by omega)]; exact hv) w
          · exact hret _ _ _ _ _ dX2_work_164 (hv) w
        · have c1 : ¬ (N.1 (M.2.2.1 a).2.1).1 ≤ k := fun q => c1 ((nI_leI (by omega) (by omega)).mpr q)
          have hkn : k < (N.1 (M.2.2.1 a).2.1).1 := by omega
          have hp := ((hIN.2.1 _ rb).1 k hkn).1
          have hq := ((hIN.2.1 _ rb).1 k hkn).2
          have rest_ : ∀ (z : Int32) (H : Heap) (locs : List Loc) (ls : Array Slot), ((z = nI 1 ∧ ((M.2.2.1 a).2.2.2.2 >>> (nI ((N.1 (M.2.2.1 a).2.1).2.2 k) &&& 31)) &&& 1 = 1) ∨ (z = 0 ∧ ¬ ((M.2.2.1 a).2.2.2.2 >>> (nI ((N.1 (M.2.2.1 a).2.1).2.2 k) &&& 31)) &&& 1 = 1)) → x2W P A s.heap v H locs → lv_has ls 6 [(0, .ref (P.2.2 0)), (1, .int (nI a)), (2, .int (nI ((M.2.2.1 a).2.1))), (3, .int (nI k)), (4, .int ((nI ((N.1 (M.2.2.1 a).2.1).2.1 k) - nI (M.2.2.1 a).2.2.2.1)))] → W p l e (bl_rm 2) s m args below meth c H locs 0 0 Q (F0 m 117 ls [.int z]) := by
            intro z H locs ls hz w hl
            refine lv_istore (lv' := [(5, .int z), (0, .ref (P.2.2 0)), (1, .int (nI a)), (2, .int (nI ((M.2.2.1 a).2.1))), (3, .int (nI k)), (4, .int ((nI ((N.1 (M.2.2.1 a).2.1).2.1 k) - nI (M.2.2.1 a).2.2.2.1)))]) hx hbc dX2_work_117 hl (by decide) rfl (fun ls hl => ?_)
            refine lv_aload_n hx hbc dX2_work_119 rfl (lv_at hl 1 rfl) ?_
            refine x2_holds C w dX2_work_120 ?_
            refine lv_iload_n hx hbc dX2_work_123 rfl (lv_at hl 2 rfl) ?_
            refine x2_ld_holds C w (j := a) (by omega) rfl (v := (bl_hv (N.2.2.2.1 a))) (g10) dX2_work_124 ?_
            rcases hN with ⟨rfl, hk2, hg⟩ | ⟨rfl, q, hq⟩
            · refine bl_as (y := (-4)) (by rw [eh]; rfl) ?_
              refine lv_bipush (v := (-4)) hx hbc dX2_work_125 (by decide) ?_
              refine lv_icmp_ne (tgt := 158) hx hbc dX2_work_127 (by decide) (fun c9 => absurd c9 (fun q => q rfl)) (fun _ => ?_)
              refine lv_iload hx hbc dX2_work_130 (lv_at hl 5 rfl) ?_
              refine lv_if_lt (tgt := 158) hx hbc dX2_work_132 (by decide) (fun c3 => ?_) (fun c3 => ?_)
              · have c3 := (bl_dlt (by omega) (by omega)).mp c3
                refine lv_iinc (v := nI (k + 1)) (lv' := [(3, .int (nI (k + 1))), (5, .int z), (0, .ref (P.2.2 0)), (1, .int (nI a)), (2, .int (nI ((M.2.2.1 a).2.1))), (4, .int ((nI ((M.1 (M.2.2.1 a).2.1).2.1 k) - nI (M.2.2.1 a).2.2.2.1)))]) hx hbc dX2_work_158 hl (k := 4) rfl (nI_add _ 1) (by decide) rfl (fun ls hl => ?_)
                refine lv_goto (tgt := 58) hx hbc dX2_work_161 (by decide) ?_
                exact ih (k + 1) _ _ (by omega) (by omega) hv (Or.inl ⟨rfl, by omega, bl_ext hg (fun q => by have := q.2.1; omega)⟩) _ _ _ w (lv_sub hl [2, 3, 4, 0] rfl)
              · have c3 : ¬ (M.1 (M.2.2.1 a).2.1).2.1 k < (M.2.2.1 a).2.2.2.1 := fun q => c3 ((bl_dlt (by omega) (by omega)).mpr q)
                refine lv_iload hx hbc dX2_work_135 (lv_at hl 5 rfl) ?_
                refine lv_iconst (v := nI 3) hx hbc dX2_work_137 (by decide) ?_
                refine lv_icmp_gt (tgt := 158) hx hbc dX2_work_138 (by decide) (fun c4 => ?_) (fun c4 => ?_)
                · have c4 := (bl_d3 (by omega) (by omega)).mp c4
                  refine lv_iinc (v := nI (k + 1)) (lv' := [(3, .int (nI (k + 1))), (5, .int z), (0, .ref (P.2.2 0)), (1, .int (nI a)), (2, .int (nI ((M.2.2.1 a).2.1))), (4, .int ((nI ((M.1 (M.2.2.1 a).2.1).2.1 k) - nI (M.2.2.1 a).2.2.2.1)))]) hx hbc dX2_work_158 hl (k := 4) rfl (nI_add _ 1) (by decide) rfl (fun ls hl => ?_)
                  refine lv_goto (tgt := 58) hx hbc dX2_work_161 (by decide) ?_
                  exact ih (k + 1) _ _ (by omega) (by omega) hv (Or.inl ⟨rfl, by omega, bl_ext hg (fun q => by have := q.2.2; omega)⟩) _ _ _ w (lv_sub hl [2, 3, 4, 0] rfl)
                · have c4 : ¬ (M.2.2.1 a).2.2.2.1 + 3 < (M.1 (M.2.2.1 a).2.1).2.1 k := fun q => c4 ((bl_d3 (by omega) (by omega)).mpr q)
                  refine lv_iload hx hbc dX2_work_141 (lv_at hl 0 rfl) ?_
                  refine lv_if_eq (tgt := 158) hx hbc dX2_work_143 (by decide) (fun c5 => ?_) (fun c5 => ?_)
                  · refine lv_iinc (v := nI (k + 1)) (lv' := [(3, .int (nI (k + 1))), (5, .int z), (0, .ref (P.2.2 0)), (1, .int (nI a)), (2, .int (nI ((M.2.2.1 a).2.1))), (4, .int ((nI ((M.1 (M.2.2.1 a).2.1).2.1 k) - nI (M.2.2.1 a).2.2.2.1)))]) hx hbc dX2_work_158 hl (k := 4) rfl (nI_add _ 1) (by decide) rfl (fun ls hl => ?_)
                    refine lv_goto (tgt := 58) hx hbc dX2_work_161 (by decide) ?_
                    exact ih (k + 1) _ _ (by omega) (by omega) hv (Or.inl ⟨rfl, by omega, bl_ext hg (fun q => hz.elim (fun r => by rw [r.1] at c5; exact absurd c5 (by decide)) (fun r => r.2 q.1))⟩) _ _ _ w (lv_sub hl [2, 3, 4, 0] rfl)
                  · have hw := hz.elim (fun r => r.2) (fun r => absurd r.1 c5)
                    have e1 : bl_hit M a = k := bl_find_eq (Nat.le_of_lt hkn) (fun j hj => bl_fb_f (hg j hj)) (fun _ => bl_fb_t ⟨hw, by omega, by omega⟩)
                    refine lv_aload_n hx hbc dX2_work_146 rfl (lv_at hl 1 rfl) ?_
                    refine x2_holds C w dX2_work_147 ?_
                    refine lv_iload_n hx hbc dX2_work_150 rfl (lv_at hl 2 rfl) ?_
                    refine lv_aload_n hx hbc dX2_work_151 rfl (lv_at hl 1 rfl) ?_
                    refine lv_iload_n hx hbc dX2_work_152 rfl (lv_at hl 3 rfl) ?_
                    refine lv_iload_n hx hbc dX2_work_153 rfl (lv_at hl 4 rfl) ?_
                    refine x2_calli C w hA (rest := [.int (nI a), .ref (P.2.2 10)]) (c2_off l P _ (i := k) hI hv rb hkn) x2g_off x2d_off rfl ⟨Nat.le_of_ble_eq_true rfl, Nat.le_of_ble_eq_true rfl⟩ hl.1 rfl (Nat.le_of_ble_eq_true rfl) dX2_work_154 ⟨Nat.zero_le _, Nat.zero_le _⟩ (fun r v2 H locs hp w => ?_)
                    obtain ⟨rfl, hR1⟩ := hp
                    refine x2_st_holds C w (j := a) (by omega) rfl dX2_work_157 (fun H locs w => ?_)
                    have hv2 : bl_RY L (bl_work L M a) (bl_st v2 10 a (nI ((M.1 (M.2.2.1 a).2.1).2.2 k))) := by rw [bl_work_take eh (by rw [e1]; exact hkn), e1]; exact bl_RY_sH (o := some _) hR1
                    refine lv_iinc (v := nI (k + 1)) (lv' := [(3, .int (nI (k + 1))), (5, .int z), (0, .ref (P.2.2 0)), (1, .int (nI a)), (2, .int (nI ((M.2.2.1 a).2.1))), (4, .int ((nI ((M.1 (M.2.2.1 a).2.1).2.1 k) - nI (M.2.2.1 a).2.2.2.1)))]) hx hbc dX2_work_158 hl (k := 4) rfl (nI_add _ 1) (by decide) rfl (fun ls hl => ?_)
                    refine lv_goto (tgt := 58) hx hbc dX2_work_161 (by decide) ?_
                    exact ih (k + 1) _ _ (by omega) (by omega) hv2 (Or.inr ⟨rfl, _, by rw [bl_work_take eh (by rw [e1]; exact hkn)]; exact va_up_self _ _ _⟩) _ _ _ w (lv_sub hl [2, 3, 4, 0] rfl)
            · refine bl_as (y := nI q) (by rw [hq]; rfl) ?_
              have hq7 := hIN.2.2.2.2 a ha q hq
              refine lv_bipush (v := (-4)) hx hbc dX2_work_125 (by decide) ?_
              refine lv_icmp_ne (tgt := 158) hx hbc dX2_work_127 (by decide) (fun _ => ?_) (fun c9 => absurd c9 (bl_nn4 (by omega)))
              refine lv_iinc (v := nI (k + 1)) (lv' := [(3, .int (nI (k + 1))), (5, .int z), (0, .ref (P.2.2 0)), (1, .int (nI a)), (2, .int (nI ((M.2.2.1 a).2.1))), (4, .int ((nI (((bl_work L M a).1 (M.2.2.1 a).2.1).2.1 k) - nI (M.2.2.1 a).2.2.2.1)))]) hx hbc dX2_work_158 hl (k := 4) rfl (nI_add _ 1) (by decide) rfl (fun ls hl => ?_)
              refine lv_goto (tgt := 58) hx hbc dX2_work_161 (by decide) ?_
              exact ih (k + 1) _ _ (by omega) (by omega) hv (Or.inr ⟨rfl, q, hq⟩) _ _ _ w (lv_sub hl [2, 3, 4, 0] rfl)
          refine lv_aload_n hx hbc dX2_work_68 rfl (lv_at hl 0 rfl) ?_
          refine x2_places C w dX2_work_69 ?_
          refine lv_iload_n hx hbc dX2_work_72 rfl (lv_at hl 2 rfl) ?_
          refine lv_bipush (v := nI 16) hx hbc dX2_work_73 (by decide) ?_
          refine lv_imul hx hbc dX2_work_75 ?_
          refine bl_as (pk_mul _ _) ?_
          refine lv_iload_n hx hbc dX2_work_76 rfl (lv_at hl 3 rfl) ?_
          refine lv_iadd hx hbc dX2_work_77 ?_
          refine bl_as (nI_add _ _) ?_
          refine x2_ld_places C w (j := ((M.2.2.1 a).2.1) * 16 + k) (by omega) rfl (v := nI ((N.1 (M.2.2.1 a).2.1).2.1 k)) ((hYN.2 k hkn).1) dX2_work_78 ?_
          refine lv_aload_n hx hbc dX2_work_79 rfl (lv_at hl 0 rfl) ?_
          refine x2_reaches C w dX2_work_80 ?_
          refine lv_iload_n hx hbc dX2_work_83 rfl (lv_at hl 1 rfl) ?_
          refine x2_ld_reaches C w (j := a) (by omega) rfl (v := nI ((M.2.2.1 a).2.2.2.1)) (g8) dX2_work_84 ?_
          refine lv_isub hx hbc dX2_work_85 ?_
          refine bl_as (y := (nI ((N.1 (M.2.2.1 a).2.1).2.1 k) - nI (M.2.2.1 a).2.2.2.1)) (rfl) ?_
          refine lv_istore (lv' := [(4, .int ((nI ((N.1 (M.2.2.1 a).2.1).2.1 k) - nI (M.2.2.1 a).2.2.2.1))), (0, .ref (P.2.2 0)), (1, .int (nI a)), (2, .int (nI ((M.2.2.1 a).2.1))), (3, .int (nI k))]) hx hbc dX2_work_86 hl (by decide) rfl (fun ls hl => ?_)
          refine lv_aload_n hx hbc dX2_work_88 rfl (lv_at hl 1 rfl) ?_
          refine x2_takes C w dX2_work_89 ?_
          refine lv_iload_n hx hbc dX2_work_92 rfl (lv_at hl 2 rfl) ?_
          refine x2_ld_takes C w (j := a) (by omega) rfl (v := (M.2.2.1 a).2.2.2.2) (g9) dX2_work_93 ?_
          refine lv_aload_n hx hbc dX2_work_94 rfl (lv_at hl 1 rfl) ?_
          refine x2_kinds C w dX2_work_95 ?_
          refine lv_iload_n hx hbc dX2_work_98 rfl (lv_at hl 3 rfl) ?_
          refine lv_bipush (v := nI 16) hx hbc dX2_work_99 (by decide) ?_
          refine lv_imul hx hbc dX2_work_101 ?_
          refine bl_as (pk_mul _ _) ?_
          refine lv_iload_n hx hbc dX2_work_102 rfl (lv_at hl 4 rfl) ?_
          refine lv_iadd hx hbc dX2_work_103 ?_
          refine bl_as (nI_add _ _) ?_
          refine x2_ld_kinds C w (j := ((M.2.2.1 a).2.1) * 16 + k) (by omega) rfl (v := nI ((N.1 (M.2.2.1 a).2.1).2.2 k)) ((hYN.2 k hkn).2) dX2_work_104 ?_
          refine lv_ishr hx hbc dX2_work_105 ?_
          refine bl_as (y := ((M.2.2.1 a).2.2.2.2 >>> (nI ((N.1 (M.2.2.1 a).2.1).2.2 k) &&& 31))) (rfl) ?_
          refine lv_iconst (v := nI 1) hx hbc dX2_work_106 (by decide) ?_
          refine lv_iand hx hbc dX2_work_107 ?_
          refine bl_as (y := (((M.2.2.1 a).2.2.2.2 >>> (nI ((N.1 (M.2.2.1 a).2.1).2.2 k) &&& 31)) &&& 1)) (rfl) ?_
          refine lv_iconst (v := nI 1) hx hbc dX2_work_108 (by decide) ?_
          refine lv_icmp_ne (tgt := 116) hx hbc dX2_work_109 (by decide) (fun c2 => ?_) (fun c2 => ?_)
          · refine lv_iconst (v := nI 0) hx hbc dX2_work_116 (by decide) ?_
            exact rest_ _ _ _ _ (Or.inr ⟨rfl, c2⟩) w (lv_sub hl [1, 2, 3, 4, 0] rfl)
          · refine lv_iconst (v := nI 1) hx hbc dX2_work_112 (by decide) ?_
            refine lv_goto (tgt := 117) hx hbc dX2_work_113 (by decide) ?_
            exact rest_ _ _ _ _ (Or.inl ⟨rfl, c2⟩) w (lv_sub hl [1, 2, 3, 4, 0] rfl)
    exact loop 17 0 M u (by omega) (by omega) hR (Or.inl ⟨rfl, Nat.zero_le _, fun j hj => absurd hj (Nat.not_lt_zero _)⟩) _ _ _ w (lv_sub hl [2, 3, 1, 0] rfl)
  · have hk := hI.2.2.2.2 a ha k eh
    have e10 : u.1 10 a = nI k := by rw [e10, eh]; rfl
    refine bl_as (y := nI k) (by rw [eh]; rfl) ?_
    refine lv_bipush (v := (-4)) hx hbc dX2_work_6 (by decide) ?_
    refine lv_icmp_eq (tgt := 49) hx hbc dX2_work_8 (by decide) (fun c9 => absurd c9 (bl_nn4 (by omega))) (fun _ => ?_)
    refine lv_aload_n hx hbc dX2_work_11 rfl (lv_at hl 0 rfl) ?_
    refine lv_aload_n hx hbc dX2_work_12 rfl (lv_at hl 0 rfl) ?_
    refine x2_onto C w dX2_work_13 ?_
    refine lv_iload_n hx hbc dX2_work_16 rfl (lv_at hl 1 rfl) ?_
    refine x2_ld_onto C w (j := a) (by omega) rfl (v := nI ((M.2.2.1 a).2.2.1)) (e7) dX2_work_17 ?_
    refine x2_calli C w hA (rest := []) (c2_room l P _ (nI ((M.2.2.1 a).2.2.1)) hI hR) x2g_room x2d_room rfl ⟨Nat.le_of_ble_eq_true rfl, Nat.le_of_ble_eq_true rfl⟩ hl.1 rfl (Nat.le_of_ble_eq_true rfl) dX2_work_18 ⟨Nat.zero_le _, Nat.zero_le _⟩ (fun r v H locs hp w => ?_)
    obtain ⟨rfl, rfl⟩ := hp
    refine bl_as (y := (if bl_room L (M.1 ((M.2.2.1 a).2.2.1)) then 1 else 0)) (bl_rq_ok rc) ?_
    by_cases hr : bl_room L (M.1 ((M.2.2.1 a).2.2.1))
    · refine bl_as (y := nI 1) (if_pos hr) ?_
      refine lv_if_eq (tgt := 48) hx hbc dX2_work_21 (by decide) (fun c9 => absurd c9 (by decide)) (fun _ => ?_)
      refine lv_aload_n hx hbc dX2_work_24 rfl (lv_at hl 0 rfl) ?_
      refine lv_aload_n hx hbc dX2_work_25 rfl (lv_at hl 0 rfl) ?_
      refine x2_onto C w dX2_work_26 ?_
      refine lv_iload_n hx hbc dX2_work_29 rfl (lv_at hl 1 rfl) ?_
      refine x2_ld_onto C w (j := a) (by omega) rfl (v := nI ((M.2.2.1 a).2.2.1)) (e7) dX2_work_30 ?_
      refine lv_aload_n hx hbc dX2_work_31 rfl (lv_at hl 0 rfl) ?_
      refine x2_holds C w dX2_work_32 ?_
      refine lv_iload_n hx hbc dX2_work_35 rfl (lv_at hl 1 rfl) ?_
      refine x2_ld_holds C w (j := a) (by omega) rfl (v := nI k) (e10) dX2_work_36 ?_
      refine x2_callv C w hA (rest := []) (c2_start l P _ hI hR rc hr) x2g_start x2d_start rfl ⟨Nat.le_of_ble_eq_true rfl, Nat.le_of_ble_eq_true rfl⟩ hl.1 rfl (Nat.le_of_ble_eq_true rfl) dX2_work_37 ⟨Nat.zero_le _, Nat.zero_le _⟩ (fun v H locs hp w => ?_)
      refine lv_aload_n hx hbc dX2_work_40 rfl (lv_at hl 0 rfl) ?_
      refine x2_holds C w dX2_work_41 ?_
      refine lv_iload_n hx hbc dX2_work_44 rfl (lv_at hl 1 rfl) ?_
      refine lv_bipush (v := (-4)) hx hbc dX2_work_45 (by decide) ?_
      refine x2_st_holds C w (j := a) (by omega) rfl dX2_work_47 (fun H locs w => ?_)
      exact hret _ _ _ _ _ dX2_work_48 (by rw [bl_work_put eh hr]; exact bl_RY_sH (o := none) hp) w
    · refine bl_as (y := nI 0) (if_neg hr) ?_
      refine lv_if_eq (tgt := 48) hx hbc dX2_work_21 (by decide) (fun _ => ?_) (fun c9 => absurd (rfl) c9)
      exact hret _ _ _ _ _ dX2_work_48 (by rw [bl_work_full eh hr]; exact hR) w
set_option maxHeartbeats 4000000 in
set_option maxRecDepth 100000 in
/-- tick(x) -/
theorem c2_tick (l : Launch) (P : bl_P) (u : bl_S) {L : Nat} {M : bl_M} (x : Int32) (hI : bl_I L M) (hR : bl_RY L M u) : x2Mi l yX2_tick cX2_tick 5 (some .int) 3 P u [.int x] (fun r v => (bl_tick L M x).1 = r ∧ bl_RY L (bl_tick L M x).2 v) := by
  refine x2Mi_of (ty := .int) (by decide) rfl rfl (Nat.le_of_ble_eq_true rfl) ?_
  intro p e s m args below meth c A Q ls C hA hret w hl
  have hx := C.1.1
  have hbc := C.1.2.1
  have hl : lv_has ls 5 [(0, .ref (P.2.2 0)), (1, .int x)] := hl
  have hIt := bl_I_ticks hI
  have hn2 := bl_num_le x
  refine lv_aload_n hx hbc dX2_tick_0 rfl (lv_at hl 0 rfl) ?_
  refine x2_gone C w (v := M.2.2.2.2) (hR.2.2.2.2.2) dX2_tick_1 ?_
  refine lv_istore_n (lv' := [(2, .int M.2.2.2.2), (0, .ref (P.2.2 0)), (1, .int x)]) hx hbc dX2_tick_4 rfl hl (by decide) rfl (fun ls hl => ?_)
  refine lv_iconst (v := nI 0) hx hbc dX2_tick_5 (by decide) ?_
  refine lv_istore_n (lv' := [(3, .int (nI 0)), (2, .int M.2.2.2.2), (0, .ref (P.2.2 0)), (1, .int x)]) hx hbc dX2_tick_6 rfl hl (by decide) rfl (fun ls hl => ?_)
  have loop : ∀ (f : Nat) (t : Nat) (v : bl_S), (t ≤ 200) → (201 ≤ t + f) → (bl_RY L (bl_ticks L M (min t (bl_num x))) v) → ∀ (H : Heap) (locs : List Loc) (ls : Array Slot), x2W P A s.heap v H locs → lv_has ls 5 [(0, .ref (P.2.2 0)), (1, .int x), (2, .int M.2.2.2.2), (3, .int (nI t))] → W p l e (bl_rm 3) s m args below meth c H locs 0 0 Q (F0 m 7 ls []) := by
    intro f
    induction f with
    | zero =>
      intro t v hk hf hv
      exact absurd hf (by omega)
    | succ f ih =>
      intro t v hk hf hv H locs ls w hl
      refine lv_iload_n hx hbc dX2_tick_7 rfl (lv_at hl 3 rfl) ?_
      refine lv_sipush (v := nI 200) hx hbc dX2_tick_8 (by decide) ?_
      refine lv_icmp_ge (tgt := 83) hx hbc dX2_tick_11 (by decide) (fun c1 => ?_) (fun c1 => ?_)
      · have c1 : 200 ≤ t := (nI_leI (by omega) (by omega)).mp c1
        have e1 : min t (bl_num x) = bl_num x := Nat.min_eq_right (by omega)
        rw [e1] at hv
        refine lv_aload_n hx hbc dX2_tick_83 rfl (lv_at hl 0 rfl) ?_
        refine x2_gone C w (v := (bl_ticks L M (bl_num x)).2.2.2.2) (hv.2.2.2.2.2) dX2_tick_84 ?_
        refine lv_iload_n hx hbc dX2_tick_87 rfl (lv_at hl 2 rfl) ?_
        refine lv_isub hx hbc dX2_tick_88 ?_
        refine bl_as (y := ((bl_ticks L M (bl_num x)).2.2.2.2 - M.2.2.2.2)) (rfl) ?_
        exact hret _ _ _ _ _ _ dX2_tick_89 rfl (⟨rfl, hv⟩) w
      · have c1 : ¬ 200 ≤ t := fun q => c1 ((nI_leI (by omega) (by omega)).mpr q)
        refine lv_iload_n hx hbc dX2_tick_14 rfl (lv_at hl 3 rfl) ?_
        refine lv_iload_n hx hbc dX2_tick_15 rfl (lv_at hl 1 rfl) ?_
        refine lv_icmp_ge (tgt := 77) hx hbc dX2_tick_16 (by decide) (fun c2 => ?_) (fun c2 => ?_)
        · have c2 := (bl_num_t (by omega)).mp c2
          rw [show min t (bl_num x) = min (t + 1) (bl_num x) by omega] at hv
          refine lv_iinc (v := nI (t + 1)) (lv' := [(3, .int (nI (t + 1))), (0, .ref (P.2.2 0)), (1, .int x), (2, .int M.2.2.2.2)]) hx hbc dX2_tick_77 hl (k := 3) rfl (nI_add _ 1) (by decide) rfl (fun ls hl => ?_)
          refine lv_goto (tgt := 7) hx hbc dX2_tick_80 (by decide) ?_
          exact ih (t + 1) _ (by omega) (by omega) hv _ _ _ w (lv_sub hl [1, 2, 3, 0] rfl)
        · have c2 : ¬ bl_num x ≤ t := fun q => c2 ((bl_num_t (by omega)).mpr q)
          rw [show min t (bl_num x) = t by omega] at hv
          have hIb := bl_I_belts (hIt t)
          have hIa := bl_I_arms (hIb 4 (Nat.le_refl _))
          have ih0 := ih
          clear ih
          refine lv_iconst (v := nI 0) hx hbc dX2_tick_19 (by decide) ?_
          refine lv_istore (lv' := [(4, .int (nI 0)), (0, .ref (P.2.2 0)), (1, .int x), (2, .int M.2.2.2.2), (3, .int (nI t))]) hx hbc dX2_tick_20 hl (by decide) rfl (fun ls hl => ?_)
          have loop : ∀ (f : Nat) (k : Nat) (v : bl_S), (k ≤ 4) → (5 ≤ k + f) → (bl_RY L (bl_belts L (bl_ticks L M t) k) v) → ∀ (H : Heap) (locs : List Loc) (ls : Array Slot), x2W P A s.heap v H locs → lv_has ls 5 [(0, .ref (P.2.2 0)), (1, .int x), (2, .int M.2.2.2.2), (3, .int (nI t)), (4, .int (nI k))] → W p l e (bl_rm 3) s m args below meth c H locs 0 0 Q (F0 m 22 ls []) := by
            intro f
            induction f with
            | zero =>
              intro k v hk hf hv
              exact absurd hf (by omega)
            | succ f ih =>
              intro k v hk hf hv H locs ls w hl
              refine lv_iload hx hbc dX2_tick_22 (lv_at hl 4 rfl) ?_
              refine lv_iconst (v := nI 4) hx hbc dX2_tick_24 (by decide) ?_
              refine lv_icmp_ge (tgt := 46) hx hbc dX2_tick_25 (by decide) (fun c3 => ?_) (fun c3 => ?_)
              · have c3 : 4 ≤ k := (nI_leI (by omega) (by omega)).mp c3
                have e4 : k = 4 := by omega
                subst e4
                clear ih
                refine lv_iconst (v := nI 0) hx hbc dX2_tick_46 (by decide) ?_
                refine lv_istore (lv' := [(4, .int (nI 0)), (0, .ref (P.2.2 0)), (1, .int x), (2, .int M.2.2.2.2), (3, .int (nI t))]) hx hbc dX2_tick_47 hl (by decide) rfl (fun ls hl => ?_)
                have loop : ∀ (f : Nat) (k : Nat) (v : bl_S), (k ≤ 2) → (3 ≤ k + f) → (bl_RY L (bl_arms L (bl_belts L (bl_ticks L M t) 4) k) v) → ∀ (H : Heap) (locs : List Loc) (ls : Array Slot), x2W P A s.heap v H locs → lv_has ls 5 [(0, .ref (P.2.2 0)), (1, .int x), (2, .int M.2.2.2.2), (3, .int (nI t)), (4, .int (nI k))] → W p l e (bl_rm 3) s m args below meth c H locs 0 0 Q (F0 m 49 ls []) := by
                  intro f
                  induction f with
                  | zero =>
                    intro k v hk hf hv
                    exact absurd hf (by omega)
                  | succ f ih =>
                    intro k v hk hf hv H locs ls w hl
                    refine lv_iload hx hbc dX2_tick_49 (lv_at hl 4 rfl) ?_
                    refine lv_iconst (v := nI 2) hx hbc dX2_tick_51 (by decide) ?_
                    refine lv_icmp_ge (tgt := 77) hx hbc dX2_tick_52 (by decide) (fun c3 => ?_) (fun c3 => ?_)
                    · have c3 : 2 ≤ k := (nI_leI (by omega) (by omega)).mp c3
                      have e2 : k = 2 := by omega
                      subst e2
                      refine lv_iinc (v := nI (t + 1)) (lv' := [(3, .int (nI (t + 1))), (0, .ref (P.2.2 0)), (1, .int x), (2, .int M.2.2.2.2), (4, .int (nI 2))]) hx hbc dX2_tick_77 hl (k := 3) rfl (nI_add _ 1) (by decide) rfl (fun ls hl => ?_)
                      refine lv_goto (tgt := 7) hx hbc dX2_tick_80 (by decide) ?_
                      exact ih0 (t + 1) _ (by omega) (by omega) (by rw [show min (t + 1) (bl_num x) = t + 1 by omega]; exact hv) _ _ _ w (lv_sub hl [1, 2, 3, 0] rfl)
                    · have c3 : ¬ 2 ≤ k := fun q => c3 ((nI_leI (by omega) (by omega)).mpr q)
                      refine lv_aload_n hx hbc dX2_tick_55 rfl (lv_at hl 0 rfl) ?_
                      refine x2_isSet C w dX2_tick_56 ?_
                      refine lv_iload hx hbc dX2_tick_59 (lv_at hl 4 rfl) ?_
                      refine x2_ld_isSet C w (j := k) (by omega) rfl (v := ((bl_arms L (bl_belts L (bl_ticks L M t) 4) k).2.2.1 k).1) ((hv.2.2.2.1 k (by omega)).1) dX2_tick_61 ?_
                      refine lv_if_eq (tgt := 71) hx hbc dX2_tick_62 (by decide) (fun c4 => ?_) (fun c4 => ?_)
                      · refine lv_iinc (v := nI (k + 1)) (lv' := [(4, .int (nI (k + 1))), (0, .ref (P.2.2 0)), (1, .int x), (2, .int M.2.2.2.2), (3, .int (nI t))]) hx hbc dX2_tick_71 hl (k := 4) rfl (nI_add _ 1) (by decide) rfl (fun ls hl => ?_)
                        refine lv_goto (tgt := 49) hx hbc dX2_tick_74 (by decide) ?_
                        exact ih (k + 1) _ (by omega) (by omega) (by rw [bl_arms_skip c4]; exact hv) _ _ _ w (lv_sub hl [1, 2, 3, 4, 0] rfl)
                      · refine lv_aload_n hx hbc dX2_tick_65 rfl (lv_at hl 0 rfl) ?_
                        refine lv_iload hx hbc dX2_tick_66 (lv_at hl 4 rfl) ?_
                        refine x2_callv C w hA (rest := []) (c2_work l P _ (hIa k hk) hv (by omega)) x2g_work x2d_work rfl ⟨Nat.le_of_ble_eq_true rfl, Nat.le_of_ble_eq_true rfl⟩ hl.1 rfl (Nat.le_of_ble_eq_true rfl) dX2_tick_68 ⟨Nat.zero_le _, Nat.zero_le _⟩ (fun v2 H locs hp w => ?_)
                        refine lv_iinc (v := nI (k + 1)) (lv' := [(4, .int (nI (k + 1))), (0, .ref (P.2.2 0)), (1, .int x), (2, .int M.2.2.2.2), (3, .int (nI t))]) hx hbc dX2_tick_71 hl (k := 4) rfl (nI_add _ 1) (by decide) rfl (fun ls hl => ?_)
                        refine lv_goto (tgt := 49) hx hbc dX2_tick_74 (by decide) ?_
                        exact ih (k + 1) _ (by omega) (by omega) (by rw [bl_arms_do c4]; exact hp) _ _ _ w (lv_sub hl [1, 2, 3, 4, 0] rfl)
                exact loop 3 0 _ (by omega) (by omega) hv _ _ _ w (lv_sub hl [1, 2, 3, 4, 0] rfl)
              · have c3 : ¬ 4 ≤ k := fun q => c3 ((nI_leI (by omega) (by omega)).mpr q)
                refine lv_aload_n hx hbc dX2_tick_28 rfl (lv_at hl 0 rfl) ?_
                refine lv_iload hx hbc dX2_tick_29 (lv_at hl 4 rfl) ?_
                refine x2_callv C w hA (rest := []) (c2_end l P _ (hIb k hk) hv (by omega)) x2g_end x2d_end rfl ⟨Nat.le_of_ble_eq_true rfl, Nat.le_of_ble_eq_true rfl⟩ hl.1 rfl (Nat.le_of_ble_eq_true rfl) dX2_tick_31 ⟨Nat.zero_le _, Nat.zero_le _⟩ (fun v2 H locs hp w => ?_)
                have hp1 := hp
                refine lv_aload_n hx hbc dX2_tick_34 rfl (lv_at hl 0 rfl) ?_
                refine lv_iload hx hbc dX2_tick_35 (lv_at hl 4 rfl) ?_
                refine x2_callv C w hA (rest := []) (c2_move l P _ (bl_I_pass (hIb k hk) (by omega)) hp1 (by omega)) x2g_move x2d_move rfl ⟨Nat.le_of_ble_eq_true rfl, Nat.le_of_ble_eq_true rfl⟩ hl.1 rfl (Nat.le_of_ble_eq_true rfl) dX2_tick_37 ⟨Nat.zero_le _, Nat.zero_le _⟩ (fun v3 H locs hp w => ?_)
                refine lv_iinc (v := nI (k + 1)) (lv' := [(4, .int (nI (k + 1))), (0, .ref (P.2.2 0)), (1, .int x), (2, .int M.2.2.2.2), (3, .int (nI t))]) hx hbc dX2_tick_40 hl (k := 4) rfl (nI_add _ 1) (by decide) rfl (fun ls hl => ?_)
                refine lv_goto (tgt := 22) hx hbc dX2_tick_43 (by decide) ?_
                exact ih (k + 1) _ (by omega) (by omega) hp _ _ _ w (lv_sub hl [1, 2, 3, 4, 0] rfl)
          exact loop 5 0 _ (by omega) (by omega) hv _ _ _ w (lv_sub hl [1, 2, 3, 4, 0] rfl)
  exact loop 201 0 u (by omega) (by omega) (by rw [Nat.zero_min]; exact hR) _ _ _ w (lv_sub hl [2, 3, 1, 0] rfl)
set_option maxHeartbeats 4000000 in
set_option maxRecDepth 100000 in
/-- put(x, y) -/
theorem c2_put (l : Launch) (P : bl_P) (u : bl_S) {L : Nat} {M : bl_M} (x y : Int32) (hI : bl_I L M) (hR : bl_RY L M u) : x2Mi l yX2_put cX2_put 3 (some .int) 2 P u [.int x, .int y] (fun r v => (bl_put L M x y).1 = r ∧ bl_RY L (bl_put L M x y).2 v) := by
  refine x2Mi_of (ty := .int) (by decide) rfl rfl (Nat.le_of_ble_eq_true rfl) ?_
  intro p e s m args below meth c A Q ls C hA hret w hl
  have hx := C.1.1
  have hbc := C.1.2.1
  have hl : lv_has ls 3 [(0, .ref (P.2.2 0)), (1, .int x), (2, .int y)] := hl
  refine lv_aload_n hx hbc dX2_put_0 rfl (lv_at hl 0 rfl) ?_
  refine lv_iload_n hx hbc dX2_put_1 rfl (lv_at hl 1 rfl) ?_
  refine x2_calli C w hA (rest := []) (c2_bad l P _ x) x2g_bad x2d_bad rfl ⟨Nat.le_of_ble_eq_true rfl, Nat.le_of_ble_eq_true rfl⟩ hl.1 rfl (Nat.le_of_ble_eq_true rfl) dX2_put_2 ⟨Nat.zero_le _, Nat.zero_le _⟩ (fun r v H locs hp w => ?_)
  obtain ⟨rfl, rfl⟩ := hp
  refine lv_if_eq (tgt := 10) hx hbc dX2_put_5 (by decide) (fun c0 => ?_) (fun c0 => ?_)
  · obtain ⟨b, hb, rfl⟩ := bl_bv0 c0
    have hY := hR.2.1 b hb
    have hok := hI.2.1 b hb
    have hL := hI.1
    have hn := bl_cnt hL.2 hok
    refine lv_iload_n hx hbc dX2_put_10 rfl (lv_at hl 2 rfl) ?_
    refine lv_if_lt (tgt := 20) hx hbc dX2_put_11 (by decide) (fun c1 => ?_) (fun c1 => ?_)
    · refine lv_bipush (v := (-2)) hx hbc dX2_put_20 (by decide) ?_
      exact hret _ _ _ _ _ _ dX2_put_22 rfl (by rw [bl_put_kind hb (Or.inl c1)]; exact ⟨rfl, hR⟩) w
    · refine lv_iload_n hx hbc dX2_put_14 rfl (lv_at hl 2 rfl) ?_
      refine lv_bipush (v := nI 7) hx hbc dX2_put_15 (by decide) ?_
      refine lv_icmp_le (tgt := 23) hx hbc dX2_put_17 (by decide) (fun c2 => ?_) (fun c2 => ?_)
      · obtain ⟨k, hk, rfl⟩ := bl_rng (m := 7) (n := 7) rfl c1 (Int32.not_lt.mpr c2)
        refine lv_aload_n hx hbc dX2_put_23 rfl (lv_at hl 0 rfl) ?_
        refine lv_iload_n hx hbc dX2_put_24 rfl (lv_at hl 1 rfl) ?_
        refine x2_calli C w hA (rest := []) (c2_room l P _ (nI b) hI hR) x2g_room x2d_room rfl ⟨Nat.le_of_ble_eq_true rfl, Nat.le_of_ble_eq_true rfl⟩ hl.1 rfl (Nat.le_of_ble_eq_true rfl) dX2_put_25 ⟨Nat.zero_le _, Nat.zero_le _⟩ (fun r v H locs hp w => ?_)
        obtain ⟨rfl, rfl⟩ := hp
        refine bl_as (y := (if bl_room L (M.1 b) then 1 else 0)) (bl_rq_ok hb) ?_
        by_cases hr : bl_room L (M.1 b)
        · refine bl_as (y := nI 1) (if_pos hr) ?_
          refine lv_if_ne (tgt := 34) hx hbc dX2_put_28 (by decide) (fun _ => ?_) (fun c9 => absurd c9 (by decide))
          refine lv_aload_n hx hbc dX2_put_34 rfl (lv_at hl 0 rfl) ?_
          refine lv_iload_n hx hbc dX2_put_35 rfl (lv_at hl 1 rfl) ?_
          refine lv_iload_n hx hbc dX2_put_36 rfl (lv_at hl 2 rfl) ?_
          refine x2_callv C w hA (rest := []) (c2_start l P _ hI hR hb hr) x2g_start x2d_start rfl ⟨Nat.le_of_ble_eq_true rfl, Nat.le_of_ble_eq_true rfl⟩ hl.1 rfl (Nat.le_of_ble_eq_true rfl) dX2_put_37 ⟨Nat.zero_le _, Nat.zero_le _⟩ (fun v H locs hp w => ?_)
          have hY2 := hp.2.1 b hb
          rw [bl_sB_at] at hY2
          refine lv_aload_n hx hbc dX2_put_40 rfl (lv_at hl 0 rfl) ?_
          refine x2_counts C w dX2_put_41 ?_
          refine lv_iload_n hx hbc dX2_put_44 rfl (lv_at hl 1 rfl) ?_
          refine x2_ld_counts C w (j := b) (by omega) rfl (v := nI ((M.1 b).1 + 1)) (hY2.1) dX2_put_45 ?_
          exact hret _ _ _ _ _ _ dX2_put_46 rfl (by rw [bl_put_ok hb hk hr]; exact ⟨rfl, hp⟩) w
        · refine bl_as (y := nI 0) (if_neg hr) ?_
          refine lv_if_ne (tgt := 34) hx hbc dX2_put_28 (by decide) (fun c9 => absurd c9 (fun q => q rfl)) (fun _ => ?_)
          refine lv_bipush (v := (-3)) hx hbc dX2_put_31 (by decide) ?_
          exact hret _ _ _ _ _ _ dX2_put_33 rfl (by rw [bl_put_no hb hk hr]; exact ⟨rfl, hR⟩) w
      · refine lv_bipush (v := (-2)) hx hbc dX2_put_20 (by decide) ?_
        exact hret _ _ _ _ _ _ dX2_put_22 rfl (by rw [bl_put_kind hb (Or.inr (Int32.not_le.mp c2))]; exact ⟨rfl, hR⟩) w
  · refine lv_iconst (v := (-1)) hx hbc dX2_put_8 (by decide) ?_
    exact hret _ _ _ _ _ _ dX2_put_9 rfl (by rw [bl_put_bad (bl_bv1 c0)]; exact ⟨rfl, hR⟩) w
set_option maxHeartbeats 4000000 in
set_option maxRecDepth 100000 in
/-- take(x) -/
theorem c2_take (l : Launch) (P : bl_P) (u : bl_S) {L : Nat} {M : bl_M} (x : Int32) (hI : bl_I L M) (hR : bl_RY L M u) : x2Mi l yX2_take cX2_take 2 (some .int) 1 P u [.int x] (fun r v => (bl_take M x).1 = r ∧ bl_RY L (bl_take M x).2 v) := by
  refine x2Mi_of (ty := .int) (by decide) rfl rfl (Nat.le_of_ble_eq_true rfl) ?_
  intro p e s m args below meth c A Q ls C hA hret w hl
  have hx := C.1.1
  have hbc := C.1.2.1
  have hl : lv_has ls 2 [(0, .ref (P.2.2 0)), (1, .int x)] := hl
  refine lv_aload_n hx hbc dX2_take_0 rfl (lv_at hl 0 rfl) ?_
  refine lv_iload_n hx hbc dX2_take_1 rfl (lv_at hl 1 rfl) ?_
  refine x2_calli C w hA (rest := []) (c2_bad l P _ x) x2g_bad x2d_bad rfl ⟨Nat.le_of_ble_eq_true rfl, Nat.le_of_ble_eq_true rfl⟩ hl.1 rfl (Nat.le_of_ble_eq_true rfl) dX2_take_2 ⟨Nat.zero_le _, Nat.zero_le _⟩ (fun r v H locs hp w => ?_)
  obtain ⟨rfl, rfl⟩ := hp
  refine lv_if_eq (tgt := 10) hx hbc dX2_take_5 (by decide) (fun c0 => ?_) (fun c0 => ?_)
  · obtain ⟨b, hb, rfl⟩ := bl_bv0 c0
    have hY := hR.2.1 b hb
    have hok := hI.2.1 b hb
    have hL := hI.1
    have hn := bl_cnt hL.2 hok
    refine lv_aload_n hx hbc dX2_take_10 rfl (lv_at hl 0 rfl) ?_
    refine x2_counts C w dX2_take_11 ?_
    refine lv_iload_n hx hbc dX2_take_14 rfl (lv_at hl 1 rfl) ?_
    refine x2_ld_counts C w (j := b) (by omega) rfl (v := nI ((M.1 b).1)) (hY.1) dX2_take_15 ?_
    refine lv_if_eq (tgt := 31) hx hbc dX2_take_16 (by decide) (fun c1 => ?_) (fun c1 => ?_)
    · have c1 := (bl_eq0 (by omega)).mp c1
      refine lv_bipush (v := (-4)) hx hbc dX2_take_31 (by decide) ?_
      exact hret _ _ _ _ _ _ dX2_take_33 rfl (by rw [bl_take_no hb (fun q => by have := q.1; omega)]; exact ⟨rfl, hR⟩) w
    · have c1 : 0 < (M.1 b).1 := Nat.pos_of_ne_zero (fun q => c1 ((bl_eq0 (by omega)).mpr q))
      have hp := (hok.1 0 c1).1
      refine lv_aload_n hx hbc dX2_take_19 rfl (lv_at hl 0 rfl) ?_
      refine x2_places C w dX2_take_20 ?_
      refine lv_iload_n hx hbc dX2_take_23 rfl (lv_at hl 1 rfl) ?_
      refine lv_bipush (v := nI 16) hx hbc dX2_take_24 (by decide) ?_
      refine lv_imul hx hbc dX2_take_26 ?_
      refine bl_as (pk_mul _ _) ?_
      refine x2_ld_places C w (j := b * 16) (by omega) rfl (v := nI ((M.1 b).2.1 0)) ((hY.2 0 c1).1) dX2_take_27 ?_
      refine lv_if_le (tgt := 34) hx hbc dX2_take_28 (by decide) (fun c2 => ?_) (fun c2 => ?_)
      · have c2 : (M.1 b).2.1 0 ≤ 0 := (nI_leI (b := 0) (by omega) (by decide)).mp c2
        have he : bl_end (M.1 b) := ⟨c1, by omega⟩
        refine lv_aload_n hx hbc dX2_take_34 rfl (lv_at hl 0 rfl) ?_
        refine lv_iload_n hx hbc dX2_take_35 rfl (lv_at hl 1 rfl) ?_
        refine lv_iconst (v := nI 0) hx hbc dX2_take_36 (by decide) ?_
        refine x2_calli C w hA (rest := []) (c2_off l P _ (i := 0) hI hR hb he.1) x2g_off x2d_off rfl ⟨Nat.le_of_ble_eq_true rfl, Nat.le_of_ble_eq_true rfl⟩ hl.1 rfl (Nat.le_of_ble_eq_true rfl) dX2_take_37 ⟨Nat.zero_le _, Nat.zero_le _⟩ (fun r v H locs hp w => ?_)
        obtain ⟨rfl, hR1⟩ := hp
        exact hret _ _ _ _ _ _ dX2_take_40 rfl (by rw [bl_take_ok hb he]; exact ⟨rfl, hR1⟩) w
      · have c2 : ¬ (M.1 b).2.1 0 ≤ 0 := fun q => c2 ((nI_leI (b := 0) (by omega) (by decide)).mpr q)
        refine lv_bipush (v := (-4)) hx hbc dX2_take_31 (by decide) ?_
        exact hret _ _ _ _ _ _ dX2_take_33 rfl (by rw [bl_take_no hb (fun q => by have := q.2; omega)]; exact ⟨rfl, hR⟩) w
  · refine lv_iconst (v := (-1)) hx hbc dX2_take_8 (by decide) ?_
    exact hret _ _ _ _ _ _ dX2_take_9 rfl (by rw [bl_take_bad (bl_bv1 c0)]; exact ⟨rfl, hR⟩) w
set_option maxHeartbeats 4000000 in
set_option maxRecDepth 100000 in
/-- lead(x, y) -/
theorem c2_lead (l : Launch) (P : bl_P) (u : bl_S) {L : Nat} {M : bl_M} (x y : Int32) (hI : bl_I L M) (hR : bl_RY L M u) : x2Mi l yX2_lead cX2_lead 4 (some .int) 1 P u [.int x, .int y] (fun r v => (bl_lead M x y).1 = r ∧ bl_RY L (bl_lead M x y).2 v) := by
  refine x2Mi_of (ty := .int) (by decide) rfl rfl (Nat.le_of_ble_eq_true rfl) ?_
  intro p e s m args below meth c A Q ls C hA hret w hl
  have hx := C.1.1
  have hbc := C.1.2.1
  have hl : lv_has ls 4 [(0, .ref (P.2.2 0)), (1, .int x), (2, .int y)] := hl
  refine lv_aload_n hx hbc dX2_lead_0 rfl (lv_at hl 0 rfl) ?_
  refine lv_iload_n hx hbc dX2_lead_1 rfl (lv_at hl 1 rfl) ?_
  refine x2_calli C w hA (rest := []) (c2_bad l P _ x) x2g_bad x2d_bad rfl ⟨Nat.le_of_ble_eq_true rfl, Nat.le_of_ble_eq_true rfl⟩ hl.1 rfl (Nat.le_of_ble_eq_true rfl) dX2_lead_2 ⟨Nat.zero_le _, Nat.zero_le _⟩ (fun r v H locs hp w => ?_)
  obtain ⟨rfl, rfl⟩ := hp
  refine lv_if_eq (tgt := 10) hx hbc dX2_lead_5 (by decide) (fun c0 => ?_) (fun c0 => ?_)
  · obtain ⟨b, hb, rfl⟩ := bl_bv0 c0
    refine lv_iload_n hx hbc dX2_lead_10 rfl (lv_at hl 2 rfl) ?_
    refine lv_bipush (v := (-2)) hx hbc dX2_lead_11 (by decide) ?_
    refine lv_icmp_lt (tgt := 26) hx hbc dX2_lead_13 (by decide) (fun c1 => ?_) (fun c1 => ?_)
    · refine lv_bipush (v := (-5)) hx hbc dX2_lead_26 (by decide) ?_
      exact hret _ _ _ _ _ _ dX2_lead_28 rfl (by rw [bl_lead_no hb (Or.inl c1)]; exact ⟨rfl, hR⟩) w
    · refine lv_iload_n hx hbc dX2_lead_16 rfl (lv_at hl 2 rfl) ?_
      refine lv_iconst (v := nI 3) hx hbc dX2_lead_17 (by decide) ?_
      refine lv_icmp_gt (tgt := 26) hx hbc dX2_lead_18 (by decide) (fun c2 => ?_) (fun c2 => ?_)
      · refine lv_bipush (v := (-5)) hx hbc dX2_lead_26 (by decide) ?_
        exact hret _ _ _ _ _ _ dX2_lead_28 rfl (by rw [bl_lead_no hb (Or.inr (Or.inl (Decidable.of_not_not (fun q => Int32.not_lt.mpr ((bl_x34 y).mpr q) c2))))]; exact ⟨rfl, hR⟩) w
      · refine lv_iload_n hx hbc dX2_lead_21 rfl (lv_at hl 2 rfl) ?_
        refine lv_iload_n hx hbc dX2_lead_22 rfl (lv_at hl 1 rfl) ?_
        refine lv_icmp_ne (tgt := 29) hx hbc dX2_lead_23 (by decide) (fun c3 => ?_) (fun c3 => ?_)
        · refine lv_aload_n hx hbc dX2_lead_29 rfl (lv_at hl 0 rfl) ?_
          refine x2_leads C w dX2_lead_30 ?_
          refine lv_iload_n hx hbc dX2_lead_33 rfl (lv_at hl 1 rfl) ?_
          refine x2_ld_leads C w (j := b) (by omega) rfl (v := (M.2.1 b)) (hR.2.2.1 b hb) dX2_lead_34 ?_
          refine lv_istore_n (lv' := [(3, .int ((M.2.1 b))), (0, .ref (P.2.2 0)), (1, .int (nI b)), (2, .int y)]) hx hbc dX2_lead_35 rfl hl (by decide) rfl (fun ls hl => ?_)
          refine lv_aload_n hx hbc dX2_lead_36 rfl (lv_at hl 1 rfl) ?_
          refine x2_leads C w dX2_lead_37 ?_
          refine lv_iload_n hx hbc dX2_lead_40 rfl (lv_at hl 2 rfl) ?_
          refine lv_iload_n hx hbc dX2_lead_41 rfl (lv_at hl 3 rfl) ?_
          refine x2_st_leads C w (j := b) (by omega) rfl dX2_lead_42 (fun H locs w => ?_)
          refine lv_iload_n hx hbc dX2_lead_43 rfl (lv_at hl 0 rfl) ?_
          exact hret _ _ _ _ _ _ dX2_lead_44 rfl (by rw [bl_lead_ok hb (fun q => q.elim c1 (fun q => q.elim (fun q => (bl_x34 y).mp (Int32.not_lt.mp c2) q) c3))]; exact ⟨rfl, bl_RY_sL hR⟩) w
        · refine lv_bipush (v := (-5)) hx hbc dX2_lead_26 (by decide) ?_
          exact hret _ _ _ _ _ _ dX2_lead_28 rfl (by rw [bl_lead_no hb (Or.inr (Or.inr c3))]; exact ⟨rfl, hR⟩) w
  · refine lv_iconst (v := (-1)) hx hbc dX2_lead_8 (by decide) ?_
    exact hret _ _ _ _ _ _ dX2_lead_9 rfl (by rw [bl_lead_bad (bl_bv1 c0)]; exact ⟨rfl, hR⟩) w
set_option maxHeartbeats 4000000 in
set_option maxRecDepth 100000 in
/-- arm(x, y, z, t) -/
theorem c2_arm (l : Launch) (P : bl_P) (u : bl_S) {L : Nat} {M : bl_M} (x y z t : Int32) (hI : bl_I L M) (hR : bl_RY L M u) : x2Mi l yX2_arm cX2_arm 5 (some .int) 0 P u [.int x, .int y, .int z, .int t] (fun r v => (bl_arm M x y z t).1 = r ∧ bl_RY L (bl_arm M x y z t).2 v) := by
  refine x2Mi_of (ty := .int) (by decide) rfl rfl (Nat.le_of_ble_eq_true rfl) ?_
  intro p e s m args below meth c A Q ls C hA hret w hl
  have hx := C.1.1
  have hbc := C.1.2.1
  have hl : lv_has ls 5 [(0, .ref (P.2.2 0)), (1, .int x), (2, .int y), (3, .int z), (4, .int t)] := hl
  refine lv_iload_n hx hbc dX2_arm_0 rfl (lv_at hl 1 rfl) ?_
  refine lv_if_lt (tgt := 19) hx hbc dX2_arm_1 (by decide) (fun c1 => ?_) (fun c1 => ?_)
  · refine lv_bipush (v := (-5)) hx hbc dX2_arm_19 (by decide) ?_
    exact hret _ _ _ _ _ _ dX2_arm_21 rfl (by rw [bl_arm_no (Or.inl c1)]; exact ⟨rfl, hR⟩) w
  · refine lv_iload_n hx hbc dX2_arm_4 rfl (lv_at hl 1 rfl) ?_
    refine lv_iconst (v := nI 1) hx hbc dX2_arm_5 (by decide) ?_
    refine lv_icmp_gt (tgt := 19) hx hbc dX2_arm_6 (by decide) (fun c2 => ?_) (fun c2 => ?_)
    · refine lv_bipush (v := (-5)) hx hbc dX2_arm_19 (by decide) ?_
      exact hret _ _ _ _ _ _ dX2_arm_21 rfl (by rw [bl_arm_no (Or.inr (Or.inl c2))]; exact ⟨rfl, hR⟩) w
    · refine lv_iload_n hx hbc dX2_arm_9 rfl (lv_at hl 3 rfl) ?_
      refine lv_if_lt (tgt := 19) hx hbc dX2_arm_10 (by decide) (fun c3 => ?_) (fun c3 => ?_)
      · refine lv_bipush (v := (-5)) hx hbc dX2_arm_19 (by decide) ?_
        exact hret _ _ _ _ _ _ dX2_arm_21 rfl (by rw [bl_arm_no (Or.inr (Or.inr (Or.inl c3)))]; exact ⟨rfl, hR⟩) w
      · refine lv_iload_n hx hbc dX2_arm_13 rfl (lv_at hl 3 rfl) ?_
        refine lv_bipush (v := nI 60) hx hbc dX2_arm_14 (by decide) ?_
        refine lv_icmp_le (tgt := 22) hx hbc dX2_arm_16 (by decide) (fun c4 => ?_) (fun c4 => ?_)
        · obtain ⟨a, ha, rfl⟩ := bl_rng (m := 1) (n := 1) rfl c1 c2
          obtain ⟨r, hr, rfl⟩ := bl_rng (m := 60) (n := 60) rfl c3 (Int32.not_lt.mpr c4)
          obtain ⟨f, hf, ef⟩ := bl_m3 y
          obtain ⟨o, ho, eo⟩ := bl_m3 (y >>> (2 &&& 31))
          refine lv_aload_n hx hbc dX2_arm_22 rfl (lv_at hl 0 rfl) ?_
          refine x2_isSet C w dX2_arm_23 ?_
          refine lv_iload_n hx hbc dX2_arm_26 rfl (lv_at hl 1 rfl) ?_
          refine lv_iconst (v := nI 1) hx hbc dX2_arm_27 (by decide) ?_
          refine x2_st_isSet C w (j := a) (by omega) rfl dX2_arm_28 (fun H locs w => ?_)
          refine lv_aload_n hx hbc dX2_arm_29 rfl (lv_at hl 0 rfl) ?_
          refine x2_from C w dX2_arm_30 ?_
          refine lv_iload_n hx hbc dX2_arm_33 rfl (lv_at hl 1 rfl) ?_
          refine lv_iload_n hx hbc dX2_arm_34 rfl (lv_at hl 2 rfl) ?_
          refine lv_iconst (v := nI 3) hx hbc dX2_arm_35 (by decide) ?_
          refine lv_iand hx hbc dX2_arm_36 ?_
          refine bl_as (y := nI f) (ef) ?_
          refine x2_st_from C w (j := a) (by omega) rfl dX2_arm_37 (fun H locs w => ?_)
          refine lv_aload_n hx hbc dX2_arm_38 rfl (lv_at hl 0 rfl) ?_
          refine x2_onto C w dX2_arm_39 ?_
          refine lv_iload_n hx hbc dX2_arm_42 rfl (lv_at hl 1 rfl) ?_
          refine lv_iload_n hx hbc dX2_arm_43 rfl (lv_at hl 2 rfl) ?_
          refine lv_iconst (v := nI 2) hx hbc dX2_arm_44 (by decide) ?_
          refine lv_ishr hx hbc dX2_arm_45 ?_
          refine bl_as (y := (y >>> (2 &&& 31))) (rfl) ?_
          refine lv_iconst (v := nI 3) hx hbc dX2_arm_46 (by decide) ?_
          refine lv_iand hx hbc dX2_arm_47 ?_
          refine bl_as (y := nI o) (eo) ?_
          refine x2_st_onto C w (j := a) (by omega) rfl dX2_arm_48 (fun H locs w => ?_)
          refine lv_aload_n hx hbc dX2_arm_49 rfl (lv_at hl 0 rfl) ?_
          refine x2_reaches C w dX2_arm_50 ?_
          refine lv_iload_n hx hbc dX2_arm_53 rfl (lv_at hl 1 rfl) ?_
          refine lv_iload_n hx hbc dX2_arm_54 rfl (lv_at hl 3 rfl) ?_
          refine x2_st_reaches C w (j := a) (by omega) rfl dX2_arm_55 (fun H locs w => ?_)
          refine lv_aload_n hx hbc dX2_arm_56 rfl (lv_at hl 0 rfl) ?_
          refine x2_takes C w dX2_arm_57 ?_
          refine lv_iload_n hx hbc dX2_arm_60 rfl (lv_at hl 1 rfl) ?_
          refine lv_iload hx hbc dX2_arm_61 (lv_at hl 4 rfl) ?_
          refine lv_sipush (v := nI 255) hx hbc dX2_arm_63 (by decide) ?_
          refine lv_iand hx hbc dX2_arm_66 ?_
          refine bl_as (y := (t &&& 255)) (rfl) ?_
          refine x2_st_takes C w (j := a) (by omega) rfl dX2_arm_67 (fun H locs w => ?_)
          refine lv_iconst (v := nI 0) hx hbc dX2_arm_68 (by decide) ?_
          exact hret _ _ _ _ _ _ dX2_arm_69 rfl (by rw [bl_arm_ok (by omega) hr ef eo hf ho]; exact ⟨rfl, bl_RY_sA hR⟩) w
        · refine lv_bipush (v := (-5)) hx hbc dX2_arm_19 (by decide) ?_
          exact hret _ _ _ _ _ _ dX2_arm_21 rfl (by rw [bl_arm_no (Or.inr (Or.inr (Or.inr (Int32.not_le.mp c4))))]; exact ⟨rfl, hR⟩) w
set_option maxHeartbeats 4000000 in
set_option maxRecDepth 100000 in
/-- items(x) -/
theorem c2_items (l : Launch) (P : bl_P) (u : bl_S) {L : Nat} {M : bl_M} (x : Int32) (hI : bl_I L M) (hR : bl_RY L M u) : x2Mi l yX2_items cX2_items 2 (some .int) 1 P u [.int x] (fun r v => bl_items M x = r ∧ u = v) := by
  refine x2Mi_of (ty := .int) (by decide) rfl rfl (Nat.le_of_ble_eq_true rfl) ?_
  intro p e s m args below meth c A Q ls C hA hret w hl
  have hx := C.1.1
  have hbc := C.1.2.1
  have hl : lv_has ls 2 [(0, .ref (P.2.2 0)), (1, .int x)] := hl
  refine lv_aload_n hx hbc dX2_items_0 rfl (lv_at hl 0 rfl) ?_
  refine lv_iload_n hx hbc dX2_items_1 rfl (lv_at hl 1 rfl) ?_
  refine x2_calli C w hA (rest := []) (c2_bad l P _ x) x2g_bad x2d_bad rfl ⟨Nat.le_of_ble_eq_true rfl, Nat.le_of_ble_eq_true rfl⟩ hl.1 rfl (Nat.le_of_ble_eq_true rfl) dX2_items_2 ⟨Nat.zero_le _, Nat.zero_le _⟩ (fun r v H locs hp w => ?_)
  obtain ⟨rfl, rfl⟩ := hp
  refine lv_if_eq (tgt := 12) hx hbc dX2_items_5 (by decide) (fun c0 => ?_) (fun c0 => ?_)
  · obtain ⟨b, hb, rfl⟩ := bl_bv0 c0
    have hY := hR.2.1 b hb
    have hok := hI.2.1 b hb
    have hL := hI.1
    have hn := bl_cnt hL.2 hok
    refine lv_aload_n hx hbc dX2_items_12 rfl (lv_at hl 0 rfl) ?_
    refine x2_counts C w dX2_items_13 ?_
    refine lv_iload_n hx hbc dX2_items_16 rfl (lv_at hl 1 rfl) ?_
    refine x2_ld_counts C w (j := b) (by omega) rfl (v := nI ((M.1 b).1)) (hY.1) dX2_items_17 ?_
    exact hret _ _ _ _ _ _ dX2_items_18 rfl (⟨bl_items_ok hb, rfl⟩) w
  · refine lv_iconst (v := (-1)) hx hbc dX2_items_8 (by decide) ?_
    refine lv_goto (tgt := 18) hx hbc dX2_items_9 (by decide) ?_
    exact hret _ _ _ _ _ _ dX2_items_18 rfl (⟨bl_items_bad (bl_bv1 c0), rfl⟩) w
set_option maxHeartbeats 4000000 in
set_option maxRecDepth 100000 in
/-- place(x, y) -/
theorem c2_place (l : Launch) (P : bl_P) (u : bl_S) {L : Nat} {M : bl_M} (x y : Int32) (hI : bl_I L M) (hR : bl_RY L M u) : x2Mi l yX2_place cX2_place 3 (some .int) 1 P u [.int x, .int y] (fun r v => bl_place M x y = r ∧ u = v) := by
  refine x2Mi_of (ty := .int) (by decide) rfl rfl (Nat.le_of_ble_eq_true rfl) ?_
  intro p e s m args below meth c A Q ls C hA hret w hl
  have hx := C.1.1
  have hbc := C.1.2.1
  have hl : lv_has ls 3 [(0, .ref (P.2.2 0)), (1, .int x), (2, .int y)] := hl
  refine lv_aload_n hx hbc dX2_place_0 rfl (lv_at hl 0 rfl) ?_
  refine lv_iload_n hx hbc dX2_place_1 rfl (lv_at hl 1 rfl) ?_
  refine x2_calli C w hA (rest := []) (c2_bad l P _ x) x2g_bad x2d_bad rfl ⟨Nat.le_of_ble_eq_true rfl, Nat.le_of_ble_eq_true rfl⟩ hl.1 rfl (Nat.le_of_ble_eq_true rfl) dX2_place_2 ⟨Nat.zero_le _, Nat.zero_le _⟩ (fun r v H locs hp w => ?_)
  obtain ⟨rfl, rfl⟩ := hp
  refine lv_if_eq (tgt := 10) hx hbc dX2_place_5 (by decide) (fun c0 => ?_) (fun c0 => ?_)
  · obtain ⟨b, hb, rfl⟩ := bl_bv0 c0
    have hY := hR.2.1 b hb
    have hok := hI.2.1 b hb
    have hL := hI.1
    have hn := bl_cnt hL.2 hok
    refine lv_iload_n hx hbc dX2_place_10 rfl (lv_at hl 2 rfl) ?_
    refine lv_if_lt (tgt := 24) hx hbc dX2_place_11 (by decide) (fun c1 => ?_) (fun c1 => ?_)
    · refine lv_bipush (v := (-4)) hx hbc dX2_place_24 (by decide) ?_
      refine lv_goto (tgt := 40) hx hbc dX2_place_26 (by decide) ?_
      exact hret _ _ _ _ _ _ dX2_place_40 rfl (⟨bl_place_no hb (Or.inl c1), rfl⟩) w
    · refine lv_iload_n hx hbc dX2_place_14 rfl (lv_at hl 2 rfl) ?_
      refine lv_aload_n hx hbc dX2_place_15 rfl (lv_at hl 0 rfl) ?_
      refine x2_counts C w dX2_place_16 ?_
      refine lv_iload_n hx hbc dX2_place_19 rfl (lv_at hl 1 rfl) ?_
      refine x2_ld_counts C w (j := b) (by omega) rfl (v := nI ((M.1 b).1)) (hY.1) dX2_place_20 ?_
      refine lv_icmp_lt (tgt := 29) hx hbc dX2_place_21 (by decide) (fun c2 => ?_) (fun c2 => ?_)
      · obtain ⟨k, hk, rfl⟩ := nI_of c1
        have hk := (nI_ltI (by omega) (by omega)).mp c2
        refine lv_aload_n hx hbc dX2_place_29 rfl (lv_at hl 0 rfl) ?_
        refine x2_places C w dX2_place_30 ?_
        refine lv_iload_n hx hbc dX2_place_33 rfl (lv_at hl 1 rfl) ?_
        refine lv_bipush (v := nI 16) hx hbc dX2_place_34 (by decide) ?_
        refine lv_imul hx hbc dX2_place_36 ?_
        refine bl_as (pk_mul _ _) ?_
        refine lv_iload_n hx hbc dX2_place_37 rfl (lv_at hl 2 rfl) ?_
        refine lv_iadd hx hbc dX2_place_38 ?_
        refine bl_as (nI_add _ _) ?_
        refine x2_ld_places C w (j := b * 16 + k) (by omega) rfl (v := nI ((M.1 b).2.1 k)) ((hY.2 k hk).1) dX2_place_39 ?_
        exact hret _ _ _ _ _ _ dX2_place_40 rfl (⟨bl_place_ok hb hn hk, rfl⟩) w
      · refine lv_bipush (v := (-4)) hx hbc dX2_place_24 (by decide) ?_
        refine lv_goto (tgt := 40) hx hbc dX2_place_26 (by decide) ?_
        exact hret _ _ _ _ _ _ dX2_place_40 rfl (⟨bl_place_no hb (Or.inr (Int32.not_lt.mp c2)), rfl⟩) w
  · refine lv_iconst (v := (-1)) hx hbc dX2_place_8 (by decide) ?_
    exact hret _ _ _ _ _ _ dX2_place_9 rfl (⟨bl_place_bad (bl_bv1 c0), rfl⟩) w
set_option maxHeartbeats 4000000 in
set_option maxRecDepth 100000 in
/-- kind(x, y) -/
theorem c2_kind (l : Launch) (P : bl_P) (u : bl_S) {L : Nat} {M : bl_M} (x y : Int32) (hI : bl_I L M) (hR : bl_RY L M u) : x2Mi l yX2_kind cX2_kind 3 (some .int) 1 P u [.int x, .int y] (fun r v => bl_kind M x y = r ∧ u = v) := by
  refine x2Mi_of (ty := .int) (by decide) rfl rfl (Nat.le_of_ble_eq_true rfl) ?_
  intro p e s m args below meth c A Q ls C hA hret w hl
  have hx := C.1.1
  have hbc := C.1.2.1
  have hl : lv_has ls 3 [(0, .ref (P.2.2 0)), (1, .int x), (2, .int y)] := hl
  refine lv_aload_n hx hbc dX2_kind_0 rfl (lv_at hl 0 rfl) ?_
  refine lv_iload_n hx hbc dX2_kind_1 rfl (lv_at hl 1 rfl) ?_
  refine x2_calli C w hA (rest := []) (c2_bad l P _ x) x2g_bad x2d_bad rfl ⟨Nat.le_of_ble_eq_true rfl, Nat.le_of_ble_eq_true rfl⟩ hl.1 rfl (Nat.le_of_ble_eq_true rfl) dX2_kind_2 ⟨Nat.zero_le _, Nat.zero_le _⟩ (fun r v H locs hp w => ?_)
  obtain ⟨rfl, rfl⟩ := hp
  refine lv_if_eq (tgt := 10) hx hbc dX2_kind_5 (by decide) (fun c0 => ?_) (fun c0 => ?_)
  · obtain ⟨b, hb, rfl⟩ := bl_bv0 c0
    have hY := hR.2.1 b hb
    have hok := hI.2.1 b hb
    have hL := hI.1
    have hn := bl_cnt hL.2 hok
    refine lv_iload_n hx hbc dX2_kind_10 rfl (lv_at hl 2 rfl) ?_
    refine lv_if_lt (tgt := 24) hx hbc dX2_kind_11 (by decide) (fun c1 => ?_) (fun c1 => ?_)
    · refine lv_bipush (v := (-4)) hx hbc dX2_kind_24 (by decide) ?_
      refine lv_goto (tgt := 40) hx hbc dX2_kind_26 (by decide) ?_
      exact hret _ _ _ _ _ _ dX2_kind_40 rfl (⟨bl_kind_no hb (Or.inl c1), rfl⟩) w
    · refine lv_iload_n hx hbc dX2_kind_14 rfl (lv_at hl 2 rfl) ?_
      refine lv_aload_n hx hbc dX2_kind_15 rfl (lv_at hl 0 rfl) ?_
      refine x2_counts C w dX2_kind_16 ?_
      refine lv_iload_n hx hbc dX2_kind_19 rfl (lv_at hl 1 rfl) ?_
      refine x2_ld_counts C w (j := b) (by omega) rfl (v := nI ((M.1 b).1)) (hY.1) dX2_kind_20 ?_
      refine lv_icmp_lt (tgt := 29) hx hbc dX2_kind_21 (by decide) (fun c2 => ?_) (fun c2 => ?_)
      · obtain ⟨k, hk, rfl⟩ := nI_of c1
        have hk := (nI_ltI (by omega) (by omega)).mp c2
        refine lv_aload_n hx hbc dX2_kind_29 rfl (lv_at hl 0 rfl) ?_
        refine x2_kinds C w dX2_kind_30 ?_
        refine lv_iload_n hx hbc dX2_kind_33 rfl (lv_at hl 1 rfl) ?_
        refine lv_bipush (v := nI 16) hx hbc dX2_kind_34 (by decide) ?_
        refine lv_imul hx hbc dX2_kind_36 ?_
        refine bl_as (pk_mul _ _) ?_
        refine lv_iload_n hx hbc dX2_kind_37 rfl (lv_at hl 2 rfl) ?_
        refine lv_iadd hx hbc dX2_kind_38 ?_
        refine bl_as (nI_add _ _) ?_
        refine x2_ld_kinds C w (j := b * 16 + k) (by omega) rfl (v := nI ((M.1 b).2.2 k)) ((hY.2 k hk).2) dX2_kind_39 ?_
        exact hret _ _ _ _ _ _ dX2_kind_40 rfl (⟨bl_kind_ok hb hn hk, rfl⟩) w
      · refine lv_bipush (v := (-4)) hx hbc dX2_kind_24 (by decide) ?_
        refine lv_goto (tgt := 40) hx hbc dX2_kind_26 (by decide) ?_
        exact hret _ _ _ _ _ _ dX2_kind_40 rfl (⟨bl_kind_no hb (Or.inr (Int32.not_lt.mp c2)), rfl⟩) w
  · refine lv_iconst (v := (-1)) hx hbc dX2_kind_8 (by decide) ?_
    exact hret _ _ _ _ _ _ dX2_kind_9 rfl (⟨bl_kind_bad (bl_bv1 c0), rfl⟩) w
set_option maxHeartbeats 4000000 in
set_option maxRecDepth 100000 in
/-- out() -/
theorem c2_out (l : Launch) (P : bl_P) (u : bl_S) {L : Nat} {M : bl_M} (hI : bl_I L M) (hR : bl_RY L M u) : x2Mi l yX2_out cX2_out 1 (some .int) 0 P u [] (fun r v => M.2.2.2.2 = r ∧ u = v) := by
  refine x2Mi_of (ty := .int) (by decide) rfl rfl (Nat.le_of_ble_eq_true rfl) ?_
  intro p e s m args below meth c A Q ls C hA hret w hl
  have hx := C.1.1
  have hbc := C.1.2.1
  have hl : lv_has ls 1 [(0, .ref (P.2.2 0))] := hl
  refine lv_aload_n hx hbc dX2_out_0 rfl (lv_at hl 0 rfl) ?_
  refine x2_gone C w (v := M.2.2.2.2) (hR.2.2.2.2.2) dX2_out_1 ?_
  exact hret _ _ _ _ _ _ dX2_out_4 rfl (⟨rfl, rfl⟩) w
set_option maxHeartbeats 4000000 in
set_option maxRecDepth 100000 in
/-- held(x) -/
theorem c2_held (l : Launch) (P : bl_P) (u : bl_S) {L : Nat} {M : bl_M} (x : Int32) (hI : bl_I L M) (hR : bl_RY L M u) : x2Mi l yX2_held cX2_held 2 (some .int) 0 P u [.int x] (fun r v => bl_held M x = r ∧ u = v) := by
  refine x2Mi_of (ty := .int) (by decide) rfl rfl (Nat.le_of_ble_eq_true rfl) ?_
  intro p e s m args below meth c A Q ls C hA hret w hl
  have hx := C.1.1
  have hbc := C.1.2.1
  have hl : lv_has ls 2 [(0, .ref (P.2.2 0)), (1, .int x)] := hl
  refine lv_iload_n hx hbc dX2_held_0 rfl (lv_at hl 1 rfl) ?_
  refine lv_if_lt (tgt := 9) hx hbc dX2_held_1 (by decide) (fun c1 => ?_) (fun c1 => ?_)
  · refine lv_bipush (v := (-5)) hx hbc dX2_held_9 (by decide) ?_
    refine lv_goto (tgt := 20) hx hbc dX2_held_11 (by decide) ?_
    exact hret _ _ _ _ _ _ dX2_held_20 rfl (⟨bl_held_no (Or.inl c1), rfl⟩) w
  · refine lv_iload_n hx hbc dX2_held_4 rfl (lv_at hl 1 rfl) ?_
    refine lv_iconst (v := nI 1) hx hbc dX2_held_5 (by decide) ?_
    refine lv_icmp_le (tgt := 14) hx hbc dX2_held_6 (by decide) (fun c2 => ?_) (fun c2 => ?_)
    · obtain ⟨a, ha, rfl⟩ := bl_rng (m := 1) (n := 1) rfl c1 (Int32.not_lt.mpr c2)
      have ha : a < 2 := by omega
      refine lv_aload_n hx hbc dX2_held_14 rfl (lv_at hl 0 rfl) ?_
      refine x2_holds C w dX2_held_15 ?_
      refine lv_iload_n hx hbc dX2_held_18 rfl (lv_at hl 1 rfl) ?_
      refine x2_ld_holds C w (j := a) (by omega) rfl (v := (bl_hv (M.2.2.2.1 a))) (hR.2.2.2.2.1 a ha) dX2_held_19 ?_
      exact hret _ _ _ _ _ _ dX2_held_20 rfl (⟨bl_held_ok ha, rfl⟩) w
    · refine lv_bipush (v := (-5)) hx hbc dX2_held_9 (by decide) ?_
      refine lv_goto (tgt := 20) hx hbc dX2_held_11 (by decide) ?_
      exact hret _ _ _ _ _ _ dX2_held_20 rfl (⟨bl_held_no (Or.inr (Int32.not_le.mp c2)), rfl⟩) w
set_option maxHeartbeats 4000000 in
set_option maxRecDepth 100000 in
/-- moving(x) -/
theorem c2_moving (l : Launch) (P : bl_P) (u : bl_S) {L : Nat} {M : bl_M} (x : Int32) (hI : bl_I L M) (hR : bl_RY L M u) : x2Mi l yX2_moving cX2_moving 6 (some .int) 1 P u [.int x] (fun r v => bl_moving M x = r ∧ u = v) := by
  refine x2Mi_of (ty := .int) (by decide) rfl rfl (Nat.le_of_ble_eq_true rfl) ?_
  intro p e s m args below meth c A Q ls C hA hret w hl
  have hx := C.1.1
  have hbc := C.1.2.1
  have hl : lv_has ls 6 [(0, .ref (P.2.2 0)), (1, .int x)] := hl
  refine lv_aload_n hx hbc dX2_moving_0 rfl (lv_at hl 0 rfl) ?_
  refine lv_iload_n hx hbc dX2_moving_1 rfl (lv_at hl 1 rfl) ?_
  refine x2_calli C w hA (rest := []) (c2_bad l P _ x) x2g_bad x2d_bad rfl ⟨Nat.le_of_ble_eq_true rfl, Nat.le_of_ble_eq_true rfl⟩ hl.1 rfl (Nat.le_of_ble_eq_true rfl) dX2_moving_2 ⟨Nat.zero_le _, Nat.zero_le _⟩ (fun r v H locs hp w => ?_)
  obtain ⟨rfl, rfl⟩ := hp
  refine lv_if_eq (tgt := 10) hx hbc dX2_moving_5 (by decide) (fun c0 => ?_) (fun c0 => ?_)
  · obtain ⟨b, hb, rfl⟩ := bl_bv0 c0
    have hY := hR.2.1 b hb
    have hok := hI.2.1 b hb
    have hL := hI.1
    have hn := bl_cnt hL.2 hok
    have hfo := bl_find_le (bl_gf (M.1 b).2.1) (M.1 b).1
    refine lv_iconst (v := nI 0) hx hbc dX2_moving_10 (by decide) ?_
    refine lv_istore_n (lv' := [(2, .int (nI 0)), (0, .ref (P.2.2 0)), (1, .int (nI b))]) hx hbc dX2_moving_11 rfl hl (by decide) rfl (fun ls hl => ?_)
    refine lv_bipush (v := (-4)) hx hbc dX2_moving_12 (by decide) ?_
    refine lv_istore_n (lv' := [(3, .int ((-4))), (2, .int (nI 0)), (0, .ref (P.2.2 0)), (1, .int (nI b))]) hx hbc dX2_moving_14 rfl hl (by decide) rfl (fun ls hl => ?_)
    refine lv_iconst (v := nI 0) hx hbc dX2_moving_15 (by decide) ?_
    refine lv_istore (lv' := [(4, .int (nI 0)), (3, .int ((-4))), (2, .int (nI 0)), (0, .ref (P.2.2 0)), (1, .int (nI b))]) hx hbc dX2_moving_16 hl (by decide) rfl (fun ls hl => ?_)
    have hl : lv_has ls 6 [(4, .int (nI 0)), (3, .int (bl_pl (bl_adv (M.1 b)).2.1 0)), (2, .int (nI (0 - bl_find (bl_gf (M.1 b).2.1) (M.1 b).1))), (0, .ref (P.2.2 0)), (1, .int (nI b))] := by rw [Nat.zero_sub]; exact hl
    have loop : ∀ (f : Nat) (k : Nat), (k ≤ (M.1 b).1) → ((M.1 b).1 + 1 ≤ k + f) → ∀ (H : Heap) (locs : List Loc) (ls : Array Slot), x2W P A s.heap u H locs → lv_has ls 6 [(0, .ref (P.2.2 0)), (1, .int (nI b)), (2, .int (nI (k - bl_find (bl_gf (M.1 b).2.1) (M.1 b).1))), (3, .int ((bl_pl (bl_adv (M.1 b)).2.1 k))), (4, .int (nI k))] → W p l e (bl_rm 1) s m args below meth c H locs 0 0 Q (F0 m 18 ls []) := by
      intro f
      induction f with
      | zero =>
        intro k hk hf
        exact absurd hf (by omega)
      | succ f ih =>
        intro k hk hf H locs ls w hl
        refine lv_iload hx hbc dX2_moving_18 (lv_at hl 4 rfl) ?_
        refine lv_aload_n hx hbc dX2_moving_20 rfl (lv_at hl 0 rfl) ?_
        refine x2_counts C w dX2_moving_21 ?_
        refine lv_iload_n hx hbc dX2_moving_24 rfl (lv_at hl 1 rfl) ?_
        refine x2_ld_counts C w (j := b) (by omega) rfl (v := nI ((M.1 b).1)) (hY.1) dX2_moving_25 ?_
        refine lv_icmp_ge (tgt := 74) hx hbc dX2_moving_26 (by decide) (fun c1 => ?_) (fun c1 => ?_)
        · have c1 := (nI_leI (by omega) (by omega)).mp c1
          have e1 : k = (M.1 b).1 := by omega
          refine lv_iload_n hx hbc dX2_moving_74 rfl (lv_at hl 2 rfl) ?_
          exact hret _ _ _ _ _ _ dX2_moving_75 rfl (⟨by rw [e1]; exact bl_moving_ok hb, rfl⟩) w
        · have c1 : ¬ (M.1 b).1 ≤ k := fun q => c1 ((nI_leI (by omega) (by omega)).mpr q)
          have hkn : k < (M.1 b).1 := by omega
          have hp := (hok.1 k hkn).1
          obtain ⟨d, hd, ed, eo⟩ := bl_mv_t hok hL.2 hkn
          have hfk := bl_opn_fo (p := (M.1 b).2.1) hkn
          have rest_ : ∀ (z q : Nat) (H : Heap) (locs : List Loc) (ls : Array Slot), ((bl_adv (M.1 b)).2.1 k = z) → (k + 1 - bl_find (bl_gf (M.1 b).2.1) (M.1 b).1 = q) → x2W P A s.heap u H locs → lv_has ls 6 [(0, .ref (P.2.2 0)), (1, .int (nI b)), (2, .int (nI q)), (3, .int ((bl_pl (bl_adv (M.1 b)).2.1 k))), (4, .int (nI k)), (5, .int (nI z))] → W p l e (bl_rm 1) s m args below meth c H locs 0 0 Q (F0 m 65 ls []) := by
            intro z q H locs ls hz hq w hl
            subst hz
            subst hq
            refine lv_iload hx hbc dX2_moving_65 (lv_at hl 5 rfl) ?_
            refine lv_istore_n (lv' := [(3, .int (nI ((bl_adv (M.1 b)).2.1 k))), (0, .ref (P.2.2 0)), (1, .int (nI b)), (2, .int (nI (k + 1 - bl_find (bl_gf (M.1 b).2.1) (M.1 b).1))), (4, .int (nI k)), (5, .int (nI ((bl_adv (M.1 b)).2.1 k)))]) hx hbc dX2_moving_67 rfl hl (by decide) rfl (fun ls hl => ?_)
            refine lv_iinc (v := nI (k + 1)) (lv' := [(4, .int (nI (k + 1))), (3, .int (nI ((bl_adv (M.1 b)).2.1 k))), (0, .ref (P.2.2 0)), (1, .int (nI b)), (2, .int (nI (k + 1 - bl_find (bl_gf (M.1 b).2.1) (M.1 b).1))), (5, .int (nI ((bl_adv (M.1 b)).2.1 k)))]) hx hbc dX2_moving_68 hl (k := 4) rfl (nI_add _ 1) (by decide) rfl (fun ls hl => ?_)
            refine lv_goto (tgt := 18) hx hbc dX2_moving_71 (by decide) ?_
            exact ih (k + 1) (by omega) (by omega) _ _ _ w (lv_sub hl [2, 3, 4, 1, 0] rfl)
          refine lv_aload_n hx hbc dX2_moving_29 rfl (lv_at hl 0 rfl) ?_
          refine x2_places C w dX2_moving_30 ?_
          refine lv_iload_n hx hbc dX2_moving_33 rfl (lv_at hl 1 rfl) ?_
          refine lv_bipush (v := nI 16) hx hbc dX2_moving_34 (by decide) ?_
          refine lv_imul hx hbc dX2_moving_36 ?_
          refine bl_as (pk_mul _ _) ?_
          refine lv_iload hx hbc dX2_moving_37 (lv_at hl 4 rfl) ?_
          refine lv_iadd hx hbc dX2_moving_39 ?_
          refine bl_as (nI_add _ _) ?_
          refine x2_ld_places C w (j := b * 16 + k) (by omega) rfl (v := nI ((M.1 b).2.1 k)) ((hY.2 k hkn).1) dX2_moving_40 ?_
          refine lv_istore (lv' := [(5, .int (nI ((M.1 b).2.1 k))), (0, .ref (P.2.2 0)), (1, .int (nI b)), (2, .int (nI (k - bl_find (bl_gf (M.1 b).2.1) (M.1 b).1))), (3, .int ((bl_pl (bl_adv (M.1 b)).2.1 k))), (4, .int (nI k))]) hx hbc dX2_moving_41 hl (by decide) rfl (fun ls hl => ?_)
          refine lv_iload hx hbc dX2_moving_43 (lv_at hl 0 rfl) ?_
          refine lv_if_le (tgt := 65) hx hbc dX2_moving_45 (by decide) (fun c2 => ?_) (fun c2 => ?_)
          · have c2 : (M.1 b).2.1 k ≤ 0 := (nI_leI (b := 0) (by omega) (by decide)).mp c2
            have ho : ¬ bl_opn (M.1 b).2.1 k = true := fun q => by have := (eo.mp q).1; omega
            have hf2 : ¬ bl_find (bl_gf (M.1 b).2.1) (M.1 b).1 ≤ k := fun q => ho (hfk.mpr q)
            exact rest_ _ _ _ _ _ (if_neg ho) (by omega) w (lv_sub hl [1, 2, 3, 4, 5, 0] rfl)
          · have c2 : ¬ (M.1 b).2.1 k ≤ 0 := fun q => c2 ((nI_leI (b := 0) (by omega) (by decide)).mpr q)
            refine lv_iload hx hbc dX2_moving_48 (lv_at hl 0 rfl) ?_
            refine lv_iload_n hx hbc dX2_moving_50 rfl (lv_at hl 4 rfl) ?_
            refine lv_isub hx hbc dX2_moving_51 ?_
            refine bl_as (y := nI d) (ed) ?_
            refine lv_iconst (v := nI 4) hx hbc dX2_moving_52 (by decide) ?_
            refine lv_icmp_le (tgt := 65) hx hbc dX2_moving_53 (by decide) (fun c3 => ?_) (fun c3 => ?_)
            · have c3 := (nI_leI (by omega) (by omega)).mp c3
              have ho : ¬ bl_opn (M.1 b).2.1 k = true := fun q => by have := (eo.mp q).2; omega
              have hf2 : ¬ bl_find (bl_gf (M.1 b).2.1) (M.1 b).1 ≤ k := fun q => ho (hfk.mpr q)
              exact rest_ _ _ _ _ _ (if_neg ho) (by omega) w (lv_sub hl [1, 2, 3, 4, 5, 0] rfl)
            · have c3 : ¬ d ≤ 4 := fun q => c3 ((nI_leI (by omega) (by omega)).mpr q)
              have ho := eo.mpr ⟨by omega, by omega⟩
              have hf2 := hfk.mp ho
              refine lv_iload hx hbc dX2_moving_56 (lv_at hl 0 rfl) ?_
              refine lv_iconst (v := nI 1) hx hbc dX2_moving_58 (by decide) ?_
              refine lv_isub hx hbc dX2_moving_59 ?_
              refine bl_as (y := nI ((M.1 b).2.1 k - 1)) (pk_sub (by omega)) ?_
              refine lv_istore (lv' := [(5, .int (nI ((M.1 b).2.1 k - 1))), (0, .ref (P.2.2 0)), (1, .int (nI b)), (2, .int (nI (k - bl_find (bl_gf (M.1 b).2.1) (M.1 b).1))), (3, .int ((bl_pl (bl_adv (M.1 b)).2.1 k))), (4, .int (nI k))]) hx hbc dX2_moving_60 hl (by decide) rfl (fun ls hl => ?_)
              refine lv_iinc (v := nI (k - bl_find (bl_gf (M.1 b).2.1) (M.1 b).1 + 1)) (lv' := [(2, .int (nI (k - bl_find (bl_gf (M.1 b).2.1) (M.1 b).1 + 1))), (5, .int (nI ((M.1 b).2.1 k - 1))), (0, .ref (P.2.2 0)), (1, .int (nI b)), (3, .int ((bl_pl (bl_adv (M.1 b)).2.1 k))), (4, .int (nI k))]) hx hbc dX2_moving_62 hl (k := 3) rfl (nI_add _ 1) (by decide) rfl (fun ls hl => ?_)
              exact rest_ _ _ _ _ _ (if_pos ho) (by omega) w (lv_sub hl [2, 3, 0, 4, 5, 1] rfl)
    exact loop ((M.1 b).1 + 1) 0 (by omega) (by omega) _ _ _ w (lv_sub hl [3, 4, 2, 1, 0] rfl)
  · refine lv_iconst (v := (-1)) hx hbc dX2_moving_8 (by decide) ?_
    exact hret _ _ _ _ _ _ dX2_moving_9 rfl (⟨bl_moving_bad (bl_bv1 c0), rfl⟩) w
end
section
/-! the start -/
def bl_len (x : Int32) : Nat := if x < 8 then 8 else if 60 < x then 60 else x.toNatClampNeg
theorem bl_len_lo {x : Int32} (h : x < 8) : bl_len x = 8 := if_pos h
theorem bl_len_hi {x : Int32} (h : ¬ x < 8) (h2 : 60 < x) : bl_len x = 60 := by
  unfold bl_len
  rw [if_neg h, if_pos h2]
theorem bl_len_mid {x : Int32} (h : ¬ x < 8) (h2 : ¬ 60 < x) : x = nI (bl_len x) ∧ 8 ≤ bl_len x ∧ bl_len x ≤ 60 := by
  have h0 : ¬ x < 0 := fun q => h (Int32.lt_trans q (by decide))
  obtain ⟨j, hj, rfl⟩ := bl_rng (m := 60) (n := 60) rfl h0 h2
  have e : bl_len (nI j) = j := by
    unfold bl_len
    rw [if_neg h, if_neg h2, nI_clamp (by omega)]
  rw [e]
  refine ⟨rfl, ?_, hj⟩
  exact Nat.le_of_not_lt fun q => h (nI_lt (b := 8) q (by decide))
theorem bl_len_rng (x : Int32) : 8 ≤ bl_len x ∧ bl_len x ≤ 60 := by
  by_cases h : x < 8
  · rw [bl_len_lo h]; decide
  · by_cases h2 : 60 < x
    · rw [bl_len_hi h h2]; decide
    · exact (bl_len_mid h h2).2
def bl_M0 : bl_M := (fun _ => (0, fun _ => 0, fun _ => 0), fun _ => -1, fun _ => (0, 0, 0, 0, 0), fun _ => none, 0)
theorem bl_I0 (x : Int32) : bl_I (bl_len x) bl_M0 := by
  refine ⟨bl_len_rng x, fun b _ => ⟨fun i hi => absurd hi (Nat.not_lt_zero _), fun i hi => absurd hi (Nat.not_lt_zero _)⟩, fun b _ => Or.inl rfl, fun a _ => ⟨Or.inl rfl, ?_, ?_, ?_⟩, fun a _ k q => ?_⟩
  · show 0 < 4; decide
  · show 0 < 4; decide
  · show 0 ≤ 60; decide
  · cases q
/-- b leads (array p) and a hands (array q) are set, all else is 0 -/
def bl_i0 (p q L b a : Nat) (v : bl_S) : Prop := v.2 = (nI L, 0) ∧ (∀ k j, k ≠ p → k ≠ q → v.1 k j = 0) ∧ (∀ j, j < b → v.1 p j = -1) ∧ ∀ j, j < a → v.1 q j = -4
theorem bl_i0_0 {p q L : Nat} : bl_i0 p q L 0 0 (fun _ _ => 0, nI L, 0) := ⟨rfl, fun _ _ _ _ => rfl, fun j hj => absurd hj (Nat.not_lt_zero _), fun j hj => absurd hj (Nat.not_lt_zero _)⟩
theorem bl_i0_b {p q L b a : Nat} {v : bl_S} (hpq : q ≠ p) (h : bl_i0 p q L b a v) : bl_i0 p q L (b + 1) a (bl_st v p b (-1)) := by
  obtain ⟨h1, h2, h3, h4⟩ := h
  refine ⟨h1, fun k j hk hq => ?_, fun j hj => ?_, fun j hj => ?_⟩
  · rw [bl_st_k _ _ _ hk]; exact h2 k j hk hq
  · by_cases e : j = b
    · rw [e, bl_st_eq]
    · rw [bl_st_ne _ _ _ e]; exact h3 j (by omega)
  · rw [bl_st_k _ _ _ hpq]; exact h4 j hj
theorem bl_i0_a {p q L b a : Nat} {v : bl_S} (hpq : p ≠ q) (h : bl_i0 p q L b a v) : bl_i0 p q L b (a + 1) (bl_st v q a (-4)) := by
  obtain ⟨h1, h2, h3, h4⟩ := h
  refine ⟨h1, fun k j hk hq => ?_, fun j hj => ?_, fun j hj => ?_⟩
  · rw [bl_st_k _ _ _ hq]; exact h2 k j hk hq
  · rw [bl_st_k _ _ _ hpq]; exact h3 j hj
  · by_cases e : j = a
    · rw [e, bl_st_eq]
    · rw [bl_st_ne _ _ _ e]; exact h4 j (by omega)
theorem bl_RX0 {L : Nat} {v : bl_S} (h : bl_i0 6 12 L 4 2 v) : bl_RX L bl_M0 v := by
  obtain ⟨h1, h2, h3, h4⟩ := h
  refine ⟨by rw [h1], fun b hb => ⟨0, by decide, h2 1 b (by decide) (by decide), h2 2 b (by decide) (by decide), h2 5 b (by decide) (by decide), fun i hi => absurd hi (Nat.not_lt_zero _)⟩, h3, fun a ha => ⟨h2 7 a (by decide) (by decide), h2 8 a (by decide) (by decide), h2 9 a (by decide) (by decide), h2 10 a (by decide) (by decide), h2 11 a (by decide) (by decide)⟩, h4, by rw [h1]; rfl⟩
theorem bl_RY0 {L : Nat} {v : bl_S} (h : bl_i0 4 10 L 4 2 v) : bl_RY L bl_M0 v := by
  obtain ⟨h1, h2, h3, h4⟩ := h
  refine ⟨by rw [h1], fun b hb => ⟨h2 1 b (by decide) (by decide), fun i hi => absurd hi (Nat.not_lt_zero _)⟩, h3, fun a ha => ⟨h2 5 a (by decide) (by decide), h2 6 a (by decide) (by decide), h2 7 a (by decide) (by decide), h2 8 a (by decide) (by decide), h2 9 a (by decide) (by decide)⟩, h4, by rw [h1]; rfl⟩
end
section
set_option maxRecDepth 100000
def x1N (h0 : Nat) : va_W := [(h0, .inr (0, [.int 0, .null, .null, .null, .null, .null, .null, .null, .null, .null, .null, .null, .null, .int 0]))]
abbrev x1RM : Room := ({ frames := 1, cells := 12, slots := 156, locals := 12 } : Room)
/-- the constructor's contract: at h0 a new object of BeltLanes of length bl_len x, nothing on it -/
def x1I (l : Launch) (D : va_G) (h0 : Nat) (x : Int32) : Prop := ∀ sz : Nat, Met l yX1_init (ws_ yX1_init cX1_init 4 none) x1RM (va_Pc [.ref h0, .int x] (fun U => U.heap.size = sz ∧ va_P D vwCl (x1N h0) U.heap ∧ va_K D vwCl [] U ∧ va_D (fun _ => True) (x1N h0))) (va_Qv (bl_RX (bl_len x) bl_M0) (fun u t => ∃ (cA : Nat → ClassId) (ad : Nat → Nat), ad 0 = h0 ∧ va_P D vwCl (x1L (D, cA, ad) u) t.heap ∧ va_K D vwCl (x1T (D, cA, ad)) t ∧ va_D (va_A (x1N h0) sz) (x1L (D, cA, ad) u)) (va_A (x1N h0) sz)) 12 156 (va_A (x1N h0) sz)
theorem x1I_of {l : Launch} {D : va_G} {h0 : Nat} {x : Int32} (body : ∀ (p : Program) (e : Env) (s : State) (m : MethodId) (args : Array Value) (below : List Frame) (meth : Method) (c : Code) (A : Nat → Prop) (Q : State → Prop) (ls : Array Slot), CallFix p m c cX1_init 4 s args lw_all RX1 → meth.name = "<init>" → va_K D vwCl [] s → (∀ q, s.heap.size ≤ q → A q) → (∀ (P : bl_P) (u : bl_S) (H : Heap) (locs : List Loc) (ls : Array Slot) (pc : Nat), decode cX1_init pc = .ok (.return_, 1) → P.1 = D → P.2.2 0 = h0 → bl_RX (bl_len x) bl_M0 u → va_K P.1 vwCl (x1T P) s → x1W P A s.heap u H locs → W p l e x1RM s m args below meth c H locs 12 156 Q (F0 m pc ls [])) → va_P D vwCl (x1N h0) s.heap → va_D A (x1N h0) → va_S A s.heap s.heap [] → lv_has ls 4 [(0, .ref h0), (1, .int x)] → W p l e x1RM s m args below meth c s.heap [] 0 0 Q (F0 m 0 ls [])) : x1I l D h0 x := by
  intro sz
  refine Met.ofW (cc := cX1_init) (maxL := 4) (ret := none) (by decide) rfl ?_
  intro p e s m args below meth c s₁ B hml hv
  obtain ⟨rfl, hsz, hP, hK, hD0⟩ := hv
  have hts := atoms_spec (ws := ws_ yX1_init cX1_init 4 none) B.pre
  have hts : ∀ w ∈ lw_all, w.before _ s = true := fun w h => hts w (List.mem_cons_of_mem _ h)
  have hown : s.vm.findClass RX1 = some m.cls := findClass_of_methodNamed B.named
  have hin : meth.name = "<init>" := (name_of_methodNamed B.named B.method).1
  subst hsz
  have hD := hD0.self (sz := s.heap.size)
  generalize hAe : va_A (x1N h0) s.heap.size = A at hD ⊢
  have hA : ∀ q : Nat, s.heap.size ≤ q → A q := fun q h => by rw [← hAe]; exact Or.inr h
  have hl := lv_entry [Value.ref h0, Value.int x] (n := 4) (Nat.le_of_ble_eq_true rfl)
  rw [lg_entry_eq]
  generalize (lg_sl [Value.ref h0, Value.int x] ++ List.replicate (4 - (lg_sl [Value.ref h0, Value.int x]).length) Slot.unset).toArray = ls at hl ⊢
  refine body p e s m _ below meth c A _ ls ⟨B.exec, B.bytes, hml, hown, hts⟩ hin hK hA (fun P u H locs ls pc hd hPD hP0 hp hK2 hw => ?_) hP hD va_S.rf hl
  subst hPD
  exact W.vret B.exec B.bytes B.returns (fun t ht hW => ⟨⟨u, rfl, hp, P.2.1, P.2.2, hP0, by rw [ht]; exact hw.1, va_K.moved hW.alike hK2, hw.2.1⟩, hw.2.2.F ht⟩) hw.2.2.2.2 hd B.notSynchronized
theorem x1_put_length {p : Program} {l : Launch} {e : Env} {R : Room} {s : State} {m : MethodId} {args : Array Value} {below : List Frame} {meth : Method} {c : Code} {H : Heap} {locs : List Loc} {cells slots : Nat} {Q : State → Prop} {cc : ByteArray} {nL pc : Nat} {ls : Array Slot} {rest : List Value} {P : bl_P} {A : Nat → Prop} {u : bl_S} (C : x1C P cc nL p c s m args) (w : x1W P A s.heap u H locs) (hin : meth.name = "<init>") {v : Int32} (hdg : decode cc pc = .ok (.putfield 47, 3)) (kk : ∀ (H1 : Heap) (locs1 : List Loc), x1W P A s.heap (u.1, v, u.2.2) H1 locs1 → W p l e R s m args below meth c H1 locs1 cells slots Q (F0 m (pc + 3) ls rest)) : W p l e R s m args below meth c H locs cells slots Q (F0 m pc ls (.int v :: .ref (P.2.2 0) :: rest)) := by
  exact va_putF (D := P.1) (ci := 0) (v := .int v) (ty := .int) (C := RX1) (T := TX1) (N := 14) C.1.1 C.1.2.1 C.1.2.2.2.2 in_X1 tyX1 tyX1_ok nmX1 C.1.2.2.2.1 C.2 w.1 w.2.1 w.2.2 0 rfl rfl 0 (by decide) (C.1.2.2.2.2 _ q32) (fun _ h9 => h9) rfl hin rfl (by decide +kernel) rfl rfl (Nat.le_of_ble_eq_true rfl) hdg (fun H1 locs1 hP hD hS => kk H1 locs1 ⟨hP, hD, hS⟩)
set_option maxHeartbeats 4000000 in
/-- BeltLanes(x) -/
theorem c1_init (l : Launch) (D : va_G) (h0 : Nat) (x : Int32) : x1I l D h0 x := by
  refine x1I_of ?_
  intro p e s m args below meth c A Q ls S hin hK hA hret hP hD hS hl
  obtain ⟨hx, hbc, hml, hown, hts⟩ := id S
  have hP : va_P D vwCl [(h0, .inr (0, [.int 0, .null, .null, .null, .null, .null, .null, .null, .null, .null, .null, .null, .null, .int 0]))] s.heap := hP
  have hD : va_D A [(h0, .inr (0, [.int 0, .null, .null, .null, .null, .null, .null, .null, .null, .null, .null, .null, .null, .int 0]))] := hD
  refine lv_aload_n hx hbc dX1_init_0 rfl (lv_at hl 0 rfl) ?_
  refine W.objInit hx hbc hown (hts _ q29) (hts _ q30) (hts _ q31) rfl (by rw [hml]; exact hl.1) rfl dX1_init_1 (Nat.le_of_ble_eq_true rfl) (Nat.le_of_ble_eq_true rfl) ?_
  refine W.eq (g2 := F0 m 4 ls []) rfl ?_
  refine lv_aload_n hx hbc dX1_init_4 rfl (lv_at hl 0 rfl) ?_
  refine lv_iconst (v := nI 4) hx hbc dX1_init_5 (by decide) ?_
  refine va_newa (D := D) (atype := .int) (a0 := (4, .inl (fun _ => 0))) (N' := 4) (ty := .int) hx hbc (hts _ q75) rfl hK hP hD hS hA (fun _ => rfl) (by decide) (by decide) (by decide) (Nat.le_of_ble_eq_true rfl) (Nat.le_of_ble_eq_true rfl) dX1_init_6 (fun q1 cA1 H hK hP hD hS => ?_)
  have hK : va_K D vwCl [(cA1, .int)] s := hK
  have hP : va_P D vwCl [(h0, .inr (0, [.int 0, .null, .null, .null, .null, .null, .null, .null, .null, .null, .null, .null, .null, .int 0])), (q1, .inl (cA1, 4, .inl (fun _ => 0)))] H := hP
  have hD : va_D A [(h0, .inr (0, [.int 0, .null, .null, .null, .null, .null, .null, .null, .null, .null, .null, .null, .null, .int 0])), (q1, .inl (cA1, 4, .inl (fun _ => 0)))] := hD
  refine W.widen (k := 1) (n := 4) (Nat.le_of_ble_eq_true rfl) (Nat.le_of_ble_eq_true rfl) ?_
  refine va_putF (D := D) (ci := 0) (v := .ref q1) (ty := .array .int) (C := RX1) (T := TX1) (N := 14) hx hbc hts in_X1 tyX1 tyX1_ok nmX1 hown hK hP hD hS 0 rfl rfl 1 (by decide) (hts _ q33) (fun _ h9 => h9) rfl hin rfl (by decide +kernel) rfl rfl (Nat.le_of_ble_eq_true rfl) dX1_init_8 (fun H locs hP hD hS => ?_)
  have hP : va_P D vwCl [(h0, .inr (0, [.int 0, .ref q1, .null, .null, .null, .null, .null, .null, .null, .null, .null, .null, .null, .int 0])), (q1, .inl (cA1, 4, .inl (fun _ => 0)))] H := hP
  have hD : va_D A [(h0, .inr (0, [.int 0, .ref q1, .null, .null, .null, .null, .null, .null, .null, .null, .null, .null, .null, .int 0])), (q1, .inl (cA1, 4, .inl (fun _ => 0)))] := hD
  refine lv_aload_n hx hbc dX1_init_11 rfl (lv_at hl 0 rfl) ?_
  refine lv_iconst (v := nI 4) hx hbc dX1_init_12 (by decide) ?_
  refine va_newa (D := D) (atype := .int) (a0 := (4, .inl (fun _ => 0))) (N' := 4) (ty := .int) hx hbc (hts _ q75) rfl hK hP hD hS hA (fun _ => rfl) (by decide) (by decide) (by decide) (Nat.le_of_ble_eq_true rfl) (Nat.le_of_ble_eq_true rfl) dX1_init_13 (fun q2 cA2 H hK hP hD hS => ?_)
  have hK : va_K D vwCl [(cA1, .int), (cA2, .int)] s := hK
  have hP : va_P D vwCl [(h0, .inr (0, [.int 0, .ref q1, .null, .null, .null, .null, .null, .null, .null, .null, .null, .null, .null, .int 0])), (q1, .inl (cA1, 4, .inl (fun _ => 0))), (q2, .inl (cA2, 4, .inl (fun _ => 0)))] H := hP
  have hD : va_D A [(h0, .inr (0, [.int 0, .ref q1, .null, .null, .null, .null, .null, .null, .null, .null, .null, .null, .null, .int 0])), (q1, .inl (cA1, 4, .inl (fun _ => 0))), (q2, .inl (cA2, 4, .inl (fun _ => 0)))] := hD
  refine W.widen (k := 2) (n := 8) (Nat.le_of_ble_eq_true rfl) (Nat.le_of_ble_eq_true rfl) ?_
  refine va_putF (D := D) (ci := 0) (v := .ref q2) (ty := .array .int) (C := RX1) (T := TX1) (N := 14) hx hbc hts in_X1 tyX1 tyX1_ok nmX1 hown hK hP hD hS 0 rfl rfl 2 (by decide) (hts _ q34) (fun _ h9 => h9) rfl hin rfl (by decide +kernel) rfl rfl (Nat.le_of_ble_eq_true rfl) dX1_init_15 (fun H locs hP hD hS => ?_)
  have hP : va_P D vwCl [(h0, .inr (0, [.int 0, .ref q1, .ref q2, .null, .null, .null, .null, .null, .null, .null, .null, .null, .null, .int 0])), (q1, .inl (cA1, 4, .inl (fun _ => 0))), (q2, .inl (cA2, 4, .inl (fun _ => 0)))] H := hP
  have hD : va_D A [(h0, .inr (0, [.int 0, .ref q1, .ref q2, .null, .null, .null, .null, .null, .null, .null, .null, .null, .null, .int 0])), (q1, .inl (cA1, 4, .inl (fun _ => 0))), (q2, .inl (cA2, 4, .inl (fun _ => 0)))] := hD
  refine lv_aload_n hx hbc dX1_init_18 rfl (lv_at hl 0 rfl) ?_
  refine lv_bipush (v := nI 64) hx hbc dX1_init_19 (by decide) ?_
  refine va_newa (D := D) (atype := .int) (a0 := (64, .inl (fun _ => 0))) (N' := 64) (ty := .int) hx hbc (hts _ q75) rfl hK hP hD hS hA (fun _ => rfl) (by decide) (by decide) (by decide) (Nat.le_of_ble_eq_true rfl) (Nat.le_of_ble_eq_true rfl) dX1_init_21 (fun q3 cA3 H hK hP hD hS => ?_)
  have hK : va_K D vwCl [(cA1, .int), (cA2, .int), (cA3, .int)] s := hK
  have hP : va_P D vwCl [(h0, .inr (0, [.int 0, .ref q1, .ref q2, .null, .null, .null, .null, .null, .null, .null, .null, .null, .null, .int 0])), (q1, .inl (cA1, 4, .inl (fun _ => 0))), (q2, .inl (cA2, 4, .inl (fun _ => 0))), (q3, .inl (cA3, 64, .inl (fun _ => 0)))] H := hP
  have hD : va_D A [(h0, .inr (0, [.int 0, .ref q1, .ref q2, .null, .null, .null, .null, .null, .null, .null, .null, .null, .null, .int 0])), (q1, .inl (cA1, 4, .inl (fun _ => 0))), (q2, .inl (cA2, 4, .inl (fun _ => 0))), (q3, .inl (cA3, 64, .inl (fun _ => 0)))] := hD
  refine W.widen (k := 3) (n := 72) (Nat.le_of_ble_eq_true rfl) (Nat.le_of_ble_eq_true rfl) ?_
  refine va_putF (D := D) (ci := 0) (v := .ref q3) (ty := .array .int) (C := RX1) (T := TX1) (N := 14) hx hbc hts in_X1 tyX1 tyX1_ok nmX1 hown hK hP hD hS 0 rfl rfl 3 (by decide) (hts _ q35) (fun _ h9 => h9) rfl hin rfl (by decide +kernel) rfl rfl (Nat.le_of_ble_eq_true rfl) dX1_init_23 (fun H locs hP hD hS => ?_)
  have hP : va_P D vwCl [(h0, .inr (0, [.int 0, .ref q1, .ref q2, .ref q3, .null, .null, .null, .null, .null, .null, .null, .null, .null, .int 0])), (q1, .inl (cA1, 4, .inl (fun _ => 0))), (q2, .inl (cA2, 4, .inl (fun _ => 0))), (q3, .inl (cA3, 64, .inl (fun _ => 0)))] H := hP
  have hD : va_D A [(h0, .inr (0, [.int 0, .ref q1, .ref q2, .ref q3, .null, .null, .null, .null, .null, .null, .null, .null, .null, .int 0])), (q1, .inl (cA1, 4, .inl (fun _ => 0))), (q2, .inl (cA2, 4, .inl (fun _ => 0))), (q3, .inl (cA3, 64, .inl (fun _ => 0)))] := hD
  refine lv_aload_n hx hbc dX1_init_26 rfl (lv_at hl 0 rfl) ?_
  refine lv_bipush (v := nI 64) hx hbc dX1_init_27 (by decide) ?_
  refine va_newa (D := D) (atype := .int) (a0 := (64, .inl (fun _ => 0))) (N' := 64) (ty := .int) hx hbc (hts _ q75) rfl hK hP hD hS hA (fun _ => rfl) (by decide) (by decide) (by decide) (Nat.le_of_ble_eq_true rfl) (Nat.le_of_ble_eq_true rfl) dX1_init_29 (fun q4 cA4 H hK hP hD hS => ?_)
  have hK : va_K D vwCl [(cA1, .int), (cA2, .int), (cA3, .int), (cA4, .int)] s := hK
  have hP : va_P D vwCl [(h0, .inr (0, [.int 0, .ref q1, .ref q2, .ref q3, .null, .null, .null, .null, .null, .null, .null, .null, .null, .int 0])), (q1, .inl (cA1, 4, .inl (fun _ => 0))), (q2, .inl (cA2, 4, .inl (fun _ => 0))), (q3, .inl (cA3, 64, .inl (fun _ => 0))), (q4, .inl (cA4, 64, .inl (fun _ => 0)))] H := hP
  have hD : va_D A [(h0, .inr (0, [.int 0, .ref q1, .ref q2, .ref q3, .null, .null, .null, .null, .null, .null, .null, .null, .null, .int 0])), (q1, .inl (cA1, 4, .inl (fun _ => 0))), (q2, .inl (cA2, 4, .inl (fun _ => 0))), (q3, .inl (cA3, 64, .inl (fun _ => 0))), (q4, .inl (cA4, 64, .inl (fun _ => 0)))] := hD
  refine W.widen (k := 4) (n := 136) (Nat.le_of_ble_eq_true rfl) (Nat.le_of_ble_eq_true rfl) ?_
  refine va_putF (D := D) (ci := 0) (v := .ref q4) (ty := .array .int) (C := RX1) (T := TX1) (N := 14) hx hbc hts in_X1 tyX1 tyX1_ok nmX1 hown hK hP hD hS 0 rfl rfl 4 (by decide) (hts _ q36) (fun _ h9 => h9) rfl hin rfl (by decide +kernel) rfl rfl (Nat.le_of_ble_eq_true rfl) dX1_init_31 (fun H locs hP hD hS => ?_)
  have hP : va_P D vwCl [(h0, .inr (0, [.int 0, .ref q1, .ref q2, .ref q3, .ref q4, .null, .null, .null, .null, .null, .null, .null, .null, .int 0])), (q1, .inl (cA1, 4, .inl (fun _ => 0))), (q2, .inl (cA2, 4, .inl (fun _ => 0))), (q3, .inl (cA3, 64, .inl (fun _ => 0))), (q4, .inl (cA4, 64, .inl (fun _ => 0)))] H := hP
  have hD : va_D A [(h0, .inr (0, [.int 0, .ref q1, .ref q2, .ref q3, .ref q4, .null, .null, .null, .null, .null, .null, .null, .null, .int 0])), (q1, .inl (cA1, 4, .inl (fun _ => 0))), (q2, .inl (cA2, 4, .inl (fun _ => 0))), (q3, .inl (cA3, 64, .inl (fun _ => 0))), (q4, .inl (cA4, 64, .inl (fun _ => 0)))] := hD
  refine lv_aload_n hx hbc dX1_init_34 rfl (lv_at hl 0 rfl) ?_
  refine lv_iconst (v := nI 4) hx hbc dX1_init_35 (by decide) ?_
  refine va_newa (D := D) (atype := .int) (a0 := (4, .inl (fun _ => 0))) (N' := 4) (ty := .int) hx hbc (hts _ q75) rfl hK hP hD hS hA (fun _ => rfl) (by decide) (by decide) (by decide) (Nat.le_of_ble_eq_true rfl) (Nat.le_of_ble_eq_true rfl) dX1_init_36 (fun q5 cA5 H hK hP hD hS => ?_)
  have hK : va_K D vwCl [(cA1, .int), (cA2, .int), (cA3, .int), (cA4, .int), (cA5, .int)] s := hK
  have hP : va_P D vwCl [(h0, .inr (0, [.int 0, .ref q1, .ref q2, .ref q3, .ref q4, .null, .null, .null, .null, .null, .null, .null, .null, .int 0])), (q1, .inl (cA1, 4, .inl (fun _ => 0))), (q2, .inl (cA2, 4, .inl (fun _ => 0))), (q3, .inl (cA3, 64, .inl (fun _ => 0))), (q4, .inl (cA4, 64, .inl (fun _ => 0))), (q5, .inl (cA5, 4, .inl (fun _ => 0)))] H := hP
  have hD : va_D A [(h0, .inr (0, [.int 0, .ref q1, .ref q2, .ref q3, .ref q4, .null, .null, .null, .null, .null, .null, .null, .null, .int 0])), (q1, .inl (cA1, 4, .inl (fun _ => 0))), (q2, .inl (cA2, 4, .inl (fun _ => 0))), (q3, .inl (cA3, 64, .inl (fun _ => 0))), (q4, .inl (cA4, 64, .inl (fun _ => 0))), (q5, .inl (cA5, 4, .inl (fun _ => 0)))] := hD
  refine W.widen (k := 5) (n := 140) (Nat.le_of_ble_eq_true rfl) (Nat.le_of_ble_eq_true rfl) ?_
  refine va_putF (D := D) (ci := 0) (v := .ref q5) (ty := .array .int) (C := RX1) (T := TX1) (N := 14) hx hbc hts in_X1 tyX1 tyX1_ok nmX1 hown hK hP hD hS 0 rfl rfl 5 (by decide) (hts _ q37) (fun _ h9 => h9) rfl hin rfl (by decide +kernel) rfl rfl (Nat.le_of_ble_eq_true rfl) dX1_init_38 (fun H locs hP hD hS => ?_)
  have hP : va_P D vwCl [(h0, .inr (0, [.int 0, .ref q1, .ref q2, .ref q3, .ref q4, .ref q5, .null, .null, .null, .null, .null, .null, .null, .int 0])), (q1, .inl (cA1, 4, .inl (fun _ => 0))), (q2, .inl (cA2, 4, .inl (fun _ => 0))), (q3, .inl (cA3, 64, .inl (fun _ => 0))), (q4, .inl (cA4, 64, .inl (fun _ => 0))), (q5, .inl (cA5, 4, .inl (fun _ => 0)))] H := hP
  have hD : va_D A [(h0, .inr (0, [.int 0, .ref q1, .ref q2, .ref q3, .ref q4, .ref q5, .null, .null, .null, .null, .null, .null, .null, .int 0])), (q1, .inl (cA1, 4, .inl (fun _ => 0))), (q2, .inl (cA2, 4, .inl (fun _ => 0))), (q3, .inl (cA3, 64, .inl (fun _ => 0))), (q4, .inl (cA4, 64, .inl (fun _ => 0))), (q5, .inl (cA5, 4, .inl (fun _ => 0)))] := hD
  refine lv_aload_n hx hbc dX1_init_41 rfl (lv_at hl 0 rfl) ?_
  refine lv_iconst (v := nI 4) hx hbc dX1_init_42 (by decide) ?_
  refine va_newa (D := D) (atype := .int) (a0 := (4, .inl (fun _ => 0))) (N' := 4) (ty := .int) hx hbc (hts _ q75) rfl hK hP hD hS hA (fun _ => rfl) (by decide) (by decide) (by decide) (Nat.le_of_ble_eq_true rfl) (Nat.le_of_ble_eq_true rfl) dX1_init_43 (fun q6 cA6 H hK hP hD hS => ?_)
  have hK : va_K D vwCl [(cA1, .int), (cA2, .int), (cA3, .int), (cA4, .int), (cA5, .int), (cA6, .int)] s := hK
  have hP : va_P D vwCl [(h0, .inr (0, [.int 0, .ref q1, .ref q2, .ref q3, .ref q4, .ref q5, .null, .null, .null, .null, .null, .null, .null, .int 0])), (q1, .inl (cA1, 4, .inl (fun _ => 0))), (q2, .inl (cA2, 4, .inl (fun _ => 0))), (q3, .inl (cA3, 64, .inl (fun _ => 0))), (q4, .inl (cA4, 64, .inl (fun _ => 0))), (q5, .inl (cA5, 4, .inl (fun _ => 0))), (q6, .inl (cA6, 4, .inl (fun _ => 0)))] H := hP
  have hD : va_D A [(h0, .inr (0, [.int 0, .ref q1, .ref q2, .ref q3, .ref q4, .ref q5, .null, .null, .null, .null, .null, .null, .null, .int 0])), (q1, .inl (cA1, 4, .inl (fun _ => 0))), (q2, .inl (cA2, 4, .inl (fun _ => 0))), (q3, .inl (cA3, 64, .inl (fun _ => 0))), (q4, .inl (cA4, 64, .inl (fun _ => 0))), (q5, .inl (cA5, 4, .inl (fun _ => 0))), (q6, .inl (cA6, 4, .inl (fun _ => 0)))] := hD
  refine W.widen (k := 6) (n := 144) (Nat.le_of_ble_eq_true rfl) (Nat.le_of_ble_eq_true rfl) ?_
  refine va_putF (D := D) (ci := 0) (v := .ref q6) (ty := .array .int) (C := RX1) (T := TX1) (N := 14) hx hbc hts in_X1 tyX1 tyX1_ok nmX1 hown hK hP hD hS 0 rfl rfl 6 (by decide) (hts _ q38) (fun _ h9 => h9) rfl hin rfl (by decide +kernel) rfl rfl (Nat.le_of_ble_eq_true rfl) dX1_init_45 (fun H locs hP hD hS => ?_)
  have hP : va_P D vwCl [(h0, .inr (0, [.int 0, .ref q1, .ref q2, .ref q3, .ref q4, .ref q5, .ref q6, .null, .null, .null, .null, .null, .null, .int 0])), (q1, .inl (cA1, 4, .inl (fun _ => 0))), (q2, .inl (cA2, 4, .inl (fun _ => 0))), (q3, .inl (cA3, 64, .inl (fun _ => 0))), (q4, .inl (cA4, 64, .inl (fun _ => 0))), (q5, .inl (cA5, 4, .inl (fun _ => 0))), (q6, .inl (cA6, 4, .inl (fun _ => 0)))] H := hP
  have hD : va_D A [(h0, .inr (0, [.int 0, .ref q1, .ref q2, .ref q3, .ref q4, .ref q5, .ref q6, .null, .null, .null, .null, .null, .null, .int 0])), (q1, .inl (cA1, 4, .inl (fun _ => 0))), (q2, .inl (cA2, 4, .inl (fun _ => 0))), (q3, .inl (cA3, 64, .inl (fun _ => 0))), (q4, .inl (cA4, 64, .inl (fun _ => 0))), (q5, .inl (cA5, 4, .inl (fun _ => 0))), (q6, .inl (cA6, 4, .inl (fun _ => 0)))] := hD
  refine lv_aload_n hx hbc dX1_init_48 rfl (lv_at hl 0 rfl) ?_
  refine lv_iconst (v := nI 2) hx hbc dX1_init_49 (by decide) ?_
  refine va_newa (D := D) (atype := .boolean) (a0 := (2, .inl (fun _ => 0))) (N' := 2) (ty := .boolean) hx hbc (hts _ q76) rfl hK hP hD hS hA (fun _ => rfl) (by decide) (by decide) (by decide) (Nat.le_of_ble_eq_true rfl) (Nat.le_of_ble_eq_true rfl) dX1_init_50 (fun q7 cA7 H hK hP hD hS => ?_)
  have hK : va_K D vwCl [(cA1, .int), (cA2, .int), (cA3, .int), (cA4, .int), (cA5, .int), (cA6, .int), (cA7, .boolean)] s := hK
  have hP : va_P D vwCl [(h0, .inr (0, [.int 0, .ref q1, .ref q2, .ref q3, .ref q4, .ref q5, .ref q6, .null, .null, .null, .null, .null, .null, .int 0])), (q1, .inl (cA1, 4, .inl (fun _ => 0))), (q2, .inl (cA2, 4, .inl (fun _ => 0))), (q3, .inl (cA3, 64, .inl (fun _ => 0))), (q4, .inl (cA4, 64, .inl (fun _ => 0))), (q5, .inl (cA5, 4, .inl (fun _ => 0))), (q6, .inl (cA6, 4, .inl (fun _ => 0))), (q7, .inl (cA7, 2, .inl (fun _ => 0)))] H := hP
  have hD : va_D A [(h0, .inr (0, [.int 0, .ref q1, .ref q2, .ref q3, .ref q4, .ref q5, .ref q6, .null, .null, .null, .null, .null, .null, .int 0])), (q1, .inl (cA1, 4, .inl (fun _ => 0))), (q2, .inl (cA2, 4, .inl (fun _ => 0))), (q3, .inl (cA3, 64, .inl (fun _ => 0))), (q4, .inl (cA4, 64, .inl (fun _ => 0))), (q5, .inl (cA5, 4, .inl (fun _ => 0))), (q6, .inl (cA6, 4, .inl (fun _ => 0))), (q7, .inl (cA7, 2, .inl (fun _ => 0)))] := hD
  refine W.widen (k := 7) (n := 146) (Nat.le_of_ble_eq_true rfl) (Nat.le_of_ble_eq_true rfl) ?_
  refine va_putF (D := D) (ci := 0) (v := .ref q7) (ty := .array .boolean) (C := RX1) (T := TX1) (N := 14) hx hbc hts in_X1 tyX1 tyX1_ok nmX1 hown hK hP hD hS 0 rfl rfl 7 (by decide) (hts _ q39) (fun _ h9 => h9) rfl hin rfl (by decide +kernel) rfl rfl (Nat.le_of_ble_eq_true rfl) dX1_init_52 (fun H locs hP hD hS => ?_)
  have hP : va_P D vwCl [(h0, .inr (0, [.int 0, .ref q1, .ref q2, .ref q3, .ref q4, .ref q5, .ref q6, .ref q7, .null, .null, .null, .null, .null, .int 0])), (q1, .inl (cA1, 4, .inl (fun _ => 0))), (q2, .inl (cA2, 4, .inl (fun _ => 0))), (q3, .inl (cA3, 64, .inl (fun _ => 0))), (q4, .inl (cA4, 64, .inl (fun _ => 0))), (q5, .inl (cA5, 4, .inl (fun _ => 0))), (q6, .inl (cA6, 4, .inl (fun _ => 0))), (q7, .inl (cA7, 2, .inl (fun _ => 0)))] H := hP
  have hD : va_D A [(h0, .inr (0, [.int 0, .ref q1, .ref q2, .ref q3, .ref q4, .ref q5, .ref q6, .ref q7, .null, .null, .null, .null, .null, .int 0])), (q1, .inl (cA1, 4, .inl (fun _ => 0))), (q2, .inl (cA2, 4, .inl (fun _ => 0))), (q3, .inl (cA3, 64, .inl (fun _ => 0))), (q4, .inl (cA4, 64, .inl (fun _ => 0))), (q5, .inl (cA5, 4, .inl (fun _ => 0))), (q6, .inl (cA6, 4, .inl (fun _ => 0))), (q7, .inl (cA7, 2, .inl (fun _ => 0)))] := hD
  refine lv_aload_n hx hbc dX1_init_55 rfl (lv_at hl 0 rfl) ?_
  refine lv_iconst (v := nI 2) hx hbc dX1_init_56 (by decide) ?_
  refine va_newa (D := D) (atype := .int) (a0 := (2, .inl (fun _ => 0))) (N' := 2) (ty := .int) hx hbc (hts _ q75) rfl hK hP hD hS hA (fun _ => rfl) (by decide) (by decide) (by decide) (Nat.le_of_ble_eq_true rfl) (Nat.le_of_ble_eq_true rfl) dX1_init_57 (fun q8 cA8 H hK hP hD hS => ?_)
  have hK : va_K D vwCl [(cA1, .int), (cA2, .int), (cA3, .int), (cA4, .int), (cA5, .int), (cA6, .int), (cA7, .boolean), (cA8, .int)] s := hK
  have hP : va_P D vwCl [(h0, .inr (0, [.int 0, .ref q1, .ref q2, .ref q3, .ref q4, .ref q5, .ref q6, .ref q7, .null, .null, .null, .null, .null, .int 0])), (q1, .inl (cA1, 4, .inl (fun _ => 0))), (q2, .inl (cA2, 4, .inl (fun _ => 0))), (q3, .inl (cA3, 64, .inl (fun _ => 0))), (q4, .inl (cA4, 64, .inl (fun _ => 0))), (q5, .inl (cA5, 4, .inl (fun _ => 0))), (q6, .inl (cA6, 4, .inl (fun _ => 0))), (q7, .inl (cA7, 2, .inl (fun _ => 0))), (q8, .inl (cA8, 2, .inl (fun _ => 0)))] H := hP
  have hD : va_D A [(h0, .inr (0, [.int 0, .ref q1, .ref q2, .ref q3, .ref q4, .ref q5, .ref q6, .ref q7, .null, .null, .null, .null, .null, .int 0])), (q1, .inl (cA1, 4, .inl (fun _ => 0))), (q2, .inl (cA2, 4, .inl (fun _ => 0))), (q3, .inl (cA3, 64, .inl (fun _ => 0))), (q4, .inl (cA4, 64, .inl (fun _ => 0))), (q5, .inl (cA5, 4, .inl (fun _ => 0))), (q6, .inl (cA6, 4, .inl (fun _ => 0))), (q7, .inl (cA7, 2, .inl (fun _ => 0))), (q8, .inl (cA8, 2, .inl (fun _ => 0)))] := hD
  refine W.widen (k := 8) (n := 148) (Nat.le_of_ble_eq_true rfl) (Nat.le_of_ble_eq_true rfl) ?_
  refine va_putF (D := D) (ci := 0) (v := .ref q8) (ty := .array .int) (C := RX1) (T := TX1) (N := 14) hx hbc hts in_X1 tyX1 tyX1_ok nmX1 hown hK hP hD hS 0 rfl rfl 8 (by decide) (hts _ q40) (fun _ h9 => h9) rfl hin rfl (by decide +kernel) rfl rfl (Nat.le_of_ble_eq_true rfl) dX1_init_59 (fun H locs hP hD hS => ?_)
  have hP : va_P D vwCl [(h0, .inr (0, [.int 0, .ref q1, .ref q2, .ref q3, .ref q4, .ref q5, .ref q6, .ref q7, .ref q8, .null, .null, .null, .null, .int 0])), (q1, .inl (cA1, 4, .inl (fun _ => 0))), (q2, .inl (cA2, 4, .inl (fun _ => 0))), (q3, .inl (cA3, 64, .inl (fun _ => 0))), (q4, .inl (cA4, 64, .inl (fun _ => 0))), (q5, .inl (cA5, 4, .inl (fun _ => 0))), (q6, .inl (cA6, 4, .inl (fun _ => 0))), (q7, .inl (cA7, 2, .inl (fun _ => 0))), (q8, .inl (cA8, 2, .inl (fun _ => 0)))] H := hP
  have hD : va_D A [(h0, .inr (0, [.int 0, .ref q1, .ref q2, .ref q3, .ref q4, .ref q5, .ref q6, .ref q7, .ref q8, .null, .null, .null, .null, .int 0])), (q1, .inl (cA1, 4, .inl (fun _ => 0))), (q2, .inl (cA2, 4, .inl (fun _ => 0))), (q3, .inl (cA3, 64, .inl (fun _ => 0))), (q4, .inl (cA4, 64, .inl (fun _ => 0))), (q5, .inl (cA5, 4, .inl (fun _ => 0))), (q6, .inl (cA6, 4, .inl (fun _ => 0))), (q7, .inl (cA7, 2, .inl (fun _ => 0))), (q8, .inl (cA8, 2, .inl (fun _ => 0)))] := hD
  refine lv_aload_n hx hbc dX1_init_62 rfl (lv_at hl 0 rfl) ?_
  refine lv_iconst (v := nI 2) hx hbc dX1_init_63 (by decide) ?_
  refine va_newa (D := D) (atype := .int) (a0 := (2, .inl (fun _ => 0))) (N' := 2) (ty := .int) hx hbc (hts _ q75) rfl hK hP hD hS hA (fun _ => rfl) (by decide) (by decide) (by decide) (Nat.le_of_ble_eq_true rfl) (Nat.le_of_ble_eq_true rfl) dX1_init_64 (fun q9 cA9 H hK hP hD hS => ?_)
  have hK : va_K D vwCl [(cA1, .int), (cA2, .int), (cA3, .int), (cA4, .int), (cA5, .int), (cA6, .int), (cA7, .boolean), (cA8, .int), (cA9, .int)] s := hK
  have hP : va_P D vwCl [(h0, .inr (0, [.int 0, .ref q1, .ref q2, .ref q3, .ref q4, .ref q5, .ref q6, .ref q7, .ref q8, .null, .null, .null, .null, .int 0])), (q1, .inl (cA1, 4, .inl (fun _ => 0))), (q2, .inl (cA2, 4, .inl (fun _ => 0))), (q3, .inl (cA3, 64, .inl (fun _ => 0))), (q4, .inl (cA4, 64, .inl (fun _ => 0))), (q5, .inl (cA5, 4, .inl (fun _ => 0))), (q6, .inl (cA6, 4, .inl (fun _ => 0))), (q7, .inl (cA7, 2, .inl (fun _ => 0))), (q8, .inl (cA8, 2, .inl (fun _ => 0))), (q9, .inl (cA9, 2, .inl (fun _ => 0)))] H := hP
  have hD : va_D A [(h0, .inr (0, [.int 0, .ref q1, .ref q2, .ref q3, .ref q4, .ref q5, .ref q6, .ref q7, .ref q8, .null, .null, .null, .null, .int 0])), (q1, .inl (cA1, 4, .inl (fun _ => 0))), (q2, .inl (cA2, 4, .inl (fun _ => 0))), (q3, .inl (cA3, 64, .inl (fun _ => 0))), (q4, .inl (cA4, 64, .inl (fun _ => 0))), (q5, .inl (cA5, 4, .inl (fun _ => 0))), (q6, .inl (cA6, 4, .inl (fun _ => 0))), (q7, .inl (cA7, 2, .inl (fun _ => 0))), (q8, .inl (cA8, 2, .inl (fun _ => 0))), (q9, .inl (cA9, 2, .inl (fun _ => 0)))] := hD
  refine W.widen (k := 9) (n := 150) (Nat.le_of_ble_eq_true rfl) (Nat.le_of_ble_eq_true rfl) ?_
  refine va_putF (D := D) (ci := 0) (v := .ref q9) (ty := .array .int) (C := RX1) (T := TX1) (N := 14) hx hbc hts in_X1 tyX1 tyX1_ok nmX1 hown hK hP hD hS 0 rfl rfl 9 (by decide) (hts _ q41) (fun _ h9 => h9) rfl hin rfl (by decide +kernel) rfl rfl (Nat.le_of_ble_eq_true rfl) dX1_init_66 (fun H locs hP hD hS => ?_)
  have hP : va_P D vwCl [(h0, .inr (0, [.int 0, .ref q1, .ref q2, .ref q3, .ref q4, .ref q5, .ref q6, .ref q7, .ref q8, .ref q9, .null, .null, .null, .int 0])), (q1, .inl (cA1, 4, .inl (fun _ => 0))), (q2, .inl (cA2, 4, .inl (fun _ => 0))), (q3, .inl (cA3, 64, .inl (fun _ => 0))), (q4, .inl (cA4, 64, .inl (fun _ => 0))), (q5, .inl (cA5, 4, .inl (fun _ => 0))), (q6, .inl (cA6, 4, .inl (fun _ => 0))), (q7, .inl (cA7, 2, .inl (fun _ => 0))), (q8, .inl (cA8, 2, .inl (fun _ => 0))), (q9, .inl (cA9, 2, .inl (fun _ => 0)))] H := hP
  have hD : va_D A [(h0, .inr (0, [.int 0, .ref q1, .ref q2, .ref q3, .ref q4, .ref q5, .ref q6, .ref q7, .ref q8, .ref q9, .null, .null, .null, .int 0])), (q1, .inl (cA1, 4, .inl (fun _ => 0))), (q2, .inl (cA2, 4, .inl (fun _ => 0))), (q3, .inl (cA3, 64, .inl (fun _ => 0))), (q4, .inl (cA4, 64, .inl (fun _ => 0))), (q5, .inl (cA5, 4, .inl (fun _ => 0))), (q6, .inl (cA6, 4, .inl (fun _ => 0))), (q7, .inl (cA7, 2, .inl (fun _ => 0))), (q8, .inl (cA8, 2, .inl (fun _ => 0))), (q9, .inl (cA9, 2, .inl (fun _ => 0)))] := hD
  refine lv_aload_n hx hbc dX1_init_69 rfl (lv_at hl 0 rfl) ?_
  refine lv_iconst (v := nI 2) hx hbc dX1_init_70 (by decide) ?_
  refine va_newa (D := D) (atype := .int) (a0 := (2, .inl (fun _ => 0))) (N' := 2) (ty := .int) hx hbc (hts _ q75) rfl hK hP hD hS hA (fun _ => rfl) (by decide) (by decide) (by decide) (Nat.le_of_ble_eq_true rfl) (Nat.le_of_ble_eq_true rfl) dX1_init_71 (fun q10 cA10 H hK hP hD hS => ?_)
  have hK : va_K D vwCl [(cA1, .int), (cA2, .int), (cA3, .int), (cA4, .int), (cA5, .int), (cA6, .int), (cA7, .boolean), (cA8, .int), (cA9, .int), (cA10, .int)] s := hK
  have hP : va_P D vwCl [(h0, .inr (0, [.int 0, .ref q1, .ref q2, .ref q3, .ref q4, .ref q5, .ref q6, .ref q7, .ref q8, .ref q9, .null, .null, .null, .int 0])), (q1, .inl (cA1, 4, .inl (fun _ => 0))), (q2, .inl (cA2, 4, .inl (fun _ => 0))), (q3, .inl (cA3, 64, .inl (fun _ => 0))), (q4, .inl (cA4, 64, .inl (fun _ => 0))), (q5, .inl (cA5, 4, .inl (fun _ => 0))), (q6, .inl (cA6, 4, .inl (fun _ => 0))), (q7, .inl (cA7, 2, .inl (fun _ => 0))), (q8, .inl (cA8, 2, .inl (fun _ => 0))), (q9, .inl (cA9, 2, .inl (fun _ => 0))), (q10, .inl (cA10, 2, .inl (fun _ => 0)))] H := hP
  have hD : va_D A [(h0, .inr (0, [.int 0, .ref q1, .ref q2, .ref q3, .ref q4, .ref q5, .ref q6, .ref q7, .ref q8, .ref q9, .null, .null, .null, .int 0])), (q1, .inl (cA1, 4, .inl (fun _ => 0))), (q2, .inl (cA2, 4, .inl (fun _ => 0))), (q3, .inl (cA3, 64, .inl (fun _ => 0))), (q4, .inl (cA4, 64, .inl (fun _ => 0))), (q5, .inl (cA5, 4, .inl (fun _ => 0))), (q6, .inl (cA6, 4, .inl (fun _ => 0))), (q7, .inl (cA7, 2, .inl (fun _ => 0))), (q8, .inl (cA8, 2, .inl (fun _ => 0))), (q9, .inl (cA9, 2, .inl (fun _ => 0))), (q10, .inl (cA10, 2, .inl (fun _ => 0)))] := hD
  refine W.widen (k := 10) (n := 152) (Nat.le_of_ble_eq_true rfl) (Nat.le_of_ble_eq_true rfl) ?_
  refine va_putF (D := D) (ci := 0) (v := .ref q10) (ty := .array .int) (C := RX1) (T := TX1) (N := 14) hx hbc hts in_X1 tyX1 tyX1_ok nmX1 hown hK hP hD hS 0 rfl rfl 10 (by decide) (hts _ q42) (fun _ h9 => h9) rfl hin rfl (by decide +kernel) rfl rfl (Nat.le_of_ble_eq_true rfl) dX1_init_73 (fun H locs hP hD hS => ?_)
  have hP : va_P D vwCl [(h0, .inr (0, [.int 0, .ref q1, .ref q2, .ref q3, .ref q4, .ref q5, .ref q6, .ref q7, .ref q8, .ref q9, .ref q10, .null, .null, .int 0])), (q1, .inl (cA1, 4, .inl (fun _ => 0))), (q2, .inl (cA2, 4, .inl (fun _ => 0))), (q3, .inl (cA3, 64, .inl (fun _ => 0))), (q4, .inl (cA4, 64, .inl (fun _ => 0))), (q5, .inl (cA5, 4, .inl (fun _ => 0))), (q6, .inl (cA6, 4, .inl (fun _ => 0))), (q7, .inl (cA7, 2, .inl (fun _ => 0))), (q8, .inl (cA8, 2, .inl (fun _ => 0))), (q9, .inl (cA9, 2, .inl (fun _ => 0))), (q10, .inl (cA10, 2, .inl (fun _ => 0)))] H := hP
  have hD : va_D A [(h0, .inr (0, [.int 0, .ref q1, .ref q2, .ref q3, .ref q4, .ref q5, .ref q6, .ref q7, .ref q8, .ref q9, .ref q10, .null, .null, .int 0])), (q1, .inl (cA1, 4, .inl (fun _ => 0))), (q2, .inl (cA2, 4, .inl (fun _ => 0))), (q3, .inl (cA3, 64, .inl (fun _ => 0))), (q4, .inl (cA4, 64, .inl (fun _ => 0))), (q5, .inl (cA5, 4, .inl (fun _ => 0))), (q6, .inl (cA6, 4, .inl (fun _ => 0))), (q7, .inl (cA7, 2, .inl (fun _ => 0))), (q8, .inl (cA8, 2, .inl (fun _ => 0))), (q9, .inl (cA9, 2, .inl (fun _ => 0))), (q10, .inl (cA10, 2, .inl (fun _ => 0)))] := hD
  refine lv_aload_n hx hbc dX1_init_76 rfl (lv_at hl 0 rfl) ?_
  refine lv_iconst (v := nI 2) hx hbc dX1_init_77 (by decide) ?_
  refine va_newa (D := D) (atype := .int) (a0 := (2, .inl (fun _ => 0))) (N' := 2) (ty := .int) hx hbc (hts _ q75) rfl hK hP hD hS hA (fun _ => rfl) (by decide) (by decide) (by decide) (Nat.le_of_ble_eq_true rfl) (Nat.le_of_ble_eq_true rfl) dX1_init_78 (fun q11 cA11 H hK hP hD hS => ?_)
  have hK : va_K D vwCl [(cA1, .int), (cA2, .int), (cA3, .int), (cA4, .int), (cA5, .int), (cA6, .int), (cA7, .boolean), (cA8, .int), (cA9, .int), (cA10, .int), (cA11, .int)] s := hK
  have hP : va_P D vwCl [(h0, .inr (0, [.int 0, .ref q1, .ref q2, .ref q3, .ref q4, .ref q5, .ref q6, .ref q7, .ref q8, .ref q9, .ref q10, .null, .null, .int 0])), (q1, .inl (cA1, 4, .inl (fun _ => 0))), (q2, .inl (cA2, 4, .inl (fun _ => 0))), (q3, .inl (cA3, 64, .inl (fun _ => 0))), (q4, .inl (cA4, 64, .inl (fun _ => 0))), (q5, .inl (cA5, 4, .inl (fun _ => 0))), (q6, .inl (cA6, 4, .inl (fun _ => 0))), (q7, .inl (cA7, 2, .inl (fun _ => 0))), (q8, .inl (cA8, 2, .inl (fun _ => 0))), (q9, .inl (cA9, 2, .inl (fun _ => 0))), (q10, .inl (cA10, 2, .inl (fun _ => 0))), (q11, .inl (cA11, 2, .inl (fun _ => 0)))] H := hP
  have hD : va_D A [(h0, .inr (0, [.int 0, .ref q1, .ref q2, .ref q3, .ref q4, .ref q5, .ref q6, .ref q7, .ref q8, .ref q9, .ref q10, .null, .null, .int 0])), (q1, .inl (cA1, 4, .inl (fun _ => 0))), (q2, .inl (cA2, 4, .inl (fun _ => 0))), (q3, .inl (cA3, 64, .inl (fun _ => 0))), (q4, .inl (cA4, 64, .inl (fun _ => 0))), (q5, .inl (cA5, 4, .inl (fun _ => 0))), (q6, .inl (cA6, 4, .inl (fun _ => 0))), (q7, .inl (cA7, 2, .inl (fun _ => 0))), (q8, .inl (cA8, 2, .inl (fun _ => 0))), (q9, .inl (cA9, 2, .inl (fun _ => 0))), (q10, .inl (cA10, 2, .inl (fun _ => 0))), (q11, .inl (cA11, 2, .inl (fun _ => 0)))] := hD
  refine W.widen (k := 11) (n := 154) (Nat.le_of_ble_eq_true rfl) (Nat.le_of_ble_eq_true rfl) ?_
  refine va_putF (D := D) (ci := 0) (v := .ref q11) (ty := .array .int) (C := RX1) (T := TX1) (N := 14) hx hbc hts in_X1 tyX1 tyX1_ok nmX1 hown hK hP hD hS 0 rfl rfl 11 (by decide) (hts _ q43) (fun _ h9 => h9) rfl hin rfl (by decide +kernel) rfl rfl (Nat.le_of_ble_eq_true rfl) dX1_init_80 (fun H locs hP hD hS => ?_)
  have hP : va_P D vwCl [(h0, .inr (0, [.int 0, .ref q1, .ref q2, .ref q3, .ref q4, .ref q5, .ref q6, .ref q7, .ref q8, .ref q9, .ref q10, .ref q11, .null, .int 0])), (q1, .inl (cA1, 4, .inl (fun _ => 0))), (q2, .inl (cA2, 4, .inl (fun _ => 0))), (q3, .inl (cA3, 64, .inl (fun _ => 0))), (q4, .inl (cA4, 64, .inl (fun _ => 0))), (q5, .inl (cA5, 4, .inl (fun _ => 0))), (q6, .inl (cA6, 4, .inl (fun _ => 0))), (q7, .inl (cA7, 2, .inl (fun _ => 0))), (q8, .inl (cA8, 2, .inl (fun _ => 0))), (q9, .inl (cA9, 2, .inl (fun _ => 0))), (q10, .inl (cA10, 2, .inl (fun _ => 0))), (q11, .inl (cA11, 2, .inl (fun _ => 0)))] H := hP
  have hD : va_D A [(h0, .inr (0, [.int 0, .ref q1, .ref q2, .ref q3, .ref q4, .ref q5, .ref q6, .ref q7, .ref q8, .ref q9, .ref q10, .ref q11, .null, .int 0])), (q1, .inl (cA1, 4, .inl (fun _ => 0))), (q2, .inl (cA2, 4, .inl (fun _ => 0))), (q3, .inl (cA3, 64, .inl (fun _ => 0))), (q4, .inl (cA4, 64, .inl (fun _ => 0))), (q5, .inl (cA5, 4, .inl (fun _ => 0))), (q6, .inl (cA6, 4, .inl (fun _ => 0))), (q7, .inl (cA7, 2, .inl (fun _ => 0))), (q8, .inl (cA8, 2, .inl (fun _ => 0))), (q9, .inl (cA9, 2, .inl (fun _ => 0))), (q10, .inl (cA10, 2, .inl (fun _ => 0))), (q11, .inl (cA11, 2, .inl (fun _ => 0)))] := hD
  refine lv_aload_n hx hbc dX1_init_83 rfl (lv_at hl 0 rfl) ?_
  refine lv_iconst (v := nI 2) hx hbc dX1_init_84 (by decide) ?_
  refine va_newa (D := D) (atype := .int) (a0 := (2, .inl (fun _ => 0))) (N' := 2) (ty := .int) hx hbc (hts _ q75) rfl hK hP hD hS hA (fun _ => rfl) (by decide) (by decide) (by decide) (Nat.le_of_ble_eq_true rfl) (Nat.le_of_ble_eq_true rfl) dX1_init_85 (fun q12 cA12 H hK hP hD hS => ?_)
  have hK : va_K D vwCl [(cA1, .int), (cA2, .int), (cA3, .int), (cA4, .int), (cA5, .int), (cA6, .int), (cA7, .boolean), (cA8, .int), (cA9, .int), (cA10, .int), (cA11, .int), (cA12, .int)] s := hK
  have hP : va_P D vwCl [(h0, .inr (0, [.int 0, .ref q1, .ref q2, .ref q3, .ref q4, .ref q5, .ref q6, .ref q7, .ref q8, .ref q9, .ref q10, .ref q11, .null, .int 0])), (q1, .inl (cA1, 4, .inl (fun _ => 0))), (q2, .inl (cA2, 4, .inl (fun _ => 0))), (q3, .inl (cA3, 64, .inl (fun _ => 0))), (q4, .inl (cA4, 64, .inl (fun _ => 0))), (q5, .inl (cA5, 4, .inl (fun _ => 0))), (q6, .inl (cA6, 4, .inl (fun _ => 0))), (q7, .inl (cA7, 2, .inl (fun _ => 0))), (q8, .inl (cA8, 2, .inl (fun _ => 0))), (q9, .inl (cA9, 2, .inl (fun _ => 0))), (q10, .inl (cA10, 2, .inl (fun _ => 0))), (q11, .inl (cA11, 2, .inl (fun _ => 0))), (q12, .inl (cA12, 2, .inl (fun _ => 0)))] H := hP
  have hD : va_D A [(h0, .inr (0, [.int 0, .ref q1, .ref q2, .ref q3, .ref q4, .ref q5, .ref q6, .ref q7, .ref q8, .ref q9, .ref q10, .ref q11, .null, .int 0])), (q1, .inl (cA1, 4, .inl (fun _ => 0))), (q2, .inl (cA2, 4, .inl (fun _ => 0))), (q3, .inl (cA3, 64, .inl (fun _ => 0))), (q4, .inl (cA4, 64, .inl (fun _ => 0))), (q5, .inl (cA5, 4, .inl (fun _ => 0))), (q6, .inl (cA6, 4, .inl (fun _ => 0))), (q7, .inl (cA7, 2, .inl (fun _ => 0))), (q8, .inl (cA8, 2, .inl (fun _ => 0))), (q9, .inl (cA9, 2, .inl (fun _ => 0))), (q10, .inl (cA10, 2, .inl (fun _ => 0))), (q11, .inl (cA11, 2, .inl (fun _ => 0))), (q12, .inl (cA12, 2, .inl (fun _ => 0)))] := hD
  refine W.widen (k := 12) (n := 156) (Nat.le_of_ble_eq_true rfl) (Nat.le_of_ble_eq_true rfl) ?_
  refine va_putF (D := D) (ci := 0) (v := .ref q12) (ty := .array .int) (C := RX1) (T := TX1) (N := 14) hx hbc hts in_X1 tyX1 tyX1_ok nmX1 hown hK hP hD hS 0 rfl rfl 12 (by decide) (hts _ q44) (fun _ h9 => h9) rfl hin rfl (by decide +kernel) rfl rfl (Nat.le_of_ble_eq_true rfl) dX1_init_87 (fun H locs hP hD hS => ?_)
  have hP : va_P D vwCl [(h0, .inr (0, [.int 0, .ref q1, .ref q2, .ref q3, .ref q4, .ref q5, .ref q6, .ref q7, .ref q8, .ref q9, .ref q10, .ref q11, .ref q12, .int 0])), (q1, .inl (cA1, 4, .inl (fun _ => 0))), (q2, .inl (cA2, 4, .inl (fun _ => 0))), (q3, .inl (cA3, 64, .inl (fun _ => 0))), (q4, .inl (cA4, 64, .inl (fun _ => 0))), (q5, .inl (cA5, 4, .inl (fun _ => 0))), (q6, .inl (cA6, 4, .inl (fun _ => 0))), (q7, .inl (cA7, 2, .inl (fun _ => 0))), (q8, .inl (cA8, 2, .inl (fun _ => 0))), (q9, .inl (cA9, 2, .inl (fun _ => 0))), (q10, .inl (cA10, 2, .inl (fun _ => 0))), (q11, .inl (cA11, 2, .inl (fun _ => 0))), (q12, .inl (cA12, 2, .inl (fun _ => 0)))] H := hP
  have hD : va_D A [(h0, .inr (0, [.int 0, .ref q1, .ref q2, .ref q3, .ref q4, .ref q5, .ref q6, .ref q7, .ref q8, .ref q9, .ref q10, .ref q11, .ref q12, .int 0])), (q1, .inl (cA1, 4, .inl (fun _ => 0))), (q2, .inl (cA2, 4, .inl (fun _ => 0))), (q3, .inl (cA3, 64, .inl (fun _ => 0))), (q4, .inl (cA4, 64, .inl (fun _ => 0))), (q5, .inl (cA5, 4, .inl (fun _ => 0))), (q6, .inl (cA6, 4, .inl (fun _ => 0))), (q7, .inl (cA7, 2, .inl (fun _ => 0))), (q8, .inl (cA8, 2, .inl (fun _ => 0))), (q9, .inl (cA9, 2, .inl (fun _ => 0))), (q10, .inl (cA10, 2, .inl (fun _ => 0))), (q11, .inl (cA11, 2, .inl (fun _ => 0))), (q12, .inl (cA12, 2, .inl (fun _ => 0)))] := hD
  obtain ⟨P, hPD, hP0, hw0, hK0⟩ : ∃ P : bl_P, P.1 = D ∧ P.2.2 0 = h0 ∧ x1W P A s.heap (fun _ _ => 0, 0, 0) H locs ∧ va_K P.1 vwCl (x1T P) s := ⟨(D, fun k => [cA1, cA1, cA2, cA3, cA4, cA5, cA6, cA7, cA8, cA9, cA10, cA11, cA12].getD k cA1, fun k => [h0, q1, q2, q3, q4, q5, q6, q7, q8, q9, q10, q11, q12].getD k h0), rfl, rfl, ⟨hP, hD, hS⟩, hK⟩
  subst hPD
  subst hP0
  have w := hw0
  clear hP hD hS hK
  have C : x1C P cX1_init 4 p c s m args := ⟨S, hK0⟩
  have rest_ : ∀  (H : Heap) (locs : List Loc) (ls : Array Slot), x1W P A s.heap ((fun _ _ => 0, 0, 0) : bl_S) H locs → lv_has ls 4 [(0, .ref (P.2.2 0)), (2, .int (nI (bl_len x)))] → W p l e x1RM s m args below meth c H locs 12 156 Q (F0 m 110 ls []) := by
    intro  H locs ls  w hl
    refine lv_aload_n hx hbc dX1_init_110 rfl (lv_at hl 0 rfl) ?_
    refine lv_iload_n hx hbc dX1_init_111 rfl (lv_at hl 1 rfl) ?_
    refine x1_put_length C w hin dX1_init_112 (fun H locs w => ?_)
    refine lv_iconst (v := nI 0) hx hbc dX1_init_115 (by decide) ?_
    refine lv_istore_n (lv' := [(3, .int (nI 0)), (0, .ref (P.2.2 0)), (2, .int (nI (bl_len x)))]) hx hbc dX1_init_116 rfl hl (by decide) rfl (fun ls hl => ?_)
    have loop : ∀ (f : Nat) (k : Nat) (v : bl_S), (k ≤ 4) → (5 ≤ k + f) → (bl_i0 6 12 (bl_len x) k 0 v) → ∀ (H : Heap) (locs : List Loc) (ls : Array Slot), x1W P A s.heap v H locs → lv_has ls 4 [(0, .ref (P.2.2 0)), (3, .int (nI k))] → W p l e x1RM s m args below meth c H locs 12 156 Q (F0 m 117 ls []) := by
      intro f
      induction f with
      | zero =>
        intro k v hk hf hv
        exact absurd hf (by omega)
      | succ f ih =>
        intro k v hk hf hv H locs ls w hl
        refine lv_iload_n hx hbc dX1_init_117 rfl (lv_at hl 1 rfl) ?_
        refine lv_iconst (v := nI 4) hx hbc dX1_init_118 (by decide) ?_
        refine lv_icmp_ge (tgt := 135) hx hbc dX1_init_119 (by decide) (fun c1 => ?_) (fun c1 => ?_)
        · have c1 : 4 ≤ k := (nI_leI (by omega) (by omega)).mp c1
          have e4 : k = 4 := by omega
          subst e4
          clear ih
          refine lv_iconst (v := nI 0) hx hbc dX1_init_135 (by decide) ?_
          refine lv_istore_n (lv' := [(3, .int (nI 0)), (0, .ref (P.2.2 0))]) hx hbc dX1_init_136 rfl hl (by decide) rfl (fun ls hl => ?_)
          have loop : ∀ (f : Nat) (k : Nat) (v : bl_S), (k ≤ 2) → (3 ≤ k + f) → (bl_i0 6 12 (bl_len x) 4 k v) → ∀ (H : Heap) (locs : List Loc) (ls : Array Slot), x1W P A s.heap v H locs → lv_has ls 4 [(0, .ref (P.2.2 0)), (3, .int (nI k))] → W p l e x1RM s m args below meth c H locs 12 156 Q (F0 m 137 ls []) := by
            intro f
            induction f with
            | zero =>
              intro k v hk hf hv
              exact absurd hf (by omega)
            | succ f ih =>
              intro k v hk hf hv H locs ls w hl
              refine lv_iload_n hx hbc dX1_init_137 rfl (lv_at hl 1 rfl) ?_
              refine lv_iconst (v := nI 2) hx hbc dX1_init_138 (by decide) ?_
              refine lv_icmp_ge (tgt := 156) hx hbc dX1_init_139 (by decide) (fun c2 => ?_) (fun c2 => ?_)
              · have c2 : 2 ≤ k := (nI_leI (by omega) (by omega)).mp c2
                have e2 : k = 2 := by omega
                subst e2
                exact hret _ _ _ _ _ _ dX1_init_156 rfl rfl (bl_RX0 hv) hK0 w
              · have c2 : ¬ 2 ≤ k := fun q => c2 ((nI_leI (by omega) (by omega)).mpr q)
                refine lv_aload_n hx hbc dX1_init_142 rfl (lv_at hl 0 rfl) ?_
                refine x1_holds C w dX1_init_143 ?_
                refine lv_iload_n hx hbc dX1_init_146 rfl (lv_at hl 1 rfl) ?_
                refine lv_bipush (v := (-4)) hx hbc dX1_init_147 (by decide) ?_
                refine x1_st_holds C w (j := k) (by omega) rfl dX1_init_149 (fun H locs w => ?_)
                refine lv_iinc (v := nI (k + 1)) (lv' := [(3, .int (nI (k + 1))), (0, .ref (P.2.2 0))]) hx hbc dX1_init_150 hl (k := 1) rfl (nI_add _ 1) (by decide) rfl (fun ls hl => ?_)
                refine lv_goto (tgt := 137) hx hbc dX1_init_153 (by decide) ?_
                exact ih (k + 1) _ (by omega) (by omega) (bl_i0_a (by decide) hv) _ _ _ w (lv_sub hl [1, 0] rfl)
          exact loop 3 0 _ (by omega) (by omega) hv _ _ _ w (lv_sub hl [1, 0] rfl)
        · have c1 : ¬ 4 ≤ k := fun q => c1 ((nI_leI (by omega) (by omega)).mpr q)
          refine lv_aload_n hx hbc dX1_init_122 rfl (lv_at hl 0 rfl) ?_
          refine x1_leads C w dX1_init_123 ?_
          refine lv_iload_n hx hbc dX1_init_126 rfl (lv_at hl 1 rfl) ?_
          refine lv_iconst (v := (-1)) hx hbc dX1_init_127 (by decide) ?_
          refine x1_st_leads C w (j := k) (by omega) rfl dX1_init_128 (fun H locs w => ?_)
          refine lv_iinc (v := nI (k + 1)) (lv' := [(3, .int (nI (k + 1))), (0, .ref (P.2.2 0))]) hx hbc dX1_init_129 hl (k := 1) rfl (nI_add _ 1) (by decide) rfl (fun ls hl => ?_)
          refine lv_goto (tgt := 117) hx hbc dX1_init_132 (by decide) ?_
          exact ih (k + 1) _ (by omega) (by omega) (bl_i0_b (by decide) hv) _ _ _ w (lv_sub hl [1, 0] rfl)
    exact loop 5 0 _ (by omega) (by omega) bl_i0_0 _ _ _ w (lv_sub hl [1, 0] rfl)
  refine lv_iload_n hx hbc dX1_init_90 rfl (lv_at hl 1 rfl) ?_
  refine lv_istore_n (lv' := [(2, .int x), (0, .ref (P.2.2 0)), (1, .int x)]) hx hbc dX1_init_91 rfl hl (by decide) rfl (fun ls hl => ?_)
  refine lv_iload_n hx hbc dX1_init_92 rfl (lv_at hl 0 rfl) ?_
  refine lv_bipush (v := nI 8) hx hbc dX1_init_93 (by decide) ?_
  refine lv_icmp_ge (tgt := 101) hx hbc dX1_init_95 (by decide) (fun c1 => ?_) (fun c1 => ?_)
  · refine lv_iload_n hx hbc dX1_init_101 rfl (lv_at hl 0 rfl) ?_
    refine lv_bipush (v := nI 60) hx hbc dX1_init_102 (by decide) ?_
    refine lv_icmp_le (tgt := 110) hx hbc dX1_init_104 (by decide) (fun c2 => ?_) (fun c2 => ?_)
    · have e1 := bl_len_mid (Int32.not_lt.mpr c1) (Int32.not_lt.mpr c2)
      exact rest_ _ _ _ w (by have h9 := lv_sub (l' := [(0, .ref (P.2.2 0)), (2, .int x)]) hl [1, 0] rfl; rw [e1.1] at h9; exact h9)
    · have e1 := bl_len_hi (Int32.not_lt.mpr c1) (Int32.not_le.mp c2)
      refine lv_bipush (v := nI 60) hx hbc dX1_init_107 (by decide) ?_
      refine lv_istore_n (lv' := [(2, .int (nI 60)), (0, .ref (P.2.2 0)), (1, .int x)]) hx hbc dX1_init_109 rfl hl (by decide) rfl (fun ls hl => ?_)
      exact rest_ _ _ _ w (by rw [e1]; exact lv_sub hl [1, 0] rfl)
  · have e1 := bl_len_lo (Int32.not_le.mp c1)
    refine lv_bipush (v := nI 8) hx hbc dX1_init_98 (by decide) ?_
    refine lv_istore_n (lv' := [(2, .int (nI 8)), (0, .ref (P.2.2 0)), (1, .int x)]) hx hbc dX1_init_100 rfl hl (by decide) rfl (fun ls hl => ?_)
    refine lv_iload_n hx hbc dX1_init_101 rfl (lv_at hl 0 rfl) ?_
    refine lv_bipush (v := nI 60) hx hbc dX1_init_102 (by decide) ?_
    refine lv_icmp_le (tgt := 110) hx hbc dX1_init_104 (by decide) (fun _ => ?_) (fun c9 => absurd (by decide) c9)
    exact rest_ _ _ _ w (by rw [e1]; exact lv_sub hl [1, 0] rfl)
def x2N (h0 : Nat) : va_W := [(h0, .inr (1, [.int 0, .null, .null, .null, .null, .null, .null, .null, .null, .null, .null, .int 0]))]
abbrev x2RM : Room := ({ frames := 1, cells := 10, slots := 148, locals := 12 } : Room)
/-- the constructor's contract: at h0 a new object of BeltLanesModel of length bl_len x, nothing on it -/
def x2I (l : Launch) (D : va_G) (h0 : Nat) (x : Int32) : Prop := ∀ sz : Nat, Met l yX2_init (ws_ yX2_init cX2_init 4 none) x2RM (va_Pc [.ref h0, .int x] (fun U => U.heap.size = sz ∧ va_P D vwCl (x2N h0) U.heap ∧ va_K D vwCl [] U ∧ va_D (fun _ => True) (x2N h0))) (va_Qv (bl_RY (bl_len x) bl_M0) (fun u t => ∃ (cA : Nat → ClassId) (ad : Nat → Nat), ad 0 = h0 ∧ va_P D vwCl (x2L (D, cA, ad) u) t.heap ∧ va_K D vwCl (x2T (D, cA, ad)) t ∧ va_D (va_A (x2N h0) sz) (x2L (D, cA, ad) u)) (va_A (x2N h0) sz)) 10 148 (va_A (x2N h0) sz)
theorem x2I_of {l : Launch} {D : va_G} {h0 : Nat} {x : Int32} (body : ∀ (p : Program) (e : Env) (s : State) (m : MethodId) (args : Array Value) (below : List Frame) (meth : Method) (c : Code) (A : Nat → Prop) (Q : State → Prop) (ls : Array Slot), CallFix p m c cX2_init 4 s args lw_all RX2 → meth.name = "<init>" → va_K D vwCl [] s → (∀ q, s.heap.size ≤ q → A q) → (∀ (P : bl_P) (u : bl_S) (H : Heap) (locs : List Loc) (ls : Array Slot) (pc : Nat), decode cX2_init pc = .ok (.return_, 1) → P.1 = D → P.2.2 0 = h0 → bl_RY (bl_len x) bl_M0 u → va_K P.1 vwCl (x2T P) s → x2W P A s.heap u H locs → W p l e x2RM s m args below meth c H locs 10 148 Q (F0 m pc ls [])) → va_P D vwCl (x2N h0) s.heap → va_D A (x2N h0) → va_S A s.heap s.heap [] → lv_has ls 4 [(0, .ref h0), (1, .int x)] → W p l e x2RM s m args below meth c s.heap [] 0 0 Q (F0 m 0 ls [])) : x2I l D h0 x := by
  intro sz
  refine Met.ofW (cc := cX2_init) (maxL := 4) (ret := none) (by decide) rfl ?_
  intro p e s m args below meth c s₁ B hml hv
  obtain ⟨rfl, hsz, hP, hK, hD0⟩ := hv
  have hts := atoms_spec (ws := ws_ yX2_init cX2_init 4 none) B.pre
  have hts : ∀ w ∈ lw_all, w.before _ s = true := fun w h => hts w (List.mem_cons_of_mem _ h)
  have hown : s.vm.findClass RX2 = some m.cls := findClass_of_methodNamed B.named
  have hin : meth.name = "<init>" := (name_of_methodNamed B.named B.method).1
  subst hsz
  have hD := hD0.self (sz := s.heap.size)
  generalize hAe : va_A (x2N h0) s.heap.size = A at hD ⊢
  have hA : ∀ q : Nat, s.heap.size ≤ q → A q := fun q h => by rw [← hAe]; exact Or.inr h
  have hl := lv_entry [Value.ref h0, Value.int x] (n := 4) (Nat.le_of_ble_eq_true rfl)
  rw [lg_entry_eq]
  generalize (lg_sl [Value.ref h0, Value.int x] ++ List.replicate (4 - (lg_sl [Value.ref h0, Value.int x]).length) Slot.unset).toArray = ls at hl ⊢
  refine body p e s m _ below meth c A _ ls ⟨B.exec, B.bytes, hml, hown, hts⟩ hin hK hA (fun P u H locs ls pc hd hPD hP0 hp hK2 hw => ?_) hP hD va_S.rf hl
  subst hPD
  exact W.vret B.exec B.bytes B.returns (fun t ht hW => ⟨⟨u, rfl, hp, P.2.1, P.2.2, hP0, by rw [ht]; exact hw.1, va_K.moved hW.alike hK2, hw.2.1⟩, hw.2.2.F ht⟩) hw.2.2.2.2 hd B.notSynchronized
theorem x2_put_length {p : Program} {l : Launch} {e : Env} {R : Room} {s : State} {m : MethodId} {args : Array Value} {below : List Frame} {meth : Method} {c : Code} {H : Heap} {locs : List Loc} {cells slots : Nat} {Q : State → Prop} {cc : ByteArray} {nL pc : Nat} {ls : Array Slot} {rest : List Value} {P : bl_P} {A : Nat → Prop} {u : bl_S} (C : x2C P cc nL p c s m args) (w : x2W P A s.heap u H locs) (hin : meth.name = "<init>") {v : Int32} (hdg : decode cc pc = .ok (.putfield 41, 3)) (kk : ∀ (H1 : Heap) (locs1 : List Loc), x2W P A s.heap (u.1, v, u.2.2) H1 locs1 → W p l e R s m args below meth c H1 locs1 cells slots Q (F0 m (pc + 3) ls rest)) : W p l e R s m args below meth c H locs cells slots Q (F0 m pc ls (.int v :: .ref (P.2.2 0) :: rest)) := by
  exact va_putF (D := P.1) (ci := 1) (v := .int v) (ty := .int) (C := RX2) (T := TX2) (N := 12) C.1.1 C.1.2.1 C.1.2.2.2.2 in_X2 tyX2 tyX2_ok nmX2 C.1.2.2.2.1 C.2 w.1 w.2.1 w.2.2 0 rfl rfl 0 (by decide) (C.1.2.2.2.2 _ q193) (fun _ h9 => h9) rfl hin rfl (by decide +kernel) rfl rfl (Nat.le_of_ble_eq_true rfl) hdg (fun H1 locs1 hP hD hS => kk H1 locs1 ⟨hP, hD, hS⟩)
set_option maxHeartbeats 4000000 in
/-- BeltLanesModel(x) -/
theorem c2_init (l : Launch) (D : va_G) (h0 : Nat) (x : Int32) : x2I l D h0 x := by
  refine x2I_of ?_
  intro p e s m args below meth c A Q ls S hin hK hA hret hP hD hS hl
  obtain ⟨hx, hbc, hml, hown, hts⟩ := id S
  have hP : va_P D vwCl [(h0, .inr (1, [.int 0, .null, .null, .null, .null, .null, .null, .null, .null, .null, .null, .int 0]))] s.heap := hP
  have hD : va_D A [(h0, .inr (1, [.int 0, .null, .null, .null, .null, .null, .null, .null, .null, .null, .null, .int 0]))] := hD
  refine lv_aload_n hx hbc dX2_init_0 rfl (lv_at hl 0 rfl) ?_
  refine W.objInit hx hbc hown (hts _ q192) (hts _ q30) (hts _ q31) rfl (by rw [hml]; exact hl.1) rfl dX2_init_1 (Nat.le_of_ble_eq_true rfl) (Nat.le_of_ble_eq_true rfl) ?_
  refine W.eq (g2 := F0 m 4 ls []) rfl ?_
  refine lv_aload_n hx hbc dX2_init_4 rfl (lv_at hl 0 rfl) ?_
  refine lv_iconst (v := nI 4) hx hbc dX2_init_5 (by decide) ?_
  refine va_newa (D := D) (atype := .int) (a0 := (4, .inl (fun _ => 0))) (N' := 4) (ty := .int) hx hbc (hts _ q75) rfl hK hP hD hS hA (fun _ => rfl) (by decide) (by decide) (by decide) (Nat.le_of_ble_eq_true rfl) (Nat.le_of_ble_eq_true rfl) dX2_init_6 (fun q1 cA1 H hK hP hD hS => ?_)
  have hK : va_K D vwCl [(cA1, .int)] s := hK
  have hP : va_P D vwCl [(h0, .inr (1, [.int 0, .null, .null, .null, .null, .null, .null, .null, .null, .null, .null, .int 0])), (q1, .inl (cA1, 4, .inl (fun _ => 0)))] H := hP
  have hD : va_D A [(h0, .inr (1, [.int 0, .null, .null, .null, .null, .null, .null, .null, .null, .null, .null, .int 0])), (q1, .inl (cA1, 4, .inl (fun _ => 0)))] := hD
  refine W.widen (k := 1) (n := 4) (Nat.le_of_ble_eq_true rfl) (Nat.le_of_ble_eq_true rfl) ?_
  refine va_putF (D := D) (ci := 1) (v := .ref q1) (ty := .array .int) (C := RX2) (T := TX2) (N := 12) hx hbc hts in_X2 tyX2 tyX2_ok nmX2 hown hK hP hD hS 0 rfl rfl 1 (by decide) (hts _ q194) (fun _ h9 => h9) rfl hin rfl (by decide +kernel) rfl rfl (Nat.le_of_ble_eq_true rfl) dX2_init_8 (fun H locs hP hD hS => ?_)
  have hP : va_P D vwCl [(h0, .inr (1, [.int 0, .ref q1, .null, .null, .null, .null, .null, .null, .null, .null, .null, .int 0])), (q1, .inl (cA1, 4, .inl (fun _ => 0)))] H := hP
  have hD : va_D A [(h0, .inr (1, [.int 0, .ref q1, .null, .null, .null, .null, .null, .null, .null, .null, .null, .int 0])), (q1, .inl (cA1, 4, .inl (fun _ => 0)))] := hD
  refine lv_aload_n hx hbc dX2_init_11 rfl (lv_at hl 0 rfl) ?_
  refine lv_bipush (v := nI 64) hx hbc dX2_init_12 (by decide) ?_
  refine va_newa (D := D) (atype := .int) (a0 := (64, .inl (fun _ => 0))) (N' := 64) (ty := .int) hx hbc (hts _ q75) rfl hK hP hD hS hA (fun _ => rfl) (by decide) (by decide) (by decide) (Nat.le_of_ble_eq_true rfl) (Nat.le_of_ble_eq_true rfl) dX2_init_14 (fun q2 cA2 H hK hP hD hS => ?_)
  have hK : va_K D vwCl [(cA1, .int), (cA2, .int)] s := hK
  have hP : va_P D vwCl [(h0, .inr (1, [.int 0, .ref q1, .null, .null, .null, .null, .null, .null, .null, .null, .null, .int 0])), (q1, .inl (cA1, 4, .inl (fun _ => 0))), (q2, .inl (cA2, 64, .inl (fun _ => 0)))] H := hP
  have hD : va_D A [(h0, .inr (1, [.int 0, .ref q1, .null, .null, .null, .null, .null, .null, .null, .null, .null, .int 0])), (q1, .inl (cA1, 4, .inl (fun _ => 0))), (q2, .inl (cA2, 64, .inl (fun _ => 0)))] := hD
  refine W.widen (k := 2) (n := 68) (Nat.le_of_ble_eq_true rfl) (Nat.le_of_ble_eq_true rfl) ?_
  refine va_putF (D := D) (ci := 1) (v := .ref q2) (ty := .array .int) (C := RX2) (T := TX2) (N := 12) hx hbc hts in_X2 tyX2 tyX2_ok nmX2 hown hK hP hD hS 0 rfl rfl 2 (by decide) (hts _ q195) (fun _ h9 => h9) rfl hin rfl (by decide +kernel) rfl rfl (Nat.le_of_ble_eq_true rfl) dX2_init_16 (fun H locs hP hD hS => ?_)
  have hP : va_P D vwCl [(h0, .inr (1, [.int 0, .ref q1, .ref q2, .null, .null, .null, .null, .null, .null, .null, .null, .int 0])), (q1, .inl (cA1, 4, .inl (fun _ => 0))), (q2, .inl (cA2, 64, .inl (fun _ => 0)))] H := hP
  have hD : va_D A [(h0, .inr (1, [.int 0, .ref q1, .ref q2, .null, .null, .null, .null, .null, .null, .null, .null, .int 0])), (q1, .inl (cA1, 4, .inl (fun _ => 0))), (q2, .inl (cA2, 64, .inl (fun _ => 0)))] := hD
  refine lv_aload_n hx hbc dX2_init_19 rfl (lv_at hl 0 rfl) ?_
  refine lv_bipush (v := nI 64) hx hbc dX2_init_20 (by decide) ?_
  refine va_newa (D := D) (atype := .int) (a0 := (64, .inl (fun _ => 0))) (N' := 64) (ty := .int) hx hbc (hts _ q75) rfl hK hP hD hS hA (fun _ => rfl) (by decide) (by decide) (by decide) (Nat.le_of_ble_eq_true rfl) (Nat.le_of_ble_eq_true rfl) dX2_init_22 (fun q3 cA3 H hK hP hD hS => ?_)
  have hK : va_K D vwCl [(cA1, .int), (cA2, .int), (cA3, .int)] s := hK
  have hP : va_P D vwCl [(h0, .inr (1, [.int 0, .ref q1, .ref q2, .null, .null, .null, .null, .null, .null, .null, .null, .int 0])), (q1, .inl (cA1, 4, .inl (fun _ => 0))), (q2, .inl (cA2, 64, .inl (fun _ => 0))), (q3, .inl (cA3, 64, .inl (fun _ => 0)))] H := hP
  have hD : va_D A [(h0, .inr (1, [.int 0, .ref q1, .ref q2, .null, .null, .null, .null, .null, .null, .null, .null, .int 0])), (q1, .inl (cA1, 4, .inl (fun _ => 0))), (q2, .inl (cA2, 64, .inl (fun _ => 0))), (q3, .inl (cA3, 64, .inl (fun _ => 0)))] := hD
  refine W.widen (k := 3) (n := 132) (Nat.le_of_ble_eq_true rfl) (Nat.le_of_ble_eq_true rfl) ?_
  refine va_putF (D := D) (ci := 1) (v := .ref q3) (ty := .array .int) (C := RX2) (T := TX2) (N := 12) hx hbc hts in_X2 tyX2 tyX2_ok nmX2 hown hK hP hD hS 0 rfl rfl 3 (by decide) (hts _ q196) (fun _ h9 => h9) rfl hin rfl (by decide +kernel) rfl rfl (Nat.le_of_ble_eq_true rfl) dX2_init_24 (fun H locs hP hD hS => ?_)
  have hP : va_P D vwCl [(h0, .inr (1, [.int 0, .ref q1, .ref q2, .ref q3, .null, .null, .null, .null, .null, .null, .null, .int 0])), (q1, .inl (cA1, 4, .inl (fun _ => 0))), (q2, .inl (cA2, 64, .inl (fun _ => 0))), (q3, .inl (cA3, 64, .inl (fun _ => 0)))] H := hP
  have hD : va_D A [(h0, .inr (1, [.int 0, .ref q1, .ref q2, .ref q3, .null, .null, .null, .null, .null, .null, .null, .int 0])), (q1, .inl (cA1, 4, .inl (fun _ => 0))), (q2, .inl (cA2, 64, .inl (fun _ => 0))), (q3, .inl (cA3, 64, .inl (fun _ => 0)))] := hD
  refine lv_aload_n hx hbc dX2_init_27 rfl (lv_at hl 0 rfl) ?_
  refine lv_iconst (v := nI 4) hx hbc dX2_init_28 (by decide) ?_
  refine va_newa (D := D) (atype := .int) (a0 := (4, .inl (fun _ => 0))) (N' := 4) (ty := .int) hx hbc (hts _ q75) rfl hK hP hD hS hA (fun _ => rfl) (by decide) (by decide) (by decide) (Nat.le_of_ble_eq_true rfl) (Nat.le_of_ble_eq_true rfl) dX2_init_29 (fun q4 cA4 H hK hP hD hS => ?_)
  have hK : va_K D vwCl [(cA1, .int), (cA2, .int), (cA3, .int), (cA4, .int)] s := hK
  have hP : va_P D vwCl [(h0, .inr (1, [.int 0, .ref q1, .ref q2, .ref q3, .null, .null, .null, .null, .null, .null, .null, .int 0])), (q1, .inl (cA1, 4, .inl (fun _ => 0))), (q2, .inl (cA2, 64, .inl (fun _ => 0))), (q3, .inl (cA3, 64, .inl (fun _ => 0))), (q4, .inl (cA4, 4, .inl (fun _ => 0)))] H := hP
  have hD : va_D A [(h0, .inr (1, [.int 0, .ref q1, .ref q2, .ref q3, .null, .null, .null, .null, .null, .null, .null, .int 0])), (q1, .inl (cA1, 4, .inl (fun _ => 0))), (q2, .inl (cA2, 64, .inl (fun _ => 0))), (q3, .inl (cA3, 64, .inl (fun _ => 0))), (q4, .inl (cA4, 4, .inl (fun _ => 0)))] := hD
  refine W.widen (k := 4) (n := 136) (Nat.le_of_ble_eq_true rfl) (Nat.le_of_ble_eq_true rfl) ?_
  refine va_putF (D := D) (ci := 1) (v := .ref q4) (ty := .array .int) (C := RX2) (T := TX2) (N := 12) hx hbc hts in_X2 tyX2 tyX2_ok nmX2 hown hK hP hD hS 0 rfl rfl 4 (by decide) (hts _ q197) (fun _ h9 => h9) rfl hin rfl (by decide +kernel) rfl rfl (Nat.le_of_ble_eq_true rfl) dX2_init_31 (fun H locs hP hD hS => ?_)
  have hP : va_P D vwCl [(h0, .inr (1, [.int 0, .ref q1, .ref q2, .ref q3, .ref q4, .null, .null, .null, .null, .null, .null, .int 0])), (q1, .inl (cA1, 4, .inl (fun _ => 0))), (q2, .inl (cA2, 64, .inl (fun _ => 0))), (q3, .inl (cA3, 64, .inl (fun _ => 0))), (q4, .inl (cA4, 4, .inl (fun _ => 0)))] H := hP
  have hD : va_D A [(h0, .inr (1, [.int 0, .ref q1, .ref q2, .ref q3, .ref q4, .null, .null, .null, .null, .null, .null, .int 0])), (q1, .inl (cA1, 4, .inl (fun _ => 0))), (q2, .inl (cA2, 64, .inl (fun _ => 0))), (q3, .inl (cA3, 64, .inl (fun _ => 0))), (q4, .inl (cA4, 4, .inl (fun _ => 0)))] := hD
  refine lv_aload_n hx hbc dX2_init_34 rfl (lv_at hl 0 rfl) ?_
  refine lv_iconst (v := nI 2) hx hbc dX2_init_35 (by decide) ?_
  refine va_newa (D := D) (atype := .boolean) (a0 := (2, .inl (fun _ => 0))) (N' := 2) (ty := .boolean) hx hbc (hts _ q76) rfl hK hP hD hS hA (fun _ => rfl) (by decide) (by decide) (by decide) (Nat.le_of_ble_eq_true rfl) (Nat.le_of_ble_eq_true rfl) dX2_init_36 (fun q5 cA5 H hK hP hD hS => ?_)
  have hK : va_K D vwCl [(cA1, .int), (cA2, .int), (cA3, .int), (cA4, .int), (cA5, .boolean)] s := hK
  have hP : va_P D vwCl [(h0, .inr (1, [.int 0, .ref q1, .ref q2, .ref q3, .ref q4, .null, .null, .null, .null, .null, .null, .int 0])), (q1, .inl (cA1, 4, .inl (fun _ => 0))), (q2, .inl (cA2, 64, .inl (fun _ => 0))), (q3, .inl (cA3, 64, .inl (fun _ => 0))), (q4, .inl (cA4, 4, .inl (fun _ => 0))), (q5, .inl (cA5, 2, .inl (fun _ => 0)))] H := hP
  have hD : va_D A [(h0, .inr (1, [.int 0, .ref q1, .ref q2, .ref q3, .ref q4, .null, .null, .null, .null, .null, .null, .int 0])), (q1, .inl (cA1, 4, .inl (fun _ => 0))), (q2, .inl (cA2, 64, .inl (fun _ => 0))), (q3, .inl (cA3, 64, .inl (fun _ => 0))), (q4, .inl (cA4, 4, .inl (fun _ => 0))), (q5, .inl (cA5, 2, .inl (fun _ => 0)))] := hD
  refine W.widen (k := 5) (n := 138) (Nat.le_of_ble_eq_true rfl) (Nat.le_of_ble_eq_true rfl) ?_
  refine va_putF (D := D) (ci := 1) (v := .ref q5) (ty := .array .boolean) (C := RX2) (T := TX2) (N := 12) hx hbc hts in_X2 tyX2 tyX2_ok nmX2 hown hK hP hD hS 0 rfl rfl 5 (by decide) (hts _ q198) (fun _ h9 => h9) rfl hin rfl (by decide +kernel) rfl rfl (Nat.le_of_ble_eq_true rfl) dX2_init_38 (fun H locs hP hD hS => ?_)
  have hP : va_P D vwCl [(h0, .inr (1, [.int 0, .ref q1, .ref q2, .ref q3, .ref q4, .ref q5, .null, .null, .null, .null, .null, .int 0])), (q1, .inl (cA1, 4, .inl (fun _ => 0))), (q2, .inl (cA2, 64, .inl (fun _ => 0))), (q3, .inl (cA3, 64, .inl (fun _ => 0))), (q4, .inl (cA4, 4, .inl (fun _ => 0))), (q5, .inl (cA5, 2, .inl (fun _ => 0)))] H := hP
  have hD : va_D A [(h0, .inr (1, [.int 0, .ref q1, .ref q2, .ref q3, .ref q4, .ref q5, .null, .null, .null, .null, .null, .int 0])), (q1, .inl (cA1, 4, .inl (fun _ => 0))), (q2, .inl (cA2, 64, .inl (fun _ => 0))), (q3, .inl (cA3, 64, .inl (fun _ => 0))), (q4, .inl (cA4, 4, .inl (fun _ => 0))), (q5, .inl (cA5, 2, .inl (fun _ => 0)))] := hD
  refine lv_aload_n hx hbc dX2_init_41 rfl (lv_at hl 0 rfl) ?_
  refine lv_iconst (v := nI 2) hx hbc dX2_init_42 (by decide) ?_
  refine va_newa (D := D) (atype := .int) (a0 := (2, .inl (fun _ => 0))) (N' := 2) (ty := .int) hx hbc (hts _ q75) rfl hK hP hD hS hA (fun _ => rfl) (by decide) (by decide) (by decide) (Nat.le_of_ble_eq_true rfl) (Nat.le_of_ble_eq_true rfl) dX2_init_43 (fun q6 cA6 H hK hP hD hS => ?_)
  have hK : va_K D vwCl [(cA1, .int), (cA2, .int), (cA3, .int), (cA4, .int), (cA5, .boolean), (cA6, .int)] s := hK
  have hP : va_P D vwCl [(h0, .inr (1, [.int 0, .ref q1, .ref q2, .ref q3, .ref q4, .ref q5, .null, .null, .null, .null, .null, .int 0])), (q1, .inl (cA1, 4, .inl (fun _ => 0))), (q2, .inl (cA2, 64, .inl (fun _ => 0))), (q3, .inl (cA3, 64, .inl (fun _ => 0))), (q4, .inl (cA4, 4, .inl (fun _ => 0))), (q5, .inl (cA5, 2, .inl (fun _ => 0))), (q6, .inl (cA6, 2, .inl (fun _ => 0)))] H := hP
  have hD : va_D A [(h0, .inr (1, [.int 0, .ref q1, .ref q2, .ref q3, .ref q4, .ref q5, .null, .null, .null, .null, .null, .int 0])), (q1, .inl (cA1, 4, .inl (fun _ => 0))), (q2, .inl (cA2, 64, .inl (fun _ => 0))), (q3, .inl (cA3, 64, .inl (fun _ => 0))), (q4, .inl (cA4, 4, .inl (fun _ => 0))), (q5, .inl (cA5, 2, .inl (fun _ => 0))), (q6, .inl (cA6, 2, .inl (fun _ => 0)))] := hD
  refine W.widen (k := 6) (n := 140) (Nat.le_of_ble_eq_true rfl) (Nat.le_of_ble_eq_true rfl) ?_
  refine va_putF (D := D) (ci := 1) (v := .ref q6) (ty := .array .int) (C := RX2) (T := TX2) (N := 12) hx hbc hts in_X2 tyX2 tyX2_ok nmX2 hown hK hP hD hS 0 rfl rfl 6 (by decide) (hts _ q199) (fun _ h9 => h9) rfl hin rfl (by decide +kernel) rfl rfl (Nat.le_of_ble_eq_true rfl) dX2_init_45 (fun H locs hP hD hS => ?_)
  have hP : va_P D vwCl [(h0, .inr (1, [.int 0, .ref q1, .ref q2, .ref q3, .ref q4, .ref q5, .ref q6, .null, .null, .null, .null, .int 0])), (q1, .inl (cA1, 4, .inl (fun _ => 0))), (q2, .inl (cA2, 64, .inl (fun _ => 0))), (q3, .inl (cA3, 64, .inl (fun _ => 0))), (q4, .inl (cA4, 4, .inl (fun _ => 0))), (q5, .inl (cA5, 2, .inl (fun _ => 0))), (q6, .inl (cA6, 2, .inl (fun _ => 0)))] H := hP
  have hD : va_D A [(h0, .inr (1, [.int 0, .ref q1, .ref q2, .ref q3, .ref q4, .ref q5, .ref q6, .null, .null, .null, .null, .int 0])), (q1, .inl (cA1, 4, .inl (fun _ => 0))), (q2, .inl (cA2, 64, .inl (fun _ => 0))), (q3, .inl (cA3, 64, .inl (fun _ => 0))), (q4, .inl (cA4, 4, .inl (fun _ => 0))), (q5, .inl (cA5, 2, .inl (fun _ => 0))), (q6, .inl (cA6, 2, .inl (fun _ => 0)))] := hD
  refine lv_aload_n hx hbc dX2_init_48 rfl (lv_at hl 0 rfl) ?_
  refine lv_iconst (v := nI 2) hx hbc dX2_init_49 (by decide) ?_
  refine va_newa (D := D) (atype := .int) (a0 := (2, .inl (fun _ => 0))) (N' := 2) (ty := .int) hx hbc (hts _ q75) rfl hK hP hD hS hA (fun _ => rfl) (by decide) (by decide) (by decide) (Nat.le_of_ble_eq_true rfl) (Nat.le_of_ble_eq_true rfl) dX2_init_50 (fun q7 cA7 H hK hP hD hS => ?_)
  have hK : va_K D vwCl [(cA1, .int), (cA2, .int), (cA3, .int), (cA4, .int), (cA5, .boolean), (cA6, .int), (cA7, .int)] s := hK
  have hP : va_P D vwCl [(h0, .inr (1, [.int 0, .ref q1, .ref q2, .ref q3, .ref q4, .ref q5, .ref q6, .null, .null, .null, .null, .int 0])), (q1, .inl (cA1, 4, .inl (fun _ => 0))), (q2, .inl (cA2, 64, .inl (fun _ => 0))), (q3, .inl (cA3, 64, .inl (fun _ => 0))), (q4, .inl (cA4, 4, .inl (fun _ => 0))), (q5, .inl (cA5, 2, .inl (fun _ => 0))), (q6, .inl (cA6, 2, .inl (fun _ => 0))), (q7, .inl (cA7, 2, .inl (fun _ => 0)))] H := hP
  have hD : va_D A [(h0, .inr (1, [.int 0, .ref q1, .ref q2, .ref q3, .ref q4, .ref q5, .ref q6, .null, .null, .null, .null, .int 0])), (q1, .inl (cA1, 4, .inl (fun _ => 0))), (q2, .inl (cA2, 64, .inl (fun _ => 0))), (q3, .inl (cA3, 64, .inl (fun _ => 0))), (q4, .inl (cA4, 4, .inl (fun _ => 0))), (q5, .inl (cA5, 2, .inl (fun _ => 0))), (q6, .inl (cA6, 2, .inl (fun _ => 0))), (q7, .inl (cA7, 2, .inl (fun _ => 0)))] := hD
  refine W.widen (k := 7) (n := 142) (Nat.le_of_ble_eq_true rfl) (Nat.le_of_ble_eq_true rfl) ?_
  refine va_putF (D := D) (ci := 1) (v := .ref q7) (ty := .array .int) (C := RX2) (T := TX2) (N := 12) hx hbc hts in_X2 tyX2 tyX2_ok nmX2 hown hK hP hD hS 0 rfl rfl 7 (by decide) (hts _ q200) (fun _ h9 => h9) rfl hin rfl (by decide +kernel) rfl rfl (Nat.le_of_ble_eq_true rfl) dX2_init_52 (fun H locs hP hD hS => ?_)
  have hP : va_P D vwCl [(h0, .inr (1, [.int 0, .ref q1, .ref q2, .ref q3, .ref q4, .ref q5, .ref q6, .ref q7, .null, .null, .null, .int 0])), (q1, .inl (cA1, 4, .inl (fun _ => 0))), (q2, .inl (cA2, 64, .inl (fun _ => 0))), (q3, .inl (cA3, 64, .inl (fun _ => 0))), (q4, .inl (cA4, 4, .inl (fun _ => 0))), (q5, .inl (cA5, 2, .inl (fun _ => 0))), (q6, .inl (cA6, 2, .inl (fun _ => 0))), (q7, .inl (cA7, 2, .inl (fun _ => 0)))] H := hP
  have hD : va_D A [(h0, .inr (1, [.int 0, .ref q1, .ref q2, .ref q3, .ref q4, .ref q5, .ref q6, .ref q7, .null, .null, .null, .int 0])), (q1, .inl (cA1, 4, .inl (fun _ => 0))), (q2, .inl (cA2, 64, .inl (fun _ => 0))), (q3, .inl (cA3, 64, .inl (fun _ => 0))), (q4, .inl (cA4, 4, .inl (fun _ => 0))), (q5, .inl (cA5, 2, .inl (fun _ => 0))), (q6, .inl (cA6, 2, .inl (fun _ => 0))), (q7, .inl (cA7, 2, .inl (fun _ => 0)))] := hD
  refine lv_aload_n hx hbc dX2_init_55 rfl (lv_at hl 0 rfl) ?_
  refine lv_iconst (v := nI 2) hx hbc dX2_init_56 (by decide) ?_
  refine va_newa (D := D) (atype := .int) (a0 := (2, .inl (fun _ => 0))) (N' := 2) (ty := .int) hx hbc (hts _ q75) rfl hK hP hD hS hA (fun _ => rfl) (by decide) (by decide) (by decide) (Nat.le_of_ble_eq_true rfl) (Nat.le_of_ble_eq_true rfl) dX2_init_57 (fun q8 cA8 H hK hP hD hS => ?_)
  have hK : va_K D vwCl [(cA1, .int), (cA2, .int), (cA3, .int), (cA4, .int), (cA5, .boolean), (cA6, .int), (cA7, .int), (cA8, .int)] s := hK
  have hP : va_P D vwCl [(h0, .inr (1, [.int 0, .ref q1, .ref q2, .ref q3, .ref q4, .ref q5, .ref q6, .ref q7, .null, .null, .null, .int 0])), (q1, .inl (cA1, 4, .inl (fun _ => 0))), (q2, .inl (cA2, 64, .inl (fun _ => 0))), (q3, .inl (cA3, 64, .inl (fun _ => 0))), (q4, .inl (cA4, 4, .inl (fun _ => 0))), (q5, .inl (cA5, 2, .inl (fun _ => 0))), (q6, .inl (cA6, 2, .inl (fun _ => 0))), (q7, .inl (cA7, 2, .inl (fun _ => 0))), (q8, .inl (cA8, 2, .inl (fun _ => 0)))] H := hP
  have hD : va_D A [(h0, .inr (1, [.int 0, .ref q1, .ref q2, .ref q3, .ref q4, .ref q5, .ref q6, .ref q7, .null, .null, .null, .int 0])), (q1, .inl (cA1, 4, .inl (fun _ => 0))), (q2, .inl (cA2, 64, .inl (fun _ => 0))), (q3, .inl (cA3, 64, .inl (fun _ => 0))), (q4, .inl (cA4, 4, .inl (fun _ => 0))), (q5, .inl (cA5, 2, .inl (fun _ => 0))), (q6, .inl (cA6, 2, .inl (fun _ => 0))), (q7, .inl (cA7, 2, .inl (fun _ => 0))), (q8, .inl (cA8, 2, .inl (fun _ => 0)))] := hD
  refine W.widen (k := 8) (n := 144) (Nat.le_of_ble_eq_true rfl) (Nat.le_of_ble_eq_true rfl) ?_
  refine va_putF (D := D) (ci := 1) (v := .ref q8) (ty := .array .int) (C := RX2) (T := TX2) (N := 12) hx hbc hts in_X2 tyX2 tyX2_ok nmX2 hown hK hP hD hS 0 rfl rfl 8 (by decide) (hts _ q201) (fun _ h9 => h9) rfl hin rfl (by decide +kernel) rfl rfl (Nat.le_of_ble_eq_true rfl) dX2_init_59 (fun H locs hP hD hS => ?_)
  have hP : va_P D vwCl [(h0, .inr (1, [.int 0, .ref q1, .ref q2, .ref q3, .ref q4, .ref q5, .ref q6, .ref q7, .ref q8, .null, .null, .int 0])), (q1, .inl (cA1, 4, .inl (fun _ => 0))), (q2, .inl (cA2, 64, .inl (fun _ => 0))), (q3, .inl (cA3, 64, .inl (fun _ => 0))), (q4, .inl (cA4, 4, .inl (fun _ => 0))), (q5, .inl (cA5, 2, .inl (fun _ => 0))), (q6, .inl (cA6, 2, .inl (fun _ => 0))), (q7, .inl (cA7, 2, .inl (fun _ => 0))), (q8, .inl (cA8, 2, .inl (fun _ => 0)))] H := hP
  have hD : va_D A [(h0, .inr (1, [.int 0, .ref q1, .ref q2, .ref q3, .ref q4, .ref q5, .ref q6, .ref q7, .ref q8, .null, .null, .int 0])), (q1, .inl (cA1, 4, .inl (fun _ => 0))), (q2, .inl (cA2, 64, .inl (fun _ => 0))), (q3, .inl (cA3, 64, .inl (fun _ => 0))), (q4, .inl (cA4, 4, .inl (fun _ => 0))), (q5, .inl (cA5, 2, .inl (fun _ => 0))), (q6, .inl (cA6, 2, .inl (fun _ => 0))), (q7, .inl (cA7, 2, .inl (fun _ => 0))), (q8, .inl (cA8, 2, .inl (fun _ => 0)))] := hD
  refine lv_aload_n hx hbc dX2_init_62 rfl (lv_at hl 0 rfl) ?_
  refine lv_iconst (v := nI 2) hx hbc dX2_init_63 (by decide) ?_
  refine va_newa (D := D) (atype := .int) (a0 := (2, .inl (fun _ => 0))) (N' := 2) (ty := .int) hx hbc (hts _ q75) rfl hK hP hD hS hA (fun _ => rfl) (by decide) (by decide) (by decide) (Nat.le_of_ble_eq_true rfl) (Nat.le_of_ble_eq_true rfl) dX2_init_64 (fun q9 cA9 H hK hP hD hS => ?_)
  have hK : va_K D vwCl [(cA1, .int), (cA2, .int), (cA3, .int), (cA4, .int), (cA5, .boolean), (cA6, .int), (cA7, .int), (cA8, .int), (cA9, .int)] s := hK
  have hP : va_P D vwCl [(h0, .inr (1, [.int 0, .ref q1, .ref q2, .ref q3, .ref q4, .ref q5, .ref q6, .ref q7, .ref q8, .null, .null, .int 0])), (q1, .inl (cA1, 4, .inl (fun _ => 0))), (q2, .inl (cA2, 64, .inl (fun _ => 0))), (q3, .inl (cA3, 64, .inl (fun _ => 0))), (q4, .inl (cA4, 4, .inl (fun _ => 0))), (q5, .inl (cA5, 2, .inl (fun _ => 0))), (q6, .inl (cA6, 2, .inl (fun _ => 0))), (q7, .inl (cA7, 2, .inl (fun _ => 0))), (q8, .inl (cA8, 2, .inl (fun _ => 0))), (q9, .inl (cA9, 2, .inl (fun _ => 0)))] H := hP
  have hD : va_D A [(h0, .inr (1, [.int 0, .ref q1, .ref q2, .ref q3, .ref q4, .ref q5, .ref q6, .ref q7, .ref q8, .null, .null, .int 0])), (q1, .inl (cA1, 4, .inl (fun _ => 0))), (q2, .inl (cA2, 64, .inl (fun _ => 0))), (q3, .inl (cA3, 64, .inl (fun _ => 0))), (q4, .inl (cA4, 4, .inl (fun _ => 0))), (q5, .inl (cA5, 2, .inl (fun _ => 0))), (q6, .inl (cA6, 2, .inl (fun _ => 0))), (q7, .inl (cA7, 2, .inl (fun _ => 0))), (q8, .inl (cA8, 2, .inl (fun _ => 0))), (q9, .inl (cA9, 2, .inl (fun _ => 0)))] := hD
  refine W.widen (k := 9) (n := 146) (Nat.le_of_ble_eq_true rfl) (Nat.le_of_ble_eq_true rfl) ?_
  refine va_putF (D := D) (ci := 1) (v := .ref q9) (ty := .array .int) (C := RX2) (T := TX2) (N := 12) hx hbc hts in_X2 tyX2 tyX2_ok nmX2 hown hK hP hD hS 0 rfl rfl 9 (by decide) (hts _ q202) (fun _ h9 => h9) rfl hin rfl (by decide +kernel) rfl rfl (Nat.le_of_ble_eq_true rfl) dX2_init_66 (fun H locs hP hD hS => ?_)
  have hP : va_P D vwCl [(h0, .inr (1, [.int 0, .ref q1, .ref q2, .ref q3, .ref q4, .ref q5, .ref q6, .ref q7, .ref q8, .ref q9, .null, .int 0])), (q1, .inl (cA1, 4, .inl (fun _ => 0))), (q2, .inl (cA2, 64, .inl (fun _ => 0))), (q3, .inl (cA3, 64, .inl (fun _ => 0))), (q4, .inl (cA4, 4, .inl (fun _ => 0))), (q5, .inl (cA5, 2, .inl (fun _ => 0))), (q6, .inl (cA6, 2, .inl (fun _ => 0))), (q7, .inl (cA7, 2, .inl (fun _ => 0))), (q8, .inl (cA8, 2, .inl (fun _ => 0))), (q9, .inl (cA9, 2, .inl (fun _ => 0)))] H := hP
  have hD : va_D A [(h0, .inr (1, [.int 0, .ref q1, .ref q2, .ref q3, .ref q4, .ref q5, .ref q6, .ref q7, .ref q8, .ref q9, .null, .int 0])), (q1, .inl (cA1, 4, .inl (fun _ => 0))), (q2, .inl (cA2, 64, .inl (fun _ => 0))), (q3, .inl (cA3, 64, .inl (fun _ => 0))), (q4, .inl (cA4, 4, .inl (fun _ => 0))), (q5, .inl (cA5, 2, .inl (fun _ => 0))), (q6, .inl (cA6, 2, .inl (fun _ => 0))), (q7, .inl (cA7, 2, .inl (fun _ => 0))), (q8, .inl (cA8, 2, .inl (fun _ => 0))), (q9, .inl (cA9, 2, .inl (fun _ => 0)))] := hD
  refine lv_aload_n hx hbc dX2_init_69 rfl (lv_at hl 0 rfl) ?_
  refine lv_iconst (v := nI 2) hx hbc dX2_init_70 (by decide) ?_
  refine va_newa (D := D) (atype := .int) (a0 := (2, .inl (fun _ => 0))) (N' := 2) (ty := .int) hx hbc (hts _ q75) rfl hK hP hD hS hA (fun _ => rfl) (by decide) (by decide) (by decide) (Nat.le_of_ble_eq_true rfl) (Nat.le_of_ble_eq_true rfl) dX2_init_71 (fun q10 cA10 H hK hP hD hS => ?_)
  have hK : va_K D vwCl [(cA1, .int), (cA2, .int), (cA3, .int), (cA4, .int), (cA5, .boolean), (cA6, .int), (cA7, .int), (cA8, .int), (cA9, .int), (cA10, .int)] s := hK
  have hP : va_P D vwCl [(h0, .inr (1, [.int 0, .ref q1, .ref q2, .ref q3, .ref q4, .ref q5, .ref q6, .ref q7, .ref q8, .ref q9, .null, .int 0])), (q1, .inl (cA1, 4, .inl (fun _ => 0))), (q2, .inl (cA2, 64, .inl (fun _ => 0))), (q3, .inl (cA3, 64, .inl (fun _ => 0))), (q4, .inl (cA4, 4, .inl (fun _ => 0))), (q5, .inl (cA5, 2, .inl (fun _ => 0))), (q6, .inl (cA6, 2, .inl (fun _ => 0))), (q7, .inl (cA7, 2, .inl (fun _ => 0))), (q8, .inl (cA8, 2, .inl (fun _ => 0))), (q9, .inl (cA9, 2, .inl (fun _ => 0))), (q10, .inl (cA10, 2, .inl (fun _ => 0)))] H := hP
  have hD : va_D A [(h0, .inr (1, [.int 0, .ref q1, .ref q2, .ref q3, .ref q4, .ref q5, .ref q6, .ref q7, .ref q8, .ref q9, .null, .int 0])), (q1, .inl (cA1, 4, .inl (fun _ => 0))), (q2, .inl (cA2, 64, .inl (fun _ => 0))), (q3, .inl (cA3, 64, .inl (fun _ => 0))), (q4, .inl (cA4, 4, .inl (fun _ => 0))), (q5, .inl (cA5, 2, .inl (fun _ => 0))), (q6, .inl (cA6, 2, .inl (fun _ => 0))), (q7, .inl (cA7, 2, .inl (fun _ => 0))), (q8, .inl (cA8, 2, .inl (fun _ => 0))), (q9, .inl (cA9, 2, .inl (fun _ => 0))), (q10, .inl (cA10, 2, .inl (fun _ => 0)))] := hD
  refine W.widen (k := 10) (n := 148) (Nat.le_of_ble_eq_true rfl) (Nat.le_of_ble_eq_true rfl) ?_
  refine va_putF (D := D) (ci := 1) (v := .ref q10) (ty := .array .int) (C := RX2) (T := TX2) (N := 12) hx hbc hts in_X2 tyX2 tyX2_ok nmX2 hown hK hP hD hS 0 rfl rfl 10 (by decide) (hts _ q203) (fun _ h9 => h9) rfl hin rfl (by decide +kernel) rfl rfl (Nat.le_of_ble_eq_true rfl) dX2_init_73 (fun H locs hP hD hS => ?_)
  have hP : va_P D vwCl [(h0, .inr (1, [.int 0, .ref q1, .ref q2, .ref q3, .ref q4, .ref q5, .ref q6, .ref q7, .ref q8, .ref q9, .ref q10, .int 0])), (q1, .inl (cA1, 4, .inl (fun _ => 0))), (q2, .inl (cA2, 64, .inl (fun _ => 0))), (q3, .inl (cA3, 64, .inl (fun _ => 0))), (q4, .inl (cA4, 4, .inl (fun _ => 0))), (q5, .inl (cA5, 2, .inl (fun _ => 0))), (q6, .inl (cA6, 2, .inl (fun _ => 0))), (q7, .inl (cA7, 2, .inl (fun _ => 0))), (q8, .inl (cA8, 2, .inl (fun _ => 0))), (q9, .inl (cA9, 2, .inl (fun _ => 0))), (q10, .inl (cA10, 2, .inl (fun _ => 0)))] H := hP
  have hD : va_D A [(h0, .inr (1, [.int 0, .ref q1, .ref q2, .ref q3, .ref q4, .ref q5, .ref q6, .ref q7, .ref q8, .ref q9, .ref q10, .int 0])), (q1, .inl (cA1, 4, .inl (fun _ => 0))), (q2, .inl (cA2, 64, .inl (fun _ => 0))), (q3, .inl (cA3, 64, .inl (fun _ => 0))), (q4, .inl (cA4, 4, .inl (fun _ => 0))), (q5, .inl (cA5, 2, .inl (fun _ => 0))), (q6, .inl (cA6, 2, .inl (fun _ => 0))), (q7, .inl (cA7, 2, .inl (fun _ => 0))), (q8, .inl (cA8, 2, .inl (fun _ => 0))), (q9, .inl (cA9, 2, .inl (fun _ => 0))), (q10, .inl (cA10, 2, .inl (fun _ => 0)))] := hD
  obtain ⟨P, hPD, hP0, hw0, hK0⟩ : ∃ P : bl_P, P.1 = D ∧ P.2.2 0 = h0 ∧ x2W P A s.heap (fun _ _ => 0, 0, 0) H locs ∧ va_K P.1 vwCl (x2T P) s := ⟨(D, fun k => [cA1, cA1, cA2, cA3, cA4, cA5, cA6, cA7, cA8, cA9, cA10].getD k cA1, fun k => [h0, q1, q2, q3, q4, q5, q6, q7, q8, q9, q10].getD k h0), rfl, rfl, ⟨hP, hD, hS⟩, hK⟩
  subst hPD
  subst hP0
  have w := hw0
  clear hP hD hS hK
  have C : x2C P cX2_init 4 p c s m args := ⟨S, hK0⟩
  have rest_ : ∀  (H : Heap) (locs : List Loc) (ls : Array Slot), x2W P A s.heap ((fun _ _ => 0, 0, 0) : bl_S) H locs → lv_has ls 4 [(0, .ref (P.2.2 0)), (2, .int (nI (bl_len x)))] → W p l e x2RM s m args below meth c H locs 10 148 Q (F0 m 96 ls []) := by
    intro  H locs ls  w hl
    refine lv_aload_n hx hbc dX2_init_96 rfl (lv_at hl 0 rfl) ?_
    refine lv_iload_n hx hbc dX2_init_97 rfl (lv_at hl 1 rfl) ?_
    refine x2_put_length C w hin dX2_init_98 (fun H locs w => ?_)
    refine lv_iconst (v := nI 0) hx hbc dX2_init_101 (by decide) ?_
    refine lv_istore_n (lv' := [(3, .int (nI 0)), (0, .ref (P.2.2 0)), (2, .int (nI (bl_len x)))]) hx hbc dX2_init_102 rfl hl (by decide) rfl (fun ls hl => ?_)
    have loop : ∀ (f : Nat) (k : Nat) (v : bl_S), (k ≤ 4) → (5 ≤ k + f) → (bl_i0 4 10 (bl_len x) k 0 v) → ∀ (H : Heap) (locs : List Loc) (ls : Array Slot), x2W P A s.heap v H locs → lv_has ls 4 [(0, .ref (P.2.2 0)), (3, .int (nI k))] → W p l e x2RM s m args below meth c H locs 10 148 Q (F0 m 103 ls []) := by
      intro f
      induction f with
      | zero =>
        intro k v hk hf hv
        exact absurd hf (by omega)
      | succ f ih =>
        intro k v hk hf hv H locs ls w hl
        refine lv_iload_n hx hbc dX2_init_103 rfl (lv_at hl 1 rfl) ?_
        refine lv_iconst (v := nI 4) hx hbc dX2_init_104 (by decide) ?_
        refine lv_icmp_ge (tgt := 121) hx hbc dX2_init_105 (by decide) (fun c1 => ?_) (fun c1 => ?_)
        · have c1 : 4 ≤ k := (nI_leI (by omega) (by omega)).mp c1
          have e4 : k = 4 := by omega
          subst e4
          clear ih
          refine lv_aload_n hx hbc dX2_init_121 rfl (lv_at hl 0 rfl) ?_
          refine x2_holds C w dX2_init_122 ?_
          refine lv_iconst (v := nI 0) hx hbc dX2_init_125 (by decide) ?_
          refine lv_bipush (v := (-4)) hx hbc dX2_init_126 (by decide) ?_
          refine x2_st_holds C w (j := 0) (by omega) rfl dX2_init_128 (fun H locs w => ?_)
          refine lv_aload_n hx hbc dX2_init_129 rfl (lv_at hl 0 rfl) ?_
          refine x2_holds C w dX2_init_130 ?_
          refine lv_iconst (v := nI 1) hx hbc dX2_init_133 (by decide) ?_
          refine lv_bipush (v := (-4)) hx hbc dX2_init_134 (by decide) ?_
          refine x2_st_holds C w (j := 1) (by omega) rfl dX2_init_136 (fun H locs w => ?_)
          exact hret _ _ _ _ _ _ dX2_init_137 rfl rfl (bl_RY0 (bl_i0_a (by decide) (bl_i0_a (by decide) hv))) hK0 w
        · have c1 : ¬ 4 ≤ k := fun q => c1 ((nI_leI (by omega) (by omega)).mpr q)
          refine lv_aload_n hx hbc dX2_init_108 rfl (lv_at hl 0 rfl) ?_
          refine x2_leads C w dX2_init_109 ?_
          refine lv_iload_n hx hbc dX2_init_112 rfl (lv_at hl 1 rfl) ?_
          refine lv_iconst (v := (-1)) hx hbc dX2_init_113 (by decide) ?_
          refine x2_st_leads C w (j := k) (by omega) rfl dX2_init_114 (fun H locs w => ?_)
          refine lv_iinc (v := nI (k + 1)) (lv' := [(3, .int (nI (k + 1))), (0, .ref (P.2.2 0))]) hx hbc dX2_init_115 hl (k := 1) rfl (nI_add _ 1) (by decide) rfl (fun ls hl => ?_)
          refine lv_goto (tgt := 103) hx hbc dX2_init_118 (by decide) ?_
          exact ih (k + 1) _ (by omega) (by omega) (bl_i0_b (by decide) hv) _ _ _ w (lv_sub hl [1, 0] rfl)
    exact loop 5 0 _ (by omega) (by omega) bl_i0_0 _ _ _ w (lv_sub hl [1, 0] rfl)
  refine lv_iload_n hx hbc dX2_init_76 rfl (lv_at hl 1 rfl) ?_
  refine lv_istore_n (lv' := [(2, .int x), (0, .ref (P.2.2 0)), (1, .int x)]) hx hbc dX2_init_77 rfl hl (by decide) rfl (fun ls hl => ?_)
  refine lv_iload_n hx hbc dX2_init_78 rfl (lv_at hl 0 rfl) ?_
  refine lv_bipush (v := nI 8) hx hbc dX2_init_79 (by decide) ?_
  refine lv_icmp_ge (tgt := 87) hx hbc dX2_init_81 (by decide) (fun c1 => ?_) (fun c1 => ?_)
  · refine lv_iload_n hx hbc dX2_init_87 rfl (lv_at hl 0 rfl) ?_
    refine lv_bipush (v := nI 60) hx hbc dX2_init_88 (by decide) ?_
    refine lv_icmp_le (tgt := 96) hx hbc dX2_init_90 (by decide) (fun c2 => ?_) (fun c2 => ?_)
    · have e1 := bl_len_mid (Int32.not_lt.mpr c1) (Int32.not_lt.mpr c2)
      exact rest_ _ _ _ w (by have h9 := lv_sub (l' := [(0, .ref (P.2.2 0)), (2, .int x)]) hl [1, 0] rfl; rw [e1.1] at h9; exact h9)
    · have e1 := bl_len_hi (Int32.not_lt.mpr c1) (Int32.not_le.mp c2)
      refine lv_bipush (v := nI 60) hx hbc dX2_init_93 (by decide) ?_
      refine lv_istore_n (lv' := [(2, .int (nI 60)), (0, .ref (P.2.2 0)), (1, .int x)]) hx hbc dX2_init_95 rfl hl (by decide) rfl (fun ls hl => ?_)
      exact rest_ _ _ _ w (by rw [e1]; exact lv_sub hl [1, 0] rfl)
  · have e1 := bl_len_lo (Int32.not_le.mp c1)
    refine lv_bipush (v := nI 8) hx hbc dX2_init_84 (by decide) ?_
    refine lv_istore_n (lv' := [(2, .int (nI 8)), (0, .ref (P.2.2 0)), (1, .int x)]) hx hbc dX2_init_86 rfl hl (by decide) rfl (fun ls hl => ?_)
    refine lv_iload_n hx hbc dX2_init_87 rfl (lv_at hl 0 rfl) ?_
    refine lv_bipush (v := nI 60) hx hbc dX2_init_88 (by decide) ?_
    refine lv_icmp_le (tgt := 96) hx hbc dX2_init_90 (by decide) (fun _ => ?_) (fun c9 => absurd (by decide) c9)
    exact rest_ _ _ _ w (by rw [e1]; exact lv_sub hl [1, 0] rfl)
end
section
/-! THE CLAIM OUT OF ONE WALK OF THE LAW'S BODY. Your part is whole_start (and what it stands on); all else here is the same for every law, but numbers. -/
def R_law : String := "BeltLanesLaw"
def lw_P (b : Addr) (xs : List Int32) (args : Array Value) (s : State) : Prop := args = #[.ref b] ∧ s.IntsAt b xs ∧ xs.length ≤ 321 ∧ (Jvm.Cond.and given_1 narrow_1).before args s = true
def lw_Q (_ : Array Value) (s : State) (o : Outcome) (t : State) : Prop := o = .returned (some (.int 1)) ∧ Framed s o t [] 600000 7290000
def lw_Z (below : List Frame) (a : Array Value) (s : State) : State → Prop := fun t => ∃ o, t.status = .running ∧ Ended t below o ∧ lw_Q a s o t
/-- the law's own end, with 1 on the stack, nothing written that was there before, its room as the claim has it -/
theorem lw_ret {p : Program} {l : Launch} {e : Env} {s : State} {m : MethodId} {below : List Frame} {meth : Method} {c : Code} {b : Nat} (hx : p.tables.exec = Jvm.exec) (hb : c.code = code) (hr : meth.sig.returnType = ret) (hlocks : meth.locks = false) {pc : Nat} {H : Heap} {ls : Array Slot} (hdg : decode code pc = .ok (.ireturn, 1)) : W p l e room_1 s m #[Value.ref b] below meth c H [] 600000 7290000 (lw_Z below #[Value.ref b] s) (F0 m pc ls [.int 1]) := by
  intro T hT X
  obtain ⟨fs, hret, hrun, hended, hW, hframe⟩ := X.leave (v := some (.int 1)) (hlocks := hlocks) (fun h => by rw [hr] at h; cases h)
  have hmeth' : T.vm.method? m = some meth := X.method'
  refine ⟨T.setFrames fs, ?_, .returned (some (.int 1)), hrun, hended, rfl, ⟨_, rfl⟩, hW, hframe⟩
  jvm_step X.here [X.here.top, hx, hb, hdg, hmeth', hr, ret, narrow_b1]
  (try refine ⟨rfl, ?_⟩); (try refine ⟨rfl, ?_⟩)
  first | (intro acts; rw [hret _ acts rfl rfl rfl]) | rw [hret _ _ rfl rfl rfl]
  exact Steps.refl _
/-- what holds at the law's entry: the machine, the code, the tables' words (any of lw_tbl by 'hts w (by decide +kernel)'), the script of L ints xs at the cell b, what the Statement gives of the start (any of its parts by flat_of_before) -/
def lw_At (p : Program) (s : State) (m : MethodId) (meth : Method) (c : Code) (b L : Nat) (xs : Nat → Int32) : Prop :=
  p.tables.exec = Jvm.exec ∧ c.code = code ∧ meth.sig.returnType = ret ∧ c.maxLocals = 4 ∧ s.vm.findClass R_law = some m.cls ∧ (∀ w ∈ lw_tbl, w.before #[Value.ref b] s = true) ∧ va_X b L xs s s.heap ∧ b < s.heap.size ∧ meth.locks = false ∧ (Jvm.Cond.and given_1 narrow_1).before #[Value.ref b] s = true
end
section
set_option maxRecDepth 100000
/-- the law's world: both objects with their arrays, all of them new -/
def lwW (D : va_G) (cA1 : Nat → ClassId) (a1 : Nat → Nat) (cA2 : Nat → ClassId) (a2 : Nat → Nat) (s : State) (u v : bl_S) (H : Heap) (locs : List Loc) : Prop := va_P D vwCl (x1L (D, cA1, a1) u ++ x2L (D, cA2, a2) v) H ∧ va_D (fun q => s.heap.size ≤ q) (x1L (D, cA1, a1) u ++ x2L (D, cA2, a2) v) ∧ va_S (fun q => s.heap.size ≤ q) s.heap H locs
section BLlaw
variable {p : Program} {l : Launch} {e : Env} {R : Room} {s : State} {m : MethodId} {args : Array Value} {below : List Frame} {meth : Method} {c : Code} {H : Heap} {locs : List Loc} {cells slots : Nat} {Q : State → Prop} {cc : ByteArray} {nL pc : Nat} {ls : Array Slot} {rest : List Value} {D : va_G} {cA1 cA2 : Nat → ClassId} {a1 a2 : Nat → Nat} {u v : bl_S}
theorem l1_calli (S : CallFix p m c cc nL s args lw_all RX0) (hK : va_K D vwCl (x1T (D, cA1, a1)) s) (w : lwW D cA1 a1 cA2 a2 s u v H locs) {y : MethodName} {cb : ByteArray} {nB n d idx : Nat} {ret : Option FieldType} {As st : List Value} {post : Int32 → bl_S → Prop} (hM : x1Mi l y cb nB ret d (D, cA1, a1) u As post) (hg : GoodIn lw_all (wsV RX0 idx RX1 y (ws_ y cb nB ret))) (hd : y.cls = RX1 ∧ y.cls ≠ "java/lang/invoke/MethodHandle" ∧ y.cls ≠ "java/lang/invoke/VarHandle" ∧ (parseMethodDescriptor y.desc).map (fun d => d.parameters.length) = some n) (hn : As.length = n) (hR : d + 1 ≤ R.frames ∧ 8 + (nB + 11) + 30 * d ≤ R.locals) (hz : ls.size = nL) (hst : st = As.reverse ++ .ref (a1 0) :: rest) (hW : (rest.map fun v => v.category).sum ≤ 8) (hdg : decode cc pc = .ok (.invokevirtual idx, 3)) (hf : cells ≤ R.cells ∧ slots ≤ R.slots)
    (kk : ∀ (r : Int32) (z : bl_S) (H1 : Heap) (locs1 : List Loc), post r z → lwW D cA1 a1 cA2 a2 s z v H1 locs1 → W p l e R s m args below meth c H1 locs1 cells slots Q (F0 m (pc + 3) ls (.int r :: rest))) : W p l e R s m args below meth c H locs cells slots Q (F0 m pc ls st) := by
  have hPc := w.1.sub (ws' := x1L (D, cA1, a1) u) [0, 1, 2, 3, 4, 5, 6, 7, 8, 9, 10, 11, 12] rfl
  have hDc := w.2.1.sub (ws' := x1L (D, cA1, a1) u) [0, 1, 2, 3, 4, 5, 6, 7, 8, 9, 10, 11, 12] (by decide) rfl
  have hFc := va_free (wc := x1L (D, cA1, a1) u) w.2.1 w.2.2 (fun _ h => h) [0, 1, 2, 3, 4, 5, 6, 7, 8, 9, 10, 11, 12] rfl
  refine va_calli (va_runV (As := As) (rest := rest) (C := RX1) (b := a1 0) S (hM H.size) (cwV n S.2.2.2.2 hg rfl rfl rfl hd hR) ⟨fun a U g mk q => by obtain ⟨q0, q1, qP, qK, qD⟩ := q; exact ⟨q0, q1, qP, va_K.moved (u := U) (U := U.calling g mk a) (Vm.Alike.refl U.vm) qK, qD⟩, va_recv hK hPc (ci := 0) (q0 := 0) rfl rfl, fun U hU hW => ⟨rfl, by rw [hU], by rw [hU]; exact hPc, va_K.moved hW.alike hK, hDc.weaken (fun _ _ _ _ => trivial)⟩⟩ rfl hn hz hst (lv_room hW) hdg hf) w.2.2 (fun q _ h => hFc q h) hFc (fun r z t H1 locs1 ht hvm hp hB hz1 hk1 hS => ?_)
  obtain ⟨hP1, hK1, hD1⟩ := hB
  rw [ht] at hP1
  obtain ⟨hP, hD⟩ := va_join (wr := x2L (D, cA2, a2) v) (w1 := x1L (D, cA1, a1) z) w.1 w.2.1 [0, 1, 2, 3, 4, 5, 6, 7, 8, 9, 10, 11, 12] [13, 14, 15, 16, 17, 18, 19, 20, 21, 22, 23] rfl rfl (by decide) (by decide) hk1 hFc hP1 hD1
  exact kk r z H1 locs1 hp ⟨hP.sub [11, 12, 13, 14, 15, 16, 17, 18, 19, 20, 21, 22, 23, 0, 1, 2, 3, 4, 5, 6, 7, 8, 9, 10] rfl, hD.sub [11, 12, 13, 14, 15, 16, 17, 18, 19, 20, 21, 22, 23, 0, 1, 2, 3, 4, 5, 6, 7, 8, 9, 10] (by decide) rfl, hS⟩
theorem l2_calli (S : CallFix p m c cc nL s args lw_all RX0) (hK : va_K D vwCl (x2T (D, cA2, a2)) s) (w : lwW D cA1 a1 cA2 a2 s u v H locs) {y : MethodName} {cb : ByteArray} {nB n d idx : Nat} {ret : Option FieldType} {As st : List Value} {post : Int32 → bl_S → Prop} (hM : x2Mi l y cb nB ret d (D, cA2, a2) v As post) (hg : GoodIn lw_all (wsV RX0 idx RX2 y (ws_ y cb nB ret))) (hd : y.cls = RX2 ∧ y.cls ≠ "java/lang/invoke/MethodHandle" ∧ y.cls ≠ "java/lang/invoke/VarHandle" ∧ (parseMethodDescriptor y.desc).map (fun d => d.parameters.length) = some n) (hn : As.length = n) (hR : d + 1 ≤ R.frames ∧ 8 + (nB + 11) + 30 * d ≤ R.locals) (hz : ls.size = nL) (hst : st = As.reverse ++ .ref (a2 0) :: rest) (hW : (rest.map fun v => v.category).sum ≤ 8) (hdg : decode cc pc = .ok (.invokevirtual idx, 3)) (hf : cells ≤ R.cells ∧ slots ≤ R.slots)
    (kk : ∀ (r : Int32) (z : bl_S) (H1 : Heap) (locs1 : List Loc), post r z → lwW D cA1 a1 cA2 a2 s u z H1 locs1 → W p l e R s m args below meth c H1 locs1 cells slots Q (F0 m (pc + 3) ls (.int r :: rest))) : W p l e R s m args below meth c H locs cells slots Q (F0 m pc ls st) := by
  have hPc := w.1.sub (ws' := x2L (D, cA2, a2) v) [13, 14, 15, 16, 17, 18, 19, 20, 21, 22, 23] rfl
  have hDc := w.2.1.sub (ws' := x2L (D, cA2, a2) v) [13, 14, 15, 16, 17, 18, 19, 20, 21, 22, 23] (by decide) rfl
  have hFc := va_free (wc := x2L (D, cA2, a2) v) w.2.1 w.2.2 (fun _ h => h) [13, 14, 15, 16, 17, 18, 19, 20, 21, 22, 23] rfl
  refine va_calli (va_runV (As := As) (rest := rest) (C := RX2) (b := a2 0) S (hM H.size) (cwV n S.2.2.2.2 hg rfl rfl rfl hd hR) ⟨fun a U g mk q => by obtain ⟨q0, q1, qP, qK, qD⟩ := q; exact ⟨q0, q1, qP, va_K.moved (u := U) (U := U.calling g mk a) (Vm.Alike.refl U.vm) qK, qD⟩, va_recv hK hPc (ci := 1) (q0 := 0) rfl rfl, fun U hU hW => ⟨rfl, by rw [hU], by rw [hU]; exact hPc, va_K.moved hW.alike hK, hDc.weaken (fun _ _ _ _ => trivial)⟩⟩ rfl hn hz hst (lv_room hW) hdg hf) w.2.2 (fun q _ h => hFc q h) hFc (fun r z t H1 locs1 ht hvm hp hB hz1 hk1 hS => ?_)
  obtain ⟨hP1, hK1, hD1⟩ := hB
  rw [ht] at hP1
  obtain ⟨hP, hD⟩ := va_join (wr := x1L (D, cA1, a1) u) (w1 := x2L (D, cA2, a2) z) w.1 w.2.1 [13, 14, 15, 16, 17, 18, 19, 20, 21, 22, 23] [0, 1, 2, 3, 4, 5, 6, 7, 8, 9, 10, 11, 12] rfl rfl (by decide) (by decide) hk1 hFc hP1 hD1
  exact kk r z H1 locs1 hp ⟨hP, hD, hS⟩
/-- the script is read -/
theorem l_sld (hx : p.tables.exec = Jvm.exec) (hbc : c.code = cc) {b L : Nat} {xs : Nat → Int32} (hX : va_X b L xs s s.heap) (hbl : b < s.heap.size) (hS : va_S (fun q => s.heap.size ≤ q) s.heap H locs) {j : Nat} (hj : j < L) (hL : L ≤ 321) (hdg : decode cc pc = .ok (.iaload, 1)) (kk : W p l e R s m args below meth c H locs cells slots Q (F0 m (pc + 1) ls (.int (xs j) :: rest))) : W p l e R s m args below meth c H locs cells slots Q (F0 m pc ls (.int (nI j) :: .ref b :: rest)) := by
  have hc : (nI j).toNatClampNeg = j := nI_clamp (by omega)
  refine va_sld (A := fun q => s.heap.size ≤ q) hx hbc hX hbl (Nat.not_le.mpr hbl) hS (vp_in_nI hj (by omega)) hdg ?_
  rw [hc]
  exact kk
end BLlaw
def bl_c0 (L : Nat) (xs : Nat → Int32) : Int32 := if 0 < L then xs 0 else 0
set_option maxHeartbeats 4000000 in
/-- cell(script, 0) -/
theorem c0_cell (l : Launch) (b L : Nat) (xs : Nat → Int32) (hL : L ≤ 321) (sz : Nat) : Met l yX0_cell (ws_ yX0_cell cX0_cell 2 (some .int)) (bl_rm 0) (va_Pc [.ref b, .int (nI 0)] (fun U => U.heap.size = sz ∧ va_X b L xs U U.heap)) (va_Qi (fun (r : Int32) (_ : Unit) => bl_c0 L xs = r) (fun _ _ => True) (va_A [] sz)) 0 0 (va_A [] sz) := by
  refine Met.ofW (cc := cX0_cell) (maxL := 2) (ret := some .int) (by decide) rfl ?_
  intro p e s m args below meth c s₁ B hml hv
  obtain ⟨rfl, hsz, hX⟩ := hv
  have hx := B.exec
  have hbc := B.bytes
  have hr := B.returns
  subst hsz
  have hbl : b < s.heap.size := by
    obtain ⟨scr, h1, -⟩ := hX
    exact (Array.getElem?_eq_some_iff.mp h1).1
  have hbA : ¬ va_A [] s.heap.size b := fun h => h.elim (fun ⟨k, e, z⟩ => by simp at z) (fun z => absurd hbl (Nat.not_lt.mpr z))
  have hS : va_S (va_A [] s.heap.size) s.heap s.heap [] := va_S.rf
  have hl := lv_entry ([.ref b, .int (nI 0)]) (n := 2) (Nat.le_of_ble_eq_true rfl)
  rw [lg_entry_eq]
  generalize (lg_sl ([.ref b, .int (nI 0)]) ++ List.replicate (2 - (lg_sl ([.ref b, .int (nI 0)])).length) Slot.unset).toArray = ls at hl ⊢
  have hl : lv_has ls 2 [(0, .ref b), (1, .int (nI 0))] := hl
  refine lv_iload_n hx hbc dX0_cell_0 rfl (lv_at hl 1 rfl) ?_
  refine lv_aload_n hx hbc dX0_cell_1 rfl (lv_at hl 0 rfl) ?_
  refine va_slen (A := va_A [] s.heap.size) hx hbc hX hbl hbA hS dX0_cell_2 ?_
  refine lv_icmp_ge (tgt := 12) hx hbc dX0_cell_3 (by decide) (fun c1 => ?_) (fun c1 => ?_)
  · have c1 : L ≤ 0 := (nI_leI (by omega) (by omega)).mp c1
    refine lv_iconst (v := nI 0) hx hbc dX0_cell_12 (by decide) ?_
    exact W.iret hx hbc hr (fun t ht hW => ⟨⟨_, (), rfl, if_neg (by omega), trivial⟩, hS.F ht⟩) hS.2.2 dX0_cell_13 B.notSynchronized
  · have c1 : ¬ L ≤ 0 := fun q => c1 ((nI_leI (by omega) (by omega)).mpr q)
    refine lv_aload_n hx hbc dX0_cell_6 rfl (lv_at hl 0 rfl) ?_
    refine lv_iload_n hx hbc dX0_cell_7 rfl (lv_at hl 1 rfl) ?_
    refine va_sld (A := va_A [] s.heap.size) (i := nI 0) hx hbc hX hbl hbA hS (vp_in_nI (by omega) (by omega)) dX0_cell_8 ?_
    refine lv_goto (tgt := 13) hx hbc dX0_cell_9 (by decide) ?_
    exact W.iret hx hbc hr (fun t ht hW => ⟨⟨_, (), rfl, if_pos (by omega), trivial⟩, hS.F ht⟩) hS.2.2 dX0_cell_13 B.notSynchronized
section BLcell
variable {p : Program} {l : Launch} {e : Env} {R : Room} {s : State} {m : MethodId} {args : Array Value} {below : List Frame} {meth : Method} {c : Code} {H : Heap} {locs : List Loc} {cells slots : Nat} {Q : State → Prop} {cc : ByteArray} {nL pc : Nat} {ls : Array Slot} {rest : List Value} {D : va_G} {cA1 cA2 : Nat → ClassId} {a1 a2 : Nat → Nat} {u v : bl_S}
theorem l_cell {A : Nat → Prop} {ws : va_W} {b L : Nat} {xs : Nat → Int32} (S : CallFix p m c cc nL s args lw_all RX0) (hL : L ≤ 321) (hX : va_X b L xs s s.heap) (hbl : b < s.heap.size) (hbA : ¬ A b) (hA : ∀ q, s.heap.size ≤ q → A q) (hP : va_P D vwCl ws H) (hS : va_S A s.heap H locs) (hR : 1 ≤ R.frames ∧ 21 ≤ R.locals) (hz : ls.size = nL) (hW : (rest.map fun v => v.category).sum ≤ 8) (hdg : decode cc pc = .ok (.invokestatic 9, 3)) (hf : cells ≤ R.cells ∧ slots ≤ R.slots)
    (kk : ∀ (H1 : Heap) (locs1 : List Loc), va_P D vwCl ws H1 → va_S A s.heap H1 locs1 → W p l e R s m args below meth c H1 locs1 cells slots Q (F0 m (pc + 3) ls (.int (bl_c0 L xs) :: rest))) : W p l e R s m args below meth c H locs cells slots Q (F0 m pc ls (.int (nI 0) :: .ref b :: rest)) := by
  have hn : ∀ q, va_A [] H.size q → H.size ≤ q := fun q h => h.elim (fun ⟨k, e, z⟩ => by simp at z) id
  have hFc : ∀ q, va_A [] H.size q → A q := fun q h => hA q (Nat.le_trans hS.1 (hn q h))
  have hXH : va_X b L xs s H := hX.kept (hS.2.1 b hbl hbA)
  refine va_calli (va_runS (As := [.ref b, .int (nI 0)]) (rest := rest) S (c0_cell l b L xs hL H.size) (va_cwS 2 S.2.2.2.2 (lw_S q184 q185 q21 q186) rfl rfl rfl (by decide +kernel) hR) ⟨fun a U g mk q => ⟨q.1, q.2.1, q.2.2.moved (u := U) (U := U.calling g mk a) (Vm.Alike.refl U.vm)⟩, fun U hU hW => ⟨rfl, by rw [hU], by rw [hU]; exact hXH.moved hW.alike⟩⟩ rfl rfl hz rfl (lv_room hW) hdg hf) hS (fun q _ h => hFc q h) hFc (fun r z t H1 locs1 ht hvm hp hB hz1 hk1 hS => ?_)
  have hk : ∀ (k : Nat) (q : Nat × va_E), ws[k]? = some q → H1[q.1]? = H[q.1]? := fun k q hq => hk1 q.1 (hP k q hq).lt (fun h => absurd (hn _ h) (Nat.not_le.mpr (hP k q hq).lt))
  subst hp
  exact kk H1 locs1 (hP.kept hk) hS
end BLcell
end
section
set_option maxRecDepth 100000
theorem bl_k5 {L k : Nat} (hL : L ≤ 321) (hk : k ≤ 400) (h : ¬ nI L - nI 5 < nI k) : k + 5 ≤ L := by
  rw [Int32.lt_iff_toInt_lt, pk_sub_toInt (by omega) (by decide), nI_toInt (by omega)] at h
  omega
set_option maxHeartbeats 8000000 in
/-- THE LAW'S LOOP: at its head both objects hold the same belts M -/
theorem law_loop {p : Program} {e : Env} {s : State} {m : MethodId} {below : List Frame} {meth : Method} {c : Code} {l : Launch} {D : va_G} {cA1 cA2 : Nat → ClassId} {a1 a2 : Nat → Nat} {b L N : Nat} {xs : Nat → Int32} (hL : L ≤ 321) (C0 : lw_At p s m meth c b L xs) (hK1 : va_K D vwCl (x1T (D, cA1, a1)) s) (hK2 : va_K D vwCl (x2T (D, cA2, a2)) s) :
    ∀ (f k : Nat) (M : bl_M) (u v : bl_S), k ≤ L + 1 → L + 2 ≤ k + f → bl_I N M → bl_RX N M u → bl_RY N M v → ∀ (H : Heap) (locs : List Loc) (ls : Array Slot), lwW D cA1 a1 cA2 a2 s u v H locs → lv_has ls 4 [(0, .ref b), (1, .ref (a1 0)), (2, .ref (a2 0)), (3, .int (nI k))] → W p l e room_1 s m #[Value.ref b] below meth c H locs 24 330 (lw_Z below #[Value.ref b] s) (F0 m 28 ls []) := by
  obtain ⟨hx, hbc, hr, hml, hown, hts0, hX, hbl, hlocks, hgv⟩ := C0
  have hts : ∀ w ∈ lw_all, w.before #[Value.ref b] s = true := fun w h => hts0 w (lw_all_tbl h)
  have S : CallFix p m c cL_law 4 s #[Value.ref b] lw_all RX0 := ⟨hx, hbc, hml, hown, hts⟩
  intro f
  induction f with
  | zero =>
    intro k M u v h1 h2
    exact absurd h2 (by omega)
  | succ f ih =>
    intro k M u v hk hf hI hRX hRY H locs ls w hl
    refine lv_iload_n hx hbc dL_law_28 rfl (lv_at hl 3 rfl) ?_
    refine lv_aload_n hx hbc dL_law_29 rfl (lv_at hl 0 rfl) ?_
    refine va_slen (A := fun q => s.heap.size ≤ q) hx hbc hX hbl (Nat.not_le.mpr hbl) w.2.2 dL_law_30 ?_
    refine lv_iconst (v := nI 5) hx hbc dL_law_31 (by decide) ?_
    refine lv_isub hx hbc dL_law_32 ?_
    refine bl_as (y := (nI L - nI 5)) (rfl) ?_
    refine lv_icmp_gt (tgt := 446) hx hbc dL_law_33 (by decide) (fun c1 => ?_) (fun c1 => ?_)
    · refine lv_iconst (v := nI 1) hx hbc dL_law_446 (by decide) ?_
      refine va_forget (fun q hq => w.2.2.2.2 q hq) ?_
      refine W.widen (k := 600000) (n := 7290000) (Nat.le_of_ble_eq_true rfl) (Nat.le_of_ble_eq_true rfl) ?_
      exact lw_ret hx hbc hr hlocks dL_law_447
    · have hk5 : k + 5 ≤ L := bl_k5 (by omega) (by omega) c1
      have next_ : ∀ (M : bl_M) (u v : bl_S) (H : Heap) (locs : List Loc) (ls : Array Slot), bl_I N M → bl_RX N M u → bl_RY N M v → lwW D cA1 a1 cA2 a2 s u v H locs → lv_has ls 4 [(0, .ref b), (1, .ref (a1 0)), (2, .ref (a2 0)), (3, .int (nI k))] → W p l e room_1 s m #[Value.ref b] below meth c H locs 24 330 (lw_Z below #[Value.ref b] s) (F0 m 440 ls []) := by
        intro M u v H locs ls hI hRX hRY w hl
        refine lv_iinc (v := nI (k + 5)) (lv' := [(3, .int (nI (k + 5))), (0, .ref b), (1, .ref (a1 0)), (2, .ref (a2 0))]) hx hbc dL_law_440 hl (k := 3) rfl (nI_add _ 5) (by decide) rfl (fun ls hl => ?_)
        refine lv_goto (tgt := 28) hx hbc dL_law_443 (by decide) ?_
        exact ih (k + 5) M u v (by omega) (by omega) hI hRX hRY H locs ls w (lv_sub hl [1, 2, 3, 0] rfl)
      refine lv_aload_n hx hbc dL_law_36 rfl (lv_at hl 0 rfl) ?_
      refine lv_iload_n hx hbc dL_law_37 rfl (lv_at hl 3 rfl) ?_
      refine l_sld (j := k) hx hbc hX hbl w.2.2 (by omega) hL dL_law_38 ?_
      refine lv_bipush (v := nI 15) hx hbc dL_law_39 (by decide) ?_
      refine lv_iand hx hbc dL_law_41 ?_
      refine bl_as (y := (xs k &&& nI 15)) (rfl) ?_
      obtain ⟨t, ht, et⟩ := pk_andE (xs k) (m := nI 15) 4 (by decide)
      refine bl_as (y := nI t) (et) ?_
      have ht16 : t < 16 := ht
      rcases (show t = 0 ∨ t = 1 ∨ t = 2 ∨ t = 3 ∨ t = 4 ∨ t = 5 ∨ t = 6 ∨ t = 7 ∨ t = 8 ∨ t = 9 ∨ t = 10 ∨ t = 11 ∨ 12 ≤ t by omega) with rfl | rfl | rfl | rfl | rfl | rfl | rfl | rfl | rfl | rfl | rfl | rfl | h12
      · refine lv_tableIn (tgt := 104) hx hbc dL_law_42 (by decide) (by decide) rfl (by decide) ?_
        refine lv_aload_n hx hbc dL_law_104 rfl (lv_at hl 1 rfl) ?_
        refine lv_aload_n hx hbc dL_law_105 rfl (lv_at hl 0 rfl) ?_
        refine lv_iload_n hx hbc dL_law_106 rfl (lv_at hl 3 rfl) ?_
        refine lv_iconst (v := nI 1) hx hbc dL_law_107 (by decide) ?_
        refine lv_iadd hx hbc dL_law_108 ?_
        refine bl_as (nI_add _ _) ?_
        refine l_sld (j := k + 1) hx hbc hX hbl w.2.2 (by omega) hL dL_law_109 ?_
        refine lv_aload_n hx hbc dL_law_110 rfl (lv_at hl 0 rfl) ?_
        refine lv_iload_n hx hbc dL_law_111 rfl (lv_at hl 3 rfl) ?_
        refine lv_iconst (v := nI 2) hx hbc dL_law_112 (by decide) ?_
        refine lv_iadd hx hbc dL_law_113 ?_
        refine bl_as (nI_add _ _) ?_
        refine l_sld (j := k + 2) hx hbc hX hbl w.2.2 (by omega) hL dL_law_114 ?_
        refine l1_calli S hK1 w (rest := []) (c1_put l (D, cA1, a1) u (xs (k + 1)) (xs (k + 2)) hI hRX) x1gl_put x1d_put rfl ⟨Nat.le_of_ble_eq_true rfl, Nat.le_of_ble_eq_true rfl⟩ hl.1 rfl (Nat.le_of_ble_eq_true rfl) dL_law_115 ⟨Nat.le_of_ble_eq_true rfl, Nat.le_of_ble_eq_true rfl⟩ (fun r z1 H locs hp w => ?_)
        obtain ⟨rfl, h1⟩ := hp
        refine lv_aload_n hx hbc dL_law_118 rfl (lv_at hl 2 rfl) ?_
        refine lv_aload_n hx hbc dL_law_119 rfl (lv_at hl 0 rfl) ?_
        refine lv_iload_n hx hbc dL_law_120 rfl (lv_at hl 3 rfl) ?_
        refine lv_iconst (v := nI 1) hx hbc dL_law_121 (by decide) ?_
        refine lv_iadd hx hbc dL_law_122 ?_
        refine bl_as (nI_add _ _) ?_
        refine l_sld (j := k + 1) hx hbc hX hbl w.2.2 (by omega) hL dL_law_123 ?_
        refine lv_aload_n hx hbc dL_law_124 rfl (lv_at hl 0 rfl) ?_
        refine lv_iload_n hx hbc dL_law_125 rfl (lv_at hl 3 rfl) ?_
        refine lv_iconst (v := nI 2) hx hbc dL_law_126 (by decide) ?_
        refine lv_iadd hx hbc dL_law_127 ?_
        refine bl_as (nI_add _ _) ?_
        refine l_sld (j := k + 2) hx hbc hX hbl w.2.2 (by omega) hL dL_law_128 ?_
        refine l2_calli S hK2 w (rest := [.int ((bl_put N M (xs (k + 1)) (xs (k + 2))).1)]) (c2_put l (D, cA2, a2) v (xs (k + 1)) (xs (k + 2)) hI hRY) x2gl_put x2d_put rfl ⟨Nat.le_of_ble_eq_true rfl, Nat.le_of_ble_eq_true rfl⟩ hl.1 rfl (Nat.le_of_ble_eq_true rfl) dL_law_129 ⟨Nat.le_of_ble_eq_true rfl, Nat.le_of_ble_eq_true rfl⟩ (fun r z2 H locs hp w => ?_)
        obtain ⟨rfl, h2⟩ := hp
        refine lv_icmp_eq (tgt := 440) hx hbc dL_law_132 (by decide) (fun _ => ?_) (fun c9 => absurd (rfl) c9)
        exact next_ _ _ _ _ _ _ (bl_I_put hI) h1 h2 w (lv_sub hl [0, 1, 2, 3] rfl)
      · refine lv_tableIn (tgt := 137) hx hbc dL_law_42 (by decide) (by decide) rfl (by decide) ?_
        refine lv_aload_n hx hbc dL_law_137 rfl (lv_at hl 1 rfl) ?_
        refine lv_aload_n hx hbc dL_law_138 rfl (lv_at hl 0 rfl) ?_
        refine lv_iload_n hx hbc dL_law_139 rfl (lv_at hl 3 rfl) ?_
        refine lv_iconst (v := nI 1) hx hbc dL_law_140 (by decide) ?_
        refine lv_iadd hx hbc dL_law_141 ?_
        refine bl_as (nI_add _ _) ?_
        refine l_sld (j := k + 1) hx hbc hX hbl w.2.2 (by omega) hL dL_law_142 ?_
        refine l1_calli S hK1 w (rest := []) (c1_take l (D, cA1, a1) u (xs (k + 1)) hI hRX) x1gl_take x1d_take rfl ⟨Nat.le_of_ble_eq_true rfl, Nat.le_of_ble_eq_true rfl⟩ hl.1 rfl (Nat.le_of_ble_eq_true rfl) dL_law_143 ⟨Nat.le_of_ble_eq_true rfl, Nat.le_of_ble_eq_true rfl⟩ (fun r z1 H locs hp w => ?_)
        obtain ⟨rfl, h1⟩ := hp
        refine lv_aload_n hx hbc dL_law_146 rfl (lv_at hl 2 rfl) ?_
        refine lv_aload_n hx hbc dL_law_147 rfl (lv_at hl 0 rfl) ?_
        refine lv_iload_n hx hbc dL_law_148 rfl (lv_at hl 3 rfl) ?_
        refine lv_iconst (v := nI 1) hx hbc dL_law_149 (by decide) ?_
        refine lv_iadd hx hbc dL_law_150 ?_
        refine bl_as (nI_add _ _) ?_
        refine l_sld (j := k + 1) hx hbc hX hbl w.2.2 (by omega) hL dL_law_151 ?_
        refine l2_calli S hK2 w (rest := [.int ((bl_take M (xs (k + 1))).1)]) (c2_take l (D, cA2, a2) v (xs (k + 1)) hI hRY) x2gl_take x2d_take rfl ⟨Nat.le_of_ble_eq_true rfl, Nat.le_of_ble_eq_true rfl⟩ hl.1 rfl (Nat.le_of_ble_eq_true rfl) dL_law_152 ⟨Nat.le_of_ble_eq_true rfl, Nat.le_of_ble_eq_true rfl⟩ (fun r z2 H locs hp w => ?_)
        obtain ⟨rfl, h2⟩ := hp
        refine lv_icmp_eq (tgt := 440) hx hbc dL_law_155 (by decide) (fun _ => ?_) (fun c9 => absurd (rfl) c9)
        exact next_ _ _ _ _ _ _ (bl_I_take hI) h1 h2 w (lv_sub hl [0, 1, 2, 3] rfl)
      · refine lv_tableIn (tgt := 160) hx hbc dL_law_42 (by decide) (by decide) rfl (by decide) ?_
        refine lv_aload_n hx hbc dL_law_160 rfl (lv_at hl 1 rfl) ?_
        refine lv_aload_n hx hbc dL_law_161 rfl (lv_at hl 0 rfl) ?_
        refine lv_iload_n hx hbc dL_law_162 rfl (lv_at hl 3 rfl) ?_
        refine lv_iconst (v := nI 1) hx hbc dL_law_163 (by decide) ?_
        refine lv_iadd hx hbc dL_law_164 ?_
        refine bl_as (nI_add _ _) ?_
        refine l_sld (j := k + 1) hx hbc hX hbl w.2.2 (by omega) hL dL_law_165 ?_
        refine lv_aload_n hx hbc dL_law_166 rfl (lv_at hl 0 rfl) ?_
        refine lv_iload_n hx hbc dL_law_167 rfl (lv_at hl 3 rfl) ?_
        refine lv_iconst (v := nI 2) hx hbc dL_law_168 (by decide) ?_
        refine lv_iadd hx hbc dL_law_169 ?_
        refine bl_as (nI_add _ _) ?_
        refine l_sld (j := k + 2) hx hbc hX hbl w.2.2 (by omega) hL dL_law_170 ?_
        refine l1_calli S hK1 w (rest := []) (c1_lead l (D, cA1, a1) u (xs (k + 1)) (xs (k + 2)) hI hRX) x1gl_lead x1d_lead rfl ⟨Nat.le_of_ble_eq_true rfl, Nat.le_of_ble_eq_true rfl⟩ hl.1 rfl (Nat.le_of_ble_eq_true rfl) dL_law_171 ⟨Nat.le_of_ble_eq_true rfl, Nat.le_of_ble_eq_true rfl⟩ (fun r z1 H locs hp w => ?_)
        obtain ⟨rfl, h1⟩ := hp
        refine lv_aload_n hx hbc dL_law_174 rfl (lv_at hl 2 rfl) ?_
        refine lv_aload_n hx hbc dL_law_175 rfl (lv_at hl 0 rfl) ?_
        refine lv_iload_n hx hbc dL_law_176 rfl (lv_at hl 3 rfl) ?_
        refine lv_iconst (v := nI 1) hx hbc dL_law_177 (by decide) ?_
        refine lv_iadd hx hbc dL_law_178 ?_
        refine bl_as (nI_add _ _) ?_
        refine l_sld (j := k + 1) hx hbc hX hbl w.2.2 (by omega) hL dL_law_179 ?_
        refine lv_aload_n hx hbc dL_law_180 rfl (lv_at hl 0 rfl) ?_
        refine lv_iload_n hx hbc dL_law_181 rfl (lv_at hl 3 rfl) ?_
        refine lv_iconst (v := nI 2) hx hbc dL_law_182 (by decide) ?_
        refine lv_iadd hx hbc dL_law_183 ?_
        refine bl_as (nI_add _ _) ?_
        refine l_sld (j := k + 2) hx hbc hX hbl w.2.2 (by omega) hL dL_law_184 ?_
        refine l2_calli S hK2 w (rest := [.int ((bl_lead M (xs (k + 1)) (xs (k + 2))).1)]) (c2_lead l (D, cA2, a2) v (xs (k + 1)) (xs (k + 2)) hI hRY) x2gl_lead x2d_lead rfl ⟨Nat.le_of_ble_eq_true rfl, Nat.le_of_ble_eq_true rfl⟩ hl.1 rfl (Nat.le_of_ble_eq_true rfl) dL_law_185 ⟨Nat.le_of_ble_eq_true rfl, Nat.le_of_ble_eq_true rfl⟩ (fun r z2 H locs hp w => ?_)
        obtain ⟨rfl, h2⟩ := hp
        refine lv_icmp_eq (tgt := 440) hx hbc dL_law_188 (by decide) (fun _ => ?_) (fun c9 => absurd (rfl) c9)
        exact next_ _ _ _ _ _ _ (bl_I_lead hI) h1 h2 w (lv_sub hl [0, 1, 2, 3] rfl)
      · refine lv_tableIn (tgt := 193) hx hbc dL_law_42 (by decide) (by decide) rfl (by decide) ?_
        refine lv_aload_n hx hbc dL_law_193 rfl (lv_at hl 1 rfl) ?_
        refine lv_aload_n hx hbc dL_law_194 rfl (lv_at hl 0 rfl) ?_
        refine lv_iload_n hx hbc dL_law_195 rfl (lv_at hl 3 rfl) ?_
        refine lv_iconst (v := nI 1) hx hbc dL_law_196 (by decide) ?_
        refine lv_iadd hx hbc dL_law_197 ?_
        refine bl_as (nI_add _ _) ?_
        refine l_sld (j := k + 1) hx hbc hX hbl w.2.2 (by omega) hL dL_law_198 ?_
        refine lv_aload_n hx hbc dL_law_199 rfl (lv_at hl 0 rfl) ?_
        refine lv_iload_n hx hbc dL_law_200 rfl (lv_at hl 3 rfl) ?_
        refine lv_iconst (v := nI 2) hx hbc dL_law_201 (by decide) ?_
        refine lv_iadd hx hbc dL_law_202 ?_
        refine bl_as (nI_add _ _) ?_
        refine l_sld (j := k + 2) hx hbc hX hbl w.2.2 (by omega) hL dL_law_203 ?_
        refine lv_aload_n hx hbc dL_law_204 rfl (lv_at hl 0 rfl) ?_
        refine lv_iload_n hx hbc dL_law_205 rfl (lv_at hl 3 rfl) ?_
        refine lv_iconst (v := nI 3) hx hbc dL_law_206 (by decide) ?_
        refine lv_iadd hx hbc dL_law_207 ?_
        refine bl_as (nI_add _ _) ?_
        refine l_sld (j := k + 3) hx hbc hX hbl w.2.2 (by omega) hL dL_law_208 ?_
        refine lv_aload_n hx hbc dL_law_209 rfl (lv_at hl 0 rfl) ?_
        refine lv_iload_n hx hbc dL_law_210 rfl (lv_at hl 3 rfl) ?_
        refine lv_iconst (v := nI 4) hx hbc dL_law_211 (by decide) ?_
        refine lv_iadd hx hbc dL_law_212 ?_
        refine bl_as (nI_add _ _) ?_
        refine l_sld (j := k + 4) hx hbc hX hbl w.2.2 (by omega) hL dL_law_213 ?_
        refine l1_calli S hK1 w (rest := []) (c1_arm l (D, cA1, a1) u (xs (k + 1)) (xs (k + 2)) (xs (k + 3)) (xs (k + 4)) hI hRX) x1gl_arm x1d_arm rfl ⟨Nat.le_of_ble_eq_true rfl, Nat.le_of_ble_eq_true rfl⟩ hl.1 rfl (Nat.le_of_ble_eq_true rfl) dL_law_214 ⟨Nat.le_of_ble_eq_true rfl, Nat.le_of_ble_eq_true rfl⟩ (fun r z1 H locs hp w => ?_)
        obtain ⟨rfl, h1⟩ := hp
        refine lv_aload_n hx hbc dL_law_217 rfl (lv_at hl 2 rfl) ?_
        refine lv_aload_n hx hbc dL_law_218 rfl (lv_at hl 0 rfl) ?_
        refine lv_iload_n hx hbc dL_law_219 rfl (lv_at hl 3 rfl) ?_
        refine lv_iconst (v := nI 1) hx hbc dL_law_220 (by decide) ?_
        refine lv_iadd hx hbc dL_law_221 ?_
        refine bl_as (nI_add _ _) ?_
        refine l_sld (j := k + 1) hx hbc hX hbl w.2.2 (by omega) hL dL_law_222 ?_
        refine lv_aload_n hx hbc dL_law_223 rfl (lv_at hl 0 rfl) ?_
        refine lv_iload_n hx hbc dL_law_224 rfl (lv_at hl 3 rfl) ?_
        refine lv_iconst (v := nI 2) hx hbc dL_law_225 (by decide) ?_
        refine lv_iadd hx hbc dL_law_226 ?_
        refine bl_as (nI_add _ _) ?_
        refine l_sld (j := k + 2) hx hbc hX hbl w.2.2 (by omega) hL dL_law_227 ?_
        refine lv_aload_n hx hbc dL_law_228 rfl (lv_at hl 0 rfl) ?_
        refine lv_iload_n hx hbc dL_law_229 rfl (lv_at hl 3 rfl) ?_
        refine lv_iconst (v := nI 3) hx hbc dL_law_230 (by decide) ?_
        refine lv_iadd hx hbc dL_law_231 ?_
        refine bl_as (nI_add _ _) ?_
        refine l_sld (j := k + 3) hx hbc hX hbl w.2.2 (by omega) hL dL_law_232 ?_
        refine lv_aload_n hx hbc dL_law_233 rfl (lv_at hl 0 rfl) ?_
        refine lv_iload_n hx hbc dL_law_234 rfl (lv_at hl 3 rfl) ?_
        refine lv_iconst (v := nI 4) hx hbc dL_law_235 (by decide) ?_
        refine lv_iadd hx hbc dL_law_236 ?_
        refine bl_as (nI_add _ _) ?_
        refine l_sld (j := k + 4) hx hbc hX hbl w.2.2 (by omega) hL dL_law_237 ?_
        refine l2_calli S hK2 w (rest := [.int ((bl_arm M (xs (k + 1)) (xs (k + 2)) (xs (k + 3)) (xs (k + 4))).1)]) (c2_arm l (D, cA2, a2) v (xs (k + 1)) (xs (k + 2)) (xs (k + 3)) (xs (k + 4)) hI hRY) x2gl_arm x2d_arm rfl ⟨Nat.le_of_ble_eq_true rfl, Nat.le_of_ble_eq_true rfl⟩ hl.1 rfl (Nat.le_of_ble_eq_true rfl) dL_law_238 ⟨Nat.le_of_ble_eq_true rfl, Nat.le_of_ble_eq_true rfl⟩ (fun r z2 H locs hp w => ?_)
        obtain ⟨rfl, h2⟩ := hp
        refine lv_icmp_eq (tgt := 440) hx hbc dL_law_241 (by decide) (fun _ => ?_) (fun c9 => absurd (rfl) c9)
        exact next_ _ _ _ _ _ _ (bl_I_arm hI) h1 h2 w (lv_sub hl [0, 1, 2, 3] rfl)
      · refine lv_tableIn (tgt := 246) hx hbc dL_law_42 (by decide) (by decide) rfl (by decide) ?_
        refine lv_aload_n hx hbc dL_law_246 rfl (lv_at hl 1 rfl) ?_
        refine lv_aload_n hx hbc dL_law_247 rfl (lv_at hl 0 rfl) ?_
        refine lv_iload_n hx hbc dL_law_248 rfl (lv_at hl 3 rfl) ?_
        refine lv_iconst (v := nI 1) hx hbc dL_law_249 (by decide) ?_
        refine lv_iadd hx hbc dL_law_250 ?_
        refine bl_as (nI_add _ _) ?_
        refine l_sld (j := k + 1) hx hbc hX hbl w.2.2 (by omega) hL dL_law_251 ?_
        refine l1_calli S hK1 w (rest := []) (c1_tick l (D, cA1, a1) u (xs (k + 1)) hI hRX) x1gl_tick x1d_tick rfl ⟨Nat.le_of_ble_eq_true rfl, Nat.le_of_ble_eq_true rfl⟩ hl.1 rfl (Nat.le_of_ble_eq_true rfl) dL_law_252 ⟨Nat.le_of_ble_eq_true rfl, Nat.le_of_ble_eq_true rfl⟩ (fun r z1 H locs hp w => ?_)
        obtain ⟨rfl, h1⟩ := hp
        refine lv_aload_n hx hbc dL_law_255 rfl (lv_at hl 2 rfl) ?_
        refine lv_aload_n hx hbc dL_law_256 rfl (lv_at hl 0 rfl) ?_
        refine lv_iload_n hx hbc dL_law_257 rfl (lv_at hl 3 rfl) ?_
        refine lv_iconst (v := nI 1) hx hbc dL_law_258 (by decide) ?_
        refine lv_iadd hx hbc dL_law_259 ?_
        refine bl_as (nI_add _ _) ?_
        refine l_sld (j := k + 1) hx hbc hX hbl w.2.2 (by omega) hL dL_law_260 ?_
        refine l2_calli S hK2 w (rest := [.int ((bl_tick N M (xs (k + 1))).1)]) (c2_tick l (D, cA2, a2) v (xs (k + 1)) hI hRY) x2gl_tick x2d_tick rfl ⟨Nat.le_of_ble_eq_true rfl, Nat.le_of_ble_eq_true rfl⟩ hl.1 rfl (Nat.le_of_ble_eq_true rfl) dL_law_261 ⟨Nat.le_of_ble_eq_true rfl, Nat.le_of_ble_eq_true rfl⟩ (fun r z2 H locs hp w => ?_)
        obtain ⟨rfl, h2⟩ := hp
        refine lv_icmp_eq (tgt := 440) hx hbc dL_law_264 (by decide) (fun _ => ?_) (fun c9 => absurd (rfl) c9)
        exact next_ _ _ _ _ _ _ (bl_I_ticks hI _) h1 h2 w (lv_sub hl [0, 1, 2, 3] rfl)
      · refine lv_tableIn (tgt := 269) hx hbc dL_law_42 (by decide) (by decide) rfl (by decide) ?_
        refine lv_aload_n hx hbc dL_law_269 rfl (lv_at hl 1 rfl) ?_
        refine lv_aload_n hx hbc dL_law_270 rfl (lv_at hl 0 rfl) ?_
        refine lv_iload_n hx hbc dL_law_271 rfl (lv_at hl 3 rfl) ?_
        refine lv_iconst (v := nI 1) hx hbc dL_law_272 (by decide) ?_
        refine lv_iadd hx hbc dL_law_273 ?_
        refine bl_as (nI_add _ _) ?_
        refine l_sld (j := k + 1) hx hbc hX hbl w.2.2 (by omega) hL dL_law_274 ?_
        refine l1_calli S hK1 w (rest := []) (c1_items l (D, cA1, a1) u (xs (k + 1)) hI hRX) x1gl_items x1d_items rfl ⟨Nat.le_of_ble_eq_true rfl, Nat.le_of_ble_eq_true rfl⟩ hl.1 rfl (Nat.le_of_ble_eq_true rfl) dL_law_275 ⟨Nat.le_of_ble_eq_true rfl, Nat.le_of_ble_eq_true rfl⟩ (fun r z1 H locs hp w => ?_)
        obtain ⟨rfl, rfl⟩ := hp
        refine lv_aload_n hx hbc dL_law_278 rfl (lv_at hl 2 rfl) ?_
        refine lv_aload_n hx hbc dL_law_279 rfl (lv_at hl 0 rfl) ?_
        refine lv_iload_n hx hbc dL_law_280 rfl (lv_at hl 3 rfl) ?_
        refine lv_iconst (v := nI 1) hx hbc dL_law_281 (by decide) ?_
        refine lv_iadd hx hbc dL_law_282 ?_
        refine bl_as (nI_add _ _) ?_
        refine l_sld (j := k + 1) hx hbc hX hbl w.2.2 (by omega) hL dL_law_283 ?_
        refine l2_calli S hK2 w (rest := [.int ((bl_items M (xs (k + 1))))]) (c2_items l (D, cA2, a2) v (xs (k + 1)) hI hRY) x2gl_items x2d_items rfl ⟨Nat.le_of_ble_eq_true rfl, Nat.le_of_ble_eq_true rfl⟩ hl.1 rfl (Nat.le_of_ble_eq_true rfl) dL_law_284 ⟨Nat.le_of_ble_eq_true rfl, Nat.le_of_ble_eq_true rfl⟩ (fun r z2 H locs hp w => ?_)
        obtain ⟨rfl, rfl⟩ := hp
        refine lv_icmp_eq (tgt := 440) hx hbc dL_law_287 (by decide) (fun _ => ?_) (fun c9 => absurd (rfl) c9)
        exact next_ _ _ _ _ _ _ (hI) hRX hRY w (lv_sub hl [0, 1, 2, 3] rfl)
      · refine lv_tableIn (tgt := 292) hx hbc dL_law_42 (by decide) (by decide) rfl (by decide) ?_
        refine lv_aload_n hx hbc dL_law_292 rfl (lv_at hl 1 rfl) ?_
        refine lv_aload_n hx hbc dL_law_293 rfl (lv_at hl 0 rfl) ?_
        refine lv_iload_n hx hbc dL_law_294 rfl (lv_at hl 3 rfl) ?_
        refine lv_iconst (v := nI 1) hx hbc dL_law_295 (by decide) ?_
        refine lv_iadd hx hbc dL_law_296 ?_
        refine bl_as (nI_add _ _) ?_
        refine l_sld (j := k + 1) hx hbc hX hbl w.2.2 (by omega) hL dL_law_297 ?_
        refine lv_aload_n hx hbc dL_law_298 rfl (lv_at hl 0 rfl) ?_
        refine lv_iload_n hx hbc dL_law_299 rfl (lv_at hl 3 rfl) ?_
        refine lv_iconst (v := nI 2) hx hbc dL_law_300 (by decide) ?_
        refine lv_iadd hx hbc dL_law_301 ?_
        refine bl_as (nI_add _ _) ?_
        refine l_sld (j := k + 2) hx hbc hX hbl w.2.2 (by omega) hL dL_law_302 ?_
        refine l1_calli S hK1 w (rest := []) (c1_place l (D, cA1, a1) u (xs (k + 1)) (xs (k + 2)) hI hRX) x1gl_place x1d_place rfl ⟨Nat.le_of_ble_eq_true rfl, Nat.le_of_ble_eq_true rfl⟩ hl.1 rfl (Nat.le_of_ble_eq_true rfl) dL_law_303 ⟨Nat.le_of_ble_eq_true rfl, Nat.le_of_ble_eq_true rfl⟩ (fun r z1 H locs hp w => ?_)
        obtain ⟨rfl, rfl⟩ := hp
        refine lv_aload_n hx hbc dL_law_306 rfl (lv_at hl 2 rfl) ?_
        refine lv_aload_n hx hbc dL_law_307 rfl (lv_at hl 0 rfl) ?_
        refine lv_iload_n hx hbc dL_law_308 rfl (lv_at hl 3 rfl) ?_
        refine lv_iconst (v := nI 1) hx hbc dL_law_309 (by decide) ?_
        refine lv_iadd hx hbc dL_law_310 ?_
        refine bl_as (nI_add _ _) ?_
        refine l_sld (j := k + 1) hx hbc hX hbl w.2.2 (by omega) hL dL_law_311 ?_
        refine lv_aload_n hx hbc dL_law_312 rfl (lv_at hl 0 rfl) ?_
        refine lv_iload_n hx hbc dL_law_313 rfl (lv_at hl 3 rfl) ?_
        refine lv_iconst (v := nI 2) hx hbc dL_law_314 (by decide) ?_
        refine lv_iadd hx hbc dL_law_315 ?_
        refine bl_as (nI_add _ _) ?_
        refine l_sld (j := k + 2) hx hbc hX hbl w.2.2 (by omega) hL dL_law_316 ?_
        refine l2_calli S hK2 w (rest := [.int ((bl_place M (xs (k + 1)) (xs (k + 2))))]) (c2_place l (D, cA2, a2) v (xs (k + 1)) (xs (k + 2)) hI hRY) x2gl_place x2d_place rfl ⟨Nat.le_of_ble_eq_true rfl, Nat.le_of_ble_eq_true rfl⟩ hl.1 rfl (Nat.le_of_ble_eq_true rfl) dL_law_317 ⟨Nat.le_of_ble_eq_true rfl, Nat.le_of_ble_eq_true rfl⟩ (fun r z2 H locs hp w => ?_)
        obtain ⟨rfl, rfl⟩ := hp
        refine lv_icmp_eq (tgt := 440) hx hbc dL_law_320 (by decide) (fun _ => ?_) (fun c9 => absurd (rfl) c9)
        exact next_ _ _ _ _ _ _ (hI) hRX hRY w (lv_sub hl [0, 1, 2, 3] rfl)
      · refine lv_tableIn (tgt := 325) hx hbc dL_law_42 (by decide) (by decide) rfl (by decide) ?_
        refine lv_aload_n hx hbc dL_law_325 rfl (lv_at hl 1 rfl) ?_
        refine lv_aload_n hx hbc dL_law_326 rfl (lv_at hl 0 rfl) ?_
        refine lv_iload_n hx hbc dL_law_327 rfl (lv_at hl 3 rfl) ?_
        refine lv_iconst (v := nI 1) hx hbc dL_law_328 (by decide) ?_
        refine lv_iadd hx hbc dL_law_329 ?_
        refine bl_as (nI_add _ _) ?_
        refine l_sld (j := k + 1) hx hbc hX hbl w.2.2 (by omega) hL dL_law_330 ?_
        refine lv_aload_n hx hbc dL_law_331 rfl (lv_at hl 0 rfl) ?_
        refine lv_iload_n hx hbc dL_law_332 rfl (lv_at hl 3 rfl) ?_
        refine lv_iconst (v := nI 2) hx hbc dL_law_333 (by decide) ?_
        refine lv_iadd hx hbc dL_law_334 ?_
        refine bl_as (nI_add _ _) ?_
        refine l_sld (j := k + 2) hx hbc hX hbl w.2.2 (by omega) hL dL_law_335 ?_
        refine l1_calli S hK1 w (rest := []) (c1_kind l (D, cA1, a1) u (xs (k + 1)) (xs (k + 2)) hI hRX) x1gl_kind x1d_kind rfl ⟨Nat.le_of_ble_eq_true rfl, Nat.le_of_ble_eq_true rfl⟩ hl.1 rfl (Nat.le_of_ble_eq_true rfl) dL_law_336 ⟨Nat.le_of_ble_eq_true rfl, Nat.le_of_ble_eq_true rfl⟩ (fun r z1 H locs hp w => ?_)
        obtain ⟨rfl, rfl⟩ := hp
        refine lv_aload_n hx hbc dL_law_339 rfl (lv_at hl 2 rfl) ?_
        refine lv_aload_n hx hbc dL_law_340 rfl (lv_at hl 0 rfl) ?_
        refine lv_iload_n hx hbc dL_law_341 rfl (lv_at hl 3 rfl) ?_
        refine lv_iconst (v := nI 1) hx hbc dL_law_342 (by decide) ?_
        refine lv_iadd hx hbc dL_law_343 ?_
        refine bl_as (nI_add _ _) ?_
        refine l_sld (j := k + 1) hx hbc hX hbl w.2.2 (by omega) hL dL_law_344 ?_
        refine lv_aload_n hx hbc dL_law_345 rfl (lv_at hl 0 rfl) ?_
        refine lv_iload_n hx hbc dL_law_346 rfl (lv_at hl 3 rfl) ?_
        refine lv_iconst (v := nI 2) hx hbc dL_law_347 (by decide) ?_
        refine lv_iadd hx hbc dL_law_348 ?_
        refine bl_as (nI_add _ _) ?_
        refine l_sld (j := k + 2) hx hbc hX hbl w.2.2 (by omega) hL dL_law_349 ?_
        refine l2_calli S hK2 w (rest := [.int ((bl_kind M (xs (k + 1)) (xs (k + 2))))]) (c2_kind l (D, cA2, a2) v (xs (k + 1)) (xs (k + 2)) hI hRY) x2gl_kind x2d_kind rfl ⟨Nat.le_of_ble_eq_true rfl, Nat.le_of_ble_eq_true rfl⟩ hl.1 rfl (Nat.le_of_ble_eq_true rfl) dL_law_350 ⟨Nat.le_of_ble_eq_true rfl, Nat.le_of_ble_eq_true rfl⟩ (fun r z2 H locs hp w => ?_)
        obtain ⟨rfl, rfl⟩ := hp
        refine lv_icmp_eq (tgt := 440) hx hbc dL_law_353 (by decide) (fun _ => ?_) (fun c9 => absurd (rfl) c9)
        exact next_ _ _ _ _ _ _ (hI) hRX hRY w (lv_sub hl [0, 1, 2, 3] rfl)
      · refine lv_tableIn (tgt := 358) hx hbc dL_law_42 (by decide) (by decide) rfl (by decide) ?_
        refine lv_aload_n hx hbc dL_law_358 rfl (lv_at hl 1 rfl) ?_
        refine l1_calli S hK1 w (rest := []) (c1_out l (D, cA1, a1) u  hI hRX) x1gl_out x1d_out rfl ⟨Nat.le_of_ble_eq_true rfl, Nat.le_of_ble_eq_true rfl⟩ hl.1 rfl (Nat.le_of_ble_eq_true rfl) dL_law_359 ⟨Nat.le_of_ble_eq_true rfl, Nat.le_of_ble_eq_true rfl⟩ (fun r z1 H locs hp w => ?_)
        obtain ⟨rfl, rfl⟩ := hp
        refine lv_aload_n hx hbc dL_law_362 rfl (lv_at hl 2 rfl) ?_
        refine l2_calli S hK2 w (rest := [.int M.2.2.2.2]) (c2_out l (D, cA2, a2) v  hI hRY) x2gl_out x2d_out rfl ⟨Nat.le_of_ble_eq_true rfl, Nat.le_of_ble_eq_true rfl⟩ hl.1 rfl (Nat.le_of_ble_eq_true rfl) dL_law_363 ⟨Nat.le_of_ble_eq_true rfl, Nat.le_of_ble_eq_true rfl⟩ (fun r z2 H locs hp w => ?_)
        obtain ⟨rfl, rfl⟩ := hp
        refine lv_icmp_eq (tgt := 440) hx hbc dL_law_366 (by decide) (fun _ => ?_) (fun c9 => absurd (rfl) c9)
        exact next_ _ _ _ _ _ _ (hI) hRX hRY w (lv_sub hl [0, 1, 2, 3] rfl)
      · refine lv_tableIn (tgt := 371) hx hbc dL_law_42 (by decide) (by decide) rfl (by decide) ?_
        refine lv_aload_n hx hbc dL_law_371 rfl (lv_at hl 1 rfl) ?_
        refine lv_aload_n hx hbc dL_law_372 rfl (lv_at hl 0 rfl) ?_
        refine lv_iload_n hx hbc dL_law_373 rfl (lv_at hl 3 rfl) ?_
        refine lv_iconst (v := nI 1) hx hbc dL_law_374 (by decide) ?_
        refine lv_iadd hx hbc dL_law_375 ?_
        refine bl_as (nI_add _ _) ?_
        refine l_sld (j := k + 1) hx hbc hX hbl w.2.2 (by omega) hL dL_law_376 ?_
        refine l1_calli S hK1 w (rest := []) (c1_held l (D, cA1, a1) u (xs (k + 1)) hI hRX) x1gl_held x1d_held rfl ⟨Nat.le_of_ble_eq_true rfl, Nat.le_of_ble_eq_true rfl⟩ hl.1 rfl (Nat.le_of_ble_eq_true rfl) dL_law_377 ⟨Nat.le_of_ble_eq_true rfl, Nat.le_of_ble_eq_true rfl⟩ (fun r z1 H locs hp w => ?_)
        obtain ⟨rfl, rfl⟩ := hp
        refine lv_aload_n hx hbc dL_law_380 rfl (lv_at hl 2 rfl) ?_
        refine lv_aload_n hx hbc dL_law_381 rfl (lv_at hl 0 rfl) ?_
        refine lv_iload_n hx hbc dL_law_382 rfl (lv_at hl 3 rfl) ?_
        refine lv_iconst (v := nI 1) hx hbc dL_law_383 (by decide) ?_
        refine lv_iadd hx hbc dL_law_384 ?_
        refine bl_as (nI_add _ _) ?_
        refine l_sld (j := k + 1) hx hbc hX hbl w.2.2 (by omega) hL dL_law_385 ?_
        refine l2_calli S hK2 w (rest := [.int ((bl_held M (xs (k + 1))))]) (c2_held l (D, cA2, a2) v (xs (k + 1)) hI hRY) x2gl_held x2d_held rfl ⟨Nat.le_of_ble_eq_true rfl, Nat.le_of_ble_eq_true rfl⟩ hl.1 rfl (Nat.le_of_ble_eq_true rfl) dL_law_386 ⟨Nat.le_of_ble_eq_true rfl, Nat.le_of_ble_eq_true rfl⟩ (fun r z2 H locs hp w => ?_)
        obtain ⟨rfl, rfl⟩ := hp
        refine lv_icmp_eq (tgt := 440) hx hbc dL_law_389 (by decide) (fun _ => ?_) (fun c9 => absurd (rfl) c9)
        exact next_ _ _ _ _ _ _ (hI) hRX hRY w (lv_sub hl [0, 1, 2, 3] rfl)
      · refine lv_tableIn (tgt := 394) hx hbc dL_law_42 (by decide) (by decide) rfl (by decide) ?_
        refine lv_aload_n hx hbc dL_law_394 rfl (lv_at hl 1 rfl) ?_
        refine lv_aload_n hx hbc dL_law_395 rfl (lv_at hl 0 rfl) ?_
        refine lv_iload_n hx hbc dL_law_396 rfl (lv_at hl 3 rfl) ?_
        refine lv_iconst (v := nI 1) hx hbc dL_law_397 (by decide) ?_
        refine lv_iadd hx hbc dL_law_398 ?_
        refine bl_as (nI_add _ _) ?_
        refine l_sld (j := k + 1) hx hbc hX hbl w.2.2 (by omega) hL dL_law_399 ?_
        refine l1_calli S hK1 w (rest := []) (c1_room l (D, cA1, a1) u (xs (k + 1)) hI hRX) x1gl_room x1d_room rfl ⟨Nat.le_of_ble_eq_true rfl, Nat.le_of_ble_eq_true rfl⟩ hl.1 rfl (Nat.le_of_ble_eq_true rfl) dL_law_400 ⟨Nat.le_of_ble_eq_true rfl, Nat.le_of_ble_eq_true rfl⟩ (fun r z1 H locs hp w => ?_)
        obtain ⟨rfl, rfl⟩ := hp
        refine lv_aload_n hx hbc dL_law_403 rfl (lv_at hl 2 rfl) ?_
        refine lv_aload_n hx hbc dL_law_404 rfl (lv_at hl 0 rfl) ?_
        refine lv_iload_n hx hbc dL_law_405 rfl (lv_at hl 3 rfl) ?_
        refine lv_iconst (v := nI 1) hx hbc dL_law_406 (by decide) ?_
        refine lv_iadd hx hbc dL_law_407 ?_
        refine bl_as (nI_add _ _) ?_
        refine l_sld (j := k + 1) hx hbc hX hbl w.2.2 (by omega) hL dL_law_408 ?_
        refine l2_calli S hK2 w (rest := [.int ((bl_rq N M (xs (k + 1))))]) (c2_room l (D, cA2, a2) v (xs (k + 1)) hI hRY) x2gl_room x2d_room rfl ⟨Nat.le_of_ble_eq_true rfl, Nat.le_of_ble_eq_true rfl⟩ hl.1 rfl (Nat.le_of_ble_eq_true rfl) dL_law_409 ⟨Nat.le_of_ble_eq_true rfl, Nat.le_of_ble_eq_true rfl⟩ (fun r z2 H locs hp w => ?_)
        obtain ⟨rfl, rfl⟩ := hp
        refine lv_icmp_eq (tgt := 440) hx hbc dL_law_412 (by decide) (fun _ => ?_) (fun c9 => absurd (rfl) c9)
        exact next_ _ _ _ _ _ _ (hI) hRX hRY w (lv_sub hl [0, 1, 2, 3] rfl)
      · refine lv_tableIn (tgt := 417) hx hbc dL_law_42 (by decide) (by decide) rfl (by decide) ?_
        refine lv_aload_n hx hbc dL_law_417 rfl (lv_at hl 1 rfl) ?_
        refine lv_aload_n hx hbc dL_law_418 rfl (lv_at hl 0 rfl) ?_
        refine lv_iload_n hx hbc dL_law_419 rfl (lv_at hl 3 rfl) ?_
        refine lv_iconst (v := nI 1) hx hbc dL_law_420 (by decide) ?_
        refine lv_iadd hx hbc dL_law_421 ?_
        refine bl_as (nI_add _ _) ?_
        refine l_sld (j := k + 1) hx hbc hX hbl w.2.2 (by omega) hL dL_law_422 ?_
        refine l1_calli S hK1 w (rest := []) (c1_moving l (D, cA1, a1) u (xs (k + 1)) hI hRX) x1gl_moving x1d_moving rfl ⟨Nat.le_of_ble_eq_true rfl, Nat.le_of_ble_eq_true rfl⟩ hl.1 rfl (Nat.le_of_ble_eq_true rfl) dL_law_423 ⟨Nat.le_of_ble_eq_true rfl, Nat.le_of_ble_eq_true rfl⟩ (fun r z1 H locs hp w => ?_)
        obtain ⟨rfl, rfl⟩ := hp
        refine lv_aload_n hx hbc dL_law_426 rfl (lv_at hl 2 rfl) ?_
        refine lv_aload_n hx hbc dL_law_427 rfl (lv_at hl 0 rfl) ?_
        refine lv_iload_n hx hbc dL_law_428 rfl (lv_at hl 3 rfl) ?_
        refine lv_iconst (v := nI 1) hx hbc dL_law_429 (by decide) ?_
        refine lv_iadd hx hbc dL_law_430 ?_
        refine bl_as (nI_add _ _) ?_
        refine l_sld (j := k + 1) hx hbc hX hbl w.2.2 (by omega) hL dL_law_431 ?_
        refine l2_calli S hK2 w (rest := [.int ((bl_moving M (xs (k + 1))))]) (c2_moving l (D, cA2, a2) v (xs (k + 1)) hI hRY) x2gl_moving x2d_moving rfl ⟨Nat.le_of_ble_eq_true rfl, Nat.le_of_ble_eq_true rfl⟩ hl.1 rfl (Nat.le_of_ble_eq_true rfl) dL_law_432 ⟨Nat.le_of_ble_eq_true rfl, Nat.le_of_ble_eq_true rfl⟩ (fun r z2 H locs hp w => ?_)
        obtain ⟨rfl, rfl⟩ := hp
        refine lv_icmp_eq (tgt := 440) hx hbc dL_law_435 (by decide) (fun _ => ?_) (fun c9 => absurd (rfl) c9)
        exact next_ _ _ _ _ _ _ (hI) hRX hRY w (lv_sub hl [0, 1, 2, 3] rfl)
      · refine lv_tableOut (tgt := 440) hx hbc dL_law_42 (Or.inr (by rw [nI_toInt (by omega)]; omega)) (by decide) ?_
        exact next_ _ _ _ _ _ _ hI hRX hRY w (lv_sub hl [0, 1, 2, 3] rfl)
set_option maxHeartbeats 8000000 in
/-- THE LAW, from its entry -/
theorem whole_start {p : Program} {e : Env} {s : State} {m : MethodId} {below : List Frame} {meth : Method} {c : Code} (l : Launch) {b L : Nat} {xs : Nat → Int32} (hL : L ≤ 321) (C0 : lw_At p s m meth c b L xs) : W p l e room_1 s m #[Value.ref b] below meth c s.heap [] 0 0 (lw_Z below #[Value.ref b] s) (entryFrame m ([Value.ref b] : List Value).toArray 4) := by
  obtain ⟨hx, hbc, hr, hml, hown, hts0, hX, hbl, hlocks, hgv⟩ := id C0
  have hts : ∀ w ∈ lw_all, w.before #[Value.ref b] s = true := fun w h => hts0 w (lw_all_tbl h)
  have hbc : c.code = cL_law := hbc
  have S : CallFix p m c cL_law 4 s #[Value.ref b] lw_all RX0 := ⟨hx, hbc, hml, hown, hts⟩
  have hA : ∀ q : Nat, s.heap.size ≤ q → (fun q : Nat => s.heap.size ≤ q) q := fun _ h => h
  have hbA : ¬ (fun q : Nat => s.heap.size ≤ q) b := Nat.not_le.mpr hbl
  obtain ⟨k0, iS0, hKn0⟩ := u_known (C := RX1) (T := TX1) (N := 14) (n := 14) hts0 (fun w h => lw_all_tbl (in_X1 w h)) (hts _ q25)
  obtain ⟨k1, iS1, hKn1⟩ := u_known (C := RX2) (T := TX2) (N := 12) (n := 12) hts0 (fun w h => lw_all_tbl (in_X2 w h)) (hts _ q188)
  obtain ⟨D, hKc⟩ : ∃ D : va_G, ∀ (k : Nat) (q : vw_C), vwCl[k]? = some q → u_Kn s q.1 q.2.1 q.2.2 (D.1 k) (D.2 k) := by
    refine ⟨(fun k => if k = 0 then k0 else k1, fun k => if k = 0 then iS0 else iS1), ?_⟩
    intro k q hq
    match k, hq with
    | 0, hq => cases hq; exact hKn0
    | 1, hq => cases hq; exact hKn1
    | k + 2, hq => simp [vwCl] at hq
  have hS : va_S (fun q : Nat => s.heap.size ≤ q) s.heap s.heap [] := va_S.rf
  have hK : va_K D vwCl [] s := ⟨hKc, fun k q h => by simp at h⟩
  have hP : va_P D vwCl [] s.heap := fun k q h => by simp at h
  have hD : va_D (fun q : Nat => s.heap.size ≤ q) [] := ⟨fun i j p q h => by simp at h, fun k q h => by simp at h⟩
  have hl := lv_entry ([.ref b]) (n := 4) (Nat.le_of_ble_eq_true rfl)
  rw [lg_entry_eq]
  generalize (lg_sl ([.ref b]) ++ List.replicate (4 - (lg_sl ([.ref b])).length) Slot.unset).toArray = ls at hl ⊢
  have hl : lv_has ls 4 [(0, .ref b)] := hl
  refine va_new (D := D) (ci := 0) (fs := [.int 0, .null, .null, .null, .null, .null, .null, .null, .null, .null, .null, .null, .null, .int 0]) (C := RX1) (T := TX1) (N := 14) hx hbc hts in_X1 tyX1 tyX1_ok hown (hts _ q24) (hts _ q25) (hts _ q22) hK hP hD hS hA rfl (fun j hj => by rcases (show j = 0 ∨ j = 1 ∨ j = 2 ∨ j = 3 ∨ j = 4 ∨ j = 5 ∨ j = 6 ∨ j = 7 ∨ j = 8 ∨ j = 9 ∨ j = 10 ∨ j = 11 ∨ j = 12 ∨ j = 13 by omega) with rfl | rfl | rfl | rfl | rfl | rfl | rfl | rfl | rfl | rfl | rfl | rfl | rfl | rfl <;> rfl) (Nat.le_of_ble_eq_true rfl) (Nat.le_of_ble_eq_true rfl) dL_law_0 (fun qa H hP hD hS => ?_)
  have hP : va_P D vwCl [(qa, .inr (0, [.int 0, .null, .null, .null, .null, .null, .null, .null, .null, .null, .null, .null, .null, .int 0]))] H := hP
  have hD : va_D (fun q : Nat => s.heap.size ≤ q) [(qa, .inr (0, [.int 0, .null, .null, .null, .null, .null, .null, .null, .null, .null, .null, .null, .null, .int 0]))] := hD
  refine W.widen (k := 1) (n := 14) (Nat.le_of_ble_eq_true rfl) (Nat.le_of_ble_eq_true rfl) ?_
  refine lv_dup hx hbc dL_law_3 rfl ?_
  refine lv_aload_n hx hbc dL_law_4 rfl (lv_at hl 0 rfl) ?_
  refine lv_iconst (v := nI 0) hx hbc dL_law_5 (by decide) ?_
  refine l_cell (D := D) S hL hX hbl hbA hA hP hS ⟨Nat.le_of_ble_eq_true rfl, Nat.le_of_ble_eq_true rfl⟩ hl.1 (Nat.le_of_ble_eq_true rfl) dL_law_6 ⟨Nat.le_of_ble_eq_true rfl, Nat.le_of_ble_eq_true rfl⟩ (fun H locs hP hS => ?_)
  have hPc := hP.sub (ws' := x1N qa) [0] rfl
  have hDc := hD.sub (ws' := x1N qa) [0] (by decide) rfl
  have hFc := va_free (wc := x1N qa) hD hS hA [0] rfl
  refine va_callv (va_runI (As := [.int (bl_c0 L xs)]) (rest := [.ref qa]) S (c1_init l D qa (bl_c0 L xs) H.size) (cwI 1 hts (lw_meth q28) rfl rfl rfl (hts _ q22) (hts _ q26) (hts _ q27) rfl (by decide +kernel) ⟨Nat.le_of_ble_eq_true rfl, Nat.le_of_ble_eq_true rfl⟩) ⟨fun a U g mk q => by obtain ⟨q0, q1, qP, qK, qD⟩ := q; exact ⟨q0, q1, qP, va_K.moved (u := U) (U := U.calling g mk a) (Vm.Alike.refl U.vm) qK, qD⟩, fun U hU hW => ⟨rfl, by rw [hU], by rw [hU]; exact hPc, va_K.moved hW.alike hK, hDc.weaken (fun _ _ _ _ => trivial)⟩⟩ rfl rfl hl.1 rfl (lv_room (Nat.le_of_ble_eq_true rfl)) dL_law_9 ⟨Nat.le_of_ble_eq_true rfl, Nat.le_of_ble_eq_true rfl⟩) hS (fun q _ h => hFc q h) hFc (fun u t H1 locs ht hvm hR1 hB hz1 hk1 hS => ?_)
  obtain ⟨cA1, a1, ea1, hP1, hK1, hD1⟩ := hB
  rw [ht] at hP1
  have hK1 := va_K.moved hvm.symm hK1
  obtain ⟨hP9, hD9⟩ := va_join (wr := []) (w1 := x1L (D, cA1, a1) u) hP hD [0] [] rfl rfl (by decide) (by decide) hk1 hFc hP1 hD1
  generalize H1 = H at hP9 hS ⊢
  subst ea1
  have hP : va_P D vwCl (x1L (D, cA1, a1) u) H := hP9
  have hD : va_D (fun q : Nat => s.heap.size ≤ q) (x1L (D, cA1, a1) u) := hD9
  refine W.widen (k := 13) (n := 170) (Nat.le_of_ble_eq_true rfl) (Nat.le_of_ble_eq_true rfl) ?_
  refine lv_astore_n (lv' := [(1, .ref (a1 0)), (0, .ref b)]) hx hbc dL_law_12 rfl hl (by decide) rfl (fun ls hl => ?_)
  refine va_new (D := D) (ci := 1) (fs := [.int 0, .null, .null, .null, .null, .null, .null, .null, .null, .null, .null, .int 0]) (C := RX2) (T := TX2) (N := 12) hx hbc hts in_X2 tyX2 tyX2_ok hown (hts _ q187) (hts _ q188) (hts _ q23) hK hP hD hS hA rfl (fun j hj => by rcases (show j = 0 ∨ j = 1 ∨ j = 2 ∨ j = 3 ∨ j = 4 ∨ j = 5 ∨ j = 6 ∨ j = 7 ∨ j = 8 ∨ j = 9 ∨ j = 10 ∨ j = 11 by omega) with rfl | rfl | rfl | rfl | rfl | rfl | rfl | rfl | rfl | rfl | rfl | rfl <;> rfl) (Nat.le_of_ble_eq_true rfl) (Nat.le_of_ble_eq_true rfl) dL_law_13 (fun qb H hP hD hS => ?_)
  have hP : va_P D vwCl (x1L (D, cA1, a1) u ++ [(qb, .inr (1, [.int 0, .null, .null, .null, .null, .null, .null, .null, .null, .null, .null, .int 0]))]) H := hP
  have hD : va_D (fun q : Nat => s.heap.size ≤ q) (x1L (D, cA1, a1) u ++ [(qb, .inr (1, [.int 0, .null, .null, .null, .null, .null, .null, .null, .null, .null, .null, .int 0]))]) := hD
  refine W.widen (k := 14) (n := 182) (Nat.le_of_ble_eq_true rfl) (Nat.le_of_ble_eq_true rfl) ?_
  refine lv_dup hx hbc dL_law_16 rfl ?_
  refine lv_aload_n hx hbc dL_law_17 rfl (lv_at hl 1 rfl) ?_
  refine lv_iconst (v := nI 0) hx hbc dL_law_18 (by decide) ?_
  refine l_cell (D := D) S hL hX hbl hbA hA hP hS ⟨Nat.le_of_ble_eq_true rfl, Nat.le_of_ble_eq_true rfl⟩ hl.1 (Nat.le_of_ble_eq_true rfl) dL_law_19 ⟨Nat.le_of_ble_eq_true rfl, Nat.le_of_ble_eq_true rfl⟩ (fun H locs hP hS => ?_)
  have hPc := hP.sub (ws' := x2N qb) [13] rfl
  have hDc := hD.sub (ws' := x2N qb) [13] (by decide) rfl
  have hFc := va_free (wc := x2N qb) hD hS hA [13] rfl
  refine va_callv (va_runI (As := [.int (bl_c0 L xs)]) (rest := [.ref qb]) S (c2_init l D qb (bl_c0 L xs) H.size) (cwI 1 hts (lw_meth q191) rfl rfl rfl (hts _ q23) (hts _ q189) (hts _ q190) rfl (by decide +kernel) ⟨Nat.le_of_ble_eq_true rfl, Nat.le_of_ble_eq_true rfl⟩) ⟨fun a U g mk q => by obtain ⟨q0, q1, qP, qK, qD⟩ := q; exact ⟨q0, q1, qP, va_K.moved (u := U) (U := U.calling g mk a) (Vm.Alike.refl U.vm) qK, qD⟩, fun U hU hW => ⟨rfl, by rw [hU], by rw [hU]; exact hPc, va_K.moved hW.alike hK, hDc.weaken (fun _ _ _ _ => trivial)⟩⟩ rfl rfl hl.1 rfl (lv_room (Nat.le_of_ble_eq_true rfl)) dL_law_22 ⟨Nat.le_of_ble_eq_true rfl, Nat.le_of_ble_eq_true rfl⟩) hS (fun q _ h => hFc q h) hFc (fun v t H1 locs ht hvm hR2 hB hz1 hk1 hS => ?_)
  obtain ⟨cA2, a2, ea2, hP1, hK2, hD1⟩ := hB
  rw [ht] at hP1
  have hK2 := va_K.moved hvm.symm hK2
  obtain ⟨hP9, hD9⟩ := va_join (wr := x1L (D, cA1, a1) u) (w1 := x2L (D, cA2, a2) v) hP hD [13] [0, 1, 2, 3, 4, 5, 6, 7, 8, 9, 10, 11, 12] rfl rfl (by decide) (by decide) hk1 hFc hP1 hD1
  generalize H1 = H at hP9 hS ⊢
  subst ea2
  have hP : va_P D vwCl (x1L (D, cA1, a1) u ++ x2L (D, cA2, a2) v) H := hP9
  have hD : va_D (fun q : Nat => s.heap.size ≤ q) (x1L (D, cA1, a1) u ++ x2L (D, cA2, a2) v) := hD9
  refine W.widen (k := 24) (n := 330) (Nat.le_of_ble_eq_true rfl) (Nat.le_of_ble_eq_true rfl) ?_
  refine lv_astore_n (lv' := [(2, .ref (a2 0)), (1, .ref (a1 0)), (0, .ref b)]) hx hbc dL_law_25 rfl hl (by decide) rfl (fun ls hl => ?_)
  refine lv_iconst (v := nI 1) hx hbc dL_law_26 (by decide) ?_
  refine lv_istore_n (lv' := [(3, .int (nI 1)), (2, .ref (a2 0)), (1, .ref (a1 0)), (0, .ref b)]) hx hbc dL_law_27 rfl hl (by decide) rfl (fun ls hl => ?_)
  exact law_loop hL C0 hK1 hK2 (L + 1) 1 bl_M0 u v (by omega) (by omega) (bl_I0 _) hR1 hR2 H locs ls ⟨hP, hD, hS⟩ (lv_sub hl [3, 2, 1, 0] rfl)
end
section
set_option maxHeartbeats 4000000 in
theorem lw_walk (l : Launch) (b : Addr) (xs : List Int32) : MetFree l x (headSpec (Jvm.Cond.code x code maxLocals ret :: tables_1) room_1) (lw_P b xs) (fun _ _ _ _ _ => True) lw_Q := by
  refine MetFree.of_bodyS (code := code) (maxLocals := maxLocals) (ret := ret) (by decide) ?_ ?_
  · intro args s m h hn
    obtain ⟨meth, c, h1, h2, h3, h4, h5, h6, -, -⟩ := Cond.code_spec hn (atoms_spec (ws := Jvm.Cond.code x code maxLocals ret :: tables_1) h _ List.mem_cons_self)
    exact ⟨meth, c, h1, h2, h3, h4, h5, h6⟩
  · intro p e s m args below meth c s₁ B hml0 hP _
    obtain ⟨rfl, hx, hbd, hgv⟩ := hP
    obtain ⟨scr, harrAt, hlist, hof, hsmall⟩ := hx
    obtain ⟨hcb, hkn, -, -⟩ := State.arrayAt?_spec harrAt
    have hown : s.vm.findClass R_law = some m.cls := findClass_of_methodNamed B.named
    have hts0 : ∀ c ∈ (Jvm.Cond.code x code maxLocals ret :: tables_1), c.before #[Value.ref b] s = true := atoms_spec (ws := Jvm.Cond.code x code maxLocals ret :: tables_1) B.pre
    have hts : ∀ w ∈ lw_tbl, w.before #[Value.ref b] s = true := k2_hts_sels lw_privs (fun w hw => hts0 w (List.mem_cons_of_mem _ hw)) lw_privs_ok
    have hml : c.maxLocals = 4 := B.maxLocals_eq (hts0 _ List.mem_cons_self)
    have X₀ : Stand p l e room_1 s m #[Value.ref b] below meth c s₁ [] 0 0 := Stand.of_body B
    have hh0 : s₁.heap = s.heap := by rw [B.state]; rfl
    have hsz : scr.slots.size = xs.length := by rw [← Array.length_toList, hlist, List.length_map]
    have hval : ∀ j : Nat, j < xs.length → scr.slots[j]? = some (.int (xs.getD j 0)) := fun j hj => by
      rw [← Array.getElem?_toList, hlist]
      simp [hj]
    have hbl : b < s.heap.size := (Array.getElem?_eq_some_iff.mp hcb).1
    have hX : va_X b xs.length (fun j => xs.getD j 0) s s.heap := ⟨scr, hcb, hof, hkn, hsz, hval⟩
    have K : W p l e room_1 s m #[Value.ref b] below meth c s₁.heap [] 0 0 (lw_Z below #[Value.ref b] s) (entryFrame m ([Value.ref b] : List Value).toArray 4) := by
      rw [hh0]
      exact whole_start l hbd ⟨B.exec, B.bytes, B.returns, hml, hown, hts, hX, hbl, B.notSynchronized, hgv⟩
    obtain ⟨t, a1, o, b1, b2, b3⟩ := K s₁ rfl X₀
    exact ⟨t, o, a1, b1, b2, b3⟩
theorem lw_pre_spec {args : Array Value} {s : State} (h : (Jvm.Cond.and given_1 narrow_1).before args s = true) (hr : rest_1_c.before args s = true) : ∃ (b : Addr) (xs : List Int32), lw_P b xs args s := by
  have hs := flat_of_before _ h
  have hq := flat_of_before _ hr
  have hc : (Cond.count 1).before args s = true := hs _ (by decide +kernel)
  have harr : (Cond.arrayOf (.arg 0) .int).before args s = true := hs _ (by decide +kernel)
  have hle : (Cond.le (.length (.arg 0)) (.int 321)).before args s = true := hs _ (by decide +kernel)
  have hlen : (Cond.isInt (.length (.arg 0))).before args s = true := hq _ (by decide +kernel)
  have hall : (Cond.all (.arg 0) (.isInt (.elem (.arg 0) (.index 0)))).before args s = true := hq _ (by decide +kernel)
  obtain ⟨b, xs, hb, hx⟩ := State.ints_of_pre rfl harr hlen hall
  have hsm : xs.length < 2 ^ 31 := hx.choose_spec.2.2.2
  have hev : (Term.length (.arg 0)).eval args s none [] s = some (.int xs.length.toInt32) := hx.length_eval hb
  have hv := Cond.le_ints hev (show (Term.int 321).eval args s none [] s = some (.int 321) from rfl)
  have hd : xs.length.toInt32 ≤ 321 := by
    simpa [Cond.before, Cond.holds, hv] using hle
  have hN : xs.length ≤ 321 := (Int32.ofNat_le_ofNat hsm (by decide)).mp (show Int32.ofNat xs.length ≤ Int32.ofNat 321 from hd)
  exact ⟨b, xs, Cond.one_arg hc (show args[0]? = some (.ref b) from hb), hx, hN, h⟩
theorem lw_comes (l : Launch) : Comes l x (Jvm.Cond.code x code maxLocals ret :: tables_1) room_1 (fun tb e args s => Calls_1 tb e args s ∧ rest_1 tb e args s ∧ Pre_1 tb e args s)
    (fun _ _ args s o t => lw_Q args s o t) := by
  intro p e ha hc hk s m args below hf hfit hheap happ hpre
  obtain ⟨b, xs, hP⟩ := lw_pre_spec hpre.2.2 hpre.2.1
  obtain ⟨k, o, h1, h2, h3, hQ⟩ := lw_walk l b xs p e ha hc hk s m args below hf ((Spec.applies_iff_loose hf).mp happ).1 hP trivial
  exact ⟨k, o, h1, h2, h3, hQ⟩
theorem lw_frame {s t : State} {o : Outcome} {args : Array Value} (h : Framed s o t [] 600000 7290000) :
    Framed s o t (fieldLocs frame_1_writes args s ++ arrayLocs frame_1_arrays args s ++ staticLocs frame_1_statics s) 600000 7290000 := h
theorem lw_limb (L : Cond) (hL : ∀ (args : Array Value) (s t : State), L.after args s (.returned (some (.int 1))) t = true) :
    ArmFor flags0 classFile x code maxLocals ret World_1 tables_1 room_1 Calls_1 rest_1 Pre_1
      (fun tb e a s o t => postC L tb e a s o t ∧ Framed s o t (fieldLocs frame_1_writes a s ++ arrayLocs frame_1_arrays a s ++ staticLocs frame_1_statics s) 600000 7290000) := by
  intro l _ _ _ p e ha hc hk s m args below hf hfit hheap happ hpre
  obtain ⟨k, o, h1, h2, h3, rfl, hF⟩ := lw_comes l p e ha hc hk s m args below hf hfit hheap happ hpre
  exact ⟨k, _, h1, h2, h3, hL args s _, lw_frame hF⟩
theorem i_vc : Claimed_1_1 ∧ Claimed_1_2 := ⟨lw_limb limb_1_1 (fun args s t => by simp [limb_1_1, Cond.after, Cond.holds, Cond.value]), lw_limb limb_1_2 (fun args s t => Cond.after_iff.mpr (by
  first | (rw [show limb_1_2 = Cond.eq .result (.int 1) from rfl, Cond.eq_ints (x := 1) (y := 1) rfl rfl]; simp; done) | (simp [limb_1_2, Cond.value, Term.eval]; done)))⟩
end
